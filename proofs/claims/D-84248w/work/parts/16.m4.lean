set_option maxRecDepth 100000
set_option maxHeartbeats 4000000 in
set_option maxRecDepth 100000 in
/-- what a sign at a place costs at least -/
theorem met_withSign (l : Launch) (D : va_G) (E : Nat → ClassId) (h0 qc qf qo : Nat) (fs : List Value) (n : Nat) (h4 : fs[4]? = some (.ref qc)) (h8 : fs[8]? = some (.ref qf)) (h16 : fs[16]? = some (.ref qo)) (ac af ao : Nat → Int32) (C : C3) (x g : Nat) (To Nn : Nat → Nat) (hn20 : n ≤ 20) (hxn : x < n) (hg : g < 12) (hC : ∀ k, k < 108 * n → ac k = nI (fl C k)) (hSm : Sm C n) (hf : ∀ z, z < 9 → af (9 * (x + 1) + z) = nI (bk (cheap C) n (n - 1 - x) z)) (hNn : ∀ z, z < 9 → Nn z = if x = 0 then 0 else nr To z) (ho : x = 0 ∨ ∀ z, z < 9 → ao z = nI (To z)) (hob : x = 0 ∨ ∀ z, z < 9 → To z ≤ 10000000) : Met l yX2_withSign (ws_ yX2_withSign cX2_withSign 6 (some .int)) (rmD 2 0 0) (va_Pc [.ref h0, .int (nI x), .int (nI g)] (xB D E [xo h0 1 fs, xi E 0 qc 2160 ac, xi E 0 qf 189 af, xi E 0 qo 9 ao])) (vp_Si (fun r => r = nI (wsg C n Nn x g))) 0 0 (fun _ => False) := by
  refine Met.ofW (cc := cX2_withSign) (maxL := 6) (ret := (some .int)) (by decide) rfl ?_
  intro p e s m args below meth c s₁ B hml hv0
  obtain ⟨rfl, hP, hK, hN⟩ := hv0
  have hx := B.exec
  have hb := B.bytes
  have hr := B.returns
  have hts := atoms_spec (ws := (ws_ yX2_withSign cX2_withSign 6 (some .int))) B.pre
  have hts : ∀ w ∈ lw_all, w.before _ s = true := fun w h => hts w (List.mem_cons_of_mem _ h)
  have hown : s.vm.findClass RX2 = some m.cls := findClass_of_methodNamed B.named
  have hlocks := B.notSynchronized
  have hP : va_P D vwCl [xo h0 1 fs, xi E 0 qc 2160 ac, xi E 0 qf 189 af, xi E 0 qo 9 ao] s.heap := hP
  have hl := lv_entry ([.ref h0, .int (nI x), .int (nI g)]) (n := 6) (Nat.le_of_ble_eq_true rfl)
  rw [lg_entry_eq]
  generalize (lg_sl ([.ref h0, .int (nI x), .int (nI g)]) ++ List.replicate (6 - (lg_sl ([.ref h0, .int (nI x), .int (nI g)])).length) Slot.unset).toArray = ls at hl ⊢
  have hl : lv_has ls 6 [(0, .ref h0), (1, .int (nI x)), (2, .int (nI g))] := hl
  have hcc : ∀ v, v < 9 → ac ((x * 12 + g) * 9 + v) = nI (C x g v) := fun v h3 => by rw [hC _ (by omega), fl_at hg h3]
  have hNb : ∀ z, z < 9 → Nn z ≤ 10000000 := fun z hz => by
    rw [hNn z hz]
    split
    · omega
    · rename_i hx0
      exact Nat.le_trans (nr_le hz (by omega) (by omega)) ((hob.resolve_left hx0) z hz)
  refine lv_ldc hx hb hown (hts _ q1068) dX2_withSign_0 ?_
  refine xv_i (y := nI 100000000) rfl ?_
  refine lv_istore_n (lv' := [(3, .int (nI 100000000)), (0, .ref h0), (1, .int (nI x)), (2, .int (nI g))]) hx hb dX2_withSign_2 rfl hl (by decide) rfl (fun ls hl => ?_)
  refine lv_iconst (v := nI 0) hx hb dX2_withSign_3 (by decide) ?_
  refine lv_istore (lv' := [(4, .int (nI 0)), (3, .int (nI 100000000)), (0, .ref h0), (1, .int (nI x)), (2, .int (nI g))]) hx hb dX2_withSign_4 hl (by decide) rfl (fun ls hl => ?_)
  have lp1 : ∀ (lc1 : Nat) (v : Nat), 9 - v < lc1 → (v ≤ 9) → ∀ (ls : Array Slot), lv_has ls 6 [(0, .ref h0), (1, .int (nI x)), (2, .int (nI g)), (3, .int (nI (mnP 100000000 al (fun v => Nn v + C x g v + nr (bk (cheap C) n (n - 1 - x)) v) v))), (4, .int (nI v))] → W p l e (headSpec (ws_ yX2_withSign cX2_withSign 6 (some .int)) (rmD 2 0 0)).room s m ([.ref h0, .int (nI x), .int (nI g)] : List Value).toArray below meth c s.heap [] 0 0 (MQ below (vp_Si (fun r => r = nI (wsg C n Nn x g))) ([.ref h0, .int (nI x), .int (nI g)] : List Value).toArray s 0 0 (fun _ => False)) (F0 m 6 ls []) := by
    intro lc1
    induction lc1 with
    | zero => intro v hm; exact absurd hm (Nat.not_lt_zero _)
    | succ lc1 ih1 =>
      intro v hm1 hv ls hl
      have hle : mnP 100000000 al (fun v => Nn v + C x g v + nr (bk (cheap C) n (n - 1 - x)) v) v ≤ 100000000 := mnP_leF
      refine lv_iload hx hb dX2_withSign_6 (lv_at hl 4 rfl) ?_
      refine lv_bipush (v := nI 9) hx hb dX2_withSign_8 (by decide) ?_
      refine xi_icmp_ge (tgt := 81) hx hb (by omega) (by omega) dX2_withSign_10 (by decide) (fun c_10 => ?_) (fun c_10 => ?_)
      · refine lv_iload_n hx hb dX2_withSign_81 rfl (lv_at hl 3 rfl) ?_
        exact W.iret (v := nI (mnP 100000000 al (fun v => Nn v + C x g v + nr (bk (cheap C) n (n - 1 - x)) v) v)) hx hb hr (fun t9 ht9 hW9 => ⟨_, rfl, by rw [show v = 9 by omega]; rfl, ht9⟩) t_nil dX2_withSign_82
      · have hv9 : v < 9 := by omega
        have hN1 := hNb v hv9
        have hC1 := hSm x g v hxn hg hv9
        have hB1 := bk_sm hSm (r := n - 1 - x) (by omega) hv9
        have hB2 : nr (bk (cheap C) n (n - 1 - x)) v ≤ bk (cheap C) n (n - 1 - x) v := nr_le hv9 (by omega) (by omega)
        have jp2 : ∀ (ls : Array Slot), lv_has ls 6 [(0, .ref h0), (1, .int (nI x)), (2, .int (nI g)), (3, .int (nI (mnP 100000000 al (fun v => Nn v + C x g v + nr (bk (cheap C) n (n - 1 - x)) v) v))), (4, .int (nI v))] → W p l e (headSpec (ws_ yX2_withSign cX2_withSign 6 (some .int)) (rmD 2 0 0)).room s m ([.ref h0, .int (nI x), .int (nI g)] : List Value).toArray below meth c s.heap [] 0 0 (MQ below (vp_Si (fun r => r = nI (wsg C n Nn x g))) ([.ref h0, .int (nI x), .int (nI g)] : List Value).toArray s 0 0 (fun _ => False)) (F0 m 31 ls [.int (nI (Nn v))]) := by
          intro   ls hl
          refine lv_aload_n hx hb dX2_withSign_31 rfl (lv_at hl 0 rfl) ?_
          refine va_get (D := D) (ci := 1) (v := .ref qc) (C := RX2) (T := TX2) (N := 31) hx hb hts in_X2 hown hK hP 0 rfl rfl 4 (by decide) (hts _ q937) (fun _ h9 => h9) h4 dX2_withSign_32 ?_
          refine lv_iload_n hx hb dX2_withSign_35 rfl (lv_at hl 1 rfl) ?_
          refine lv_iload_n hx hb dX2_withSign_36 rfl (lv_at hl 2 rfl) ?_
          refine lv_iload hx hb dX2_withSign_37 (lv_at hl 4 rfl) ?_
          refine xs_Si (n := 3) (As := [.int (nI x), .int (nI g), .int (nI v)]) (rest := [.ref qc, .int (nI (Nn v))]) (ws := [xo h0 1 fs, xi E 0 qc 2160 ac, xi E 0 qf 189 af, xi E 0 qo 9 ao]) (tl := []) (wc := []) ⟨hx, hb, hml, hown, hts⟩ (met_cell l D E x g v) (lw_S q1053 q1054 q50 q1055) (by decide +kernel) ⟨(Nat.le_of_ble_eq_true rfl), (Nat.le_of_ble_eq_true rfl)⟩ rfl rfl hK hN hP [] rfl rfl hl.1 rfl (Nat.le_of_ble_eq_true rfl) dX2_withSign_39 ⟨(Nat.le_of_ble_eq_true rfl), (Nat.le_of_ble_eq_true rfl)⟩ (fun r_1 h_1 => ?_)
          subst h_1
          refine xa_iald hx hb hK hP 1 rfl (by omega) (by omega) dX2_withSign_42 ?_
          refine xv_i (y := nI (C x g v)) (hcc v hv9) ?_
          refine xi_iadd hx hb dX2_withSign_43 ?_
          refine lv_aload_n hx hb dX2_withSign_44 rfl (lv_at hl 0 rfl) ?_
          refine va_get (D := D) (ci := 1) (v := .ref qf) (C := RX2) (T := TX2) (N := 31) hx hb hts in_X2 hown hK hP 0 rfl rfl 8 (by decide) (hts _ q941) (fun _ h9 => h9) h8 dX2_withSign_45 ?_
          refine lv_bipush (v := nI 9) hx hb dX2_withSign_48 (by decide) ?_
          refine lv_iload_n hx hb dX2_withSign_50 rfl (lv_at hl 1 rfl) ?_
          refine lv_iconst (v := nI 1) hx hb dX2_withSign_51 (by decide) ?_
          refine xi_iadd hx hb dX2_withSign_52 ?_
          refine xi_imul hx hb dX2_withSign_53 ?_
          refine lv_iload hx hb dX2_withSign_54 (lv_at hl 4 rfl) ?_
          refine xs_Si (n := 3) (As := [.ref qf, .int (nI (9 * (x + 1))), .int (nI v)]) (rest := [.int (nI ((Nn v) + (C x g v)))]) (ws := [xo h0 1 fs, xi E 0 qc 2160 ac, xi E 0 qf 189 af, xi E 0 qo 9 ao]) (tl := []) (wc := [xi E 0 qf 189 af]) ⟨hx, hb, hml, hown, hts⟩ (met_near l D E qf 189 af (9 * (x + 1)) v (bk (cheap C) n (n - 1 - x)) (by omega) (by omega) hv9 hf (fun z hz => by have := bk_sm hSm (r := n - 1 - x) (by omega) hz; omega)) (lw_S q1069 q1070 q50 q1071) (by decide +kernel) ⟨(Nat.le_of_ble_eq_true rfl), (Nat.le_of_ble_eq_true rfl)⟩ rfl rfl hK hN hP [2] rfl rfl hl.1 rfl (Nat.le_of_ble_eq_true rfl) dX2_withSign_56 ⟨(Nat.le_of_ble_eq_true rfl), (Nat.le_of_ble_eq_true rfl)⟩ (fun r_2 h_2 => ?_)
          subst h_2
          refine xi_iadd hx hb dX2_withSign_59 ?_
          refine lv_istore (lv' := [(5, .int (nI (((Nn v) + (C x g v)) + (nr (bk (cheap C) n (n - 1 - x)) v)))), (0, .ref h0), (1, .int (nI x)), (2, .int (nI g)), (3, .int (nI (mnP 100000000 al (fun v => Nn v + C x g v + nr (bk (cheap C) n (n - 1 - x)) v) v))), (4, .int (nI v))]) hx hb dX2_withSign_60 hl (by decide) rfl (fun ls hl => ?_)
          have jp3 : ∀ (ls : Array Slot), lv_has ls 6 [(0, .ref h0), (1, .int (nI x)), (2, .int (nI g)), (4, .int (nI v))] → W p l e (headSpec (ws_ yX2_withSign cX2_withSign 6 (some .int)) (rmD 2 0 0)).room s m ([.ref h0, .int (nI x), .int (nI g)] : List Value).toArray below meth c s.heap [] 0 0 (MQ below (vp_Si (fun r => r = nI (wsg C n Nn x g))) ([.ref h0, .int (nI x), .int (nI g)] : List Value).toArray s 0 0 (fun _ => False)) (F0 m 74 ls [.int (nI (mnP 100000000 al (fun v => Nn v + C x g v + nr (bk (cheap C) n (n - 1 - x)) v) (v + 1)))]) := by
            intro   ls hl
            refine lv_istore_n (lv' := [(3, .int (nI (mnP 100000000 al (fun v => Nn v + C x g v + nr (bk (cheap C) n (n - 1 - x)) v) (v + 1)))), (0, .ref h0), (1, .int (nI x)), (2, .int (nI g)), (4, .int (nI v))]) hx hb dX2_withSign_74 rfl hl (by decide) rfl (fun ls hl => ?_)
            refine lv_iinc (v := nI (v + 1)) (lv' := [(4, .int (nI (v + 1))), (3, .int (nI (mnP 100000000 al (fun v => Nn v + C x g v + nr (bk (cheap C) n (n - 1 - x)) v) (v + 1)))), (0, .ref h0), (1, .int (nI x)), (2, .int (nI g))]) hx hb dX2_withSign_75 hl (k := 4) rfl (nI_1 _) (by decide) rfl (fun ls hl => ?_)
            refine lv_goto (tgt := 6) hx hb dX2_withSign_78 (by decide) ?_
            exact ih1 (v + 1) (by omega) (by omega) _ (lv_sub hl [2, 3, 4, 1, 0] rfl)
          refine lv_iload hx hb dX2_withSign_62 (lv_at hl 0 rfl) ?_
          refine lv_iload_n hx hb dX2_withSign_64 rfl (lv_at hl 4 rfl) ?_
          refine xi_icmp_ge (tgt := 73) hx hb (by omega) (by omega) dX2_withSign_65 (by decide) (fun c_65 => ?_) (fun c_65 => ?_)
          · refine lv_iload_n hx hb dX2_withSign_73 rfl (lv_at hl 4 rfl) ?_
            refine xv_i (y := nI (mnP 100000000 al (fun v => Nn v + C x g v + nr (bk (cheap C) n (n - 1 - x)) v) (v + 1))) (by rw [show mnP 100000000 al (fun v => Nn v + C x g v + nr (bk (cheap C) n (n - 1 - x)) v) (v + 1) = mnP 100000000 al (fun v => Nn v + C x g v + nr (bk (cheap C) n (n - 1 - x)) v) v from if_neg (by rintro ⟨-, h9⟩; dsimp only at h9; omega)]) ?_
            exact jp3   _ (lv_sub hl [1, 2, 3, 5] rfl)
          · refine lv_iload hx hb dX2_withSign_68 (lv_at hl 0 rfl) ?_
            refine lv_goto (tgt := 74) hx hb dX2_withSign_70 (by decide) ?_
            refine xv_i (y := nI (mnP 100000000 al (fun v => Nn v + C x g v + nr (bk (cheap C) n (n - 1 - x)) v) (v + 1))) (by rw [show mnP 100000000 al (fun v => Nn v + C x g v + nr (bk (cheap C) n (n - 1 - x)) v) (v + 1) = Nn v + C x g v + nr (bk (cheap C) n (n - 1 - x)) v from if_pos ⟨rfl, by omega⟩]) ?_
            exact jp3   _ (lv_sub hl [1, 2, 3, 5] rfl)
        refine lv_iload_n hx hb dX2_withSign_13 rfl (lv_at hl 1 rfl) ?_
        refine xi_if_ne (tgt := 21) hx hb (by omega) dX2_withSign_14 (by decide) (fun c_14 => ?_) (fun c_14 => ?_)
        · refine lv_aload_n hx hb dX2_withSign_21 rfl (lv_at hl 0 rfl) ?_
          refine va_get (D := D) (ci := 1) (v := .ref qo) (C := RX2) (T := TX2) (N := 31) hx hb hts in_X2 hown hK hP 0 rfl rfl 16 (by decide) (hts _ q949) (fun _ h9 => h9) h16 dX2_withSign_22 ?_
          refine lv_iconst (v := nI 0) hx hb dX2_withSign_25 (by decide) ?_
          refine lv_iload hx hb dX2_withSign_26 (lv_at hl 4 rfl) ?_
          refine xs_Si (n := 3) (As := [.ref qo, .int (nI 0), .int (nI v)]) (rest := []) (ws := [xo h0 1 fs, xi E 0 qc 2160 ac, xi E 0 qf 189 af, xi E 0 qo 9 ao]) (tl := []) (wc := [xi E 0 qo 9 ao]) ⟨hx, hb, hml, hown, hts⟩ (met_near l D E qo 9 ao 0 v To (by omega) (by omega) hv9 (fun z hz => by rw [Nat.zero_add]; exact (ho.resolve_left c_14) z hz) (fun z hz => by have := (hob.resolve_left c_14) z hz; omega)) (lw_S q1069 q1070 q50 q1071) (by decide +kernel) ⟨(Nat.le_of_ble_eq_true rfl), (Nat.le_of_ble_eq_true rfl)⟩ rfl rfl hK hN hP [3] rfl rfl hl.1 rfl (Nat.le_of_ble_eq_true rfl) dX2_withSign_28 ⟨(Nat.le_of_ble_eq_true rfl), (Nat.le_of_ble_eq_true rfl)⟩ (fun r_3 h_3 => ?_)
          subst h_3
          refine xv_i (y := nI (Nn v)) (by rw [hNn v hv9, if_neg c_14]) ?_
          exact jp2   _ (lv_sub hl [0, 1, 2, 3, 4] rfl)
        · refine lv_iconst (v := nI 0) hx hb dX2_withSign_17 (by decide) ?_
          refine lv_goto (tgt := 31) hx hb dX2_withSign_18 (by decide) ?_
          refine xv_i (y := nI (Nn v)) (by rw [hNn v hv9, if_pos c_14]) ?_
          exact jp2   _ (lv_sub hl [0, 1, 2, 3, 4] rfl)
  exact lp1 _ 0 (Nat.lt_succ_self _) (by omega) _ (lv_sub hl [2, 3, 4, 1, 0] rfl)
set_option maxHeartbeats 4000000 in
set_option maxRecDepth 100000 in
/-- the first signs of the least cost, then the first speeds -/
theorem met_chooses (l : Launch) (D : va_G) (E : Nat → ClassId) (sz : Nat) (h0 qc qf qs qv qo qn : Nat) (fs : List Value) (n : Nat) (h4 : fs[4]? = some (.ref qc)) (h6 : fs[6]? = some (.int (nI n))) (h8 : fs[8]? = some (.ref qf)) (h14 : fs[14]? = some (.ref qs)) (h15 : fs[15]? = some (.ref qv)) (h16 : fs[16]? = some (.ref qo)) (h17 : fs[17]? = some (.ref qn)) (ac af as av ao an : Nat → Int32) (C : C3) (K : Nat) (hn20 : n ≤ 20) (hC : ∀ k, k < 108 * n → ac k = nI (fl C k)) (hSm : Sm C n) (hf : ∀ x z, x ≤ n → z < 9 → af (9 * x + z) = nI (bk (cheap C) n (n - x) z)) (hKm : isMin (bk (cheap C) n n) K) : Met l yX2_chooses (ws_ yX2_chooses cX2_chooses 5 none) (rmD 3 0 0) (va_Pc [.ref h0, .int (nI K)] (xQ D E [xo h0 1 fs, xi E 0 qc 2160 ac, xi E 0 qf 189 af, xi E 0 qs 20 as, xi E 0 qv 20 av, xi E 0 qo 9 ao, xi E 0 qn 9 an] sz)) (va_Qv (fun (u : (Nat → Int32) × (Nat → Int32) × (Nat → Int32) × (Nat → Int32) × (Nat → Int32)) => ∃ sg sp : Nat → Nat, Signs C n K sg ∧ Speeds C n K sg sp ∧ ∀ q, q < n → u.2.1 q = nI (sg q) ∧ u.2.2.1 q = nI (sp q)) (fun (u : (Nat → Int32) × (Nat → Int32) × (Nat → Int32) × (Nat → Int32) × (Nat → Int32)) t8 => xR D E (va_A [xo h0 1 fs, xi E 0 qc 2160 ac, xi E 0 qf 189 af, xi E 0 qs 20 as, xi E 0 qv 20 av, xi E 0 qo 9 ao, xi E 0 qn 9 an] sz) ((fun u => [xo h0 1 fs, xi E 0 qc 2160 ac, xi E 0 qf 189 u.1, xi E 0 qs 20 u.2.1, xi E 0 qv 20 u.2.2.1, xi E 0 qo 9 u.2.2.2.1, xi E 0 qn 9 u.2.2.2.2]) u) t8) (va_A [xo h0 1 fs, xi E 0 qc 2160 ac, xi E 0 qf 189 af, xi E 0 qs 20 as, xi E 0 qv 20 av, xi E 0 qo 9 ao, xi E 0 qn 9 an] sz)) 0 0 (va_A [xo h0 1 fs, xi E 0 qc 2160 ac, xi E 0 qf 189 af, xi E 0 qs 20 as, xi E 0 qv 20 av, xi E 0 qo 9 ao, xi E 0 qn 9 an] sz) := by
  refine Met.ofW (cc := cX2_chooses) (maxL := 5) (ret := none) (by decide) rfl ?_
  intro p e s m args below meth c s₁ B hml hv0
  obtain ⟨rfl, hsz, hP, hK, hD0, hN⟩ := hv0
  have hx := B.exec
  have hb := B.bytes
  have hr := B.returns
  have hts := atoms_spec (ws := (ws_ yX2_chooses cX2_chooses 5 none)) B.pre
  have hts : ∀ w ∈ lw_all, w.before _ s = true := fun w h => hts w (List.mem_cons_of_mem _ h)
  have hown : s.vm.findClass RX2 = some m.cls := findClass_of_methodNamed B.named
  have hlocks := B.notSynchronized
  subst hsz
  have hD := hD0.self (sz := s.heap.size)
  generalize hAe : va_A [xo h0 1 fs, xi E 0 qc 2160 ac, xi E 0 qf 189 af, xi E 0 qs 20 as, xi E 0 qv 20 av, xi E 0 qo 9 ao, xi E 0 qn 9 an] s.heap.size = A at hD ⊢
  have hA : ∀ q : Nat, s.heap.size ≤ q → A q := fun q h => by rw [← hAe]; exact Or.inr h
  have hS : va_S A s.heap s.heap [] := va_S.rf
  have hP : va_P D vwCl [xo h0 1 fs, xi E 0 qc 2160 ac, xi E 0 qf 189 af, xi E 0 qs 20 as, xi E 0 qv 20 av, xi E 0 qo 9 ao, xi E 0 qn 9 an] s.heap := hP
  have hD : va_D A [xo h0 1 fs, xi E 0 qc 2160 ac, xi E 0 qf 189 af, xi E 0 qs 20 as, xi E 0 qv 20 av, xi E 0 qo 9 ao, xi E 0 qn 9 an] := hD
  have hl := lv_entry ([.ref h0, .int (nI K)]) (n := 5) (Nat.le_of_ble_eq_true rfl)
  rw [lg_entry_eq]
  generalize (lg_sl ([.ref h0, .int (nI K)]) ++ List.replicate (5 - (lg_sl ([.ref h0, .int (nI K)])).length) Slot.unset).toArray = ls at hl ⊢
  have hl : lv_has ls 5 [(0, .ref h0), (1, .int (nI K))] := hl
  have hKs : K ≤ 6720 := by
    have h1 := hKm.1 0 (by decide)
    have h2 := bk_sm hSm (Nat.le_refl n) (v := 0) (by decide)
    omega
  have hcc : ∀ x g v, x < n → g < 12 → v < 9 → ac ((x * 12 + g) * 9 + v) = nI (C x g v) := fun x g v h1 h2 h3 => by rw [hC _ (by omega), fl_at h2 h3]
  refine lv_iconst (v := nI 0) hx hb dX2_chooses_0 (by decide) ?_
  refine lv_istore_n (lv' := [(2, .int (nI 0)), (0, .ref h0), (1, .int (nI K))]) hx hb dX2_chooses_1 rfl hl (by decide) rfl (fun ls hl => ?_)
  have lp1 : ∀ (lc1 : Nat) (x : Nat) (sg : Nat → Nat) (s1 : Nat → Int32) (o1 : Nat → Int32) (n1 : Nat → Int32), n - x < lc1 → (x ≤ n) → (∀ q, q < x → s1 q = nI (sg q)) → (SgTo C n K sg x) → (x = 0 ∨ ∀ z, z < 9 → o1 z = nI (fwN (mS C sg) (x - 1) z + mS C sg (x - 1) z)) → (∃ v, v < 9 ∧ mayP C n K sg x v) → ∀ (Hl1 : Heap) (locsl1 : List Loc) (ls : Array Slot), va_P D vwCl [xo h0 1 fs, xi E 0 qc 2160 ac, xi E 0 qf 189 af, xi E 0 qs 20 s1, xi E 0 qv 20 av, xi E 0 qo 9 o1, xi E 0 qn 9 n1] Hl1 → va_D A [xo h0 1 fs, xi E 0 qc 2160 ac, xi E 0 qf 189 af, xi E 0 qs 20 s1, xi E 0 qv 20 av, xi E 0 qo 9 o1, xi E 0 qn 9 n1] → va_S A s.heap Hl1 locsl1 → lv_has ls 5 [(0, .ref h0), (1, .int (nI K)), (2, .int (nI x))] → W p l e (headSpec (ws_ yX2_chooses cX2_chooses 5 none) (rmD 3 0 0)).room s m ([.ref h0, .int (nI K)] : List Value).toArray below meth c Hl1 locsl1 0 0 (MQ below (va_Qv (fun (u : (Nat → Int32) × (Nat → Int32) × (Nat → Int32) × (Nat → Int32) × (Nat → Int32)) => ∃ sg sp : Nat → Nat, Signs C n K sg ∧ Speeds C n K sg sp ∧ ∀ q, q < n → u.2.1 q = nI (sg q) ∧ u.2.2.1 q = nI (sp q)) (fun (u : (Nat → Int32) × (Nat → Int32) × (Nat → Int32) × (Nat → Int32) × (Nat → Int32)) t8 => xR D E A ((fun u => [xo h0 1 fs, xi E 0 qc 2160 ac, xi E 0 qf 189 u.1, xi E 0 qs 20 u.2.1, xi E 0 qv 20 u.2.2.1, xi E 0 qo 9 u.2.2.2.1, xi E 0 qn 9 u.2.2.2.2]) u) t8) A) ([.ref h0, .int (nI K)] : List Value).toArray s 0 0 A) (F0 m 2 ls []) := by
    intro lc1
    induction lc1 with
    | zero => intro x sg s1 o1 n1 hm; exact absurd hm (Nat.not_lt_zero _)
    | succ lc1 ih1 =>
      intro x sg s1 o1 n1 hm1 hxn hs1 hSg ho1 hmy Hl1 locsl1 ls hP hD hS hl
      refine lv_iload_n hx hb dX2_chooses_2 rfl (lv_at hl 2 rfl) ?_
      refine lv_aload_n hx hb dX2_chooses_3 rfl (lv_at hl 0 rfl) ?_
      refine va_get (D := D) (ci := 1) (v := .int (nI n)) (C := RX2) (T := TX2) (N := 31) hx hb hts in_X2 hown hK hP 0 rfl rfl 6 (by decide) (hts _ q939) (fun _ h9 => h9) h6 dX2_chooses_4 ?_
      refine xi_icmp_ge (tgt := 125) hx hb (by omega) (by omega) dX2_chooses_7 (by decide) (fun c_7 => ?_) (fun c_7 => ?_)
      · have hxe : n = x := by omega
        subst hxe
        have hSgn : ∀ q, q < n → sg q < 12 := fun q hq => (hSg q hq).1
        have hmin : isMin (bk (mS C sg) n n) K := by
          obtain ⟨v, a1, a2⟩ := hmy
          exact signs_min hKm hSgn a1 a2
        have hbs : ∀ r z, r ≤ n → z < 9 → bk (mS C sg) n r z ≤ 6720 := fun r z h1 h2 => by have := bk_le (mS_sm hSm hSgn) h1 h2; omega
        refine lv_iconst (v := nI 0) hx hb dX2_chooses_125 (by decide) ?_
        refine lv_istore_n (lv' := [(2, .int (nI 0)), (0, .ref h0), (1, .int (nI K))]) hx hb dX2_chooses_126 rfl hl (by decide) rfl (fun ls hl => ?_)
        have lp2 : ∀ (lc2 : Nat) (v : Nat) (b1 : Nat → Int32), 9 - v < lc2 → (v ≤ 9) → (∀ z, z < v → b1 (9 * n + z) = nI 0) → ∀ (Hl2 : Heap) (locsl2 : List Loc) (ls : Array Slot), va_P D vwCl [xo h0 1 fs, xi E 0 qc 2160 ac, xi E 0 qf 189 b1, xi E 0 qs 20 s1, xi E 0 qv 20 av, xi E 0 qo 9 o1, xi E 0 qn 9 n1] Hl2 → va_D A [xo h0 1 fs, xi E 0 qc 2160 ac, xi E 0 qf 189 b1, xi E 0 qs 20 s1, xi E 0 qv 20 av, xi E 0 qo 9 o1, xi E 0 qn 9 n1] → va_S A s.heap Hl2 locsl2 → lv_has ls 5 [(0, .ref h0), (1, .int (nI K)), (2, .int (nI v))] → W p l e (headSpec (ws_ yX2_chooses cX2_chooses 5 none) (rmD 3 0 0)).room s m ([.ref h0, .int (nI K)] : List Value).toArray below meth c Hl2 locsl2 0 0 (MQ below (va_Qv (fun (u : (Nat → Int32) × (Nat → Int32) × (Nat → Int32) × (Nat → Int32) × (Nat → Int32)) => ∃ sg sp : Nat → Nat, Signs C n K sg ∧ Speeds C n K sg sp ∧ ∀ q, q < n → u.2.1 q = nI (sg q) ∧ u.2.2.1 q = nI (sp q)) (fun (u : (Nat → Int32) × (Nat → Int32) × (Nat → Int32) × (Nat → Int32) × (Nat → Int32)) t8 => xR D E A ((fun u => [xo h0 1 fs, xi E 0 qc 2160 ac, xi E 0 qf 189 u.1, xi E 0 qs 20 u.2.1, xi E 0 qv 20 u.2.2.1, xi E 0 qo 9 u.2.2.2.1, xi E 0 qn 9 u.2.2.2.2]) u) t8) A) ([.ref h0, .int (nI K)] : List Value).toArray s 0 0 A) (F0 m 127 ls []) := by
          intro lc2
          induction lc2 with
          | zero => intro v b1 hm; exact absurd hm (Nat.not_lt_zero _)
          | succ lc2 ih2 =>
            intro v b1 hm2 hv6 hb1 Hl2 locsl2 ls hP hD hS hl
            refine lv_iload_n hx hb dX2_chooses_127 rfl (lv_at hl 2 rfl) ?_
            refine lv_bipush (v := nI 9) hx hb dX2_chooses_128 (by decide) ?_
            refine xi_icmp_ge (tgt := 154) hx hb (by omega) (by omega) dX2_chooses_130 (by decide) (fun c_130 => ?_) (fun c_130 => ?_)
            · refine lv_aload_n hx hb dX2_chooses_154 rfl (lv_at hl 0 rfl) ?_
              refine va_get (D := D) (ci := 1) (v := .int (nI n)) (C := RX2) (T := TX2) (N := 31) hx hb hts in_X2 hown hK hP 0 rfl rfl 6 (by decide) (hts _ q939) (fun _ h9 => h9) h6 dX2_chooses_155 ?_
              refine lv_iconst (v := nI 1) hx hb dX2_chooses_158 (by decide) ?_
              refine lv_isub hx hb dX2_chooses_159 ?_
              refine xv_i (y := dn n) (dn_sub n) ?_
              refine lv_istore_n (lv' := [(2, .int (dn n)), (0, .ref h0), (1, .int (nI K))]) hx hb dX2_chooses_160 rfl hl (by decide) rfl (fun ls hl => ?_)
              have lp3 : ∀ (lc3 : Nat) (j : Nat) (b2 : Nat → Int32), j < lc3 → (j ≤ n) → (∀ x z, j ≤ x → x ≤ n → z < 9 → b2 (9 * x + z) = nI (bk (mS C sg) n (n - x) z)) → ∀ (Hl3 : Heap) (locsl3 : List Loc) (ls : Array Slot), va_P D vwCl [xo h0 1 fs, xi E 0 qc 2160 ac, xi E 0 qf 189 b2, xi E 0 qs 20 s1, xi E 0 qv 20 av, xi E 0 qo 9 o1, xi E 0 qn 9 n1] Hl3 → va_D A [xo h0 1 fs, xi E 0 qc 2160 ac, xi E 0 qf 189 b2, xi E 0 qs 20 s1, xi E 0 qv 20 av, xi E 0 qo 9 o1, xi E 0 qn 9 n1] → va_S A s.heap Hl3 locsl3 → lv_has ls 5 [(0, .ref h0), (1, .int (nI K)), (2, .int (dn j))] → W p l e (headSpec (ws_ yX2_chooses cX2_chooses 5 none) (rmD 3 0 0)).room s m ([.ref h0, .int (nI K)] : List Value).toArray below meth c Hl3 locsl3 0 0 (MQ below (va_Qv (fun (u : (Nat → Int32) × (Nat → Int32) × (Nat → Int32) × (Nat → Int32) × (Nat → Int32)) => ∃ sg sp : Nat → Nat, Signs C n K sg ∧ Speeds C n K sg sp ∧ ∀ q, q < n → u.2.1 q = nI (sg q) ∧ u.2.2.1 q = nI (sp q)) (fun (u : (Nat → Int32) × (Nat → Int32) × (Nat → Int32) × (Nat → Int32) × (Nat → Int32)) t8 => xR D E A ((fun u => [xo h0 1 fs, xi E 0 qc 2160 ac, xi E 0 qf 189 u.1, xi E 0 qs 20 u.2.1, xi E 0 qv 20 u.2.2.1, xi E 0 qo 9 u.2.2.2.1, xi E 0 qn 9 u.2.2.2.2]) u) t8) A) ([.ref h0, .int (nI K)] : List Value).toArray s 0 0 A) (F0 m 161 ls []) := by
                intro lc3
                induction lc3 with
                | zero => intro j b2 hm; exact absurd hm (Nat.not_lt_zero _)
                | succ lc3 ih3 =>
                  intro j b2 hm3 hj hb2 Hl3 locsl3 ls hP hD hS hl
                  refine lv_iload_n hx hb dX2_chooses_161 rfl (lv_at hl 2 rfl) ?_
                  refine lv_if_lt (tgt := 227) hx hb dX2_chooses_162 (by decide) (fun c_162 => ?_) (fun c_162 => ?_)
                  · have hj0 : j = 0 := (dn_lt (by omega)).mp c_162
                    subst hj0
                    refine lv_iload_n hx hb dX2_chooses_227 rfl (lv_at hl 1 rfl) ?_
                    refine lv_istore_n (lv' := [(2, .int (nI K)), (0, .ref h0), (1, .int (nI K))]) hx hb dX2_chooses_228 rfl hl (by decide) rfl (fun ls hl => ?_)
                    refine lv_iconst (v := nI 0) hx hb dX2_chooses_229 (by decide) ?_
                    refine lv_istore_n (lv' := [(3, .int (nI 0)), (2, .int (nI K)), (0, .ref h0), (1, .int (nI K))]) hx hb dX2_chooses_230 rfl hl (by decide) rfl (fun ls hl => ?_)
                    have lp4 : ∀ (lc4 : Nat) (x : Nat) (sp : Nat → Nat) (v1 : Nat → Int32), n - x < lc4 → (x ≤ n) → (∀ q, q < x → v1 q = nI (sp q)) → (SpTo C n K sg sp x) → (x < n → ∃ v, v < 9 ∧ okV C n K sg sp x v) → (lefts C K sg sp x ≤ 6720) → ∀ (Hl4 : Heap) (locsl4 : List Loc) (ls : Array Slot), va_P D vwCl [xo h0 1 fs, xi E 0 qc 2160 ac, xi E 0 qf 189 b2, xi E 0 qs 20 s1, xi E 0 qv 20 v1, xi E 0 qo 9 o1, xi E 0 qn 9 n1] Hl4 → va_D A [xo h0 1 fs, xi E 0 qc 2160 ac, xi E 0 qf 189 b2, xi E 0 qs 20 s1, xi E 0 qv 20 v1, xi E 0 qo 9 o1, xi E 0 qn 9 n1] → va_S A s.heap Hl4 locsl4 → lv_has ls 5 [(0, .ref h0), (1, .int (nI K)), (2, .int (nI (lefts C K sg sp x))), (3, .int (nI x))] → W p l e (headSpec (ws_ yX2_chooses cX2_chooses 5 none) (rmD 3 0 0)).room s m ([.ref h0, .int (nI K)] : List Value).toArray below meth c Hl4 locsl4 0 0 (MQ below (va_Qv (fun (u : (Nat → Int32) × (Nat → Int32) × (Nat → Int32) × (Nat → Int32) × (Nat → Int32)) => ∃ sg sp : Nat → Nat, Signs C n K sg ∧ Speeds C n K sg sp ∧ ∀ q, q < n → u.2.1 q = nI (sg q) ∧ u.2.2.1 q = nI (sp q)) (fun (u : (Nat → Int32) × (Nat → Int32) × (Nat → Int32) × (Nat → Int32) × (Nat → Int32)) t8 => xR D E A ((fun u => [xo h0 1 fs, xi E 0 qc 2160 ac, xi E 0 qf 189 u.1, xi E 0 qs 20 u.2.1, xi E 0 qv 20 u.2.2.1, xi E 0 qo 9 u.2.2.2.1, xi E 0 qn 9 u.2.2.2.2]) u) t8) A) ([.ref h0, .int (nI K)] : List Value).toArray s 0 0 A) (F0 m 231 ls []) := by
                      intro lc4
                      induction lc4 with
                      | zero => intro x sp v1 hm; exact absurd hm (Nat.not_lt_zero _)
                      | succ lc4 ih4 =>
                        intro x sp v1 hm4 hx8 hv1 hSp hex hlk Hl4 locsl4 ls hP hD hS hl
                        refine lv_iload_n hx hb dX2_chooses_231 rfl (lv_at hl 3 rfl) ?_
                        refine lv_aload_n hx hb dX2_chooses_232 rfl (lv_at hl 0 rfl) ?_
                        refine va_get (D := D) (ci := 1) (v := .int (nI n)) (C := RX2) (T := TX2) (N := 31) hx hb hts in_X2 hown hK hP 0 rfl rfl 6 (by decide) (hts _ q939) (fun _ h9 => h9) h6 dX2_chooses_233 ?_
                        refine xi_icmp_ge (tgt := 330) hx hb (by omega) (by omega) dX2_chooses_236 (by decide) (fun c_236 => ?_) (fun c_236 => ?_)
                        · refine W.widen (k := 0) (n := 0) (Nat.le_of_ble_eq_true rfl) (Nat.le_of_ble_eq_true rfl) ?_
                          exact W.vret hx hb hr (fun t9 ht9 hW9 => ⟨⟨(b2, s1, v1, o1, n1), rfl, ⟨sg, sp, hSg, fun q hq => hSp q (by omega), fun q hq => ⟨hs1 q hq, hv1 q (by omega)⟩⟩, by rw [ht9]; exact hP, hD⟩, hS.F ht9⟩) hS.2.2 dX2_chooses_330
                        · have hx9 : x < n := by omega
                          obtain ⟨vs, hvs9, hvs1, hvs2⟩ := spd_least (hex hx9)
                          have hvl := spd_le hx9 hvs1
                          have hsx := hSgn x hx9
                          have hcm := hSm x (sg x) vs hx9 hsx hvs9
                          have jp5 : ∀ (ls : Array Slot), lv_has ls 5 [(0, .ref h0), (1, .int (nI K)), (2, .int (nI (lefts C K sg sp x))), (3, .int (nI x))] → W p l e (headSpec (ws_ yX2_chooses cX2_chooses 5 none) (rmD 3 0 0)).room s m ([.ref h0, .int (nI K)] : List Value).toArray below meth c Hl4 locsl4 0 0 (MQ below (va_Qv (fun (u : (Nat → Int32) × (Nat → Int32) × (Nat → Int32) × (Nat → Int32) × (Nat → Int32)) => ∃ sg sp : Nat → Nat, Signs C n K sg ∧ Speeds C n K sg sp ∧ ∀ q, q < n → u.2.1 q = nI (sg q) ∧ u.2.2.1 q = nI (sp q)) (fun (u : (Nat → Int32) × (Nat → Int32) × (Nat → Int32) × (Nat → Int32) × (Nat → Int32)) t8 => xR D E A ((fun u => [xo h0 1 fs, xi E 0 qc 2160 ac, xi E 0 qf 189 u.1, xi E 0 qs 20 u.2.1, xi E 0 qv 20 u.2.2.1, xi E 0 qo 9 u.2.2.2.1, xi E 0 qn 9 u.2.2.2.2]) u) t8) A) ([.ref h0, .int (nI K)] : List Value).toArray s 0 0 A) (F0 m 272 ls [.int (nI (sp0 sp x))]) := by
                            intro   ls hl
                            refine lv_istore (lv' := [(4, .int (nI (sp0 sp x))), (0, .ref h0), (1, .int (nI K)), (2, .int (nI (lefts C K sg sp x))), (3, .int (nI x))]) hx hb dX2_chooses_272 hl (by decide) rfl (fun ls hl => ?_)
                            have lp6 : ∀ (lc6 : Nat) (v : Nat), 9 - v < lc6 → (v ≤ vs) → (sp0 sp x ≤ v) → ∀ (ls : Array Slot), lv_has ls 5 [(0, .ref h0), (1, .int (nI K)), (2, .int (nI (lefts C K sg sp x))), (3, .int (nI x)), (4, .int (nI v))] → W p l e (headSpec (ws_ yX2_chooses cX2_chooses 5 none) (rmD 3 0 0)).room s m ([.ref h0, .int (nI K)] : List Value).toArray below meth c Hl4 locsl4 0 0 (MQ below (va_Qv (fun (u : (Nat → Int32) × (Nat → Int32) × (Nat → Int32) × (Nat → Int32) × (Nat → Int32)) => ∃ sg sp : Nat → Nat, Signs C n K sg ∧ Speeds C n K sg sp ∧ ∀ q, q < n → u.2.1 q = nI (sg q) ∧ u.2.2.1 q = nI (sp q)) (fun (u : (Nat → Int32) × (Nat → Int32) × (Nat → Int32) × (Nat → Int32) × (Nat → Int32)) t8 => xR D E A ((fun u => [xo h0 1 fs, xi E 0 qc 2160 ac, xi E 0 qf 189 u.1, xi E 0 qs 20 u.2.1, xi E 0 qv 20 u.2.2.1, xi E 0 qo 9 u.2.2.2.1, xi E 0 qn 9 u.2.2.2.2]) u) t8) A) ([.ref h0, .int (nI K)] : List Value).toArray s 0 0 A) (F0 m 274 ls []) := by
                              intro lc6
                              induction lc6 with
                              | zero => intro v hm; exact absurd hm (Nat.not_lt_zero _)
                              | succ lc6 ih6 =>
                                intro v hm6 hv8 hv0 ls hl
                                refine lv_aload_n hx hb dX2_chooses_274 rfl (lv_at hl 0 rfl) ?_
                                refine va_get (D := D) (ci := 1) (v := .ref qf) (C := RX2) (T := TX2) (N := 31) hx hb hts in_X2 hown hK hP 0 rfl rfl 8 (by decide) (hts _ q941) (fun _ h9 => h9) h8 dX2_chooses_275 ?_
                                refine lv_bipush (v := nI 9) hx hb dX2_chooses_278 (by decide) ?_
                                refine lv_iload_n hx hb dX2_chooses_280 rfl (lv_at hl 3 rfl) ?_
                                refine xi_imul hx hb dX2_chooses_281 ?_
                                refine lv_iload hx hb dX2_chooses_282 (lv_at hl 4 rfl) ?_
                                refine xi_iadd hx hb dX2_chooses_284 ?_
                                refine xa_iald hx hb hK hP 2 rfl (by omega) (by omega) dX2_chooses_285 ?_
                                refine xv_i (y := nI (bk (mS C sg) n (n - x) v)) (hb2 x v (by omega) (by omega) (by omega)) ?_
                                refine lv_iload_n hx hb dX2_chooses_286 rfl (lv_at hl 2 rfl) ?_
                                refine xi_icmp_eq (tgt := 296) hx hb (by have := hbs (n - x) v (by omega) (by omega); omega) (by omega) dX2_chooses_287 (by decide) (fun c_287 => ?_) (fun c_287 => ?_)
                                · have hvv : vs = v := (spd_hit hvs1 hvs2 hv0 hv8 c_287).symm
                                  subst hvv
                                  refine lv_aload_n hx hb dX2_chooses_296 rfl (lv_at hl 0 rfl) ?_
                                  refine va_get (D := D) (ci := 1) (v := .ref qv) (C := RX2) (T := TX2) (N := 31) hx hb hts in_X2 hown hK hP 0 rfl rfl 15 (by decide) (hts _ q948) (fun _ h9 => h9) h15 dX2_chooses_297 ?_
                                  refine lv_iload_n hx hb dX2_chooses_300 rfl (lv_at hl 3 rfl) ?_
                                  refine lv_iload hx hb dX2_chooses_301 (lv_at hl 4 rfl) ?_
                                  refine xa_iast hx hb hK hP hD hS 4 rfl (by omega) (by omega) dX2_chooses_303 (fun H_1 locs_1 hP hD hS => ?_)
                                  have hP : va_P D vwCl [xo h0 1 fs, xi E 0 qc 2160 ac, xi E 0 qf 189 b2, xi E 0 qs 20 s1, xi E 0 qv 20 (upd v1 x (nI vs)), xi E 0 qo 9 o1, xi E 0 qn 9 n1] H_1 := hP
                                  have hD : va_D A [xo h0 1 fs, xi E 0 qc 2160 ac, xi E 0 qf 189 b2, xi E 0 qs 20 s1, xi E 0 qv 20 (upd v1 x (nI vs)), xi E 0 qo 9 o1, xi E 0 qn 9 n1] := hD
                                  refine lv_iload_n hx hb dX2_chooses_304 rfl (lv_at hl 2 rfl) ?_
                                  refine lv_aload_n hx hb dX2_chooses_305 rfl (lv_at hl 0 rfl) ?_
                                  refine va_get (D := D) (ci := 1) (v := .ref qc) (C := RX2) (T := TX2) (N := 31) hx hb hts in_X2 hown hK hP 0 rfl rfl 4 (by decide) (hts _ q937) (fun _ h9 => h9) h4 dX2_chooses_306 ?_
                                  refine lv_iload_n hx hb dX2_chooses_309 rfl (lv_at hl 3 rfl) ?_
                                  refine lv_aload_n hx hb dX2_chooses_310 rfl (lv_at hl 0 rfl) ?_
                                  refine va_get (D := D) (ci := 1) (v := .ref qs) (C := RX2) (T := TX2) (N := 31) hx hb hts in_X2 hown hK hP 0 rfl rfl 14 (by decide) (hts _ q947) (fun _ h9 => h9) h14 dX2_chooses_311 ?_
                                  refine lv_iload_n hx hb dX2_chooses_314 rfl (lv_at hl 3 rfl) ?_
                                  refine xa_iald hx hb hK hP 3 rfl (by omega) (by omega) dX2_chooses_315 ?_
                                  refine xv_i (y := nI (sg x)) (hs1 x (by omega)) ?_
                                  refine lv_iload hx hb dX2_chooses_316 (lv_at hl 4 rfl) ?_
                                  refine xs_Si (n := 3) (As := [.int (nI x), .int (nI (sg x)), .int (nI vs)]) (rest := [.ref qc, .int (nI (lefts C K sg sp x))]) (ws := [xo h0 1 fs, xi E 0 qc 2160 ac, xi E 0 qf 189 b2, xi E 0 qs 20 s1, xi E 0 qv 20 (upd v1 x (nI vs)), xi E 0 qo 9 o1, xi E 0 qn 9 n1]) (tl := []) (wc := []) ⟨hx, hb, hml, hown, hts⟩ (met_cell l D E x (sg x) vs) (lw_S q1053 q1054 q50 q1055) (by decide +kernel) ⟨(Nat.le_of_ble_eq_true rfl), (Nat.le_of_ble_eq_true rfl)⟩ rfl rfl hK hN hP [] rfl rfl hl.1 rfl (Nat.le_of_ble_eq_true rfl) dX2_chooses_318 ⟨(Nat.le_of_ble_eq_true rfl), (Nat.le_of_ble_eq_true rfl)⟩ (fun r_2 h_2 => ?_)
                                  subst h_2
                                  refine xa_iald hx hb hK hP 1 rfl (by omega) (by omega) dX2_chooses_321 ?_
                                  refine xv_i (y := nI (C x (sg x) vs)) (hcc x (sg x) vs (by omega) hsx hvs9) ?_
                                  refine xi_isub hx hb (by omega) dX2_chooses_322 ?_
                                  refine xv_i (y := nI (lefts C K sg (va_up sp x vs) (x + 1))) (by rw [lefts_up]) ?_
                                  refine lv_istore_n (lv' := [(2, .int (nI (lefts C K sg (va_up sp x vs) (x + 1)))), (0, .ref h0), (1, .int (nI K)), (3, .int (nI x)), (4, .int (nI vs))]) hx hb dX2_chooses_323 rfl hl (by decide) rfl (fun ls hl => ?_)
                                  refine lv_iinc (v := nI (x + 1)) (lv' := [(3, .int (nI (x + 1))), (2, .int (nI (lefts C K sg (va_up sp x vs) (x + 1)))), (0, .ref h0), (1, .int (nI K)), (4, .int (nI vs))]) hx hb dX2_chooses_324 hl (k := 3) rfl (nI_1 _) (by decide) rfl (fun ls hl => ?_)
                                  refine lv_goto (tgt := 231) hx hb dX2_chooses_327 (by decide) ?_
                                  exact ih4 (x + 1) (va_up sp x vs) (upd v1 x (nI vs)) (by omega) (by omega) (up_step hv1) (hSp.step hx9 hvs9 hvs1 hvs2) (fun _ => spd_next hx9 hvs9 hvs1) (by rw [lefts_up]; omega) _ _ _ hP hD hS (lv_sub hl [2, 3, 1, 0] rfl)
                                · refine lv_iinc (v := nI (v + 1)) (lv' := [(4, .int (nI (v + 1))), (0, .ref h0), (1, .int (nI K)), (2, .int (nI (lefts C K sg sp x))), (3, .int (nI x))]) hx hb dX2_chooses_290 hl (k := 4) rfl (nI_1 _) (by decide) rfl (fun ls hl => ?_)
                                  refine lv_goto (tgt := 274) hx hb dX2_chooses_293 (by decide) ?_
                                  exact ih6 (v + 1) (by omega) (by have : v ≠ vs := fun q => c_287 (by rw [q]; exact hvs1.1); omega) (by omega) _ (lv_sub hl [1, 2, 3, 4, 0] rfl)
                            exact lp6 _ (sp0 sp x) (Nat.lt_succ_self _) (spd_from hvs1) (Nat.le_refl _) _ (lv_sub hl [1, 2, 3, 4, 0] rfl)
                          refine lv_iload_n hx hb dX2_chooses_239 rfl (lv_at hl 3 rfl) ?_
                          refine xi_if_ne (tgt := 247) hx hb (by omega) dX2_chooses_240 (by decide) (fun c_240 => ?_) (fun c_240 => ?_)
                          · refine lv_aload_n hx hb dX2_chooses_247 rfl (lv_at hl 0 rfl) ?_
                            refine va_get (D := D) (ci := 1) (v := .ref qv) (C := RX2) (T := TX2) (N := 31) hx hb hts in_X2 hown hK hP 0 rfl rfl 15 (by decide) (hts _ q948) (fun _ h9 => h9) h15 dX2_chooses_248 ?_
                            refine lv_iload_n hx hb dX2_chooses_251 rfl (lv_at hl 3 rfl) ?_
                            refine lv_iconst (v := nI 1) hx hb dX2_chooses_252 (by decide) ?_
                            refine xi_isub hx hb (by omega) dX2_chooses_253 ?_
                            refine xa_iald hx hb hK hP 4 rfl (by omega) (by omega) dX2_chooses_254 ?_
                            have hq9 := (hSp (x - 1) (by omega)).1
                            refine xv_i (y := nI (sp (x - 1))) (hv1 (x - 1) (by omega)) ?_
                            refine xi_if_le (tgt := 271) hx hb (by omega) dX2_chooses_255 (by decide) (fun c_255 => ?_) (fun c_255 => ?_)
                            · refine lv_iconst (v := nI 0) hx hb dX2_chooses_271 (by decide) ?_
                              refine xv_i (y := nI (sp0 sp x)) (by unfold sp0; rw [if_neg c_240, c_255]) ?_
                              exact jp5   _ (lv_sub hl [0, 1, 2, 3] rfl)
                            · refine lv_aload_n hx hb dX2_chooses_258 rfl (lv_at hl 0 rfl) ?_
                              refine va_get (D := D) (ci := 1) (v := .ref qv) (C := RX2) (T := TX2) (N := 31) hx hb hts in_X2 hown hK hP 0 rfl rfl 15 (by decide) (hts _ q948) (fun _ h9 => h9) h15 dX2_chooses_259 ?_
                              refine lv_iload_n hx hb dX2_chooses_262 rfl (lv_at hl 3 rfl) ?_
                              refine lv_iconst (v := nI 1) hx hb dX2_chooses_263 (by decide) ?_
                              refine xi_isub hx hb (by omega) dX2_chooses_264 ?_
                              refine xa_iald hx hb hK hP 4 rfl (by omega) (by omega) dX2_chooses_265 ?_
                              refine xv_i (y := nI (sp (x - 1))) (hv1 (x - 1) (by omega)) ?_
                              refine lv_iconst (v := nI 1) hx hb dX2_chooses_266 (by decide) ?_
                              refine xi_isub hx hb (by omega) dX2_chooses_267 ?_
                              refine lv_goto (tgt := 272) hx hb dX2_chooses_268 (by decide) ?_
                              refine xv_i (y := nI (sp0 sp x)) (by unfold sp0; rw [if_neg c_240]) ?_
                              exact jp5   _ (lv_sub hl [0, 1, 2, 3] rfl)
                          · refine lv_iconst (v := nI 0) hx hb dX2_chooses_243 (by decide) ?_
                            refine lv_goto (tgt := 272) hx hb dX2_chooses_244 (by decide) ?_
                            refine xv_i (y := nI (sp0 sp x)) (by unfold sp0; rw [if_pos c_240]) ?_
                            exact jp5   _ (lv_sub hl [0, 1, 2, 3] rfl)
                    exact lp4 _ 0 (fun _ => 0) av (Nat.lt_succ_self _) (by omega) (fun q hq => absurd hq (Nat.not_lt_zero _)) (fun q hq => absurd hq (Nat.not_lt_zero _)) (fun _ => spd_first hmin) hKs _ _ _ hP hD hS (lv_sub hl [2, 3, 1, 0] rfl)
                  · obtain ⟨x, rfl⟩ : ∃ x, j = x + 1 := ⟨j - 1, by have : ¬ j = 0 := fun q => c_162 ((dn_lt (by omega)).mpr q); omega⟩
                    rw [dn_succ] at hl
                    have hsx := hSgn x (by omega)
                    refine lv_iconst (v := nI 0) hx hb dX2_chooses_165 (by decide) ?_
                    refine lv_istore_n (lv' := [(3, .int (nI 0)), (0, .ref h0), (1, .int (nI K)), (2, .int (nI x))]) hx hb dX2_chooses_166 rfl hl (by decide) rfl (fun ls hl => ?_)
                    have lp7 : ∀ (lc7 : Nat) (v : Nat) (b3 : Nat → Int32), 9 - v < lc7 → (v ≤ 9) → (∀ y z, x < y → y ≤ n → z < 9 → b3 (9 * y + z) = nI (bk (mS C sg) n (n - y) z)) → (∀ z, z < v → b3 (9 * x + z) = nI (bk (mS C sg) n (n - x) z)) → ∀ (Hl7 : Heap) (locsl7 : List Loc) (ls : Array Slot), va_P D vwCl [xo h0 1 fs, xi E 0 qc 2160 ac, xi E 0 qf 189 b3, xi E 0 qs 20 s1, xi E 0 qv 20 av, xi E 0 qo 9 o1, xi E 0 qn 9 n1] Hl7 → va_D A [xo h0 1 fs, xi E 0 qc 2160 ac, xi E 0 qf 189 b3, xi E 0 qs 20 s1, xi E 0 qv 20 av, xi E 0 qo 9 o1, xi E 0 qn 9 n1] → va_S A s.heap Hl7 locsl7 → lv_has ls 5 [(0, .ref h0), (1, .int (nI K)), (2, .int (nI x)), (3, .int (nI v))] → W p l e (headSpec (ws_ yX2_chooses cX2_chooses 5 none) (rmD 3 0 0)).room s m ([.ref h0, .int (nI K)] : List Value).toArray below meth c Hl7 locsl7 0 0 (MQ below (va_Qv (fun (u : (Nat → Int32) × (Nat → Int32) × (Nat → Int32) × (Nat → Int32) × (Nat → Int32)) => ∃ sg sp : Nat → Nat, Signs C n K sg ∧ Speeds C n K sg sp ∧ ∀ q, q < n → u.2.1 q = nI (sg q) ∧ u.2.2.1 q = nI (sp q)) (fun (u : (Nat → Int32) × (Nat → Int32) × (Nat → Int32) × (Nat → Int32) × (Nat → Int32)) t8 => xR D E A ((fun u => [xo h0 1 fs, xi E 0 qc 2160 ac, xi E 0 qf 189 u.1, xi E 0 qs 20 u.2.1, xi E 0 qv 20 u.2.2.1, xi E 0 qo 9 u.2.2.2.1, xi E 0 qn 9 u.2.2.2.2]) u) t8) A) ([.ref h0, .int (nI K)] : List Value).toArray s 0 0 A) (F0 m 167 ls []) := by
                      intro lc7
                      induction lc7 with
                      | zero => intro v b3 hm; exact absurd hm (Nat.not_lt_zero _)
                      | succ lc7 ih7 =>
                        intro v b3 hm7 hv7 hb3 hb3' Hl7 locsl7 ls hP hD hS hl
                        refine lv_iload_n hx hb dX2_chooses_167 rfl (lv_at hl 3 rfl) ?_
                        refine lv_bipush (v := nI 9) hx hb dX2_chooses_168 (by decide) ?_
                        refine xi_icmp_ge (tgt := 221) hx hb (by omega) (by omega) dX2_chooses_170 (by decide) (fun c_170 => ?_) (fun c_170 => ?_)
                        · refine lv_iinc (v := nI x + (-1)) (lv' := [(2, .int (nI x + (-1))), (0, .ref h0), (1, .int (nI K)), (3, .int (nI v))]) hx hb dX2_chooses_221 hl (k := 2) rfl rfl (by decide) rfl (fun ls hl => ?_)
                          refine lv_goto (tgt := 161) hx hb dX2_chooses_224 (by decide) ?_
                          exact ih3 x b3 (by omega) (by omega) (fun y z h1 h2 h3 => (Nat.eq_or_lt_of_le h1).elim (fun e => e ▸ hb3' z (by omega)) (fun e => hb3 y z e h2 h3)) _ _ _ hP hD hS (lv_sub hl [1, 2, 0] rfl)
                        · refine lv_aload_n hx hb dX2_chooses_173 rfl (lv_at hl 0 rfl) ?_
                          refine va_get (D := D) (ci := 1) (v := .ref qf) (C := RX2) (T := TX2) (N := 31) hx hb hts in_X2 hown hK hP 0 rfl rfl 8 (by decide) (hts _ q941) (fun _ h9 => h9) h8 dX2_chooses_174 ?_
                          refine lv_bipush (v := nI 9) hx hb dX2_chooses_177 (by decide) ?_
                          refine lv_iload_n hx hb dX2_chooses_179 rfl (lv_at hl 2 rfl) ?_
                          refine xi_imul hx hb dX2_chooses_180 ?_
                          refine lv_iload_n hx hb dX2_chooses_181 rfl (lv_at hl 3 rfl) ?_
                          refine xi_iadd hx hb dX2_chooses_182 ?_
                          refine lv_aload_n hx hb dX2_chooses_183 rfl (lv_at hl 0 rfl) ?_
                          refine va_get (D := D) (ci := 1) (v := .ref qc) (C := RX2) (T := TX2) (N := 31) hx hb hts in_X2 hown hK hP 0 rfl rfl 4 (by decide) (hts _ q937) (fun _ h9 => h9) h4 dX2_chooses_184 ?_
                          refine lv_iload_n hx hb dX2_chooses_187 rfl (lv_at hl 2 rfl) ?_
                          refine lv_aload_n hx hb dX2_chooses_188 rfl (lv_at hl 0 rfl) ?_
                          refine va_get (D := D) (ci := 1) (v := .ref qs) (C := RX2) (T := TX2) (N := 31) hx hb hts in_X2 hown hK hP 0 rfl rfl 14 (by decide) (hts _ q947) (fun _ h9 => h9) h14 dX2_chooses_189 ?_
                          refine lv_iload_n hx hb dX2_chooses_192 rfl (lv_at hl 2 rfl) ?_
                          refine xa_iald hx hb hK hP 3 rfl (by omega) (by omega) dX2_chooses_193 ?_
                          refine xv_i (y := nI (sg x)) (hs1 x (by omega)) ?_
                          refine lv_iload_n hx hb dX2_chooses_194 rfl (lv_at hl 3 rfl) ?_
                          refine xs_Si (n := 3) (As := [.int (nI x), .int (nI (sg x)), .int (nI v)]) (rest := [.ref qc, .int (nI ((9 * x) + v)), .ref qf]) (ws := [xo h0 1 fs, xi E 0 qc 2160 ac, xi E 0 qf 189 b3, xi E 0 qs 20 s1, xi E 0 qv 20 av, xi E 0 qo 9 o1, xi E 0 qn 9 n1]) (tl := []) (wc := []) ⟨hx, hb, hml, hown, hts⟩ (met_cell l D E x (sg x) v) (lw_S q1053 q1054 q50 q1055) (by decide +kernel) ⟨(Nat.le_of_ble_eq_true rfl), (Nat.le_of_ble_eq_true rfl)⟩ rfl rfl hK hN hP [] rfl rfl hl.1 rfl (Nat.le_of_ble_eq_true rfl) dX2_chooses_195 ⟨(Nat.le_of_ble_eq_true rfl), (Nat.le_of_ble_eq_true rfl)⟩ (fun r_3 h_3 => ?_)
                          subst h_3
                          refine xa_iald hx hb hK hP 1 rfl (by omega) (by omega) dX2_chooses_198 ?_
                          refine xv_i (y := nI (C x (sg x) v)) (hcc x (sg x) v (by omega) hsx (by omega)) ?_
                          refine lv_aload_n hx hb dX2_chooses_199 rfl (lv_at hl 0 rfl) ?_
                          refine va_get (D := D) (ci := 1) (v := .ref qf) (C := RX2) (T := TX2) (N := 31) hx hb hts in_X2 hown hK hP 0 rfl rfl 8 (by decide) (hts _ q941) (fun _ h9 => h9) h8 dX2_chooses_200 ?_
                          refine lv_bipush (v := nI 9) hx hb dX2_chooses_203 (by decide) ?_
                          refine lv_iload_n hx hb dX2_chooses_205 rfl (lv_at hl 2 rfl) ?_
                          refine lv_iconst (v := nI 1) hx hb dX2_chooses_206 (by decide) ?_
                          refine xi_iadd hx hb dX2_chooses_207 ?_
                          refine xi_imul hx hb dX2_chooses_208 ?_
                          refine lv_iload_n hx hb dX2_chooses_209 rfl (lv_at hl 3 rfl) ?_
                          refine xs_Si (n := 3) (As := [.ref qf, .int (nI (9 * (x + 1))), .int (nI v)]) (rest := [.int (nI (C x (sg x) v)), .int (nI ((9 * x) + v)), .ref qf]) (ws := [xo h0 1 fs, xi E 0 qc 2160 ac, xi E 0 qf 189 b3, xi E 0 qs 20 s1, xi E 0 qv 20 av, xi E 0 qo 9 o1, xi E 0 qn 9 n1]) (tl := []) (wc := [xi E 0 qf 189 b3]) ⟨hx, hb, hml, hown, hts⟩ (met_near l D E qf 189 b3 (9 * (x + 1)) v (bk (mS C sg) n (n - 1 - x)) (by omega) (by omega) (by omega) (fun z hz => by rw [hb3 (x + 1) z (by omega) (by omega) hz, show n - (x + 1) = n - 1 - x by omega]) (fun z hz => by have := hbs (n - 1 - x) z (by omega) hz; omega)) (lw_S q1069 q1070 q50 q1071) (by decide +kernel) ⟨(Nat.le_of_ble_eq_true rfl), (Nat.le_of_ble_eq_true rfl)⟩ rfl rfl hK hN hP [2] rfl rfl hl.1 rfl (Nat.le_of_ble_eq_true rfl) dX2_chooses_210 ⟨(Nat.le_of_ble_eq_true rfl), (Nat.le_of_ble_eq_true rfl)⟩ (fun r_4 h_4 => ?_)
                          subst h_4
                          refine xi_iadd hx hb dX2_chooses_213 ?_
                          refine xa_iast hx hb hK hP hD hS 2 rfl (by omega) (by omega) dX2_chooses_214 (fun H_5 locs_5 hP hD hS => ?_)
                          have hP : va_P D vwCl [xo h0 1 fs, xi E 0 qc 2160 ac, xi E 0 qf 189 (upd b3 ((9 * x) + v) (nI ((C x (sg x) v) + (nr (bk (mS C sg) n (n - 1 - x)) v)))), xi E 0 qs 20 s1, xi E 0 qv 20 av, xi E 0 qo 9 o1, xi E 0 qn 9 n1] H_5 := hP
                          have hD : va_D A [xo h0 1 fs, xi E 0 qc 2160 ac, xi E 0 qf 189 (upd b3 ((9 * x) + v) (nI ((C x (sg x) v) + (nr (bk (mS C sg) n (n - 1 - x)) v)))), xi E 0 qs 20 s1, xi E 0 qv 20 av, xi E 0 qo 9 o1, xi E 0 qn 9 n1] := hD
                          refine lv_iinc (v := nI (v + 1)) (lv' := [(3, .int (nI (v + 1))), (0, .ref h0), (1, .int (nI K)), (2, .int (nI x))]) hx hb dX2_chooses_215 hl (k := 3) rfl (nI_1 _) (by decide) rfl (fun ls hl => ?_)
                          refine lv_goto (tgt := 167) hx hb dX2_chooses_218 (by decide) ?_
                          exact ih7 (v + 1) (upd b3 ((9 * x) + v) (nI ((C x (sg x) v) + (nr (bk (mS C sg) n (n - 1 - x)) v)))) (by omega) (by omega) (fun y z h1 h2 h3 => by rw [pk_un (by omega)]; exact hb3 y z h1 h2 h3) (row_step (F := fun z => nI (bk (mS C sg) n (n - x) z)) hb3' (by show _ = nI _; rw [bk_at (by omega)]; rfl)) _ _ _ hP hD hS (lv_sub hl [1, 2, 3, 0] rfl)
                    exact lp7 _ 0 b2 (Nat.lt_succ_self _) (by omega) (fun y z h1 h2 h3 => hb2 y z (by omega) h2 h3) (fun z hz => absurd hz (Nat.not_lt_zero _)) _ _ _ hP hD hS (lv_sub hl [1, 2, 3, 0] rfl)
              exact lp3 _ n b1 (Nat.lt_succ_self _) (Nat.le_refl n) (fun x z h1 h2 h3 => by rw [show x = n by omega, Nat.sub_self]; exact hb1 z (by omega)) _ _ _ hP hD hS (lv_sub hl [1, 2, 0] rfl)
            · refine lv_aload_n hx hb dX2_chooses_133 rfl (lv_at hl 0 rfl) ?_
              refine va_get (D := D) (ci := 1) (v := .ref qf) (C := RX2) (T := TX2) (N := 31) hx hb hts in_X2 hown hK hP 0 rfl rfl 8 (by decide) (hts _ q941) (fun _ h9 => h9) h8 dX2_chooses_134 ?_
              refine lv_bipush (v := nI 9) hx hb dX2_chooses_137 (by decide) ?_
              refine lv_aload_n hx hb dX2_chooses_139 rfl (lv_at hl 0 rfl) ?_
              refine va_get (D := D) (ci := 1) (v := .int (nI n)) (C := RX2) (T := TX2) (N := 31) hx hb hts in_X2 hown hK hP 0 rfl rfl 6 (by decide) (hts _ q939) (fun _ h9 => h9) h6 dX2_chooses_140 ?_
              refine xi_imul hx hb dX2_chooses_143 ?_
              refine lv_iload_n hx hb dX2_chooses_144 rfl (lv_at hl 2 rfl) ?_
              refine xi_iadd hx hb dX2_chooses_145 ?_
              refine lv_iconst (v := nI 0) hx hb dX2_chooses_146 (by decide) ?_
              refine xa_iast hx hb hK hP hD hS 2 rfl (by omega) (by omega) dX2_chooses_147 (fun H_6 locs_6 hP hD hS => ?_)
              have hP : va_P D vwCl [xo h0 1 fs, xi E 0 qc 2160 ac, xi E 0 qf 189 (upd b1 ((9 * n) + v) (nI 0)), xi E 0 qs 20 s1, xi E 0 qv 20 av, xi E 0 qo 9 o1, xi E 0 qn 9 n1] H_6 := hP
              have hD : va_D A [xo h0 1 fs, xi E 0 qc 2160 ac, xi E 0 qf 189 (upd b1 ((9 * n) + v) (nI 0)), xi E 0 qs 20 s1, xi E 0 qv 20 av, xi E 0 qo 9 o1, xi E 0 qn 9 n1] := hD
              refine lv_iinc (v := nI (v + 1)) (lv' := [(2, .int (nI (v + 1))), (0, .ref h0), (1, .int (nI K))]) hx hb dX2_chooses_148 hl (k := 2) rfl (nI_1 _) (by decide) rfl (fun ls hl => ?_)
              refine lv_goto (tgt := 127) hx hb dX2_chooses_151 (by decide) ?_
              exact ih2 (v + 1) (upd b1 ((9 * n) + v) (nI 0)) (by omega) (by omega) (row_step (F := fun _ => nI 0) hb1 rfl) _ _ _ hP hD hS (lv_sub hl [1, 2, 0] rfl)
        exact lp2 _ 0 af (Nat.lt_succ_self _) (by omega) (fun z hz => absurd hz (Nat.not_lt_zero _)) _ _ _ hP hD hS (lv_sub hl [1, 2, 0] rfl)
      · have hxn2 : x < n := by omega
        obtain ⟨g, hg12, hgK, hgl⟩ := sign_least (sign_ex hSm hn20 hKm (fun q hq => (hSg q hq).1) hxn2 hmy)
        have hNn : ∀ z, z < 9 → fwN (mS C sg) x z = if x = 0 then 0 else nr (fun z => fwN (mS C sg) (x - 1) z + mS C sg (x - 1) z) z := fun z hz => fwN_pred
        have hTb : x = 0 ∨ ∀ z, z < 9 → fwN (mS C sg) (x - 1) z + mS C sg (x - 1) z ≤ 10000000 := by
          by_cases e : x = 0
          · exact Or.inl e
          · refine Or.inr (fun z hz => ?_)
            have h1 := fwN_le (m := mS C sg) (n := x) (M := 336) (fun q w hw hq => hSm q (sg q) w (by omega) (hSg q hq).1 hw) (p := x - 1) (v := z) (by omega) hz
            have h2 : mS C sg (x - 1) z ≤ 336 := hSm (x - 1) (sg (x - 1)) z (by omega) (hSg (x - 1) (by omega)).1 hz
            omega
        refine lv_iconst (v := nI 0) hx hb dX2_chooses_10 (by decide) ?_
        refine lv_istore_n (lv' := [(3, .int (nI 0)), (0, .ref h0), (1, .int (nI K)), (2, .int (nI x))]) hx hb dX2_chooses_11 rfl hl (by decide) rfl (fun ls hl => ?_)
        have lp8 : ∀ (lc8 : Nat) (k : Nat), 12 - k < lc8 → (k ≤ g) → ∀ (ls : Array Slot), lv_has ls 5 [(0, .ref h0), (1, .int (nI K)), (2, .int (nI x)), (3, .int (nI k))] → W p l e (headSpec (ws_ yX2_chooses cX2_chooses 5 none) (rmD 3 0 0)).room s m ([.ref h0, .int (nI K)] : List Value).toArray below meth c Hl1 locsl1 0 0 (MQ below (va_Qv (fun (u : (Nat → Int32) × (Nat → Int32) × (Nat → Int32) × (Nat → Int32) × (Nat → Int32)) => ∃ sg sp : Nat → Nat, Signs C n K sg ∧ Speeds C n K sg sp ∧ ∀ q, q < n → u.2.1 q = nI (sg q) ∧ u.2.2.1 q = nI (sp q)) (fun (u : (Nat → Int32) × (Nat → Int32) × (Nat → Int32) × (Nat → Int32) × (Nat → Int32)) t8 => xR D E A ((fun u => [xo h0 1 fs, xi E 0 qc 2160 ac, xi E 0 qf 189 u.1, xi E 0 qs 20 u.2.1, xi E 0 qv 20 u.2.2.1, xi E 0 qo 9 u.2.2.2.1, xi E 0 qn 9 u.2.2.2.2]) u) t8) A) ([.ref h0, .int (nI K)] : List Value).toArray s 0 0 A) (F0 m 12 ls []) := by
          intro lc8
          induction lc8 with
          | zero => intro k hm; exact absurd hm (Nat.not_lt_zero _)
          | succ lc8 ih8 =>
            intro k hm8 hk ls hl
            refine lv_aload_n hx hb dX2_chooses_12 rfl (lv_at hl 0 rfl) ?_
            refine lv_iload_n hx hb dX2_chooses_13 rfl (lv_at hl 2 rfl) ?_
            refine lv_iload_n hx hb dX2_chooses_14 rfl (lv_at hl 3 rfl) ?_
            refine xs_Vi (n := 2) (As := [.int (nI x), .int (nI k)]) (rest := []) (ws := [xo h0 1 fs, xi E 0 qc 2160 ac, xi E 0 qf 189 af, xi E 0 qs 20 s1, xi E 0 qv 20 av, xi E 0 qo 9 o1, xi E 0 qn 9 n1]) (tl := []) (wc := [xo h0 1 fs, xi E 0 qc 2160 ac, xi E 0 qf 189 af, xi E 0 qo 9 o1]) ⟨hx, hb, hml, hown, hts⟩ (met_withSign l D E h0 qc qf qo fs n h4 h8 h16 ac af o1 C x k (fun z => fwN (mS C sg) (x - 1) z + mS C sg (x - 1) z) (fwN (mS C sg) x) hn20 hxn2 (by omega) hC hSm (fun z hz => by rw [hf (x + 1) z (by omega) hz, show n - (x + 1) = n - 1 - x by omega]) hNn ho1 hTb) (lw_V q1076 q1078 qs18 q50 q1079) (by decide +kernel) ⟨(Nat.le_of_ble_eq_true rfl), (Nat.le_of_ble_eq_true rfl)⟩ rfl rfl hK hN hP [0, 1, 2, 5] rfl (q0 := 0) rfl rfl rfl rfl hl.1 rfl (Nat.le_of_ble_eq_true rfl) dX2_chooses_15 ⟨(Nat.le_of_ble_eq_true rfl), (Nat.le_of_ble_eq_true rfl)⟩ (fun r_7 h_7 => ?_)
            subst h_7
            refine lv_iload_n hx hb dX2_chooses_18 rfl (lv_at hl 1 rfl) ?_
            refine xi_icmp_eq (tgt := 28) hx hb (by have : wsg C n (fwN (mS C sg) x) x k ≤ 100000000 := mnP_leF; omega) (by omega) dX2_chooses_19 (by decide) (fun c_19 => ?_) (fun c_19 => ?_)
            · have hkg : g = k := by
                rcases Nat.lt_or_ge k g with q | q
                · exact absurd c_19 (hgl k q)
                · omega
              subst hkg
              refine lv_aload_n hx hb dX2_chooses_28 rfl (lv_at hl 0 rfl) ?_
              refine va_get (D := D) (ci := 1) (v := .ref qs) (C := RX2) (T := TX2) (N := 31) hx hb hts in_X2 hown hK hP 0 rfl rfl 14 (by decide) (hts _ q947) (fun _ h9 => h9) h14 dX2_chooses_29 ?_
              refine lv_iload_n hx hb dX2_chooses_32 rfl (lv_at hl 2 rfl) ?_
              refine lv_iload_n hx hb dX2_chooses_33 rfl (lv_at hl 3 rfl) ?_
              refine xa_iast hx hb hK hP hD hS 3 rfl (by omega) (by omega) dX2_chooses_34 (fun H_8 locs_8 hP hD hS => ?_)
              have hP : va_P D vwCl [xo h0 1 fs, xi E 0 qc 2160 ac, xi E 0 qf 189 af, xi E 0 qs 20 (upd s1 x (nI g)), xi E 0 qv 20 av, xi E 0 qo 9 o1, xi E 0 qn 9 n1] H_8 := hP
              have hD : va_D A [xo h0 1 fs, xi E 0 qc 2160 ac, xi E 0 qf 189 af, xi E 0 qs 20 (upd s1 x (nI g)), xi E 0 qv 20 av, xi E 0 qo 9 o1, xi E 0 qn 9 n1] := hD
              refine lv_iconst (v := nI 0) hx hb dX2_chooses_35 (by decide) ?_
              refine lv_istore (lv' := [(4, .int (nI 0)), (0, .ref h0), (1, .int (nI K)), (2, .int (nI x)), (3, .int (nI g))]) hx hb dX2_chooses_36 hl (by decide) rfl (fun ls hl => ?_)
              have lp9 : ∀ (lc9 : Nat) (v : Nat) (n2 : Nat → Int32), 9 - v < lc9 → (v ≤ 9) → (∀ z, z < v → n2 z = nI (fwN (mS C sg) x z + C x g z)) → ∀ (Hl9 : Heap) (locsl9 : List Loc) (ls : Array Slot), va_P D vwCl [xo h0 1 fs, xi E 0 qc 2160 ac, xi E 0 qf 189 af, xi E 0 qs 20 (upd s1 x (nI g)), xi E 0 qv 20 av, xi E 0 qo 9 o1, xi E 0 qn 9 n2] Hl9 → va_D A [xo h0 1 fs, xi E 0 qc 2160 ac, xi E 0 qf 189 af, xi E 0 qs 20 (upd s1 x (nI g)), xi E 0 qv 20 av, xi E 0 qo 9 o1, xi E 0 qn 9 n2] → va_S A s.heap Hl9 locsl9 → lv_has ls 5 [(0, .ref h0), (1, .int (nI K)), (2, .int (nI x)), (3, .int (nI g)), (4, .int (nI v))] → W p l e (headSpec (ws_ yX2_chooses cX2_chooses 5 none) (rmD 3 0 0)).room s m ([.ref h0, .int (nI K)] : List Value).toArray below meth c Hl9 locsl9 0 0 (MQ below (va_Qv (fun (u : (Nat → Int32) × (Nat → Int32) × (Nat → Int32) × (Nat → Int32) × (Nat → Int32)) => ∃ sg sp : Nat → Nat, Signs C n K sg ∧ Speeds C n K sg sp ∧ ∀ q, q < n → u.2.1 q = nI (sg q) ∧ u.2.2.1 q = nI (sp q)) (fun (u : (Nat → Int32) × (Nat → Int32) × (Nat → Int32) × (Nat → Int32) × (Nat → Int32)) t8 => xR D E A ((fun u => [xo h0 1 fs, xi E 0 qc 2160 ac, xi E 0 qf 189 u.1, xi E 0 qs 20 u.2.1, xi E 0 qv 20 u.2.2.1, xi E 0 qo 9 u.2.2.2.1, xi E 0 qn 9 u.2.2.2.2]) u) t8) A) ([.ref h0, .int (nI K)] : List Value).toArray s 0 0 A) (F0 m 38 ls []) := by
                intro lc9
                induction lc9 with
                | zero => intro v n2 hm; exact absurd hm (Nat.not_lt_zero _)
                | succ lc9 ih9 =>
                  intro v n2 hm9 hv hn2 Hl9 locsl9 ls hP hD hS hl
                  refine lv_iload hx hb dX2_chooses_38 (lv_at hl 4 rfl) ?_
                  refine lv_bipush (v := nI 9) hx hb dX2_chooses_40 (by decide) ?_
                  refine xi_icmp_ge (tgt := 89) hx hb (by omega) (by omega) dX2_chooses_42 (by decide) (fun c_42 => ?_) (fun c_42 => ?_)
                  · refine lv_iconst (v := nI 0) hx hb dX2_chooses_89 (by decide) ?_
                    refine lv_istore (lv' := [(4, .int (nI 0)), (0, .ref h0), (1, .int (nI K)), (2, .int (nI x)), (3, .int (nI g))]) hx hb dX2_chooses_90 hl (by decide) rfl (fun ls hl => ?_)
                    have lp10 : ∀ (lc10 : Nat) (v : Nat) (o3 : Nat → Int32), 9 - v < lc10 → (v ≤ 9) → (∀ z, z < v → o3 z = nI (fwN (mS C sg) x z + C x g z)) → ∀ (Hl10 : Heap) (locsl10 : List Loc) (ls : Array Slot), va_P D vwCl [xo h0 1 fs, xi E 0 qc 2160 ac, xi E 0 qf 189 af, xi E 0 qs 20 (upd s1 x (nI g)), xi E 0 qv 20 av, xi E 0 qo 9 o3, xi E 0 qn 9 n2] Hl10 → va_D A [xo h0 1 fs, xi E 0 qc 2160 ac, xi E 0 qf 189 af, xi E 0 qs 20 (upd s1 x (nI g)), xi E 0 qv 20 av, xi E 0 qo 9 o3, xi E 0 qn 9 n2] → va_S A s.heap Hl10 locsl10 → lv_has ls 5 [(0, .ref h0), (1, .int (nI K)), (2, .int (nI x)), (3, .int (nI g)), (4, .int (nI v))] → W p l e (headSpec (ws_ yX2_chooses cX2_chooses 5 none) (rmD 3 0 0)).room s m ([.ref h0, .int (nI K)] : List Value).toArray below meth c Hl10 locsl10 0 0 (MQ below (va_Qv (fun (u : (Nat → Int32) × (Nat → Int32) × (Nat → Int32) × (Nat → Int32) × (Nat → Int32)) => ∃ sg sp : Nat → Nat, Signs C n K sg ∧ Speeds C n K sg sp ∧ ∀ q, q < n → u.2.1 q = nI (sg q) ∧ u.2.2.1 q = nI (sp q)) (fun (u : (Nat → Int32) × (Nat → Int32) × (Nat → Int32) × (Nat → Int32) × (Nat → Int32)) t8 => xR D E A ((fun u => [xo h0 1 fs, xi E 0 qc 2160 ac, xi E 0 qf 189 u.1, xi E 0 qs 20 u.2.1, xi E 0 qv 20 u.2.2.1, xi E 0 qo 9 u.2.2.2.1, xi E 0 qn 9 u.2.2.2.2]) u) t8) A) ([.ref h0, .int (nI K)] : List Value).toArray s 0 0 A) (F0 m 92 ls []) := by
                      intro lc10
                      induction lc10 with
                      | zero => intro v o3 hm; exact absurd hm (Nat.not_lt_zero _)
                      | succ lc10 ih10 =>
                        intro v o3 hm10 hv5 ho3 Hl10 locsl10 ls hP hD hS hl
                        refine lv_iload hx hb dX2_chooses_92 (lv_at hl 4 rfl) ?_
                        refine lv_bipush (v := nI 9) hx hb dX2_chooses_94 (by decide) ?_
                        refine xi_icmp_ge (tgt := 119) hx hb (by omega) (by omega) dX2_chooses_96 (by decide) (fun c_96 => ?_) (fun c_96 => ?_)
                        · refine lv_iinc (v := nI (x + 1)) (lv' := [(2, .int (nI (x + 1))), (0, .ref h0), (1, .int (nI K)), (3, .int (nI g)), (4, .int (nI v))]) hx hb dX2_chooses_119 hl (k := 2) rfl (nI_1 _) (by decide) rfl (fun ls hl => ?_)
                          refine lv_goto (tgt := 2) hx hb dX2_chooses_122 (by decide) ?_
                          exact ih1 (x + 1) (va_up sg x g) (upd s1 x (nI g)) o3 n2 (by omega) (by omega) (up_step hs1) (hSg.step hg12 hgK hgl) (Or.inr (fun z hz => by rw [ho3 z (by omega), Nat.add_sub_cancel, fw_up (Nat.le_refl x) hz]; show _ = nI (_ + C x (va_up sg x g x) z); rw [va_up_self])) (may_step hSm hn20 hKm (fun q hq => (hSg q hq).1) hxn2 hg12 hgK) _ _ _ hP hD hS (lv_sub hl [1, 2, 0] rfl)
                        · refine lv_aload_n hx hb dX2_chooses_99 rfl (lv_at hl 0 rfl) ?_
                          refine va_get (D := D) (ci := 1) (v := .ref qo) (C := RX2) (T := TX2) (N := 31) hx hb hts in_X2 hown hK hP 0 rfl rfl 16 (by decide) (hts _ q949) (fun _ h9 => h9) h16 dX2_chooses_100 ?_
                          refine lv_iload hx hb dX2_chooses_103 (lv_at hl 4 rfl) ?_
                          refine lv_aload_n hx hb dX2_chooses_105 rfl (lv_at hl 0 rfl) ?_
                          refine va_get (D := D) (ci := 1) (v := .ref qn) (C := RX2) (T := TX2) (N := 31) hx hb hts in_X2 hown hK hP 0 rfl rfl 17 (by decide) (hts _ q950) (fun _ h9 => h9) h17 dX2_chooses_106 ?_
                          refine lv_iload hx hb dX2_chooses_109 (lv_at hl 4 rfl) ?_
                          refine xa_iald hx hb hK hP 6 rfl (by omega) (by omega) dX2_chooses_111 ?_
                          refine xv_i (y := nI (fwN (mS C sg) x v + C x g v)) (hn2 v (by omega)) ?_
                          refine xa_iast hx hb hK hP hD hS 5 rfl (by omega) (by omega) dX2_chooses_112 (fun H_9 locs_9 hP hD hS => ?_)
                          have hP : va_P D vwCl [xo h0 1 fs, xi E 0 qc 2160 ac, xi E 0 qf 189 af, xi E 0 qs 20 (upd s1 x (nI g)), xi E 0 qv 20 av, xi E 0 qo 9 (upd o3 v (nI (fwN (mS C sg) x v + C x g v))), xi E 0 qn 9 n2] H_9 := hP
                          have hD : va_D A [xo h0 1 fs, xi E 0 qc 2160 ac, xi E 0 qf 189 af, xi E 0 qs 20 (upd s1 x (nI g)), xi E 0 qv 20 av, xi E 0 qo 9 (upd o3 v (nI (fwN (mS C sg) x v + C x g v))), xi E 0 qn 9 n2] := hD
                          refine lv_iinc (v := nI (v + 1)) (lv' := [(4, .int (nI (v + 1))), (0, .ref h0), (1, .int (nI K)), (2, .int (nI x)), (3, .int (nI g))]) hx hb dX2_chooses_113 hl (k := 4) rfl (nI_1 _) (by decide) rfl (fun ls hl => ?_)
                          refine lv_goto (tgt := 92) hx hb dX2_chooses_116 (by decide) ?_
                          exact ih10 (v + 1) (upd o3 v (nI (fwN (mS C sg) x v + C x g v))) (by omega) (by omega) (fill_step (F := fun z => nI (fwN (mS C sg) x z + C x g z)) ho3 rfl) _ _ _ hP hD hS (lv_sub hl [1, 2, 3, 4, 0] rfl)
                    exact lp10 _ 0 o1 (Nat.lt_succ_self _) (by omega) (fun z hz => absurd hz (Nat.not_lt_zero _)) _ _ _ hP hD hS (lv_sub hl [1, 2, 3, 4, 0] rfl)
                  · refine lv_aload_n hx hb dX2_chooses_45 rfl (lv_at hl 0 rfl) ?_
                    refine va_get (D := D) (ci := 1) (v := .ref qn) (C := RX2) (T := TX2) (N := 31) hx hb hts in_X2 hown hK hP 0 rfl rfl 17 (by decide) (hts _ q950) (fun _ h9 => h9) h17 dX2_chooses_46 ?_
                    refine lv_iload hx hb dX2_chooses_49 (lv_at hl 4 rfl) ?_
                    have hv9 : v < 9 := by omega
                    have jp11 : ∀ (ls : Array Slot), lv_has ls 5 [(0, .ref h0), (1, .int (nI K)), (2, .int (nI x)), (3, .int (nI g)), (4, .int (nI v))] → W p l e (headSpec (ws_ yX2_chooses cX2_chooses 5 none) (rmD 3 0 0)).room s m ([.ref h0, .int (nI K)] : List Value).toArray below meth c Hl9 locsl9 0 0 (MQ below (va_Qv (fun (u : (Nat → Int32) × (Nat → Int32) × (Nat → Int32) × (Nat → Int32) × (Nat → Int32)) => ∃ sg sp : Nat → Nat, Signs C n K sg ∧ Speeds C n K sg sp ∧ ∀ q, q < n → u.2.1 q = nI (sg q) ∧ u.2.2.1 q = nI (sp q)) (fun (u : (Nat → Int32) × (Nat → Int32) × (Nat → Int32) × (Nat → Int32) × (Nat → Int32)) t8 => xR D E A ((fun u => [xo h0 1 fs, xi E 0 qc 2160 ac, xi E 0 qf 189 u.1, xi E 0 qs 20 u.2.1, xi E 0 qv 20 u.2.2.1, xi E 0 qo 9 u.2.2.2.1, xi E 0 qn 9 u.2.2.2.2]) u) t8) A) ([.ref h0, .int (nI K)] : List Value).toArray s 0 0 A) (F0 m 69 ls [.int (nI (fwN (mS C sg) x v)), .int (nI v), .ref qn]) := by
                      intro   ls hl
                      refine lv_aload_n hx hb dX2_chooses_69 rfl (lv_at hl 0 rfl) ?_
                      refine va_get (D := D) (ci := 1) (v := .ref qc) (C := RX2) (T := TX2) (N := 31) hx hb hts in_X2 hown hK hP 0 rfl rfl 4 (by decide) (hts _ q937) (fun _ h9 => h9) h4 dX2_chooses_70 ?_
                      refine lv_iload_n hx hb dX2_chooses_73 rfl (lv_at hl 2 rfl) ?_
                      refine lv_iload_n hx hb dX2_chooses_74 rfl (lv_at hl 3 rfl) ?_
                      refine lv_iload hx hb dX2_chooses_75 (lv_at hl 4 rfl) ?_
                      refine xs_Si (n := 3) (As := [.int (nI x), .int (nI g), .int (nI v)]) (rest := [.ref qc, .int (nI (fwN (mS C sg) x v)), .int (nI v), .ref qn]) (ws := [xo h0 1 fs, xi E 0 qc 2160 ac, xi E 0 qf 189 af, xi E 0 qs 20 (upd s1 x (nI g)), xi E 0 qv 20 av, xi E 0 qo 9 o1, xi E 0 qn 9 n2]) (tl := []) (wc := []) ⟨hx, hb, hml, hown, hts⟩ (met_cell l D E x g v) (lw_S q1053 q1054 q50 q1055) (by decide +kernel) ⟨(Nat.le_of_ble_eq_true rfl), (Nat.le_of_ble_eq_true rfl)⟩ rfl rfl hK hN hP [] rfl rfl hl.1 rfl (Nat.le_of_ble_eq_true rfl) dX2_chooses_77 ⟨(Nat.le_of_ble_eq_true rfl), (Nat.le_of_ble_eq_true rfl)⟩ (fun r_10 h_10 => ?_)
                      subst h_10
                      refine xa_iald hx hb hK hP 1 rfl (by omega) (by omega) dX2_chooses_80 ?_
                      refine xv_i (y := nI (C x g v)) (hcc x g v hxn2 hg12 hv9) ?_
                      refine xi_iadd hx hb dX2_chooses_81 ?_
                      refine xa_iast hx hb hK hP hD hS 6 rfl (by omega) (by omega) dX2_chooses_82 (fun H_11 locs_11 hP hD hS => ?_)
                      have hP : va_P D vwCl [xo h0 1 fs, xi E 0 qc 2160 ac, xi E 0 qf 189 af, xi E 0 qs 20 (upd s1 x (nI g)), xi E 0 qv 20 av, xi E 0 qo 9 o1, xi E 0 qn 9 (upd n2 v (nI ((fwN (mS C sg) x v) + (C x g v))))] H_11 := hP
                      have hD : va_D A [xo h0 1 fs, xi E 0 qc 2160 ac, xi E 0 qf 189 af, xi E 0 qs 20 (upd s1 x (nI g)), xi E 0 qv 20 av, xi E 0 qo 9 o1, xi E 0 qn 9 (upd n2 v (nI ((fwN (mS C sg) x v) + (C x g v))))] := hD
                      refine lv_iinc (v := nI (v + 1)) (lv' := [(4, .int (nI (v + 1))), (0, .ref h0), (1, .int (nI K)), (2, .int (nI x)), (3, .int (nI g))]) hx hb dX2_chooses_83 hl (k := 4) rfl (nI_1 _) (by decide) rfl (fun ls hl => ?_)
                      refine lv_goto (tgt := 38) hx hb dX2_chooses_86 (by decide) ?_
                      exact ih9 (v + 1) (upd n2 v (nI ((fwN (mS C sg) x v) + (C x g v)))) (by omega) (by omega) (fill_step (F := fun z => nI (fwN (mS C sg) x z + C x g z)) hn2 rfl) _ _ _ hP hD hS (lv_sub hl [1, 2, 3, 4, 0] rfl)
                    refine lv_iload_n hx hb dX2_chooses_51 rfl (lv_at hl 2 rfl) ?_
                    refine xi_if_ne (tgt := 59) hx hb (by omega) dX2_chooses_52 (by decide) (fun c_52 => ?_) (fun c_52 => ?_)
                    · refine lv_aload_n hx hb dX2_chooses_59 rfl (lv_at hl 0 rfl) ?_
                      refine va_get (D := D) (ci := 1) (v := .ref qo) (C := RX2) (T := TX2) (N := 31) hx hb hts in_X2 hown hK hP 0 rfl rfl 16 (by decide) (hts _ q949) (fun _ h9 => h9) h16 dX2_chooses_60 ?_
                      refine lv_iconst (v := nI 0) hx hb dX2_chooses_63 (by decide) ?_
                      refine lv_iload hx hb dX2_chooses_64 (lv_at hl 4 rfl) ?_
                      refine xs_Si (n := 3) (As := [.ref qo, .int (nI 0), .int (nI v)]) (rest := [.int (nI v), .ref qn]) (ws := [xo h0 1 fs, xi E 0 qc 2160 ac, xi E 0 qf 189 af, xi E 0 qs 20 (upd s1 x (nI g)), xi E 0 qv 20 av, xi E 0 qo 9 o1, xi E 0 qn 9 n2]) (tl := []) (wc := [xi E 0 qo 9 o1]) ⟨hx, hb, hml, hown, hts⟩ (met_near l D E qo 9 o1 0 v (fun z => fwN (mS C sg) (x - 1) z + mS C sg (x - 1) z) (by omega) (by omega) hv9 (fun z hz => by rw [Nat.zero_add]; exact (ho1.resolve_left c_52) z hz) (fun z hz => by have := (hTb.resolve_left c_52) z hz; omega)) (lw_S q1069 q1070 q50 q1071) (by decide +kernel) ⟨(Nat.le_of_ble_eq_true rfl), (Nat.le_of_ble_eq_true rfl)⟩ rfl rfl hK hN hP [5] rfl rfl hl.1 rfl (Nat.le_of_ble_eq_true rfl) dX2_chooses_66 ⟨(Nat.le_of_ble_eq_true rfl), (Nat.le_of_ble_eq_true rfl)⟩ (fun r_12 h_12 => ?_)
                      subst h_12
                      refine xv_i (y := nI (fwN (mS C sg) x v)) (by rw [hNn v hv9, if_neg c_52]) ?_
                      exact jp11   _ (lv_sub hl [0, 1, 2, 3, 4] rfl)
                    · refine lv_iconst (v := nI 0) hx hb dX2_chooses_55 (by decide) ?_
                      refine lv_goto (tgt := 69) hx hb dX2_chooses_56 (by decide) ?_
                      refine xv_i (y := nI (fwN (mS C sg) x v)) (by rw [hNn v hv9, if_pos c_52]) ?_
                      exact jp11   _ (lv_sub hl [0, 1, 2, 3, 4] rfl)
              exact lp9 _ 0 n1 (Nat.lt_succ_self _) (by omega) (fun z hz => absurd hz (Nat.not_lt_zero _)) _ _ _ hP hD hS (lv_sub hl [1, 2, 3, 4, 0] rfl)
            · refine lv_iinc (v := nI (k + 1)) (lv' := [(3, .int (nI (k + 1))), (0, .ref h0), (1, .int (nI K)), (2, .int (nI x))]) hx hb dX2_chooses_22 hl (k := 3) rfl (nI_1 _) (by decide) rfl (fun ls hl => ?_)
              refine lv_goto (tgt := 12) hx hb dX2_chooses_25 (by decide) ?_
              exact ih8 (k + 1) (by omega) (by have : k ≠ g := fun q => c_19 (by rw [q]; exact hgK); omega) _ (lv_sub hl [1, 2, 3, 0] rfl)
        exact lp8 _ 0 (Nat.lt_succ_self _) (by omega) _ (lv_sub hl [1, 2, 3, 0] rfl)
  exact lp1 _ 0 (fun _ => 0) as ao an (Nat.lt_succ_self _) (by omega) (fun q hq => absurd hq (Nat.not_lt_zero _)) (fun q hq => absurd hq (Nat.not_lt_zero _)) (Or.inl rfl) (may_first hKm) _ _ _ hP hD hS (lv_sub hl [1, 2, 0] rfl)
set_option maxHeartbeats 4000000 in
set_option maxRecDepth 100000 in
/-- how much more another sign at any place costs at least -/
theorem met_gapOf (l : Launch) (D : va_G) (E : Nat → ClassId) (sz : Nat) (h0 qc qf qu qs qo : Nat) (fs : List Value) (n : Nat) (h4 : fs[4]? = some (.ref qc)) (h6 : fs[6]? = some (.int (nI n))) (h8 : fs[8]? = some (.ref qf)) (h9 : fs[9]? = some (.ref qu)) (h14 : fs[14]? = some (.ref qs)) (h16 : fs[16]? = some (.ref qo)) (ac af au as ao : Nat → Int32) (C : C3) (K : Nat) (sg : Nat → Nat) (hn20 : n ≤ 20) (hn0 : 0 < n) (hC : ∀ k, k < 108 * n → ac k = nI (fl C k)) (hSm : Sm C n) (hf : ∀ x z, x ≤ n → z < 9 → af (9 * x + z) = nI (bk (cheap C) n (n - x) z)) (hu : ∀ x z, x < n → z < 9 → au (9 * x + z) = nI (fwN (cheap C) x z + cheap C x z)) (has : ∀ q, q < n → as q = nI (sg q)) (hsg : ∀ q, q < n → sg q < 12) (hKm : isMin (bk (cheap C) n n) K) : Met l yX2_gapOf (ws_ yX2_gapOf cX2_gapOf 6 (some .int)) (rmD 3 0 0) (va_Pc [.ref h0, .int (nI K)] (xQ D E [xo h0 1 fs, xi E 0 qc 2160 ac, xi E 0 qf 189 af, xi E 0 qu 180 au, xi E 0 qs 20 as, xi E 0 qo 9 ao] sz)) (va_Qi (fun r (u : Nat → Int32) => ∃ G, r = nI G ∧ G < 100000000 ∧ Gap C n K sg G) (fun (u : Nat → Int32) t8 => xR D E (va_A [xo h0 1 fs, xi E 0 qc 2160 ac, xi E 0 qf 189 af, xi E 0 qu 180 au, xi E 0 qs 20 as, xi E 0 qo 9 ao] sz) ((fun u => [xo h0 1 fs, xi E 0 qc 2160 ac, xi E 0 qf 189 af, xi E 0 qu 180 au, xi E 0 qs 20 as, xi E 0 qo 9 u]) u) t8) (va_A [xo h0 1 fs, xi E 0 qc 2160 ac, xi E 0 qf 189 af, xi E 0 qu 180 au, xi E 0 qs 20 as, xi E 0 qo 9 ao] sz)) 0 0 (va_A [xo h0 1 fs, xi E 0 qc 2160 ac, xi E 0 qf 189 af, xi E 0 qu 180 au, xi E 0 qs 20 as, xi E 0 qo 9 ao] sz) := by
  refine Met.ofW (cc := cX2_gapOf) (maxL := 6) (ret := (some .int)) (by decide) rfl ?_
  intro p e s m args below meth c s₁ B hml hv0
  obtain ⟨rfl, hsz, hP, hK, hD0, hN⟩ := hv0
  have hx := B.exec
  have hb := B.bytes
  have hr := B.returns
  have hts := atoms_spec (ws := (ws_ yX2_gapOf cX2_gapOf 6 (some .int))) B.pre
  have hts : ∀ w ∈ lw_all, w.before _ s = true := fun w h => hts w (List.mem_cons_of_mem _ h)
  have hown : s.vm.findClass RX2 = some m.cls := findClass_of_methodNamed B.named
  have hlocks := B.notSynchronized
  subst hsz
  have hD := hD0.self (sz := s.heap.size)
  generalize hAe : va_A [xo h0 1 fs, xi E 0 qc 2160 ac, xi E 0 qf 189 af, xi E 0 qu 180 au, xi E 0 qs 20 as, xi E 0 qo 9 ao] s.heap.size = A at hD ⊢
  have hA : ∀ q : Nat, s.heap.size ≤ q → A q := fun q h => by rw [← hAe]; exact Or.inr h
  have hS : va_S A s.heap s.heap [] := va_S.rf
  have hP : va_P D vwCl [xo h0 1 fs, xi E 0 qc 2160 ac, xi E 0 qf 189 af, xi E 0 qu 180 au, xi E 0 qs 20 as, xi E 0 qo 9 ao] s.heap := hP
  have hD : va_D A [xo h0 1 fs, xi E 0 qc 2160 ac, xi E 0 qf 189 af, xi E 0 qu 180 au, xi E 0 qs 20 as, xi E 0 qo 9 ao] := hD
  have hl := lv_entry ([.ref h0, .int (nI K)]) (n := 6) (Nat.le_of_ble_eq_true rfl)
  rw [lg_entry_eq]
  generalize (lg_sl ([.ref h0, .int (nI K)]) ++ List.replicate (6 - (lg_sl ([.ref h0, .int (nI K)])).length) Slot.unset).toArray = ls at hl ⊢
  have hl : lv_has ls 6 [(0, .ref h0), (1, .int (nI K))] := hl
  refine lv_ldc hx hb hown (hts _ q1068) dX2_gapOf_0 ?_
  refine xv_i (y := nI 100000000) rfl ?_
  refine lv_istore_n (lv' := [(2, .int (nI 100000000)), (0, .ref h0), (1, .int (nI K))]) hx hb dX2_gapOf_2 rfl hl (by decide) rfl (fun ls hl => ?_)
  refine lv_iconst (v := nI 0) hx hb dX2_gapOf_3 (by decide) ?_
  refine lv_istore_n (lv' := [(3, .int (nI 0)), (2, .int (nI 100000000)), (0, .ref h0), (1, .int (nI K))]) hx hb dX2_gapOf_4 rfl hl (by decide) rfl (fun ls hl => ?_)
  have lp1 : ∀ (lc1 : Nat) (x : Nat) (b : Nat) (o1 : Nat → Int32), n - x < lc1 → (x ≤ n) → (gapM C n sg b x 0) → ∀ (Hl1 : Heap) (locsl1 : List Loc) (ls : Array Slot), va_P D vwCl [xo h0 1 fs, xi E 0 qc 2160 ac, xi E 0 qf 189 af, xi E 0 qu 180 au, xi E 0 qs 20 as, xi E 0 qo 9 o1] Hl1 → va_D A [xo h0 1 fs, xi E 0 qc 2160 ac, xi E 0 qf 189 af, xi E 0 qu 180 au, xi E 0 qs 20 as, xi E 0 qo 9 o1] → va_S A s.heap Hl1 locsl1 → lv_has ls 6 [(0, .ref h0), (1, .int (nI K)), (2, .int (nI b)), (3, .int (nI x))] → W p l e (headSpec (ws_ yX2_gapOf cX2_gapOf 6 (some .int)) (rmD 3 0 0)).room s m ([.ref h0, .int (nI K)] : List Value).toArray below meth c Hl1 locsl1 0 0 (MQ below (va_Qi (fun r (u : Nat → Int32) => ∃ G, r = nI G ∧ G < 100000000 ∧ Gap C n K sg G) (fun (u : Nat → Int32) t8 => xR D E A ((fun u => [xo h0 1 fs, xi E 0 qc 2160 ac, xi E 0 qf 189 af, xi E 0 qu 180 au, xi E 0 qs 20 as, xi E 0 qo 9 u]) u) t8) A) ([.ref h0, .int (nI K)] : List Value).toArray s 0 0 A) (F0 m 5 ls []) := by
    intro lc1
    induction lc1 with
    | zero => intro x b o1 hm; exact absurd hm (Nat.not_lt_zero _)
    | succ lc1 ih1 =>
      intro x b o1 hm1 hxn hgm Hl1 locsl1 ls hP hD hS hl
      refine lv_iload_n hx hb dX2_gapOf_5 rfl (lv_at hl 3 rfl) ?_
      refine lv_aload_n hx hb dX2_gapOf_6 rfl (lv_at hl 0 rfl) ?_
      refine va_get (D := D) (ci := 1) (v := .int (nI n)) (C := RX2) (T := TX2) (N := 31) hx hb hts in_X2 hown hK hP 0 rfl rfl 6 (by decide) (hts _ q939) (fun _ h9 => h9) h6 dX2_gapOf_7 ?_
      refine xi_icmp_ge (tgt := 116) hx hb (by omega) (by omega) dX2_gapOf_10 (by decide) (fun c_10 => ?_) (fun c_10 => ?_)
      · have hxe : n = x := by omega
        subst hxe
        obtain ⟨hKb, hb8, hGap⟩ := gapM_end hSm hn20 hn0 hKm hgm
        refine lv_iload_n hx hb dX2_gapOf_116 rfl (lv_at hl 2 rfl) ?_
        refine lv_iload_n hx hb dX2_gapOf_117 rfl (lv_at hl 1 rfl) ?_
        refine xi_isub hx hb (by omega) dX2_gapOf_118 ?_
        refine W.widen (k := 0) (n := 0) (Nat.le_of_ble_eq_true rfl) (Nat.le_of_ble_eq_true rfl) ?_
        exact W.iret (v := nI (b - K)) hx hb hr (fun t9 ht9 hW9 => ⟨⟨_, o1, rfl, ⟨_, rfl, by omega, hGap⟩, by rw [ht9]; exact hP, hD⟩, hS.F ht9⟩) hS.2.2 dX2_gapOf_119
      · refine lv_iconst (v := nI 0) hx hb dX2_gapOf_13 (by decide) ?_
        refine lv_istore (lv' := [(4, .int (nI 0)), (0, .ref h0), (1, .int (nI K)), (2, .int (nI b)), (3, .int (nI x))]) hx hb dX2_gapOf_14 hl (by decide) rfl (fun ls hl => ?_)
        have lp2 : ∀ (lc2 : Nat) (v : Nat) (o2 : Nat → Int32), 9 - v < lc2 → (v ≤ 9) → (∀ z, z < v → o2 z = nI (if x = 0 then 0 else fwN (cheap C) (x - 1) z + cheap C (x - 1) z)) → ∀ (Hl2 : Heap) (locsl2 : List Loc) (ls : Array Slot), va_P D vwCl [xo h0 1 fs, xi E 0 qc 2160 ac, xi E 0 qf 189 af, xi E 0 qu 180 au, xi E 0 qs 20 as, xi E 0 qo 9 o2] Hl2 → va_D A [xo h0 1 fs, xi E 0 qc 2160 ac, xi E 0 qf 189 af, xi E 0 qu 180 au, xi E 0 qs 20 as, xi E 0 qo 9 o2] → va_S A s.heap Hl2 locsl2 → lv_has ls 6 [(0, .ref h0), (1, .int (nI K)), (2, .int (nI b)), (3, .int (nI x)), (4, .int (nI v))] → W p l e (headSpec (ws_ yX2_gapOf cX2_gapOf 6 (some .int)) (rmD 3 0 0)).room s m ([.ref h0, .int (nI K)] : List Value).toArray below meth c Hl2 locsl2 0 0 (MQ below (va_Qi (fun r (u : Nat → Int32) => ∃ G, r = nI G ∧ G < 100000000 ∧ Gap C n K sg G) (fun (u : Nat → Int32) t8 => xR D E A ((fun u => [xo h0 1 fs, xi E 0 qc 2160 ac, xi E 0 qf 189 af, xi E 0 qu 180 au, xi E 0 qs 20 as, xi E 0 qo 9 u]) u) t8) A) ([.ref h0, .int (nI K)] : List Value).toArray s 0 0 A) (F0 m 16 ls []) := by
          intro lc2
          induction lc2 with
          | zero => intro v o2 hm; exact absurd hm (Nat.not_lt_zero _)
          | succ lc2 ih2 =>
            intro v o2 hm2 hv ho2 Hl2 locsl2 ls hP hD hS hl
            refine lv_iload hx hb dX2_gapOf_16 (lv_at hl 4 rfl) ?_
            refine lv_bipush (v := nI 9) hx hb dX2_gapOf_18 (by decide) ?_
            refine xi_icmp_ge (tgt := 58) hx hb (by omega) (by omega) dX2_gapOf_20 (by decide) (fun c_20 => ?_) (fun c_20 => ?_)
            · have hxn2 : x < n := by omega
              have hoo : x = 0 ∨ ∀ z, z < 9 → o2 z = nI (fwN (cheap C) (x - 1) z + cheap C (x - 1) z) := by
                by_cases e : x = 0
                · exact Or.inl e
                · exact Or.inr (fun z hz => by rw [ho2 z (by omega), if_neg e])
              refine lv_iconst (v := nI 0) hx hb dX2_gapOf_58 (by decide) ?_
              refine lv_istore (lv' := [(4, .int (nI 0)), (0, .ref h0), (1, .int (nI K)), (2, .int (nI b)), (3, .int (nI x))]) hx hb dX2_gapOf_59 hl (by decide) rfl (fun ls hl => ?_)
              have lp3 : ∀ (lc3 : Nat) (g : Nat) (b2 : Nat), 12 - g < lc3 → (g ≤ 12) → (gapM C n sg b2 x g) → ∀ (ls : Array Slot), lv_has ls 6 [(0, .ref h0), (1, .int (nI K)), (2, .int (nI b2)), (3, .int (nI x)), (4, .int (nI g))] → W p l e (headSpec (ws_ yX2_gapOf cX2_gapOf 6 (some .int)) (rmD 3 0 0)).room s m ([.ref h0, .int (nI K)] : List Value).toArray below meth c Hl2 locsl2 0 0 (MQ below (va_Qi (fun r (u : Nat → Int32) => ∃ G, r = nI G ∧ G < 100000000 ∧ Gap C n K sg G) (fun (u : Nat → Int32) t8 => xR D E A ((fun u => [xo h0 1 fs, xi E 0 qc 2160 ac, xi E 0 qf 189 af, xi E 0 qu 180 au, xi E 0 qs 20 as, xi E 0 qo 9 u]) u) t8) A) ([.ref h0, .int (nI K)] : List Value).toArray s 0 0 A) (F0 m 61 ls []) := by
                intro lc3
                induction lc3 with
                | zero => intro g b2 hm; exact absurd hm (Nat.not_lt_zero _)
                | succ lc3 ih3 =>
                  intro g b2 hm3 hg hgm2 ls hl
                  refine lv_iload hx hb dX2_gapOf_61 (lv_at hl 4 rfl) ?_
                  refine lv_bipush (v := nI 12) hx hb dX2_gapOf_63 (by decide) ?_
                  refine xi_icmp_ge (tgt := 110) hx hb (by omega) (by omega) dX2_gapOf_65 (by decide) (fun c_65 => ?_) (fun c_65 => ?_)
                  · refine lv_iinc (v := nI (x + 1)) (lv' := [(3, .int (nI (x + 1))), (0, .ref h0), (1, .int (nI K)), (2, .int (nI b2)), (4, .int (nI g))]) hx hb dX2_gapOf_110 hl (k := 3) rfl (nI_1 _) (by decide) rfl (fun ls hl => ?_)
                    refine lv_goto (tgt := 5) hx hb dX2_gapOf_113 (by decide) ?_
                    exact ih1 (x + 1) b2 o2 (by omega) (by omega) (gapM_row (by rw [show g = 12 by omega] at hgm2; exact hgm2)) _ _ _ hP hD hS (lv_sub hl [1, 2, 3, 0] rfl)
                  · refine lv_iload hx hb dX2_gapOf_68 (lv_at hl 4 rfl) ?_
                    refine lv_aload_n hx hb dX2_gapOf_70 rfl (lv_at hl 0 rfl) ?_
                    refine va_get (D := D) (ci := 1) (v := .ref qs) (C := RX2) (T := TX2) (N := 31) hx hb hts in_X2 hown hK hP 0 rfl rfl 14 (by decide) (hts _ q947) (fun _ h9 => h9) h14 dX2_gapOf_71 ?_
                    refine lv_iload_n hx hb dX2_gapOf_74 rfl (lv_at hl 3 rfl) ?_
                    refine xa_iald hx hb hK hP 4 rfl (by omega) (by omega) dX2_gapOf_75 ?_
                    refine xv_i (y := nI (sg x)) (has x hxn2) ?_
                    have hs12 := hsg x hxn2
                    refine xi_icmp_ne (tgt := 82) hx hb (by omega) (by omega) dX2_gapOf_76 (by decide) (fun c_76 => ?_) (fun c_76 => ?_)
                    · refine lv_aload_n hx hb dX2_gapOf_82 rfl (lv_at hl 0 rfl) ?_
                      refine lv_iload_n hx hb dX2_gapOf_83 rfl (lv_at hl 3 rfl) ?_
                      refine lv_iload hx hb dX2_gapOf_84 (lv_at hl 4 rfl) ?_
                      refine xs_Vi (n := 2) (As := [.int (nI x), .int (nI g)]) (rest := []) (ws := [xo h0 1 fs, xi E 0 qc 2160 ac, xi E 0 qf 189 af, xi E 0 qu 180 au, xi E 0 qs 20 as, xi E 0 qo 9 o2]) (tl := []) (wc := [xo h0 1 fs, xi E 0 qc 2160 ac, xi E 0 qf 189 af, xi E 0 qo 9 o2]) ⟨hx, hb, hml, hown, hts⟩ (met_withSign l D E h0 qc qf qo fs n h4 h8 h16 ac af o2 C x g (fun z => fwN (cheap C) (x - 1) z + cheap C (x - 1) z) (fwN (cheap C) x) hn20 hxn2 (by omega) hC hSm (fun z hz => by rw [hf (x + 1) z (by omega) hz, show n - (x + 1) = n - 1 - x by omega]) (fun z hz => fwN_pred) hoo (Or.inr (fun z hz => by have h1 := fwN_le (m := cheap C) (n := n) (M := 336) (fun q w hw hq => cheap_sm hSm hq hw) (p := x - 1) (v := z) (by omega) hz; have h2 := cheap_sm hSm (p := x - 1) (v := z) (by omega) hz; omega))) (lw_V q1076 q1078 qs18 q50 q1079) (by decide +kernel) ⟨(Nat.le_of_ble_eq_true rfl), (Nat.le_of_ble_eq_true rfl)⟩ rfl rfl hK hN hP [0, 1, 2, 5] rfl (q0 := 0) rfl rfl rfl rfl hl.1 rfl (Nat.le_of_ble_eq_true rfl) dX2_gapOf_86 ⟨(Nat.le_of_ble_eq_true rfl), (Nat.le_of_ble_eq_true rfl)⟩ (fun r_1 h_1 => ?_)
                      subst h_1
                      refine lv_istore (lv' := [(5, .int (nI (wsg C n (fwN (cheap C) x) x g))), (0, .ref h0), (1, .int (nI K)), (2, .int (nI b2)), (3, .int (nI x)), (4, .int (nI g))]) hx hb dX2_gapOf_89 hl (by decide) rfl (fun ls hl => ?_)
                      have hwl : wsg C n (fwN (cheap C) x) x g ≤ 100000000 := mnP_leF
                      have hb2l := hgm2.1
                      have jp4 : ∀ (b3 : Nat), (gapM C n sg b3 x (g + 1)) → ∀ (ls : Array Slot), lv_has ls 6 [(0, .ref h0), (1, .int (nI K)), (3, .int (nI x)), (4, .int (nI g))] → W p l e (headSpec (ws_ yX2_gapOf cX2_gapOf 6 (some .int)) (rmD 3 0 0)).room s m ([.ref h0, .int (nI K)] : List Value).toArray below meth c Hl2 locsl2 0 0 (MQ below (va_Qi (fun r (u : Nat → Int32) => ∃ G, r = nI G ∧ G < 100000000 ∧ Gap C n K sg G) (fun (u : Nat → Int32) t8 => xR D E A ((fun u => [xo h0 1 fs, xi E 0 qc 2160 ac, xi E 0 qf 189 af, xi E 0 qu 180 au, xi E 0 qs 20 as, xi E 0 qo 9 u]) u) t8) A) ([.ref h0, .int (nI K)] : List Value).toArray s 0 0 A) (F0 m 103 ls [.int (nI b3)]) := by
                        intro b3 hgm3 ls hl
                        refine lv_istore_n (lv' := [(2, .int (nI b3)), (0, .ref h0), (1, .int (nI K)), (3, .int (nI x)), (4, .int (nI g))]) hx hb dX2_gapOf_103 rfl hl (by decide) rfl (fun ls hl => ?_)
                        refine lv_iinc (v := nI (g + 1)) (lv' := [(4, .int (nI (g + 1))), (2, .int (nI b3)), (0, .ref h0), (1, .int (nI K)), (3, .int (nI x))]) hx hb dX2_gapOf_104 hl (k := 4) rfl (nI_1 _) (by decide) rfl (fun ls hl => ?_)
                        refine lv_goto (tgt := 61) hx hb dX2_gapOf_107 (by decide) ?_
                        exact ih3 (g + 1) b3 (by omega) (by omega) hgm3 _ (lv_sub hl [2, 3, 1, 4, 0] rfl)
                      refine lv_iload hx hb dX2_gapOf_91 (lv_at hl 0 rfl) ?_
                      refine lv_iload_n hx hb dX2_gapOf_93 rfl (lv_at hl 3 rfl) ?_
                      refine xi_icmp_ge (tgt := 102) hx hb (by omega) (by omega) dX2_gapOf_94 (by decide) (fun c_94 => ?_) (fun c_94 => ?_)
                      · refine lv_iload_n hx hb dX2_gapOf_102 rfl (lv_at hl 3 rfl) ?_
                        exact jp4 b2 (gapM_keep hgm2 (by omega)) _ (lv_sub hl [1, 2, 4, 5] rfl)
                      · refine lv_iload hx hb dX2_gapOf_97 (lv_at hl 0 rfl) ?_
                        refine lv_goto (tgt := 103) hx hb dX2_gapOf_99 (by decide) ?_
                        exact jp4 (wsg C n (fwN (cheap C) x) x g) (gapM_low hgm2 hxn2 (by omega) c_76 (by omega)) _ (lv_sub hl [1, 2, 4, 5] rfl)
                    · refine lv_goto (tgt := 104) hx hb dX2_gapOf_79 (by decide) ?_
                      refine lv_iinc (v := nI (g + 1)) (lv' := [(4, .int (nI (g + 1))), (0, .ref h0), (1, .int (nI K)), (2, .int (nI b2)), (3, .int (nI x))]) hx hb dX2_gapOf_104 hl (k := 4) rfl (nI_1 _) (by decide) rfl (fun ls hl => ?_)
                      refine lv_goto (tgt := 61) hx hb dX2_gapOf_107 (by decide) ?_
                      exact ih3 (g + 1) b2 (by omega) (by omega) (gapM_skip hgm2 c_76) _ (lv_sub hl [1, 2, 3, 4, 0] rfl)
              exact lp3 _ 0 b (Nat.lt_succ_self _) (by omega) hgm _ (lv_sub hl [1, 2, 3, 4, 0] rfl)
            · refine lv_aload_n hx hb dX2_gapOf_23 rfl (lv_at hl 0 rfl) ?_
              refine va_get (D := D) (ci := 1) (v := .ref qo) (C := RX2) (T := TX2) (N := 31) hx hb hts in_X2 hown hK hP 0 rfl rfl 16 (by decide) (hts _ q949) (fun _ h9 => h9) h16 dX2_gapOf_24 ?_
              refine lv_iload hx hb dX2_gapOf_27 (lv_at hl 4 rfl) ?_
              have jp5 : ∀ (ls : Array Slot), lv_has ls 6 [(0, .ref h0), (1, .int (nI K)), (2, .int (nI b)), (3, .int (nI x)), (4, .int (nI v))] → W p l e (headSpec (ws_ yX2_gapOf cX2_gapOf 6 (some .int)) (rmD 3 0 0)).room s m ([.ref h0, .int (nI K)] : List Value).toArray below meth c Hl2 locsl2 0 0 (MQ below (va_Qi (fun r (u : Nat → Int32) => ∃ G, r = nI G ∧ G < 100000000 ∧ Gap C n K sg G) (fun (u : Nat → Int32) t8 => xR D E A ((fun u => [xo h0 1 fs, xi E 0 qc 2160 ac, xi E 0 qf 189 af, xi E 0 qu 180 au, xi E 0 qs 20 as, xi E 0 qo 9 u]) u) t8) A) ([.ref h0, .int (nI K)] : List Value).toArray s 0 0 A) (F0 m 51 ls [.int (nI (if x = 0 then 0 else fwN (cheap C) (x - 1) v + cheap C (x - 1) v)), .int (nI v), .ref qo]) := by
                intro   ls hl
                refine xa_iast hx hb hK hP hD hS 5 rfl (by omega) (by omega) dX2_gapOf_51 (fun H_2 locs_2 hP hD hS => ?_)
                have hP : va_P D vwCl [xo h0 1 fs, xi E 0 qc 2160 ac, xi E 0 qf 189 af, xi E 0 qu 180 au, xi E 0 qs 20 as, xi E 0 qo 9 (upd o2 v (nI (if x = 0 then 0 else fwN (cheap C) (x - 1) v + cheap C (x - 1) v)))] H_2 := hP
                have hD : va_D A [xo h0 1 fs, xi E 0 qc 2160 ac, xi E 0 qf 189 af, xi E 0 qu 180 au, xi E 0 qs 20 as, xi E 0 qo 9 (upd o2 v (nI (if x = 0 then 0 else fwN (cheap C) (x - 1) v + cheap C (x - 1) v)))] := hD
                refine lv_iinc (v := nI (v + 1)) (lv' := [(4, .int (nI (v + 1))), (0, .ref h0), (1, .int (nI K)), (2, .int (nI b)), (3, .int (nI x))]) hx hb dX2_gapOf_52 hl (k := 4) rfl (nI_1 _) (by decide) rfl (fun ls hl => ?_)
                refine lv_goto (tgt := 16) hx hb dX2_gapOf_55 (by decide) ?_
                exact ih2 (v + 1) (upd o2 v (nI (if x = 0 then 0 else fwN (cheap C) (x - 1) v + cheap C (x - 1) v))) (by omega) (by omega) (fill_step (F := fun z => nI (if x = 0 then 0 else fwN (cheap C) (x - 1) z + cheap C (x - 1) z)) ho2 rfl) _ _ _ hP hD hS (lv_sub hl [1, 2, 3, 4, 0] rfl)
              refine lv_iload_n hx hb dX2_gapOf_29 rfl (lv_at hl 3 rfl) ?_
              refine xi_if_ne (tgt := 37) hx hb (by omega) dX2_gapOf_30 (by decide) (fun c_30 => ?_) (fun c_30 => ?_)
              · refine lv_aload_n hx hb dX2_gapOf_37 rfl (lv_at hl 0 rfl) ?_
                refine va_get (D := D) (ci := 1) (v := .ref qu) (C := RX2) (T := TX2) (N := 31) hx hb hts in_X2 hown hK hP 0 rfl rfl 9 (by decide) (hts _ q942) (fun _ h9 => h9) h9 dX2_gapOf_38 ?_
                refine lv_bipush (v := nI 9) hx hb dX2_gapOf_41 (by decide) ?_
                refine lv_iload_n hx hb dX2_gapOf_43 rfl (lv_at hl 3 rfl) ?_
                refine lv_iconst (v := nI 1) hx hb dX2_gapOf_44 (by decide) ?_
                refine xi_isub hx hb (by omega) dX2_gapOf_45 ?_
                refine xi_imul hx hb dX2_gapOf_46 ?_
                refine lv_iload hx hb dX2_gapOf_47 (lv_at hl 4 rfl) ?_
                refine xi_iadd hx hb dX2_gapOf_49 ?_
                refine xa_iald hx hb hK hP 3 rfl (by omega) (by omega) dX2_gapOf_50 ?_
                refine xv_i (y := nI (if x = 0 then 0 else fwN (cheap C) (x - 1) v + cheap C (x - 1) v)) (by rw [if_neg c_30]; exact hu (x - 1) v (by omega) (by omega)) ?_
                exact jp5   _ (lv_sub hl [0, 1, 2, 3, 4] rfl)
              · refine lv_iconst (v := nI 0) hx hb dX2_gapOf_33 (by decide) ?_
                refine lv_goto (tgt := 51) hx hb dX2_gapOf_34 (by decide) ?_
                refine xv_i (y := nI (if x = 0 then 0 else fwN (cheap C) (x - 1) v + cheap C (x - 1) v)) (by rw [if_pos c_30]) ?_
                exact jp5   _ (lv_sub hl [0, 1, 2, 3, 4] rfl)
        exact lp2 _ 0 o1 (Nat.lt_succ_self _) (by omega) (fun z hz => absurd hz (Nat.not_lt_zero _)) _ _ _ hP hD hS (lv_sub hl [1, 2, 3, 4, 0] rfl)
  exact lp1 _ 0 100000000 ao (Nat.lt_succ_self _) (by omega) gapM_0 _ _ _ hP hD hS (lv_sub hl [2, 3, 1, 0] rfl)
