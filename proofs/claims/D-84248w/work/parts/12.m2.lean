set_option maxRecDepth 100000
set_option maxHeartbeats 4000000 in
set_option maxRecDepth 100000 in
/-- the cost of a place, a sign, a speed -/
theorem met_costOf (l : Launch) (D : va_G) (E : Nat → ClassId) (h0 qt qk : Nat) (fs : List Value) (tn : Nat) (h1 : fs[1]? = some (.ref qt)) (h2 : fs[2]? = some (.ref qk)) (h3 : fs[3]? = some (.int (nI tn))) (aw ak : Nat → Int32) (wd tk : Nat → Nat) (x g v t : Nat) (hg : g < 12) (hv : v < 9) (htn : tn ≤ 120) (hx6 : 6 * x + 6 ≤ tn) (ht1 : t < 2) (haw : aw g = nI (wd g)) (hwd : wd g ≤ 333333) (hak : ∀ i, i < tn → ak i = nI (tk i)) (htk : ∀ i, tk i ≤ 60) : Met l yX2_costOf (ws_ yX2_costOf cX2_costOf 10 (some .int)) (rmD 1 0 0) (va_Pc [.ref h0, .int (nI x), .int (nI g), .int (nI v), .int (nI t)] (xB D E [xo h0 1 fs, xi E 0 qt 12 aw, xi E 0 qk 120 ak])) (vp_Si (fun r => r = nI (cst tk t tn wd x g v))) 0 0 (fun _ => False) := by
  refine Met.ofW (cc := cX2_costOf) (maxL := 10) (ret := (some .int)) (by decide) rfl ?_
  intro p e s m args below meth c s₁ B hml hv0
  obtain ⟨rfl, hP, hK, hN⟩ := hv0
  have hx := B.exec
  have hb := B.bytes
  have hr := B.returns
  have hts := atoms_spec (ws := (ws_ yX2_costOf cX2_costOf 10 (some .int))) B.pre
  have hts : ∀ w ∈ lw_all, w.before _ s = true := fun w h => hts w (List.mem_cons_of_mem _ h)
  have hown : s.vm.findClass RX2 = some m.cls := findClass_of_methodNamed B.named
  have hlocks := B.notSynchronized
  have hP : va_P D vwCl [xo h0 1 fs, xi E 0 qt 12 aw, xi E 0 qk 120 ak] s.heap := hP
  have hl := lv_entry ([.ref h0, .int (nI x), .int (nI g), .int (nI v), .int (nI t)]) (n := 10) (Nat.le_of_ble_eq_true rfl)
  rw [lg_entry_eq]
  generalize (lg_sl ([.ref h0, .int (nI x), .int (nI g), .int (nI v), .int (nI t)]) ++ List.replicate (10 - (lg_sl ([.ref h0, .int (nI x), .int (nI g), .int (nI v), .int (nI t)])).length) Slot.unset).toArray = ls at hl ⊢
  have hl : lv_has ls 10 [(0, .ref h0), (1, .int (nI x)), (2, .int (nI g)), (3, .int (nI v)), (4, .int (nI t))] := hl
  refine lv_iconst (v := nI 0) hx hb dX2_costOf_0 (by decide) ?_
  refine lv_istore (lv' := [(5, .int (nI 0)), (0, .ref h0), (1, .int (nI x)), (2, .int (nI g)), (3, .int (nI v)), (4, .int (nI t))]) hx hb dX2_costOf_1 hl (by decide) rfl (fun ls hl => ?_)
  refine lv_aload_n hx hb dX2_costOf_3 rfl (lv_at hl 1 rfl) ?_
  refine va_get (D := D) (ci := 1) (v := .ref qt) (C := RX2) (T := TX2) (N := 31) hx hb hts in_X2 hown hK hP 0 rfl rfl 1 (by decide) (hts _ q934) (fun _ h9 => h9) h1 dX2_costOf_4 ?_
  refine lv_iload_n hx hb dX2_costOf_7 rfl (lv_at hl 3 rfl) ?_
  refine xa_iald hx hb hK hP 1 rfl (by omega) (by omega) dX2_costOf_8 ?_
  refine xv_i (y := nI (wd g / 10 ^ 0)) (by rw [haw, Nat.pow_zero, Nat.div_one]) ?_
  refine lv_istore (lv' := [(6, .int (nI (wd g / 10 ^ 0))), (5, .int (nI 0)), (0, .ref h0), (1, .int (nI x)), (2, .int (nI g)), (3, .int (nI v)), (4, .int (nI t))]) hx hb dX2_costOf_9 hl (by decide) rfl (fun ls hl => ?_)
  refine lv_iconst (v := nI 5) hx hb dX2_costOf_11 (by decide) ?_
  refine xv_i (y := dn 6) (by decide) ?_
  refine lv_istore (lv' := [(7, .int (dn 6)), (6, .int (nI (wd g / 10 ^ 0))), (5, .int (nI 0)), (0, .ref h0), (1, .int (nI x)), (2, .int (nI g)), (3, .int (nI v)), (4, .int (nI t))]) hx hb dX2_costOf_12 hl (by decide) rfl (fun ls hl => ?_)
  have lp1 : ∀ (lc1 : Nat) (r : Nat), 6 - r < lc1 → (r ≤ 6) → ∀ (ls : Array Slot), lv_has ls 10 [(0, .ref h0), (1, .int (nI x)), (2, .int (nI g)), (3, .int (nI v)), (4, .int (nI t)), (5, .int (nI (cstB tk t tn x v (wd g) r))), (6, .int (nI (wd g / 10 ^ r))), (7, .int (dn (6 - r)))] → W p l e (headSpec (ws_ yX2_costOf cX2_costOf 10 (some .int)) (rmD 1 0 0)).room s m ([.ref h0, .int (nI x), .int (nI g), .int (nI v), .int (nI t)] : List Value).toArray below meth c s.heap [] 0 0 (MQ below (vp_Si (fun r => r = nI (cst tk t tn wd x g v))) ([.ref h0, .int (nI x), .int (nI g), .int (nI v), .int (nI t)] : List Value).toArray s 0 0 (fun _ => False)) (F0 m 14 ls []) := by
    intro lc1
    induction lc1 with
    | zero => intro r hm; exact absurd hm (Nat.not_lt_zero _)
    | succ lc1 ih1 =>
      intro r hm1 hr6 ls hl
      refine lv_iload hx hb dX2_costOf_14 (lv_at hl 7 rfl) ?_
      refine lv_if_lt (tgt := 95) hx hb dX2_costOf_16 (by decide) (fun c_16 => ?_) (fun c_16 => ?_)
      · refine lv_iload hx hb dX2_costOf_95 (lv_at hl 5 rfl) ?_
        exact W.iret (v := nI (cstB tk t tn x v (wd g) r)) hx hb hr (fun t9 ht9 hW9 => ⟨_, rfl, by rw [show r = 6 by have := (dn_lt (by omega)).mp c_16; omega]; unfold cst; rw [cstAB], ht9⟩) t_nil dX2_costOf_97
      · have hr5 : r < 6 := by
          rcases Nat.lt_or_ge r 6 with q | q
          · exact q
          · exact absurd ((dn_lt (by omega)).mpr (by omega)) c_16
        rw [show 6 - r = (5 - r) + 1 by omega, dn_succ] at hl
        have hm3 := trm_le (tk := tk) (t := t) (tn := tn) (x := x) (wd := wd g) (k := 5 - r) htk hv
        have hix : ixT t tn (6 * x + (5 - r)) < tn := by unfold ixT; split <;> omega
        have hdv : wd g / 10 ^ r ≤ wd g := Nat.div_le_self _ _
        have htb := htk (ixT t tn (6 * x + (5 - r)))
        have hmb : (4 + v) * (wd g / 10 ^ r % 10) ≤ 12 * 9 := Nat.mul_le_mul (by omega) (by omega)
        refine lv_bipush (v := nI 6) hx hb dX2_costOf_19 (by decide) ?_
        refine lv_iload_n hx hb dX2_costOf_21 rfl (lv_at hl 1 rfl) ?_
        refine xi_imul hx hb dX2_costOf_22 ?_
        refine lv_iload hx hb dX2_costOf_23 (lv_at hl 7 rfl) ?_
        refine xi_iadd hx hb dX2_costOf_25 ?_
        refine lv_istore (lv' := [(8, .int (nI ((6 * x) + (5 - r)))), (0, .ref h0), (1, .int (nI x)), (2, .int (nI g)), (3, .int (nI v)), (4, .int (nI t)), (5, .int (nI (cstB tk t tn x v (wd g) r))), (6, .int (nI (wd g / 10 ^ r))), (7, .int (nI (5 - r)))]) hx hb dX2_costOf_26 hl (by decide) rfl (fun ls hl => ?_)
        have jp2 : ∀ (ls : Array Slot), lv_has ls 10 [(0, .ref h0), (1, .int (nI x)), (2, .int (nI g)), (3, .int (nI v)), (4, .int (nI t)), (5, .int (nI (cstB tk t tn x v (wd g) r))), (6, .int (nI (wd g / 10 ^ r))), (7, .int (nI (5 - r)))] → W p l e (headSpec (ws_ yX2_costOf cX2_costOf 10 (some .int)) (rmD 1 0 0)).room s m ([.ref h0, .int (nI x), .int (nI g), .int (nI v), .int (nI t)] : List Value).toArray below meth c s.heap [] 0 0 (MQ below (vp_Si (fun r => r = nI (cst tk t tn wd x g v))) ([.ref h0, .int (nI x), .int (nI g), .int (nI v), .int (nI t)] : List Value).toArray s 0 0 (fun _ => False)) (F0 m 51 ls [.int (nI (ixT t tn (6 * x + (5 - r)))), .ref qk]) := by
          intro   ls hl
          refine xa_iald hx hb hK hP 2 rfl (by omega) (by omega) dX2_costOf_51 ?_
          refine xv_i (y := nI (tk (ixT t tn (6 * x + (5 - r))))) (hak _ hix) ?_
          refine lv_iconst (v := nI 4) hx hb dX2_costOf_52 (by decide) ?_
          refine lv_iload_n hx hb dX2_costOf_53 rfl (lv_at hl 3 rfl) ?_
          refine xi_iadd hx hb dX2_costOf_54 ?_
          refine lv_iload hx hb dX2_costOf_55 (lv_at hl 6 rfl) ?_
          refine lv_bipush (v := nI 10) hx hb dX2_costOf_57 (by decide) ?_
          refine xi_irem hx hb (by omega) (by decide) (by decide) dX2_costOf_59 ?_
          refine xi_imul hx hb dX2_costOf_60 ?_
          refine lv_isub hx hb dX2_costOf_61 ?_
          refine lv_istore (lv' := [(9, .int ((nI (tk (ixT t tn (6 * x + (5 - r))))) - (nI ((4 + v) * ((wd g / 10 ^ r) % 10))))), (0, .ref h0), (1, .int (nI x)), (2, .int (nI g)), (3, .int (nI v)), (4, .int (nI t)), (5, .int (nI (cstB tk t tn x v (wd g) r))), (6, .int (nI (wd g / 10 ^ r))), (7, .int (nI (5 - r)))]) hx hb dX2_costOf_62 hl (by decide) rfl (fun ls hl => ?_)
          have jp3 : ∀ (ls : Array Slot), lv_has ls 10 [(0, .ref h0), (1, .int (nI x)), (2, .int (nI g)), (3, .int (nI v)), (4, .int (nI t)), (5, .int (nI (cstB tk t tn x v (wd g) r))), (6, .int (nI (wd g / 10 ^ r))), (7, .int (nI (5 - r)))] → W p l e (headSpec (ws_ yX2_costOf cX2_costOf 10 (some .int)) (rmD 1 0 0)).room s m ([.ref h0, .int (nI x), .int (nI g), .int (nI v), .int (nI t)] : List Value).toArray below meth c s.heap [] 0 0 (MQ below (vp_Si (fun r => r = nI (cst tk t tn wd x g v))) ([.ref h0, .int (nI x), .int (nI g), .int (nI v), .int (nI t)] : List Value).toArray s 0 0 (fun _ => False)) (F0 m 79 ls [.int (nI (trm tk t tn x v (wd g) (5 - r))), .int (nI (cstB tk t tn x v (wd g) r))]) := by
            intro   ls hl
            refine xi_iadd hx hb dX2_costOf_79 ?_
            refine xv_i (y := nI (cstB tk t tn x v (wd g) (r + 1))) (rfl) ?_
            refine lv_istore (lv' := [(5, .int (nI (cstB tk t tn x v (wd g) (r + 1)))), (0, .ref h0), (1, .int (nI x)), (2, .int (nI g)), (3, .int (nI v)), (4, .int (nI t)), (6, .int (nI (wd g / 10 ^ r))), (7, .int (nI (5 - r)))]) hx hb dX2_costOf_80 hl (by decide) rfl (fun ls hl => ?_)
            refine lv_iload hx hb dX2_costOf_82 (lv_at hl 6 rfl) ?_
            refine lv_bipush (v := nI 10) hx hb dX2_costOf_84 (by decide) ?_
            refine xi_idiv hx hb (by omega) (by decide) (by decide) dX2_costOf_86 ?_
            refine xv_i (y := nI (wd g / 10 ^ (r + 1))) (by rw [div10]) ?_
            refine lv_istore (lv' := [(6, .int (nI (wd g / 10 ^ (r + 1)))), (5, .int (nI (cstB tk t tn x v (wd g) (r + 1)))), (0, .ref h0), (1, .int (nI x)), (2, .int (nI g)), (3, .int (nI v)), (4, .int (nI t)), (7, .int (nI (5 - r)))]) hx hb dX2_costOf_87 hl (by decide) rfl (fun ls hl => ?_)
            refine lv_iinc (v := dn (6 - (r + 1))) (lv' := [(7, .int (dn (6 - (r + 1)))), (6, .int (nI (wd g / 10 ^ (r + 1)))), (5, .int (nI (cstB tk t tn x v (wd g) (r + 1)))), (0, .ref h0), (1, .int (nI x)), (2, .int (nI g)), (3, .int (nI v)), (4, .int (nI t))]) hx hb dX2_costOf_89 hl (k := 7) rfl (by rw [show 6 - (r + 1) = 5 - r by omega]; rfl) (by decide) rfl (fun ls hl => ?_)
            refine lv_goto (tgt := 14) hx hb dX2_costOf_92 (by decide) ?_
            exact ih1 (r + 1) (by omega) (by omega) _ (lv_sub hl [3, 4, 5, 6, 7, 2, 1, 0] rfl)
          refine lv_iload hx hb dX2_costOf_64 (lv_at hl 6 rfl) ?_
          refine lv_iload hx hb dX2_costOf_66 (lv_at hl 0 rfl) ?_
          refine lv_if_ge (tgt := 77) hx hb dX2_costOf_68 (by decide) (fun c_68 => ?_) (fun c_68 => ?_)
          · refine lv_iload hx hb dX2_costOf_77 (lv_at hl 0 rfl) ?_
            refine xv_i (y := nI (trm tk t tn x v (wd g) (5 - r))) (by show _ = nI (absd (tk (ixT t tn (6 * x + (5 - r)))) ((4 + v) * (wd g / 10 ^ (5 - (5 - r)) % 10))); rw [show 5 - (5 - r) = r by omega]; exact absd_pos (by omega) (by omega) c_68) ?_
            exact jp3   _ (lv_sub hl [1, 2, 3, 4, 5, 6, 7, 8] rfl)
          · refine lv_iload hx hb dX2_costOf_71 (lv_at hl 0 rfl) ?_
            refine lv_ineg hx hb dX2_costOf_73 ?_
            refine xv_i (y := nI (trm tk t tn x v (wd g) (5 - r))) (by show _ = nI (absd (tk (ixT t tn (6 * x + (5 - r)))) ((4 + v) * (wd g / 10 ^ (5 - (5 - r)) % 10))); rw [show 5 - (5 - r) = r by omega]; exact absd_neg (by omega) (by omega) c_68) ?_
            refine lv_goto (tgt := 79) hx hb dX2_costOf_74 (by decide) ?_
            exact jp3   _ (lv_sub hl [1, 2, 3, 4, 5, 6, 7, 8] rfl)
        refine lv_aload_n hx hb dX2_costOf_28 rfl (lv_at hl 1 rfl) ?_
        refine va_get (D := D) (ci := 1) (v := .ref qk) (C := RX2) (T := TX2) (N := 31) hx hb hts in_X2 hown hK hP 0 rfl rfl 2 (by decide) (hts _ q935) (fun _ h9 => h9) h2 dX2_costOf_29 ?_
        refine lv_iload hx hb dX2_costOf_32 (lv_at hl 5 rfl) ?_
        refine xi_if_eq (tgt := 49) hx hb (by omega) dX2_costOf_34 (by decide) (fun c_34 => ?_) (fun c_34 => ?_)
        · refine lv_iload hx hb dX2_costOf_49 (lv_at hl 0 rfl) ?_
          refine xv_i (y := nI (ixT t tn (6 * x + (5 - r)))) (by unfold ixT; rw [if_pos (by omega)]) ?_
          exact jp2   _ (lv_sub hl [1, 2, 3, 4, 5, 6, 7, 8] rfl)
        · refine lv_aload_n hx hb dX2_costOf_37 rfl (lv_at hl 1 rfl) ?_
          refine va_get (D := D) (ci := 1) (v := .int (nI tn)) (C := RX2) (T := TX2) (N := 31) hx hb hts in_X2 hown hK hP 0 rfl rfl 3 (by decide) (hts _ q936) (fun _ h9 => h9) h3 dX2_costOf_38 ?_
          refine lv_iconst (v := nI 1) hx hb dX2_costOf_41 (by decide) ?_
          refine xi_isub hx hb (by omega) dX2_costOf_42 ?_
          refine lv_iload hx hb dX2_costOf_43 (lv_at hl 0 rfl) ?_
          refine xi_isub hx hb (by omega) dX2_costOf_45 ?_
          refine lv_goto (tgt := 51) hx hb dX2_costOf_46 (by decide) ?_
          refine xv_i (y := nI (ixT t tn (6 * x + (5 - r)))) (by unfold ixT; rw [if_neg (by omega)]) ?_
          exact jp2   _ (lv_sub hl [1, 2, 3, 4, 5, 6, 7, 8] rfl)
  exact lp1 _ 0 (Nat.lt_succ_self _) (by omega) _ (lv_sub hl [3, 4, 5, 6, 7, 2, 1, 0] rfl)
set_option maxHeartbeats 4000000 in
set_option maxRecDepth 100000 in
/-- the table of costs is filled -/
theorem met_fills (l : Launch) (D : va_G) (E : Nat → ClassId) (sz : Nat) (h0 qt qk qc : Nat) (fs : List Value) (tn n : Nat) (h1 : fs[1]? = some (.ref qt)) (h2 : fs[2]? = some (.ref qk)) (h3 : fs[3]? = some (.int (nI tn))) (h4 : fs[4]? = some (.ref qc)) (h6 : fs[6]? = some (.int (nI n))) (aw ak ac : Nat → Int32) (wd tk : Nat → Nat) (t : Nat) (htn : tn ≤ 120) (hx6 : 6 * n ≤ tn) (ht1 : t < 2) (haw : ∀ g, g < 12 → aw g = nI (wd g)) (hwd : ∀ g, g < 12 → wd g ≤ 333333) (hak : ∀ i, i < tn → ak i = nI (tk i)) (htk : ∀ i, tk i ≤ 60) : Met l yX2_fills (ws_ yX2_fills cX2_fills 5 none) (rmD 3 0 0) (va_Pc [.ref h0, .int (nI t)] (xQ D E [xo h0 1 fs, xi E 0 qt 12 aw, xi E 0 qk 120 ak, xi E 0 qc 2160 ac] sz)) (va_Qv (fun (u : Nat → Int32) => ∀ k, k < 108 * n → u k = nI (fl (cst tk t tn wd) k)) (fun (u : Nat → Int32) t8 => xR D E (va_A [xo h0 1 fs, xi E 0 qt 12 aw, xi E 0 qk 120 ak, xi E 0 qc 2160 ac] sz) ((fun u => [xo h0 1 fs, xi E 0 qt 12 aw, xi E 0 qk 120 ak, xi E 0 qc 2160 u]) u) t8) (va_A [xo h0 1 fs, xi E 0 qt 12 aw, xi E 0 qk 120 ak, xi E 0 qc 2160 ac] sz)) 0 0 (va_A [xo h0 1 fs, xi E 0 qt 12 aw, xi E 0 qk 120 ak, xi E 0 qc 2160 ac] sz) := by
  refine Met.ofW (cc := cX2_fills) (maxL := 5) (ret := none) (by decide) rfl ?_
  intro p e s m args below meth c s₁ B hml hv0
  obtain ⟨rfl, hsz, hP, hK, hD0, hN⟩ := hv0
  have hx := B.exec
  have hb := B.bytes
  have hr := B.returns
  have hts := atoms_spec (ws := (ws_ yX2_fills cX2_fills 5 none)) B.pre
  have hts : ∀ w ∈ lw_all, w.before _ s = true := fun w h => hts w (List.mem_cons_of_mem _ h)
  have hown : s.vm.findClass RX2 = some m.cls := findClass_of_methodNamed B.named
  have hlocks := B.notSynchronized
  subst hsz
  have hD := hD0.self (sz := s.heap.size)
  generalize hAe : va_A [xo h0 1 fs, xi E 0 qt 12 aw, xi E 0 qk 120 ak, xi E 0 qc 2160 ac] s.heap.size = A at hD ⊢
  have hA : ∀ q : Nat, s.heap.size ≤ q → A q := fun q h => by rw [← hAe]; exact Or.inr h
  have hS : va_S A s.heap s.heap [] := va_S.rf
  have hP : va_P D vwCl [xo h0 1 fs, xi E 0 qt 12 aw, xi E 0 qk 120 ak, xi E 0 qc 2160 ac] s.heap := hP
  have hD : va_D A [xo h0 1 fs, xi E 0 qt 12 aw, xi E 0 qk 120 ak, xi E 0 qc 2160 ac] := hD
  have hl := lv_entry ([.ref h0, .int (nI t)]) (n := 5) (Nat.le_of_ble_eq_true rfl)
  rw [lg_entry_eq]
  generalize (lg_sl ([.ref h0, .int (nI t)]) ++ List.replicate (5 - (lg_sl ([.ref h0, .int (nI t)])).length) Slot.unset).toArray = ls at hl ⊢
  have hl : lv_has ls 5 [(0, .ref h0), (1, .int (nI t))] := hl
  refine lv_iconst (v := nI 0) hx hb dX2_fills_0 (by decide) ?_
  refine lv_istore_n (lv' := [(2, .int (nI 0)), (0, .ref h0), (1, .int (nI t))]) hx hb dX2_fills_1 rfl hl (by decide) rfl (fun ls hl => ?_)
  have lp1 : ∀ (lc1 : Nat) (x : Nat) (a1 : Nat → Int32), n - x < lc1 → (x ≤ n) → (∀ k, k < 108 * x → a1 k = nI (fl (cst tk t tn wd) k)) → ∀ (Hl1 : Heap) (locsl1 : List Loc) (ls : Array Slot), va_P D vwCl [xo h0 1 fs, xi E 0 qt 12 aw, xi E 0 qk 120 ak, xi E 0 qc 2160 a1] Hl1 → va_D A [xo h0 1 fs, xi E 0 qt 12 aw, xi E 0 qk 120 ak, xi E 0 qc 2160 a1] → va_S A s.heap Hl1 locsl1 → lv_has ls 5 [(0, .ref h0), (1, .int (nI t)), (2, .int (nI x))] → W p l e (headSpec (ws_ yX2_fills cX2_fills 5 none) (rmD 3 0 0)).room s m ([.ref h0, .int (nI t)] : List Value).toArray below meth c Hl1 locsl1 0 0 (MQ below (va_Qv (fun (u : Nat → Int32) => ∀ k, k < 108 * n → u k = nI (fl (cst tk t tn wd) k)) (fun (u : Nat → Int32) t8 => xR D E A ((fun u => [xo h0 1 fs, xi E 0 qt 12 aw, xi E 0 qk 120 ak, xi E 0 qc 2160 u]) u) t8) A) ([.ref h0, .int (nI t)] : List Value).toArray s 0 0 A) (F0 m 2 ls []) := by
    intro lc1
    induction lc1 with
    | zero => intro x a1 hm; exact absurd hm (Nat.not_lt_zero _)
    | succ lc1 ih1 =>
      intro x a1 hm1 hxn ha1 Hl1 locsl1 ls hP hD hS hl
      refine lv_iload_n hx hb dX2_fills_2 rfl (lv_at hl 2 rfl) ?_
      refine lv_aload_n hx hb dX2_fills_3 rfl (lv_at hl 0 rfl) ?_
      refine va_get (D := D) (ci := 1) (v := .int (nI n)) (C := RX2) (T := TX2) (N := 31) hx hb hts in_X2 hown hK hP 0 rfl rfl 6 (by decide) (hts _ q939) (fun _ h9 => h9) h6 dX2_fills_4 ?_
      refine xi_icmp_ge (tgt := 67) hx hb (by omega) (by omega) dX2_fills_7 (by decide) (fun c_7 => ?_) (fun c_7 => ?_)
      · refine W.widen (k := 0) (n := 0) (Nat.le_of_ble_eq_true rfl) (Nat.le_of_ble_eq_true rfl) ?_
        exact W.vret hx hb hr (fun t9 ht9 hW9 => ⟨⟨a1, rfl, fun k hk => ha1 k (by omega), by rw [ht9]; exact hP, hD⟩, hS.F ht9⟩) hS.2.2 dX2_fills_67
      · refine lv_iconst (v := nI 0) hx hb dX2_fills_10 (by decide) ?_
        refine lv_istore_n (lv' := [(3, .int (nI 0)), (0, .ref h0), (1, .int (nI t)), (2, .int (nI x))]) hx hb dX2_fills_11 rfl hl (by decide) rfl (fun ls hl => ?_)
        have lp2 : ∀ (lc2 : Nat) (g : Nat) (a2 : Nat → Int32), 12 - g < lc2 → (g ≤ 12) → (∀ k, k < (x * 12 + g) * 9 → a2 k = nI (fl (cst tk t tn wd) k)) → ∀ (Hl2 : Heap) (locsl2 : List Loc) (ls : Array Slot), va_P D vwCl [xo h0 1 fs, xi E 0 qt 12 aw, xi E 0 qk 120 ak, xi E 0 qc 2160 a2] Hl2 → va_D A [xo h0 1 fs, xi E 0 qt 12 aw, xi E 0 qk 120 ak, xi E 0 qc 2160 a2] → va_S A s.heap Hl2 locsl2 → lv_has ls 5 [(0, .ref h0), (1, .int (nI t)), (2, .int (nI x)), (3, .int (nI g))] → W p l e (headSpec (ws_ yX2_fills cX2_fills 5 none) (rmD 3 0 0)).room s m ([.ref h0, .int (nI t)] : List Value).toArray below meth c Hl2 locsl2 0 0 (MQ below (va_Qv (fun (u : Nat → Int32) => ∀ k, k < 108 * n → u k = nI (fl (cst tk t tn wd) k)) (fun (u : Nat → Int32) t8 => xR D E A ((fun u => [xo h0 1 fs, xi E 0 qt 12 aw, xi E 0 qk 120 ak, xi E 0 qc 2160 u]) u) t8) A) ([.ref h0, .int (nI t)] : List Value).toArray s 0 0 A) (F0 m 12 ls []) := by
          intro lc2
          induction lc2 with
          | zero => intro g a2 hm; exact absurd hm (Nat.not_lt_zero _)
          | succ lc2 ih2 =>
            intro g a2 hm2 hg ha2 Hl2 locsl2 ls hP hD hS hl
            refine lv_iload_n hx hb dX2_fills_12 rfl (lv_at hl 3 rfl) ?_
            refine lv_bipush (v := nI 12) hx hb dX2_fills_13 (by decide) ?_
            refine xi_icmp_ge (tgt := 61) hx hb (by omega) (by omega) dX2_fills_15 (by decide) (fun c_15 => ?_) (fun c_15 => ?_)
            · refine lv_iinc (v := nI (x + 1)) (lv' := [(2, .int (nI (x + 1))), (0, .ref h0), (1, .int (nI t)), (3, .int (nI g))]) hx hb dX2_fills_61 hl (k := 2) rfl (nI_1 _) (by decide) rfl (fun ls hl => ?_)
              refine lv_goto (tgt := 2) hx hb dX2_fills_64 (by decide) ?_
              exact ih1 (x + 1) a2 (by omega) (by omega) (fun k hk => ha2 k (by omega)) _ _ _ hP hD hS (lv_sub hl [1, 2, 0] rfl)
            · refine lv_iconst (v := nI 0) hx hb dX2_fills_18 (by decide) ?_
              refine lv_istore (lv' := [(4, .int (nI 0)), (0, .ref h0), (1, .int (nI t)), (2, .int (nI x)), (3, .int (nI g))]) hx hb dX2_fills_19 hl (by decide) rfl (fun ls hl => ?_)
              have lp3 : ∀ (lc3 : Nat) (v : Nat) (a3 : Nat → Int32), 9 - v < lc3 → (v ≤ 9) → (∀ k, k < (x * 12 + g) * 9 + v → a3 k = nI (fl (cst tk t tn wd) k)) → ∀ (Hl3 : Heap) (locsl3 : List Loc) (ls : Array Slot), va_P D vwCl [xo h0 1 fs, xi E 0 qt 12 aw, xi E 0 qk 120 ak, xi E 0 qc 2160 a3] Hl3 → va_D A [xo h0 1 fs, xi E 0 qt 12 aw, xi E 0 qk 120 ak, xi E 0 qc 2160 a3] → va_S A s.heap Hl3 locsl3 → lv_has ls 5 [(0, .ref h0), (1, .int (nI t)), (2, .int (nI x)), (3, .int (nI g)), (4, .int (nI v))] → W p l e (headSpec (ws_ yX2_fills cX2_fills 5 none) (rmD 3 0 0)).room s m ([.ref h0, .int (nI t)] : List Value).toArray below meth c Hl3 locsl3 0 0 (MQ below (va_Qv (fun (u : Nat → Int32) => ∀ k, k < 108 * n → u k = nI (fl (cst tk t tn wd) k)) (fun (u : Nat → Int32) t8 => xR D E A ((fun u => [xo h0 1 fs, xi E 0 qt 12 aw, xi E 0 qk 120 ak, xi E 0 qc 2160 u]) u) t8) A) ([.ref h0, .int (nI t)] : List Value).toArray s 0 0 A) (F0 m 21 ls []) := by
                intro lc3
                induction lc3 with
                | zero => intro v a3 hm; exact absurd hm (Nat.not_lt_zero _)
                | succ lc3 ih3 =>
                  intro v a3 hm3 hv ha3 Hl3 locsl3 ls hP hD hS hl
                  refine lv_iload hx hb dX2_fills_21 (lv_at hl 4 rfl) ?_
                  refine lv_bipush (v := nI 9) hx hb dX2_fills_23 (by decide) ?_
                  refine xi_icmp_ge (tgt := 55) hx hb (by omega) (by omega) dX2_fills_25 (by decide) (fun c_25 => ?_) (fun c_25 => ?_)
                  · refine lv_iinc (v := nI (g + 1)) (lv' := [(3, .int (nI (g + 1))), (0, .ref h0), (1, .int (nI t)), (2, .int (nI x)), (4, .int (nI v))]) hx hb dX2_fills_55 hl (k := 3) rfl (nI_1 _) (by decide) rfl (fun ls hl => ?_)
                    refine lv_goto (tgt := 12) hx hb dX2_fills_58 (by decide) ?_
                    exact ih2 (g + 1) a3 (by omega) (by omega) (fun k hk => ha3 k (by omega)) _ _ _ hP hD hS (lv_sub hl [1, 2, 3, 0] rfl)
                  · refine lv_aload_n hx hb dX2_fills_28 rfl (lv_at hl 0 rfl) ?_
                    refine va_get (D := D) (ci := 1) (v := .ref qc) (C := RX2) (T := TX2) (N := 31) hx hb hts in_X2 hown hK hP 0 rfl rfl 4 (by decide) (hts _ q937) (fun _ h9 => h9) h4 dX2_fills_29 ?_
                    refine lv_iload_n hx hb dX2_fills_32 rfl (lv_at hl 2 rfl) ?_
                    refine lv_iload_n hx hb dX2_fills_33 rfl (lv_at hl 3 rfl) ?_
                    refine lv_iload hx hb dX2_fills_34 (lv_at hl 4 rfl) ?_
                    refine xs_Si (n := 3) (As := [.int (nI x), .int (nI g), .int (nI v)]) (rest := [.ref qc]) (ws := [xo h0 1 fs, xi E 0 qt 12 aw, xi E 0 qk 120 ak, xi E 0 qc 2160 a3]) (tl := []) (wc := []) ⟨hx, hb, hml, hown, hts⟩ (met_cell l D E x g v) (lw_S q1053 q1054 q50 q1055) (by decide +kernel) ⟨(Nat.le_of_ble_eq_true rfl), (Nat.le_of_ble_eq_true rfl)⟩ rfl rfl hK hN hP [] rfl rfl hl.1 rfl (Nat.le_of_ble_eq_true rfl) dX2_fills_36 ⟨(Nat.le_of_ble_eq_true rfl), (Nat.le_of_ble_eq_true rfl)⟩ (fun r_1 h_1 => ?_)
                    subst h_1
                    refine lv_aload_n hx hb dX2_fills_39 rfl (lv_at hl 0 rfl) ?_
                    refine lv_iload_n hx hb dX2_fills_40 rfl (lv_at hl 2 rfl) ?_
                    refine lv_iload_n hx hb dX2_fills_41 rfl (lv_at hl 3 rfl) ?_
                    refine lv_iload hx hb dX2_fills_42 (lv_at hl 4 rfl) ?_
                    refine lv_iload_n hx hb dX2_fills_44 rfl (lv_at hl 1 rfl) ?_
                    refine xs_Vi (n := 4) (As := [.int (nI x), .int (nI g), .int (nI v), .int (nI t)]) (rest := [.int (nI ((x * 12 + g) * 9 + v)), .ref qc]) (ws := [xo h0 1 fs, xi E 0 qt 12 aw, xi E 0 qk 120 ak, xi E 0 qc 2160 a3]) (tl := []) (wc := [xo h0 1 fs, xi E 0 qt 12 aw, xi E 0 qk 120 ak]) ⟨hx, hb, hml, hown, hts⟩ (met_costOf l D E h0 qt qk fs tn h1 h2 h3 aw ak wd tk x g v t (by omega) (by omega) htn (by omega) ht1 (haw g (by omega)) (hwd g (by omega)) hak htk) (lw_V q1056 q1058 qs14 q50 q1059) (by decide +kernel) ⟨(Nat.le_of_ble_eq_true rfl), (Nat.le_of_ble_eq_true rfl)⟩ rfl rfl hK hN hP [0, 1, 2] rfl (q0 := 0) rfl rfl rfl rfl hl.1 rfl (Nat.le_of_ble_eq_true rfl) dX2_fills_45 ⟨(Nat.le_of_ble_eq_true rfl), (Nat.le_of_ble_eq_true rfl)⟩ (fun r_2 h_2 => ?_)
                    subst h_2
                    refine xa_iast hx hb hK hP hD hS 3 rfl (by omega) (by omega) dX2_fills_48 (fun H_3 locs_3 hP hD hS => ?_)
                    have hP : va_P D vwCl [xo h0 1 fs, xi E 0 qt 12 aw, xi E 0 qk 120 ak, xi E 0 qc 2160 (upd a3 ((x * 12 + g) * 9 + v) (nI (cst tk t tn wd x g v)))] H_3 := hP
                    have hD : va_D A [xo h0 1 fs, xi E 0 qt 12 aw, xi E 0 qk 120 ak, xi E 0 qc 2160 (upd a3 ((x * 12 + g) * 9 + v) (nI (cst tk t tn wd x g v)))] := hD
                    refine lv_iinc (v := nI (v + 1)) (lv' := [(4, .int (nI (v + 1))), (0, .ref h0), (1, .int (nI t)), (2, .int (nI x)), (3, .int (nI g))]) hx hb dX2_fills_49 hl (k := 4) rfl (nI_1 _) (by decide) rfl (fun ls hl => ?_)
                    refine lv_goto (tgt := 21) hx hb dX2_fills_52 (by decide) ?_
                    exact ih3 (v + 1) (upd a3 ((x * 12 + g) * 9 + v) (nI (cst tk t tn wd x g v))) (by omega) (by omega) (fun k hk => fill_step (F := fun k => nI (fl (cst tk t tn wd) k)) ha3 (by show _ = nI _; rw [fl_at (by omega) (by omega)]) k (by omega)) _ _ _ hP hD hS (lv_sub hl [1, 2, 3, 4, 0] rfl)
              exact lp3 _ 0 a2 (Nat.lt_succ_self _) (by omega) (fun k hk => ha2 k (by omega)) _ _ _ hP hD hS (lv_sub hl [1, 2, 3, 4, 0] rfl)
        exact lp2 _ 0 a1 (Nat.lt_succ_self _) (by omega) (fun k hk => ha1 k (by omega)) _ _ _ hP hD hS (lv_sub hl [1, 2, 3, 0] rfl)
  exact lp1 _ 0 ac (Nat.lt_succ_self _) (by omega) (fun k hk => by omega) _ _ _ hP hD hS (lv_sub hl [1, 2, 0] rfl)
