set_option maxRecDepth 100000
set_option maxHeartbeats 4000000 in
set_option maxRecDepth 100000 in
/-- sums from both ends, whatever the signs -/
theorem met_sums (l : Launch) (D : va_G) (E : Nat → ClassId) (sz : Nat) (h0 qc qf qu : Nat) (fs : List Value) (n : Nat) (h4 : fs[4]? = some (.ref qc)) (h6 : fs[6]? = some (.int (nI n))) (h8 : fs[8]? = some (.ref qf)) (h9 : fs[9]? = some (.ref qu)) (ac af au : Nat → Int32) (C : C3) (hn20 : n ≤ 20) (hC : ∀ k, k < 108 * n → ac k = nI (fl C k)) (hSm : Sm C n) : Met l yX2_sums (ws_ yX2_sums cX2_sums 3 (some .int)) (rmD 3 0 0) (va_Pc [.ref h0] (xQ D E [xo h0 1 fs, xi E 0 qc 2160 ac, xi E 0 qf 189 af, xi E 0 qu 180 au] sz)) (va_Qi (fun r (u : (Nat → Int32) × (Nat → Int32)) => r = nI (mnP 100000000 al (bk (cheap C) n n) 9) ∧ (∀ x z, x ≤ n → z < 9 → u.1 (9 * x + z) = nI (bk (cheap C) n (n - x) z)) ∧ (∀ x z, x < n → z < 9 → u.2 (9 * x + z) = nI (fwN (cheap C) x z + cheap C x z))) (fun (u : (Nat → Int32) × (Nat → Int32)) t8 => xR D E (va_A [xo h0 1 fs, xi E 0 qc 2160 ac, xi E 0 qf 189 af, xi E 0 qu 180 au] sz) ((fun u => [xo h0 1 fs, xi E 0 qc 2160 ac, xi E 0 qf 189 u.1, xi E 0 qu 180 u.2]) u) t8) (va_A [xo h0 1 fs, xi E 0 qc 2160 ac, xi E 0 qf 189 af, xi E 0 qu 180 au] sz)) 0 0 (va_A [xo h0 1 fs, xi E 0 qc 2160 ac, xi E 0 qf 189 af, xi E 0 qu 180 au] sz) := by
  refine Met.ofW (cc := cX2_sums) (maxL := 3) (ret := (some .int)) (by decide) rfl ?_
  intro p e s m args below meth c s₁ B hml hv0
  obtain ⟨rfl, hsz, hP, hK, hD0, hN⟩ := hv0
  have hx := B.exec
  have hb := B.bytes
  have hr := B.returns
  have hts := atoms_spec (ws := (ws_ yX2_sums cX2_sums 3 (some .int))) B.pre
  have hts : ∀ w ∈ lw_all, w.before _ s = true := fun w h => hts w (List.mem_cons_of_mem _ h)
  have hown : s.vm.findClass RX2 = some m.cls := findClass_of_methodNamed B.named
  have hlocks := B.notSynchronized
  subst hsz
  have hD := hD0.self (sz := s.heap.size)
  generalize hAe : va_A [xo h0 1 fs, xi E 0 qc 2160 ac, xi E 0 qf 189 af, xi E 0 qu 180 au] s.heap.size = A at hD ⊢
  have hA : ∀ q : Nat, s.heap.size ≤ q → A q := fun q h => by rw [← hAe]; exact Or.inr h
  have hS : va_S A s.heap s.heap [] := va_S.rf
  have hP : va_P D vwCl [xo h0 1 fs, xi E 0 qc 2160 ac, xi E 0 qf 189 af, xi E 0 qu 180 au] s.heap := hP
  have hD : va_D A [xo h0 1 fs, xi E 0 qc 2160 ac, xi E 0 qf 189 af, xi E 0 qu 180 au] := hD
  have hl := lv_entry ([.ref h0]) (n := 3) (Nat.le_of_ble_eq_true rfl)
  rw [lg_entry_eq]
  generalize (lg_sl ([.ref h0]) ++ List.replicate (3 - (lg_sl ([.ref h0])).length) Slot.unset).toArray = ls at hl ⊢
  have hl : lv_has ls 3 [(0, .ref h0)] := hl
  have hcc : ∀ x g v, x < n → g < 12 → v < 9 → ac ((x * 12 + g) * 9 + v) = nI (C x g v) := fun x g v h1 h2 h3 => by rw [hC _ (by omega), fl_at h2 h3]
  have hcb : ∀ x g v, x < n → g < 12 → v < 9 → C x g v < 2147483648 := fun x g v h1 h2 h3 => by have := hSm x g v h1 h2 h3; omega
  have hfb : ∀ x z, x < n → z < 9 → fwN (cheap C) x z + cheap C x z < 2147483648 := fun x z h1 h2 => by have := fwN_sm hSm h1 h2; have := cheap_sm hSm h1 h2; omega
  refine lv_iconst (v := nI 0) hx hb dX2_sums_0 (by decide) ?_
  refine lv_istore_n (lv' := [(1, .int (nI 0)), (0, .ref h0)]) hx hb dX2_sums_1 rfl hl (by decide) rfl (fun ls hl => ?_)
  have lp1 : ∀ (lc1 : Nat) (v : Nat) (b1 : Nat → Int32), 9 - v < lc1 → (v ≤ 9) → (∀ z, z < v → b1 (9 * n + z) = nI 0) → ∀ (Hl1 : Heap) (locsl1 : List Loc) (ls : Array Slot), va_P D vwCl [xo h0 1 fs, xi E 0 qc 2160 ac, xi E 0 qf 189 b1, xi E 0 qu 180 au] Hl1 → va_D A [xo h0 1 fs, xi E 0 qc 2160 ac, xi E 0 qf 189 b1, xi E 0 qu 180 au] → va_S A s.heap Hl1 locsl1 → lv_has ls 3 [(0, .ref h0), (1, .int (nI v))] → W p l e (headSpec (ws_ yX2_sums cX2_sums 3 (some .int)) (rmD 3 0 0)).room s m ([.ref h0] : List Value).toArray below meth c Hl1 locsl1 0 0 (MQ below (va_Qi (fun r (u : (Nat → Int32) × (Nat → Int32)) => r = nI (mnP 100000000 al (bk (cheap C) n n) 9) ∧ (∀ x z, x ≤ n → z < 9 → u.1 (9 * x + z) = nI (bk (cheap C) n (n - x) z)) ∧ (∀ x z, x < n → z < 9 → u.2 (9 * x + z) = nI (fwN (cheap C) x z + cheap C x z))) (fun (u : (Nat → Int32) × (Nat → Int32)) t8 => xR D E A ((fun u => [xo h0 1 fs, xi E 0 qc 2160 ac, xi E 0 qf 189 u.1, xi E 0 qu 180 u.2]) u) t8) A) ([.ref h0] : List Value).toArray s 0 0 A) (F0 m 2 ls []) := by
    intro lc1
    induction lc1 with
    | zero => intro v b1 hm; exact absurd hm (Nat.not_lt_zero _)
    | succ lc1 ih1 =>
      intro v b1 hm1 hv hb1 Hl1 locsl1 ls hP hD hS hl
      refine lv_iload_n hx hb dX2_sums_2 rfl (lv_at hl 1 rfl) ?_
      refine lv_bipush (v := nI 9) hx hb dX2_sums_3 (by decide) ?_
      refine xi_icmp_ge (tgt := 29) hx hb (by omega) (by omega) dX2_sums_5 (by decide) (fun c_5 => ?_) (fun c_5 => ?_)
      · refine lv_aload_n hx hb dX2_sums_29 rfl (lv_at hl 0 rfl) ?_
        refine va_get (D := D) (ci := 1) (v := .int (nI n)) (C := RX2) (T := TX2) (N := 31) hx hb hts in_X2 hown hK hP 0 rfl rfl 6 (by decide) (hts _ q939) (fun _ h9 => h9) h6 dX2_sums_30 ?_
        refine lv_iconst (v := nI 1) hx hb dX2_sums_33 (by decide) ?_
        refine lv_isub hx hb dX2_sums_34 ?_
        refine xv_i (y := dn n) (dn_sub n) ?_
        refine lv_istore_n (lv' := [(1, .int (dn n)), (0, .ref h0)]) hx hb dX2_sums_35 rfl hl (by decide) rfl (fun ls hl => ?_)
        have lp2 : ∀ (lc2 : Nat) (j : Nat) (b2 : Nat → Int32), j < lc2 → (j ≤ n) → (∀ x z, j ≤ x → x ≤ n → z < 9 → b2 (9 * x + z) = nI (bk (cheap C) n (n - x) z)) → ∀ (Hl2 : Heap) (locsl2 : List Loc) (ls : Array Slot), va_P D vwCl [xo h0 1 fs, xi E 0 qc 2160 ac, xi E 0 qf 189 b2, xi E 0 qu 180 au] Hl2 → va_D A [xo h0 1 fs, xi E 0 qc 2160 ac, xi E 0 qf 189 b2, xi E 0 qu 180 au] → va_S A s.heap Hl2 locsl2 → lv_has ls 3 [(0, .ref h0), (1, .int (dn j))] → W p l e (headSpec (ws_ yX2_sums cX2_sums 3 (some .int)) (rmD 3 0 0)).room s m ([.ref h0] : List Value).toArray below meth c Hl2 locsl2 0 0 (MQ below (va_Qi (fun r (u : (Nat → Int32) × (Nat → Int32)) => r = nI (mnP 100000000 al (bk (cheap C) n n) 9) ∧ (∀ x z, x ≤ n → z < 9 → u.1 (9 * x + z) = nI (bk (cheap C) n (n - x) z)) ∧ (∀ x z, x < n → z < 9 → u.2 (9 * x + z) = nI (fwN (cheap C) x z + cheap C x z))) (fun (u : (Nat → Int32) × (Nat → Int32)) t8 => xR D E A ((fun u => [xo h0 1 fs, xi E 0 qc 2160 ac, xi E 0 qf 189 u.1, xi E 0 qu 180 u.2]) u) t8) A) ([.ref h0] : List Value).toArray s 0 0 A) (F0 m 36 ls []) := by
          intro lc2
          induction lc2 with
          | zero => intro j b2 hm; exact absurd hm (Nat.not_lt_zero _)
          | succ lc2 ih2 =>
            intro j b2 hm2 hj hb2 Hl2 locsl2 ls hP hD hS hl
            refine lv_iload_n hx hb dX2_sums_36 rfl (lv_at hl 1 rfl) ?_
            refine lv_if_lt (tgt := 92) hx hb dX2_sums_37 (by decide) (fun c_37 => ?_) (fun c_37 => ?_)
            · have hj0 : j = 0 := (dn_lt (by omega)).mp c_37
              subst hj0
              refine lv_iconst (v := nI 0) hx hb dX2_sums_92 (by decide) ?_
              refine lv_istore_n (lv' := [(1, .int (nI 0)), (0, .ref h0)]) hx hb dX2_sums_93 rfl hl (by decide) rfl (fun ls hl => ?_)
              have lp3 : ∀ (lc3 : Nat) (x : Nat) (c1 : Nat → Int32), n - x < lc3 → (x ≤ n) → (∀ y z, y < x → z < 9 → c1 (9 * y + z) = nI (fwN (cheap C) y z + cheap C y z)) → ∀ (Hl3 : Heap) (locsl3 : List Loc) (ls : Array Slot), va_P D vwCl [xo h0 1 fs, xi E 0 qc 2160 ac, xi E 0 qf 189 b2, xi E 0 qu 180 c1] Hl3 → va_D A [xo h0 1 fs, xi E 0 qc 2160 ac, xi E 0 qf 189 b2, xi E 0 qu 180 c1] → va_S A s.heap Hl3 locsl3 → lv_has ls 3 [(0, .ref h0), (1, .int (nI x))] → W p l e (headSpec (ws_ yX2_sums cX2_sums 3 (some .int)) (rmD 3 0 0)).room s m ([.ref h0] : List Value).toArray below meth c Hl3 locsl3 0 0 (MQ below (va_Qi (fun r (u : (Nat → Int32) × (Nat → Int32)) => r = nI (mnP 100000000 al (bk (cheap C) n n) 9) ∧ (∀ x z, x ≤ n → z < 9 → u.1 (9 * x + z) = nI (bk (cheap C) n (n - x) z)) ∧ (∀ x z, x < n → z < 9 → u.2 (9 * x + z) = nI (fwN (cheap C) x z + cheap C x z))) (fun (u : (Nat → Int32) × (Nat → Int32)) t8 => xR D E A ((fun u => [xo h0 1 fs, xi E 0 qc 2160 ac, xi E 0 qf 189 u.1, xi E 0 qu 180 u.2]) u) t8) A) ([.ref h0] : List Value).toArray s 0 0 A) (F0 m 94 ls []) := by
                intro lc3
                induction lc3 with
                | zero => intro x c1 hm; exact absurd hm (Nat.not_lt_zero _)
                | succ lc3 ih3 =>
                  intro x c1 hm3 hxn hc1 Hl3 locsl3 ls hP hD hS hl
                  refine lv_iload_n hx hb dX2_sums_94 rfl (lv_at hl 1 rfl) ?_
                  refine lv_aload_n hx hb dX2_sums_95 rfl (lv_at hl 0 rfl) ?_
                  refine va_get (D := D) (ci := 1) (v := .int (nI n)) (C := RX2) (T := TX2) (N := 31) hx hb hts in_X2 hown hK hP 0 rfl rfl 6 (by decide) (hts _ q939) (fun _ h9 => h9) h6 dX2_sums_96 ?_
                  refine xi_icmp_ge (tgt := 162) hx hb (by omega) (by omega) dX2_sums_99 (by decide) (fun c_99 => ?_) (fun c_99 => ?_)
                  · refine lv_ldc hx hb hown (hts _ q1068) dX2_sums_162 ?_
                    refine xv_i (y := nI 100000000) rfl ?_
                    refine lv_istore_n (lv' := [(1, .int (nI 100000000)), (0, .ref h0)]) hx hb dX2_sums_164 rfl hl (by decide) rfl (fun ls hl => ?_)
                    refine lv_iconst (v := nI 0) hx hb dX2_sums_165 (by decide) ?_
                    refine lv_istore_n (lv' := [(2, .int (nI 0)), (1, .int (nI 100000000)), (0, .ref h0)]) hx hb dX2_sums_166 rfl hl (by decide) rfl (fun ls hl => ?_)
                    have lp4 : ∀ (lc4 : Nat) (v : Nat), 9 - v < lc4 → (v ≤ 9) → ∀ (ls : Array Slot), lv_has ls 3 [(0, .ref h0), (1, .int (nI (mnP 100000000 al (bk (cheap C) n n) v))), (2, .int (nI v))] → W p l e (headSpec (ws_ yX2_sums cX2_sums 3 (some .int)) (rmD 3 0 0)).room s m ([.ref h0] : List Value).toArray below meth c Hl3 locsl3 0 0 (MQ below (va_Qi (fun r (u : (Nat → Int32) × (Nat → Int32)) => r = nI (mnP 100000000 al (bk (cheap C) n n) 9) ∧ (∀ x z, x ≤ n → z < 9 → u.1 (9 * x + z) = nI (bk (cheap C) n (n - x) z)) ∧ (∀ x z, x < n → z < 9 → u.2 (9 * x + z) = nI (fwN (cheap C) x z + cheap C x z))) (fun (u : (Nat → Int32) × (Nat → Int32)) t8 => xR D E A ((fun u => [xo h0 1 fs, xi E 0 qc 2160 ac, xi E 0 qf 189 u.1, xi E 0 qu 180 u.2]) u) t8) A) ([.ref h0] : List Value).toArray s 0 0 A) (F0 m 167 ls []) := by
                      intro lc4
                      induction lc4 with
                      | zero => intro v hm; exact absurd hm (Nat.not_lt_zero _)
                      | succ lc4 ih4 =>
                        intro v hm4 hv5 ls hl
                        have hle : mnP 100000000 al (bk (cheap C) n n) v ≤ 100000000 := mnP_leF
                        refine lv_iload_n hx hb dX2_sums_167 rfl (lv_at hl 2 rfl) ?_
                        refine lv_bipush (v := nI 9) hx hb dX2_sums_168 (by decide) ?_
                        refine xi_icmp_ge (tgt := 200) hx hb (by omega) (by omega) dX2_sums_170 (by decide) (fun c_170 => ?_) (fun c_170 => ?_)
                        · refine lv_iload_n hx hb dX2_sums_200 rfl (lv_at hl 1 rfl) ?_
                          refine W.widen (k := 0) (n := 0) (Nat.le_of_ble_eq_true rfl) (Nat.le_of_ble_eq_true rfl) ?_
                          exact W.iret (v := nI (mnP 100000000 al (bk (cheap C) n n) v)) hx hb hr (fun t9 ht9 hW9 => ⟨⟨_, (b2, c1), rfl, ⟨by rw [show v = 9 by omega], fun x z h1 h2 => hb2 x z (by omega) h1 h2, fun y z h1 h2 => hc1 y z (by omega) h2⟩, by rw [ht9]; exact hP, hD⟩, hS.F ht9⟩) hS.2.2 dX2_sums_201
                        · have hbv := bk_sm hSm (Nat.le_refl n) (v := v) (by omega)
                          have jp5 : ∀ (ls : Array Slot), lv_has ls 3 [(0, .ref h0), (2, .int (nI v))] → W p l e (headSpec (ws_ yX2_sums cX2_sums 3 (some .int)) (rmD 3 0 0)).room s m ([.ref h0] : List Value).toArray below meth c Hl3 locsl3 0 0 (MQ below (va_Qi (fun r (u : (Nat → Int32) × (Nat → Int32)) => r = nI (mnP 100000000 al (bk (cheap C) n n) 9) ∧ (∀ x z, x ≤ n → z < 9 → u.1 (9 * x + z) = nI (bk (cheap C) n (n - x) z)) ∧ (∀ x z, x < n → z < 9 → u.2 (9 * x + z) = nI (fwN (cheap C) x z + cheap C x z))) (fun (u : (Nat → Int32) × (Nat → Int32)) t8 => xR D E A ((fun u => [xo h0 1 fs, xi E 0 qc 2160 ac, xi E 0 qf 189 u.1, xi E 0 qu 180 u.2]) u) t8) A) ([.ref h0] : List Value).toArray s 0 0 A) (F0 m 193 ls [.int (nI (mnP 100000000 al (bk (cheap C) n n) (v + 1)))]) := by
                            intro   ls hl
                            refine lv_istore_n (lv' := [(1, .int (nI (mnP 100000000 al (bk (cheap C) n n) (v + 1)))), (0, .ref h0), (2, .int (nI v))]) hx hb dX2_sums_193 rfl hl (by decide) rfl (fun ls hl => ?_)
                            refine lv_iinc (v := nI (v + 1)) (lv' := [(2, .int (nI (v + 1))), (1, .int (nI (mnP 100000000 al (bk (cheap C) n n) (v + 1)))), (0, .ref h0)]) hx hb dX2_sums_194 hl (k := 2) rfl (nI_1 _) (by decide) rfl (fun ls hl => ?_)
                            refine lv_goto (tgt := 167) hx hb dX2_sums_197 (by decide) ?_
                            exact ih4 (v + 1) (by omega) (by omega) _ (lv_sub hl [2, 1, 0] rfl)
                          refine lv_aload_n hx hb dX2_sums_173 rfl (lv_at hl 0 rfl) ?_
                          refine va_get (D := D) (ci := 1) (v := .ref qf) (C := RX2) (T := TX2) (N := 31) hx hb hts in_X2 hown hK hP 0 rfl rfl 8 (by decide) (hts _ q941) (fun _ h9 => h9) h8 dX2_sums_174 ?_
                          refine lv_iload_n hx hb dX2_sums_177 rfl (lv_at hl 2 rfl) ?_
                          refine xa_iald hx hb hK hP 2 rfl (by omega) (by omega) dX2_sums_178 ?_
                          refine xv_i (y := nI (bk (cheap C) n n v)) (by have := hb2 0 v (by omega) (by omega) (by omega); rw [Nat.mul_zero, Nat.zero_add, Nat.sub_zero] at this; exact this) ?_
                          refine lv_iload_n hx hb dX2_sums_179 rfl (lv_at hl 1 rfl) ?_
                          refine xi_icmp_ge (tgt := 192) hx hb (by omega) (by omega) dX2_sums_180 (by decide) (fun c_180 => ?_) (fun c_180 => ?_)
                          · refine lv_iload_n hx hb dX2_sums_192 rfl (lv_at hl 1 rfl) ?_
                            refine xv_i (y := nI (mnP 100000000 al (bk (cheap C) n n) (v + 1))) (by rw [show mnP 100000000 al (bk (cheap C) n n) (v + 1) = mnP 100000000 al (bk (cheap C) n n) v from if_neg (by omega)]) ?_
                            exact jp5   _ (lv_sub hl [0, 2] rfl)
                          · refine lv_aload_n hx hb dX2_sums_183 rfl (lv_at hl 0 rfl) ?_
                            refine va_get (D := D) (ci := 1) (v := .ref qf) (C := RX2) (T := TX2) (N := 31) hx hb hts in_X2 hown hK hP 0 rfl rfl 8 (by decide) (hts _ q941) (fun _ h9 => h9) h8 dX2_sums_184 ?_
                            refine lv_iload_n hx hb dX2_sums_187 rfl (lv_at hl 2 rfl) ?_
                            refine xa_iald hx hb hK hP 2 rfl (by omega) (by omega) dX2_sums_188 ?_
                            refine xv_i (y := nI (bk (cheap C) n n v)) (by have := hb2 0 v (by omega) (by omega) (by omega); rw [Nat.mul_zero, Nat.zero_add, Nat.sub_zero] at this; exact this) ?_
                            refine lv_goto (tgt := 193) hx hb dX2_sums_189 (by decide) ?_
                            refine xv_i (y := nI (mnP 100000000 al (bk (cheap C) n n) (v + 1))) (by show nI (bk (cheap C) n n v) = _; rw [show mnP 100000000 al (bk (cheap C) n n) (v + 1) = bk (cheap C) n n v from if_pos ⟨rfl, by omega⟩]) ?_
                            exact jp5   _ (lv_sub hl [0, 2] rfl)
                    exact lp4 _ 0 (Nat.lt_succ_self _) (by omega) _ (lv_sub hl [2, 1, 0] rfl)
                  · refine lv_iconst (v := nI 0) hx hb dX2_sums_102 (by decide) ?_
                    refine lv_istore_n (lv' := [(2, .int (nI 0)), (0, .ref h0), (1, .int (nI x))]) hx hb dX2_sums_103 rfl hl (by decide) rfl (fun ls hl => ?_)
                    have lp6 : ∀ (lc6 : Nat) (v : Nat) (c2 : Nat → Int32), 9 - v < lc6 → (v ≤ 9) → (∀ y z, y < x → z < 9 → c2 (9 * y + z) = nI (fwN (cheap C) y z + cheap C y z)) → (∀ z, z < v → c2 (9 * x + z) = nI (fwN (cheap C) x z + cheap C x z)) → ∀ (Hl6 : Heap) (locsl6 : List Loc) (ls : Array Slot), va_P D vwCl [xo h0 1 fs, xi E 0 qc 2160 ac, xi E 0 qf 189 b2, xi E 0 qu 180 c2] Hl6 → va_D A [xo h0 1 fs, xi E 0 qc 2160 ac, xi E 0 qf 189 b2, xi E 0 qu 180 c2] → va_S A s.heap Hl6 locsl6 → lv_has ls 3 [(0, .ref h0), (1, .int (nI x)), (2, .int (nI v))] → W p l e (headSpec (ws_ yX2_sums cX2_sums 3 (some .int)) (rmD 3 0 0)).room s m ([.ref h0] : List Value).toArray below meth c Hl6 locsl6 0 0 (MQ below (va_Qi (fun r (u : (Nat → Int32) × (Nat → Int32)) => r = nI (mnP 100000000 al (bk (cheap C) n n) 9) ∧ (∀ x z, x ≤ n → z < 9 → u.1 (9 * x + z) = nI (bk (cheap C) n (n - x) z)) ∧ (∀ x z, x < n → z < 9 → u.2 (9 * x + z) = nI (fwN (cheap C) x z + cheap C x z))) (fun (u : (Nat → Int32) × (Nat → Int32)) t8 => xR D E A ((fun u => [xo h0 1 fs, xi E 0 qc 2160 ac, xi E 0 qf 189 u.1, xi E 0 qu 180 u.2]) u) t8) A) ([.ref h0] : List Value).toArray s 0 0 A) (F0 m 104 ls []) := by
                      intro lc6
                      induction lc6 with
                      | zero => intro v c2 hm; exact absurd hm (Nat.not_lt_zero _)
                      | succ lc6 ih6 =>
                        intro v c2 hm6 hv4 hc2 hc2' Hl6 locsl6 ls hP hD hS hl
                        refine lv_iload_n hx hb dX2_sums_104 rfl (lv_at hl 2 rfl) ?_
                        refine lv_bipush (v := nI 9) hx hb dX2_sums_105 (by decide) ?_
                        refine xi_icmp_ge (tgt := 156) hx hb (by omega) (by omega) dX2_sums_107 (by decide) (fun c_107 => ?_) (fun c_107 => ?_)
                        · refine lv_iinc (v := nI (x + 1)) (lv' := [(1, .int (nI (x + 1))), (0, .ref h0), (2, .int (nI v))]) hx hb dX2_sums_156 hl (k := 1) rfl (nI_1 _) (by decide) rfl (fun ls hl => ?_)
                          refine lv_goto (tgt := 94) hx hb dX2_sums_159 (by decide) ?_
                          exact ih3 (x + 1) c2 (by omega) (by omega) (fun y z h1 h2 => (Nat.lt_succ_iff_lt_or_eq.mp h1).elim (fun e => hc2 y z e h2) (fun e => e ▸ hc2' z (by omega))) _ _ _ hP hD hS (lv_sub hl [1, 0] rfl)
                        · refine lv_aload_n hx hb dX2_sums_110 rfl (lv_at hl 0 rfl) ?_
                          refine va_get (D := D) (ci := 1) (v := .ref qu) (C := RX2) (T := TX2) (N := 31) hx hb hts in_X2 hown hK hP 0 rfl rfl 9 (by decide) (hts _ q942) (fun _ h9 => h9) h9 dX2_sums_111 ?_
                          refine lv_bipush (v := nI 9) hx hb dX2_sums_114 (by decide) ?_
                          refine lv_iload_n hx hb dX2_sums_116 rfl (lv_at hl 1 rfl) ?_
                          refine xi_imul hx hb dX2_sums_117 ?_
                          refine lv_iload_n hx hb dX2_sums_118 rfl (lv_at hl 2 rfl) ?_
                          refine xi_iadd hx hb dX2_sums_119 ?_
                          refine lv_aload_n hx hb dX2_sums_120 rfl (lv_at hl 0 rfl) ?_
                          refine lv_iload_n hx hb dX2_sums_121 rfl (lv_at hl 1 rfl) ?_
                          refine lv_iload_n hx hb dX2_sums_122 rfl (lv_at hl 2 rfl) ?_
                          refine xs_Vi (n := 2) (As := [.int (nI x), .int (nI v)]) (rest := [.int (nI ((9 * x) + v)), .ref qu]) (ws := [xo h0 1 fs, xi E 0 qc 2160 ac, xi E 0 qf 189 b2, xi E 0 qu 180 c2]) (tl := []) (wc := [xo h0 1 fs, xi E 0 qc 2160 ac]) ⟨hx, hb, hml, hown, hts⟩ (met_cheapest l D E h0 qc fs h4 ac x v (fun g => C x g v) (by omega) (by omega) (fun g hg => hcc x g v (by omega) hg (by omega)) (fun g hg => hcb x g v (by omega) hg (by omega))) (lw_V q1064 q1066 qs16 q50 q1067) (by decide +kernel) ⟨(Nat.le_of_ble_eq_true rfl), (Nat.le_of_ble_eq_true rfl)⟩ rfl rfl hK hN hP [0, 1] rfl (q0 := 0) rfl rfl rfl rfl hl.1 rfl (Nat.le_of_ble_eq_true rfl) dX2_sums_123 ⟨(Nat.le_of_ble_eq_true rfl), (Nat.le_of_ble_eq_true rfl)⟩ (fun r_1 h_1 => ?_)
                          subst h_1
                          refine xv_i (y := nI (cheap C x v)) (by rw [cheap_far hSm (by omega) (by omega)]) ?_
                          have jp7 : ∀ (ls : Array Slot), lv_has ls 3 [(0, .ref h0), (1, .int (nI x)), (2, .int (nI v))] → W p l e (headSpec (ws_ yX2_sums cX2_sums 3 (some .int)) (rmD 3 0 0)).room s m ([.ref h0] : List Value).toArray below meth c Hl6 locsl6 0 0 (MQ below (va_Qi (fun r (u : (Nat → Int32) × (Nat → Int32)) => r = nI (mnP 100000000 al (bk (cheap C) n n) 9) ∧ (∀ x z, x ≤ n → z < 9 → u.1 (9 * x + z) = nI (bk (cheap C) n (n - x) z)) ∧ (∀ x z, x < n → z < 9 → u.2 (9 * x + z) = nI (fwN (cheap C) x z + cheap C x z))) (fun (u : (Nat → Int32) × (Nat → Int32)) t8 => xR D E A ((fun u => [xo h0 1 fs, xi E 0 qc 2160 ac, xi E 0 qf 189 u.1, xi E 0 qu 180 u.2]) u) t8) A) ([.ref h0] : List Value).toArray s 0 0 A) (F0 m 148 ls [.int (nI (fwN (cheap C) x v)), .int (nI (cheap C x v)), .int (nI (9 * x + v)), .ref qu]) := by
                            intro   ls hl
                            refine xi_iadd hx hb dX2_sums_148 ?_
                            refine xa_iast hx hb hK hP hD hS 3 rfl (by omega) (by omega) dX2_sums_149 (fun H_2 locs_2 hP hD hS => ?_)
                            have hP : va_P D vwCl [xo h0 1 fs, xi E 0 qc 2160 ac, xi E 0 qf 189 b2, xi E 0 qu 180 (upd c2 (9 * x + v) (nI ((cheap C x v) + (fwN (cheap C) x v))))] H_2 := hP
                            have hD : va_D A [xo h0 1 fs, xi E 0 qc 2160 ac, xi E 0 qf 189 b2, xi E 0 qu 180 (upd c2 (9 * x + v) (nI ((cheap C x v) + (fwN (cheap C) x v))))] := hD
                            refine lv_iinc (v := nI (v + 1)) (lv' := [(2, .int (nI (v + 1))), (0, .ref h0), (1, .int (nI x))]) hx hb dX2_sums_150 hl (k := 2) rfl (nI_1 _) (by decide) rfl (fun ls hl => ?_)
                            refine lv_goto (tgt := 104) hx hb dX2_sums_153 (by decide) ?_
                            exact ih6 (v + 1) (upd c2 (9 * x + v) (nI ((cheap C x v) + (fwN (cheap C) x v)))) (by omega) (by omega) (fun y z h1 h2 => by rw [pk_un (by omega)]; exact hc2 y z h1 h2) (row_step (F := fun z => nI (fwN (cheap C) x z + cheap C x z)) hc2' (by show _ = nI _; rw [Nat.add_comm])) _ _ _ hP hD hS (lv_sub hl [1, 2, 0] rfl)
                          refine lv_iload_n hx hb dX2_sums_126 rfl (lv_at hl 1 rfl) ?_
                          refine xi_if_ne (tgt := 134) hx hb (by omega) dX2_sums_127 (by decide) (fun c_127 => ?_) (fun c_127 => ?_)
                          · refine lv_aload_n hx hb dX2_sums_134 rfl (lv_at hl 0 rfl) ?_
                            refine va_get (D := D) (ci := 1) (v := .ref qu) (C := RX2) (T := TX2) (N := 31) hx hb hts in_X2 hown hK hP 0 rfl rfl 9 (by decide) (hts _ q942) (fun _ h9 => h9) h9 dX2_sums_135 ?_
                            refine lv_bipush (v := nI 9) hx hb dX2_sums_138 (by decide) ?_
                            refine lv_iload_n hx hb dX2_sums_140 rfl (lv_at hl 1 rfl) ?_
                            refine lv_iconst (v := nI 1) hx hb dX2_sums_141 (by decide) ?_
                            refine xi_isub hx hb (by omega) dX2_sums_142 ?_
                            refine xi_imul hx hb dX2_sums_143 ?_
                            refine lv_iload_n hx hb dX2_sums_144 rfl (lv_at hl 2 rfl) ?_
                            refine xs_Si (n := 3) (As := [.ref qu, .int (nI (9 * (x - 1))), .int (nI v)]) (rest := [.int (nI (cheap C x v)), .int (nI ((9 * x) + v)), .ref qu]) (ws := [xo h0 1 fs, xi E 0 qc 2160 ac, xi E 0 qf 189 b2, xi E 0 qu 180 c2]) (tl := []) (wc := [xi E 0 qu 180 c2]) ⟨hx, hb, hml, hown, hts⟩ (met_near l D E qu 180 c2 (9 * (x - 1)) v (fun w => fwN (cheap C) (x - 1) w + cheap C (x - 1) w) (by omega) (by omega) (by omega) (fun z hz => hc2 (x - 1) z (by omega) hz) (fun z hz => hfb (x - 1) z (by omega) hz)) (lw_S q1069 q1070 q50 q1071) (by decide +kernel) ⟨(Nat.le_of_ble_eq_true rfl), (Nat.le_of_ble_eq_true rfl)⟩ rfl rfl hK hN hP [3] rfl rfl hl.1 rfl (Nat.le_of_ble_eq_true rfl) dX2_sums_145 ⟨(Nat.le_of_ble_eq_true rfl), (Nat.le_of_ble_eq_true rfl)⟩ (fun r_3 h_3 => ?_)
                            subst h_3
                            refine xv_i (y := nI (fwN (cheap C) x v)) (by rw [show x = (x - 1) + 1 by omega]; rfl) ?_
                            exact jp7   _ (lv_sub hl [0, 1, 2] rfl)
                          · refine lv_iconst (v := nI 0) hx hb dX2_sums_130 (by decide) ?_
                            refine lv_goto (tgt := 148) hx hb dX2_sums_131 (by decide) ?_
                            refine xv_i (y := nI (fwN (cheap C) x v)) (by rw [c_127]; rfl) ?_
                            exact jp7   _ (lv_sub hl [0, 1, 2] rfl)
                    exact lp6 _ 0 c1 (Nat.lt_succ_self _) (by omega) hc1 (fun z hz => absurd hz (Nat.not_lt_zero _)) _ _ _ hP hD hS (lv_sub hl [1, 2, 0] rfl)
              exact lp3 _ 0 au (Nat.lt_succ_self _) (by omega) (fun y z h1 => absurd h1 (Nat.not_lt_zero _)) _ _ _ hP hD hS (lv_sub hl [1, 0] rfl)
            · obtain ⟨x, rfl⟩ : ∃ x, j = x + 1 := ⟨j - 1, by have : ¬ j = 0 := fun q => c_37 ((dn_lt (by omega)).mpr q); omega⟩
              rw [dn_succ] at hl
              refine lv_iconst (v := nI 0) hx hb dX2_sums_40 (by decide) ?_
              refine lv_istore_n (lv' := [(2, .int (nI 0)), (0, .ref h0), (1, .int (nI x))]) hx hb dX2_sums_41 rfl hl (by decide) rfl (fun ls hl => ?_)
              have lp8 : ∀ (lc8 : Nat) (v : Nat) (b3 : Nat → Int32), 9 - v < lc8 → (v ≤ 9) → (∀ y z, x < y → y ≤ n → z < 9 → b3 (9 * y + z) = nI (bk (cheap C) n (n - y) z)) → (∀ z, z < v → b3 (9 * x + z) = nI (bk (cheap C) n (n - x) z)) → ∀ (Hl8 : Heap) (locsl8 : List Loc) (ls : Array Slot), va_P D vwCl [xo h0 1 fs, xi E 0 qc 2160 ac, xi E 0 qf 189 b3, xi E 0 qu 180 au] Hl8 → va_D A [xo h0 1 fs, xi E 0 qc 2160 ac, xi E 0 qf 189 b3, xi E 0 qu 180 au] → va_S A s.heap Hl8 locsl8 → lv_has ls 3 [(0, .ref h0), (1, .int (nI x)), (2, .int (nI v))] → W p l e (headSpec (ws_ yX2_sums cX2_sums 3 (some .int)) (rmD 3 0 0)).room s m ([.ref h0] : List Value).toArray below meth c Hl8 locsl8 0 0 (MQ below (va_Qi (fun r (u : (Nat → Int32) × (Nat → Int32)) => r = nI (mnP 100000000 al (bk (cheap C) n n) 9) ∧ (∀ x z, x ≤ n → z < 9 → u.1 (9 * x + z) = nI (bk (cheap C) n (n - x) z)) ∧ (∀ x z, x < n → z < 9 → u.2 (9 * x + z) = nI (fwN (cheap C) x z + cheap C x z))) (fun (u : (Nat → Int32) × (Nat → Int32)) t8 => xR D E A ((fun u => [xo h0 1 fs, xi E 0 qc 2160 ac, xi E 0 qf 189 u.1, xi E 0 qu 180 u.2]) u) t8) A) ([.ref h0] : List Value).toArray s 0 0 A) (F0 m 42 ls []) := by
                intro lc8
                induction lc8 with
                | zero => intro v b3 hm; exact absurd hm (Nat.not_lt_zero _)
                | succ lc8 ih8 =>
                  intro v b3 hm8 hv3 hb3 hb3' Hl8 locsl8 ls hP hD hS hl
                  refine lv_iload_n hx hb dX2_sums_42 rfl (lv_at hl 2 rfl) ?_
                  refine lv_bipush (v := nI 9) hx hb dX2_sums_43 (by decide) ?_
                  refine xi_icmp_ge (tgt := 86) hx hb (by omega) (by omega) dX2_sums_45 (by decide) (fun c_45 => ?_) (fun c_45 => ?_)
                  · refine lv_iinc (v := nI x + (-1)) (lv' := [(1, .int (nI x + (-1))), (0, .ref h0), (2, .int (nI v))]) hx hb dX2_sums_86 hl (k := 1) rfl rfl (by decide) rfl (fun ls hl => ?_)
                    refine lv_goto (tgt := 36) hx hb dX2_sums_89 (by decide) ?_
                    exact ih2 x b3 (by omega) (by omega) (fun y z h1 h2 h3 => (Nat.eq_or_lt_of_le h1).elim (fun e => e ▸ hb3' z (by omega)) (fun e => hb3 y z e h2 h3)) _ _ _ hP hD hS (lv_sub hl [1, 0] rfl)
                  · refine lv_aload_n hx hb dX2_sums_48 rfl (lv_at hl 0 rfl) ?_
                    refine va_get (D := D) (ci := 1) (v := .ref qf) (C := RX2) (T := TX2) (N := 31) hx hb hts in_X2 hown hK hP 0 rfl rfl 8 (by decide) (hts _ q941) (fun _ h9 => h9) h8 dX2_sums_49 ?_
                    refine lv_bipush (v := nI 9) hx hb dX2_sums_52 (by decide) ?_
                    refine lv_iload_n hx hb dX2_sums_54 rfl (lv_at hl 1 rfl) ?_
                    refine xi_imul hx hb dX2_sums_55 ?_
                    refine lv_iload_n hx hb dX2_sums_56 rfl (lv_at hl 2 rfl) ?_
                    refine xi_iadd hx hb dX2_sums_57 ?_
                    refine lv_aload_n hx hb dX2_sums_58 rfl (lv_at hl 0 rfl) ?_
                    refine lv_iload_n hx hb dX2_sums_59 rfl (lv_at hl 1 rfl) ?_
                    refine lv_iload_n hx hb dX2_sums_60 rfl (lv_at hl 2 rfl) ?_
                    refine xs_Vi (n := 2) (As := [.int (nI x), .int (nI v)]) (rest := [.int (nI ((9 * x) + v)), .ref qf]) (ws := [xo h0 1 fs, xi E 0 qc 2160 ac, xi E 0 qf 189 b3, xi E 0 qu 180 au]) (tl := []) (wc := [xo h0 1 fs, xi E 0 qc 2160 ac]) ⟨hx, hb, hml, hown, hts⟩ (met_cheapest l D E h0 qc fs h4 ac x v (fun g => C x g v) (by omega) (by omega) (fun g hg => hcc x g v (by omega) hg (by omega)) (fun g hg => hcb x g v (by omega) hg (by omega))) (lw_V q1064 q1066 qs16 q50 q1067) (by decide +kernel) ⟨(Nat.le_of_ble_eq_true rfl), (Nat.le_of_ble_eq_true rfl)⟩ rfl rfl hK hN hP [0, 1] rfl (q0 := 0) rfl rfl rfl rfl hl.1 rfl (Nat.le_of_ble_eq_true rfl) dX2_sums_61 ⟨(Nat.le_of_ble_eq_true rfl), (Nat.le_of_ble_eq_true rfl)⟩ (fun r_4 h_4 => ?_)
                    subst h_4
                    refine xv_i (y := nI (cheap C x v)) (by rw [cheap_far hSm (by omega) (by omega)]) ?_
                    refine lv_aload_n hx hb dX2_sums_64 rfl (lv_at hl 0 rfl) ?_
                    refine va_get (D := D) (ci := 1) (v := .ref qf) (C := RX2) (T := TX2) (N := 31) hx hb hts in_X2 hown hK hP 0 rfl rfl 8 (by decide) (hts _ q941) (fun _ h9 => h9) h8 dX2_sums_65 ?_
                    refine lv_bipush (v := nI 9) hx hb dX2_sums_68 (by decide) ?_
                    refine lv_iload_n hx hb dX2_sums_70 rfl (lv_at hl 1 rfl) ?_
                    refine lv_iconst (v := nI 1) hx hb dX2_sums_71 (by decide) ?_
                    refine xi_iadd hx hb dX2_sums_72 ?_
                    refine xi_imul hx hb dX2_sums_73 ?_
                    refine lv_iload_n hx hb dX2_sums_74 rfl (lv_at hl 2 rfl) ?_
                    refine xs_Si (n := 3) (As := [.ref qf, .int (nI (9 * (x + 1))), .int (nI v)]) (rest := [.int (nI (cheap C x v)), .int (nI ((9 * x) + v)), .ref qf]) (ws := [xo h0 1 fs, xi E 0 qc 2160 ac, xi E 0 qf 189 b3, xi E 0 qu 180 au]) (tl := []) (wc := [xi E 0 qf 189 b3]) ⟨hx, hb, hml, hown, hts⟩ (met_near l D E qf 189 b3 (9 * (x + 1)) v (bk (cheap C) n (n - 1 - x)) (by omega) (by omega) (by omega) (fun z hz => by rw [hb3 (x + 1) z (by omega) (by omega) hz, show n - (x + 1) = n - 1 - x by omega]) (fun z hz => by have := bk_sm hSm (r := n - 1 - x) (by omega) hz; omega)) (lw_S q1069 q1070 q50 q1071) (by decide +kernel) ⟨(Nat.le_of_ble_eq_true rfl), (Nat.le_of_ble_eq_true rfl)⟩ rfl rfl hK hN hP [2] rfl rfl hl.1 rfl (Nat.le_of_ble_eq_true rfl) dX2_sums_75 ⟨(Nat.le_of_ble_eq_true rfl), (Nat.le_of_ble_eq_true rfl)⟩ (fun r_5 h_5 => ?_)
                    subst h_5
                    refine xi_iadd hx hb dX2_sums_78 ?_
                    refine xa_iast hx hb hK hP hD hS 2 rfl (by omega) (by omega) dX2_sums_79 (fun H_6 locs_6 hP hD hS => ?_)
                    have hP : va_P D vwCl [xo h0 1 fs, xi E 0 qc 2160 ac, xi E 0 qf 189 (upd b3 ((9 * x) + v) (nI ((cheap C x v) + (nr (bk (cheap C) n (n - 1 - x)) v)))), xi E 0 qu 180 au] H_6 := hP
                    have hD : va_D A [xo h0 1 fs, xi E 0 qc 2160 ac, xi E 0 qf 189 (upd b3 ((9 * x) + v) (nI ((cheap C x v) + (nr (bk (cheap C) n (n - 1 - x)) v)))), xi E 0 qu 180 au] := hD
                    refine lv_iinc (v := nI (v + 1)) (lv' := [(2, .int (nI (v + 1))), (0, .ref h0), (1, .int (nI x))]) hx hb dX2_sums_80 hl (k := 2) rfl (nI_1 _) (by decide) rfl (fun ls hl => ?_)
                    refine lv_goto (tgt := 42) hx hb dX2_sums_83 (by decide) ?_
                    exact ih8 (v + 1) (upd b3 ((9 * x) + v) (nI ((cheap C x v) + (nr (bk (cheap C) n (n - 1 - x)) v)))) (by omega) (by omega) (fun y z h1 h2 h3 => by rw [pk_un (by omega)]; exact hb3 y z h1 h2 h3) (row_step (F := fun z => nI (bk (cheap C) n (n - x) z)) hb3' (by show _ = nI _; rw [bk_at (by omega)])) _ _ _ hP hD hS (lv_sub hl [1, 2, 0] rfl)
              exact lp8 _ 0 b2 (Nat.lt_succ_self _) (by omega) (fun y z h1 h2 h3 => hb2 y z (by omega) h2 h3) (fun z hz => absurd hz (Nat.not_lt_zero _)) _ _ _ hP hD hS (lv_sub hl [1, 2, 0] rfl)
        exact lp2 _ n b1 (Nat.lt_succ_self _) (Nat.le_refl n) (fun x z h1 h2 h3 => by rw [show x = n by omega, Nat.sub_self]; exact hb1 z (by omega)) _ _ _ hP hD hS (lv_sub hl [1, 0] rfl)
      · refine lv_aload_n hx hb dX2_sums_8 rfl (lv_at hl 0 rfl) ?_
        refine va_get (D := D) (ci := 1) (v := .ref qf) (C := RX2) (T := TX2) (N := 31) hx hb hts in_X2 hown hK hP 0 rfl rfl 8 (by decide) (hts _ q941) (fun _ h9 => h9) h8 dX2_sums_9 ?_
        refine lv_bipush (v := nI 9) hx hb dX2_sums_12 (by decide) ?_
        refine lv_aload_n hx hb dX2_sums_14 rfl (lv_at hl 0 rfl) ?_
        refine va_get (D := D) (ci := 1) (v := .int (nI n)) (C := RX2) (T := TX2) (N := 31) hx hb hts in_X2 hown hK hP 0 rfl rfl 6 (by decide) (hts _ q939) (fun _ h9 => h9) h6 dX2_sums_15 ?_
        refine xi_imul hx hb dX2_sums_18 ?_
        refine lv_iload_n hx hb dX2_sums_19 rfl (lv_at hl 1 rfl) ?_
        refine xi_iadd hx hb dX2_sums_20 ?_
        refine lv_iconst (v := nI 0) hx hb dX2_sums_21 (by decide) ?_
        refine xa_iast hx hb hK hP hD hS 2 rfl (by omega) (by omega) dX2_sums_22 (fun H_7 locs_7 hP hD hS => ?_)
        have hP : va_P D vwCl [xo h0 1 fs, xi E 0 qc 2160 ac, xi E 0 qf 189 (upd b1 ((9 * n) + v) (nI 0)), xi E 0 qu 180 au] H_7 := hP
        have hD : va_D A [xo h0 1 fs, xi E 0 qc 2160 ac, xi E 0 qf 189 (upd b1 ((9 * n) + v) (nI 0)), xi E 0 qu 180 au] := hD
        refine lv_iinc (v := nI (v + 1)) (lv' := [(1, .int (nI (v + 1))), (0, .ref h0)]) hx hb dX2_sums_23 hl (k := 1) rfl (nI_1 _) (by decide) rfl (fun ls hl => ?_)
        refine lv_goto (tgt := 2) hx hb dX2_sums_26 (by decide) ?_
        exact ih1 (v + 1) (upd b1 ((9 * n) + v) (nI 0)) (by omega) (by omega) (row_step (F := fun _ => nI 0) hb1 rfl) _ _ _ hP hD hS (lv_sub hl [1, 0] rfl)
  exact lp1 _ 0 af (Nat.lt_succ_self _) (by omega) (fun z hz => absurd hz (Nat.not_lt_zero _)) _ _ _ hP hD hS (lv_sub hl [1, 0] rfl)
