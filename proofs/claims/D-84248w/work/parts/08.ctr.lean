set_option maxRecDepth 100000
/-- words of the tables that don't ride in lw_all, carried from start to start -/
def nwList : List Cond := [.fieldLinkNest "ChequeDesk" 90 "ChequeDesk$Reading" "places" "I" "ChequeDesk", .fieldLinkNest "ChequeDesk" 97 "ChequeDesk$Reading" "signs" "[B" "ChequeDesk", .fieldLinkNest "ChequeDesk" 104 "ChequeDesk$Reading" "speeds" "[B" "ChequeDesk", .fieldLinkNest "ChequeDesk" 85 "ChequeDesk$Reading" "cost" "I" "ChequeDesk", .fieldLinkNest "ChequeDesk" 120 "ChequeDesk$Reading" "gap" "I" "ChequeDesk", .fieldLinkNest "ChequeDesk" 112 "ChequeDesk$Reading" "isTurned" "Z" "ChequeDesk", .castable "java/lang/Integer" "java/lang/Object", .castable "ChequeDesk$Lacking" "ChequeDesk$Slip", .castable "ChequeDesk$Lacking" "java/lang/Object"]
def nwAll (U : State) : Prop := (∀ w ∈ nwList, va_Nw w U) ∧ va_AO "java/lang/Object" U
theorem nwAll.same {u U : State} (h : u.vm = U.vm) (hN : nwAll u) : nwAll U := by
  refine ⟨fun w hw => ?_, va_AO.moved (by rw [h]; exact Vm.Alike.refl _) hN.2⟩
  refine va_Nw.same ?_ h (hN.1 w hw)
  simp only [nwList, List.mem_cons, List.not_mem_nil, or_false] at hw
  rcases hw with e | e | e | e | e | e | e | e | e <;> rw [e] <;> rfl
theorem nwAll.warm {s U : State} (hW : s.WarmedH U.vm) (hN : nwAll s) : nwAll U := by
  refine ⟨fun w hw => ?_, va_AO.moved hW.alike hN.2⟩
  have h := hN.1 w hw
  simp only [nwList, List.mem_cons, List.not_mem_nil, or_false] at hw
  rcases hw with e | e | e | e | e | e | e | e | e <;> rw [e] at h ⊢
  · exact va_Nw.warmF hW h
  · exact va_Nw.warmF hW h
  · exact va_Nw.warmF hW h
  · exact va_Nw.warmF hW h
  · exact va_Nw.warmF hW h
  · exact va_Nw.warmF hW h
  · exact va_Nw.warmC hW h
  · exact va_Nw.warmC hW h
  · exact va_Nw.warmC hW h
theorem nw0 {U : State} (h : nwAll U) : va_Nw (.fieldLinkNest "ChequeDesk" 90 "ChequeDesk$Reading" "places" "I" "ChequeDesk") U := h.1 _ (List.mem_of_getElem? (i := 0) rfl)
theorem nw1 {U : State} (h : nwAll U) : va_Nw (.fieldLinkNest "ChequeDesk" 97 "ChequeDesk$Reading" "signs" "[B" "ChequeDesk") U := h.1 _ (List.mem_of_getElem? (i := 1) rfl)
theorem nw2 {U : State} (h : nwAll U) : va_Nw (.fieldLinkNest "ChequeDesk" 104 "ChequeDesk$Reading" "speeds" "[B" "ChequeDesk") U := h.1 _ (List.mem_of_getElem? (i := 2) rfl)
theorem nw3 {U : State} (h : nwAll U) : va_Nw (.fieldLinkNest "ChequeDesk" 85 "ChequeDesk$Reading" "cost" "I" "ChequeDesk") U := h.1 _ (List.mem_of_getElem? (i := 3) rfl)
theorem nw4 {U : State} (h : nwAll U) : va_Nw (.fieldLinkNest "ChequeDesk" 120 "ChequeDesk$Reading" "gap" "I" "ChequeDesk") U := h.1 _ (List.mem_of_getElem? (i := 4) rfl)
theorem nw5 {U : State} (h : nwAll U) : va_Nw (.fieldLinkNest "ChequeDesk" 112 "ChequeDesk$Reading" "isTurned" "Z" "ChequeDesk") U := h.1 _ (List.mem_of_getElem? (i := 5) rfl)
theorem nw6 {U : State} (h : nwAll U) : va_Nw (.castable "java/lang/Integer" "java/lang/Object") U := h.1 _ (List.mem_of_getElem? (i := 6) rfl)
theorem nw7 {U : State} (h : nwAll U) : va_Nw (.castable "ChequeDesk$Lacking" "ChequeDesk$Slip") U := h.1 _ (List.mem_of_getElem? (i := 7) rfl)
theorem nw8 {U : State} (h : nwAll U) : va_Nw (.castable "ChequeDesk$Lacking" "java/lang/Object") U := h.1 _ (List.mem_of_getElem? (i := 8) rfl)
/-- a contract's start: it only reads -/
def xB (D : va_G) (E : Nat → ClassId) (ws : va_W) (U : State) : Prop := va_P D vwCl ws U.heap ∧ va_K D vwCl (xT E) U ∧ nwAll U
/-- a contract's start: it writes -/
def xQ (D : va_G) (E : Nat → ClassId) (ws : va_W) (sz : Nat) (U : State) : Prop := U.heap.size = sz ∧ va_P D vwCl ws U.heap ∧ va_K D vwCl (xT E) U ∧ va_D (fun _ => True) ws ∧ nwAll U
/-- its end -/
def xR (D : va_G) (E : Nat → ClassId) (A : Nat → Prop) (ws : va_W) (t : State) : Prop := va_P D vwCl ws t.heap ∧ va_D A ws
theorem xB_blind {av : List Value} {D : va_G} {E : Nat → ClassId} {ws : va_W} : FrameBlind (va_Pc av (xB D E ws)) := by
  intro a U g mk q
  obtain ⟨q0, qP, qK, qN⟩ := q
  exact ⟨q0, qP, va_K.moved (u := U) (U := U.calling g mk a) (Vm.Alike.refl U.vm) qK, nwAll.same (u := U) (U := U.calling g mk a) rfl qN⟩
theorem xQ_blind {av : List Value} {D : va_G} {E : Nat → ClassId} {ws : va_W} {sz : Nat} : FrameBlind (va_Pc av (xQ D E ws sz)) := by
  intro a U g mk q
  obtain ⟨q0, qs, qP, qK, qD, qN⟩ := q
  exact ⟨q0, qs, qP, va_K.moved (u := U) (U := U.calling g mk a) (Vm.Alike.refl U.vm) qK, qD, nwAll.same (u := U) (U := U.calling g mk a) rfl qN⟩
-- worlds with a tail
theorem xw_pl {D : va_G} {cl : List vw_C} {w t : va_W} {H : Heap} (h : va_P D cl (w ++ t) H) : va_P D cl w H := fun k q hk => h k q (by rw [List.getElem?_append_left (List.getElem?_eq_some_iff.mp hk).1]; exact hk)
theorem xw_at {w t : va_W} {k : Nat} : (w ++ t)[w.length + k]? = t[k]? := by
  rw [List.getElem?_append_right (Nat.le_add_right _ _), Nat.add_sub_cancel_left]
theorem xw_pr {D : va_G} {cl : List vw_C} {w t : va_W} {H : Heap} (h : va_P D cl (w ++ t) H) : va_P D cl t H := fun k q hk => h (w.length + k) q (by rw [xw_at]; exact hk)
theorem xw_dl {A : Nat → Prop} {w t : va_W} (h : va_D A (w ++ t)) : va_D A w := by
  have at' : ∀ {k : Nat} {q : Nat × va_E}, w[k]? = some q → (w ++ t)[k]? = some q := fun hk => by rw [List.getElem?_append_left (List.getElem?_eq_some_iff.mp hk).1]; exact hk
  exact ⟨fun i j x y hi hj e => h.1 i j x y (at' hi) (at' hj) e, fun k q hk => h.2 k q (at' hk)⟩
theorem xw_dr {A : Nat → Prop} {w t : va_W} (h : va_D A (w ++ t)) : va_D A t := by
  refine ⟨fun i j x y hi hj e => ?_, fun k q hk => h.2 (w.length + k) q (by rw [xw_at]; exact hk)⟩
  have := h.1 (w.length + i) (w.length + j) x y (by rw [xw_at]; exact hi) (by rw [xw_at]; exact hj) e
  omega
theorem xw_dx {A : Nat → Prop} {w t : va_W} (h : va_D A (w ++ t)) : ∀ (i j : Nat) (x y : Nat × va_E), w[i]? = some x → t[j]? = some y → x.1 ≠ y.1 := by
  intro i j x y hi hj e
  have hl := (List.getElem?_eq_some_iff.mp hi).1
  have := h.1 i (w.length + j) x y (by rw [List.getElem?_append_left hl]; exact hi) (by rw [xw_at]; exact hj) e
  omega
theorem xw_pick {ws wc : va_W} {is : List Nat} (hC : is.map (fun i => ws[i]?) = wc.map some) : ∀ (k : Nat) (q : Nat × va_E), wc[k]? = some q → ∃ i, is[k]? = some i ∧ ws[i]? = some q := by
  intro k q hq
  have h1 : (is.map (fun i => ws[i]?))[k]? = some (some q) := by rw [hC, List.getElem?_map, hq]; rfl
  rw [List.getElem?_map] at h1
  cases hi : is[k]? with
  | none => rw [hi] at h1; cases h1
  | some i => rw [hi] at h1; exact ⟨i, rfl, Option.some.inj h1⟩
theorem xw_sub {D : va_G} {cl : List vw_C} {ws wc tl : va_W} {H : Heap} (hP : va_P D cl (ws ++ tl) H) (is : List Nat) (hC : is.map (fun i => ws[i]?) = wc.map some) : va_P D cl wc H := by
  intro k q hk
  obtain ⟨i, -, h2⟩ := xw_pick hC k q hk
  exact xw_pl hP i q h2
theorem xw_perm {D : va_G} {cl : List vw_C} {A : Nat → Prop} {ws w2 tl : va_W} {H : Heap} (hP : va_P D cl (ws ++ tl) H) (hD : va_D A (ws ++ tl)) (is : List Nat) (hn : va_nd is = true) (hC : is.map (fun i => ws[i]?) = w2.map some) : va_P D cl (w2 ++ tl) H ∧ va_D A (w2 ++ tl) := by
  refine ⟨va_P.app (xw_sub hP is hC) (xw_pr hP), va_D.app ((xw_dl hD).sub is hn hC) (xw_dr hD) (fun i j x y hi hj => ?_)⟩
  obtain ⟨i2, -, h2⟩ := xw_pick hC i x hi
  exact xw_dx hD i2 j x y h2 hj
theorem xw_free {A0 : Nat → Prop} {ws wc tl : va_W} {H0 H : Heap} {locs : List Loc} (hD : va_D A0 (ws ++ tl)) (hS : va_S A0 H0 H locs) (hA : ∀ q, H0.size ≤ q → A0 q) (isC : List Nat) (hC : isC.map (fun i => ws[i]?) = wc.map some) : ∀ q, va_A wc H.size q → A0 q := va_free (xw_dl hD) hS hA isC hC
theorem xw_join {A0 : Nat → Prop} {D : va_G} {cl : List vw_C} {ws wc wr w1 tl : va_W} {H H1 : Heap} (hP : va_P D cl (ws ++ tl) H) (hD : va_D A0 (ws ++ tl)) (isC isR : List Nat) (hC : isC.map (fun i => ws[i]?) = wc.map some) (hR : isR.map (fun i => ws[i]?) = wr.map some) (hn : va_nd isR = true) (hdis : ∀ i ∈ isR, i ∉ isC)
    (hk : ∀ q : Nat, q < H.size → ¬ va_A wc H.size q → H1[q]? = H[q]?) (hF : ∀ q, va_A wc H.size q → A0 q) (hP1 : va_P D cl w1 H1) (hD1 : va_D (va_A wc H.size) w1) : va_P D cl ((wr ++ w1) ++ tl) H1 ∧ va_D A0 ((wr ++ w1) ++ tl) := by
  obtain ⟨hP2, hD2⟩ := va_join (xw_pl hP) (xw_dl hD) isC isR hC hR hn hdis hk hF hP1 hD1
  have hap : ∀ (j : Nat) (y : Nat × va_E), tl[j]? = some y → y.1 < H.size ∧ ¬ va_A wc H.size y.1 := by
    intro j y hj
    have hl := (xw_pr hP j y hj).lt
    refine ⟨hl, fun h => ?_⟩
    rcases h with ⟨k2, e, h⟩ | h
    · obtain ⟨i, -, h4⟩ := xw_pick hC k2 (y.1, e) h
      exact xw_dx hD i j (y.1, e) y h4 hj rfl
    · omega
  refine ⟨va_P.app hP2 ((xw_pr hP).kept (fun k q hq => hk q.1 (hap k q hq).1 (hap k q hq).2)), va_D.app hD2 (xw_dr hD) (fun i j x y hi hj hxy => ?_)⟩
  by_cases hlt : i < wr.length
  · rw [List.getElem?_append_left hlt] at hi
    obtain ⟨i2, -, h2⟩ := xw_pick hR i x hi
    exact xw_dx hD i2 j x y h2 hj hxy
  · rw [List.getElem?_append_right (by omega)] at hi
    exact (hap j y hj).2 (by rw [← hxy]; exact hD1.2 _ x hi)
section XC
variable {p : Program} {l : Launch} {e : Env} {R : Room} {s : State} {m : MethodId} {args : Array Value} {below : List Frame} {meth : Method} {c : Code} {H : Heap} {locs : List Loc} {cells slots : Nat} {Q : State → Prop}
variable {cc : ByteArray} {pc : Nat} {ls : Array Slot} {rest st0 As : List Value} {D : va_G} {E : Nat → ClassId} {A : Nat → Prop} {b : Nat} {ws wc wr w2 tl : va_W}
variable {y : MethodName} {bytes : ByteArray} {maxL nL n index mc ms : Nat} {ret : Option FieldType} {rm : Room} {own C : String}
theorem xs_Vi {post : Int32 → Prop} (S : CallFix p m c cc nL s args lw_all own) (hM : Met l y (ws_ y bytes maxL ret) rm (va_Pc (.ref b :: As) (xB D E wc)) (vp_Si post) 0 0 (fun _ => False)) (hG : GoodIn lw_all (wsV own index C y (ws_ y bytes maxL ret))) (hd : y.cls = C ∧ y.cls ≠ "java/lang/invoke/MethodHandle" ∧ y.cls ≠ "java/lang/invoke/VarHandle" ∧ (parseMethodDescriptor y.desc).map (fun d => d.parameters.length) = some n) (hRm : rm.frames + 1 ≤ R.frames ∧ 8 + (maxL + 11) + rm.locals ≤ R.locals) (hrc : rm.cells = 0) (hrs : rm.slots = 0)
    (hK : va_K D vwCl (xT E) s) (hN : nwAll s) (hP : va_P D vwCl (ws ++ tl) H) (is : List Nat) (hC : is.map (fun i => ws[i]?) = wc.map some) {q0 ci : Nat} {fs : List Value} {qC : vw_C} (hq0 : wc[q0]? = some (b, .inr (ci, fs))) (hci : vwCl[ci]? = some qC) (hqC : qC.1 = C) (hn : As.length = n) (hsz : ls.size = nL) (hst : st0 = As.reverse ++ .ref b :: rest) (hW : (rest.map fun v => v.category).sum ≤ 8) (hdg : decode cc pc = .ok (.invokevirtual index, 3)) (hf : cells ≤ R.cells ∧ slots ≤ R.slots)
    (kk : ∀ r : Int32, post r → W p l e R s m args below meth c H locs cells slots Q (F0 m (pc + 3) ls (.int r :: rest))) : W p l e R s m args below meth c H locs cells slots Q (F0 m pc ls st0) :=
  vp_callSi (va_Run.run (va_runV (As := As) (rest := rest) S hM (cwV n S.2.2.2.2 hG rfl hrc hrs hd hRm) ⟨xB_blind, by rw [← hqC]; exact va_recv hK (xw_sub hP is hC) hci hq0, fun U hU hWm => ⟨rfl, by rw [hU]; exact xw_sub hP is hC, va_K.moved hWm.alike hK, nwAll.warm hWm hN⟩⟩ rfl hn hsz hst (lv_room hW) hdg hf)) kk
theorem xs_Vl {post : Int64 → Prop} (S : CallFix p m c cc nL s args lw_all own) (hM : Met l y (ws_ y bytes maxL ret) rm (va_Pc (.ref b :: As) (xB D E wc)) (vp_Sl post) 0 0 (fun _ => False)) (hG : GoodIn lw_all (wsV own index C y (ws_ y bytes maxL ret))) (hd : y.cls = C ∧ y.cls ≠ "java/lang/invoke/MethodHandle" ∧ y.cls ≠ "java/lang/invoke/VarHandle" ∧ (parseMethodDescriptor y.desc).map (fun d => d.parameters.length) = some n) (hRm : rm.frames + 1 ≤ R.frames ∧ 8 + (maxL + 11) + rm.locals ≤ R.locals) (hrc : rm.cells = 0) (hrs : rm.slots = 0)
    (hK : va_K D vwCl (xT E) s) (hN : nwAll s) (hP : va_P D vwCl (ws ++ tl) H) (is : List Nat) (hC : is.map (fun i => ws[i]?) = wc.map some) {q0 ci : Nat} {fs : List Value} {qC : vw_C} (hq0 : wc[q0]? = some (b, .inr (ci, fs))) (hci : vwCl[ci]? = some qC) (hqC : qC.1 = C) (hn : As.length = n) (hsz : ls.size = nL) (hst : st0 = As.reverse ++ .ref b :: rest) (hW : (rest.map fun v => v.category).sum ≤ 8) (hdg : decode cc pc = .ok (.invokevirtual index, 3)) (hf : cells ≤ R.cells ∧ slots ≤ R.slots)
    (kk : ∀ r : Int64, post r → W p l e R s m args below meth c H locs cells slots Q (F0 m (pc + 3) ls (.long r :: rest))) : W p l e R s m args below meth c H locs cells slots Q (F0 m pc ls st0) :=
  vp_callSl (va_Run.run (va_runV (As := As) (rest := rest) S hM (cwV n S.2.2.2.2 hG rfl hrc hrs hd hRm) ⟨xB_blind, by rw [← hqC]; exact va_recv hK (xw_sub hP is hC) hci hq0, fun U hU hWm => ⟨rfl, by rw [hU]; exact xw_sub hP is hC, va_K.moved hWm.alike hK, nwAll.warm hWm hN⟩⟩ rfl hn hsz hst (lv_room hW) hdg hf)) kk
theorem xs_Vv {post : Unit → Prop} (S : CallFix p m c cc nL s args lw_all own) (hM : Met l y (ws_ y bytes maxL ret) rm (va_Pc (.ref b :: As) (xB D E wc)) (va_Sv post) 0 0 (fun _ => False)) (hG : GoodIn lw_all (wsV own index C y (ws_ y bytes maxL ret))) (hd : y.cls = C ∧ y.cls ≠ "java/lang/invoke/MethodHandle" ∧ y.cls ≠ "java/lang/invoke/VarHandle" ∧ (parseMethodDescriptor y.desc).map (fun d => d.parameters.length) = some n) (hRm : rm.frames + 1 ≤ R.frames ∧ 8 + (maxL + 11) + rm.locals ≤ R.locals) (hrc : rm.cells = 0) (hrs : rm.slots = 0)
    (hK : va_K D vwCl (xT E) s) (hN : nwAll s) (hP : va_P D vwCl (ws ++ tl) H) (is : List Nat) (hC : is.map (fun i => ws[i]?) = wc.map some) {q0 ci : Nat} {fs : List Value} {qC : vw_C} (hq0 : wc[q0]? = some (b, .inr (ci, fs))) (hci : vwCl[ci]? = some qC) (hqC : qC.1 = C) (hn : As.length = n) (hsz : ls.size = nL) (hst : st0 = As.reverse ++ .ref b :: rest) (hW : (rest.map fun v => v.category).sum ≤ 8) (hdg : decode cc pc = .ok (.invokevirtual index, 3)) (hf : cells ≤ R.cells ∧ slots ≤ R.slots)
    (kk : post () → W p l e R s m args below meth c H locs cells slots Q (F0 m (pc + 3) ls rest)) : W p l e R s m args below meth c H locs cells slots Q (F0 m pc ls st0) :=
  va_csv (va_Run.run (va_runV (As := As) (rest := rest) S hM (cwV n S.2.2.2.2 hG rfl hrc hrs hd hRm) ⟨xB_blind, by rw [← hqC]; exact va_recv hK (xw_sub hP is hC) hci hq0, fun U hU hWm => ⟨rfl, by rw [hU]; exact xw_sub hP is hC, va_K.moved hWm.alike hK, nwAll.warm hWm hN⟩⟩ rfl hn hsz hst (lv_room hW) hdg hf)) kk
theorem xs_Vr {post : Nat → Prop} {ad : Nat → Value} (S : CallFix p m c cc nL s args lw_all own) (hM : Met l y (ws_ y bytes maxL ret) rm (va_Pc (.ref b :: As) (xB D E wc)) (va_Sr post ad) 0 0 (fun _ => False)) (hG : GoodIn lw_all (wsV own index C y (ws_ y bytes maxL ret))) (hd : y.cls = C ∧ y.cls ≠ "java/lang/invoke/MethodHandle" ∧ y.cls ≠ "java/lang/invoke/VarHandle" ∧ (parseMethodDescriptor y.desc).map (fun d => d.parameters.length) = some n) (hRm : rm.frames + 1 ≤ R.frames ∧ 8 + (maxL + 11) + rm.locals ≤ R.locals) (hrc : rm.cells = 0) (hrs : rm.slots = 0)
    (hK : va_K D vwCl (xT E) s) (hN : nwAll s) (hP : va_P D vwCl (ws ++ tl) H) (is : List Nat) (hC : is.map (fun i => ws[i]?) = wc.map some) {q0 ci : Nat} {fs : List Value} {qC : vw_C} (hq0 : wc[q0]? = some (b, .inr (ci, fs))) (hci : vwCl[ci]? = some qC) (hqC : qC.1 = C) (hn : As.length = n) (hsz : ls.size = nL) (hst : st0 = As.reverse ++ .ref b :: rest) (hW : (rest.map fun v => v.category).sum ≤ 8) (hdg : decode cc pc = .ok (.invokevirtual index, 3)) (hf : cells ≤ R.cells ∧ slots ≤ R.slots)
    (kk : ∀ r : Nat, post r → W p l e R s m args below meth c H locs cells slots Q (F0 m (pc + 3) ls (ad r :: rest))) : W p l e R s m args below meth c H locs cells slots Q (F0 m pc ls st0) :=
  va_csr (va_Run.run (va_runV (As := As) (rest := rest) S hM (cwV n S.2.2.2.2 hG rfl hrc hrs hd hRm) ⟨xB_blind, by rw [← hqC]; exact va_recv hK (xw_sub hP is hC) hci hq0, fun U hU hWm => ⟨rfl, by rw [hU]; exact xw_sub hP is hC, va_K.moved hWm.alike hK, nwAll.warm hWm hN⟩⟩ rfl hn hsz hst (lv_room hW) hdg hf)) kk
theorem xs_Si {post : Int32 → Prop} (S : CallFix p m c cc nL s args lw_all own) (hM : Met l y (ws_ y bytes maxL ret) rm (va_Pc As (xB D E wc)) (vp_Si post) 0 0 (fun _ => False)) (hG : GoodIn lw_all (va_wsS own index y (ws_ y bytes maxL ret))) (hd : y.cls ≠ "java/lang/invoke/MethodHandle" ∧ y.cls ≠ "java/lang/invoke/VarHandle" ∧ (parseMethodDescriptor y.desc).map (fun d => d.parameters.length) = some n) (hRm : rm.frames + 1 ≤ R.frames ∧ 8 + (maxL + 11) + rm.locals ≤ R.locals) (hrc : rm.cells = 0) (hrs : rm.slots = 0)
    (hK : va_K D vwCl (xT E) s) (hN : nwAll s) (hP : va_P D vwCl (ws ++ tl) H) (is : List Nat) (hC : is.map (fun i => ws[i]?) = wc.map some)  (hn : As.length = n) (hsz : ls.size = nL) (hst : st0 = As.reverse ++ rest) (hW : (rest.map fun v => v.category).sum ≤ 8) (hdg : decode cc pc = .ok (.invokestatic index, 3)) (hf : cells ≤ R.cells ∧ slots ≤ R.slots)
    (kk : ∀ r : Int32, post r → W p l e R s m args below meth c H locs cells slots Q (F0 m (pc + 3) ls (.int r :: rest))) : W p l e R s m args below meth c H locs cells slots Q (F0 m pc ls st0) :=
  vp_callSi (va_Run.run (va_runS (As := As) (rest := rest) S hM (va_cwS n S.2.2.2.2 hG rfl hrc hrs hd hRm) ⟨xB_blind, fun U hU hWm => ⟨rfl, by rw [hU]; exact xw_sub hP is hC, va_K.moved hWm.alike hK, nwAll.warm hWm hN⟩⟩ rfl hn hsz hst (lv_room hW) hdg hf)) kk
theorem xs_Sl {post : Int64 → Prop} (S : CallFix p m c cc nL s args lw_all own) (hM : Met l y (ws_ y bytes maxL ret) rm (va_Pc As (xB D E wc)) (vp_Sl post) 0 0 (fun _ => False)) (hG : GoodIn lw_all (va_wsS own index y (ws_ y bytes maxL ret))) (hd : y.cls ≠ "java/lang/invoke/MethodHandle" ∧ y.cls ≠ "java/lang/invoke/VarHandle" ∧ (parseMethodDescriptor y.desc).map (fun d => d.parameters.length) = some n) (hRm : rm.frames + 1 ≤ R.frames ∧ 8 + (maxL + 11) + rm.locals ≤ R.locals) (hrc : rm.cells = 0) (hrs : rm.slots = 0)
    (hK : va_K D vwCl (xT E) s) (hN : nwAll s) (hP : va_P D vwCl (ws ++ tl) H) (is : List Nat) (hC : is.map (fun i => ws[i]?) = wc.map some)  (hn : As.length = n) (hsz : ls.size = nL) (hst : st0 = As.reverse ++ rest) (hW : (rest.map fun v => v.category).sum ≤ 8) (hdg : decode cc pc = .ok (.invokestatic index, 3)) (hf : cells ≤ R.cells ∧ slots ≤ R.slots)
    (kk : ∀ r : Int64, post r → W p l e R s m args below meth c H locs cells slots Q (F0 m (pc + 3) ls (.long r :: rest))) : W p l e R s m args below meth c H locs cells slots Q (F0 m pc ls st0) :=
  vp_callSl (va_Run.run (va_runS (As := As) (rest := rest) S hM (va_cwS n S.2.2.2.2 hG rfl hrc hrs hd hRm) ⟨xB_blind, fun U hU hWm => ⟨rfl, by rw [hU]; exact xw_sub hP is hC, va_K.moved hWm.alike hK, nwAll.warm hWm hN⟩⟩ rfl hn hsz hst (lv_room hW) hdg hf)) kk
theorem xs_Sv {post : Unit → Prop} (S : CallFix p m c cc nL s args lw_all own) (hM : Met l y (ws_ y bytes maxL ret) rm (va_Pc As (xB D E wc)) (va_Sv post) 0 0 (fun _ => False)) (hG : GoodIn lw_all (va_wsS own index y (ws_ y bytes maxL ret))) (hd : y.cls ≠ "java/lang/invoke/MethodHandle" ∧ y.cls ≠ "java/lang/invoke/VarHandle" ∧ (parseMethodDescriptor y.desc).map (fun d => d.parameters.length) = some n) (hRm : rm.frames + 1 ≤ R.frames ∧ 8 + (maxL + 11) + rm.locals ≤ R.locals) (hrc : rm.cells = 0) (hrs : rm.slots = 0)
    (hK : va_K D vwCl (xT E) s) (hN : nwAll s) (hP : va_P D vwCl (ws ++ tl) H) (is : List Nat) (hC : is.map (fun i => ws[i]?) = wc.map some)  (hn : As.length = n) (hsz : ls.size = nL) (hst : st0 = As.reverse ++ rest) (hW : (rest.map fun v => v.category).sum ≤ 8) (hdg : decode cc pc = .ok (.invokestatic index, 3)) (hf : cells ≤ R.cells ∧ slots ≤ R.slots)
    (kk : post () → W p l e R s m args below meth c H locs cells slots Q (F0 m (pc + 3) ls rest)) : W p l e R s m args below meth c H locs cells slots Q (F0 m pc ls st0) :=
  va_csv (va_Run.run (va_runS (As := As) (rest := rest) S hM (va_cwS n S.2.2.2.2 hG rfl hrc hrs hd hRm) ⟨xB_blind, fun U hU hWm => ⟨rfl, by rw [hU]; exact xw_sub hP is hC, va_K.moved hWm.alike hK, nwAll.warm hWm hN⟩⟩ rfl hn hsz hst (lv_room hW) hdg hf)) kk
theorem xs_Sr {post : Nat → Prop} {ad : Nat → Value} (S : CallFix p m c cc nL s args lw_all own) (hM : Met l y (ws_ y bytes maxL ret) rm (va_Pc As (xB D E wc)) (va_Sr post ad) 0 0 (fun _ => False)) (hG : GoodIn lw_all (va_wsS own index y (ws_ y bytes maxL ret))) (hd : y.cls ≠ "java/lang/invoke/MethodHandle" ∧ y.cls ≠ "java/lang/invoke/VarHandle" ∧ (parseMethodDescriptor y.desc).map (fun d => d.parameters.length) = some n) (hRm : rm.frames + 1 ≤ R.frames ∧ 8 + (maxL + 11) + rm.locals ≤ R.locals) (hrc : rm.cells = 0) (hrs : rm.slots = 0)
    (hK : va_K D vwCl (xT E) s) (hN : nwAll s) (hP : va_P D vwCl (ws ++ tl) H) (is : List Nat) (hC : is.map (fun i => ws[i]?) = wc.map some)  (hn : As.length = n) (hsz : ls.size = nL) (hst : st0 = As.reverse ++ rest) (hW : (rest.map fun v => v.category).sum ≤ 8) (hdg : decode cc pc = .ok (.invokestatic index, 3)) (hf : cells ≤ R.cells ∧ slots ≤ R.slots)
    (kk : ∀ r : Nat, post r → W p l e R s m args below meth c H locs cells slots Q (F0 m (pc + 3) ls (ad r :: rest))) : W p l e R s m args below meth c H locs cells slots Q (F0 m pc ls st0) :=
  va_csr (va_Run.run (va_runS (As := As) (rest := rest) S hM (va_cwS n S.2.2.2.2 hG rfl hrc hrs hd hRm) ⟨xB_blind, fun U hU hWm => ⟨rfl, by rw [hU]; exact xw_sub hP is hC, va_K.moved hWm.alike hK, nwAll.warm hWm hN⟩⟩ rfl hn hsz hst (lv_room hW) hdg hf)) kk
theorem xq_Vi {Sg : Type} {post : Int32 → Sg → Prop} {w1 : Sg → va_W} {w3 : Sg → va_W} (S : CallFix p m c cc nL s args lw_all own) (hM : Met l y (ws_ y bytes maxL ret) rm (va_Pc (.ref b :: As) (xQ D E wc H.size)) (va_Qi post (fun u t => xR D E (va_A wc H.size) (w1 u) t) (va_A wc H.size)) mc ms (va_A wc H.size)) (hG : GoodIn lw_all (wsV own index C y (ws_ y bytes maxL ret))) (hd : y.cls = C ∧ y.cls ≠ "java/lang/invoke/MethodHandle" ∧ y.cls ≠ "java/lang/invoke/VarHandle" ∧ (parseMethodDescriptor y.desc).map (fun d => d.parameters.length) = some n) (hRm : rm.frames + 1 ≤ R.frames ∧ 8 + (maxL + 11) + rm.locals ≤ R.locals) (hrc : rm.cells = mc) (hrs : rm.slots = ms)
    (hK : va_K D vwCl (xT E) s) (hN : nwAll s) (hP : va_P D vwCl (ws ++ tl) H) (hD : va_D A (ws ++ tl)) (hS : va_S A s.heap H locs) (hA : ∀ q, s.heap.size ≤ q → A q) (isC isR isP : List Nat) (hC : isC.map (fun i => ws[i]?) = wc.map some) (hR : isR.map (fun i => ws[i]?) = wr.map some) (hnC : va_nd isC = true) (hnR : va_nd isR = true) (hnP : va_nd isP = true) (hdis : ∀ i ∈ isR, i ∉ isC) (hpm : ∀ u, isP.map (fun i => (wr ++ w1 u)[i]?) = (w3 u).map some) {q0 ci : Nat} {fs : List Value} {qC : vw_C} (hq0 : wc[q0]? = some (b, .inr (ci, fs))) (hci : vwCl[ci]? = some qC) (hqC : qC.1 = C) (hn : As.length = n) (hsz : ls.size = nL) (hst : st0 = As.reverse ++ .ref b :: rest) (hW : (rest.map fun v => v.category).sum ≤ 8) (hdg : decode cc pc = .ok (.invokevirtual index, 3)) (hf : cells + mc ≤ R.cells ∧ slots + ms ≤ R.slots)
    (kk : ∀ (r : Int32) (u : Sg) (H1 : Heap) (locs1 : List Loc), post r u → va_P D vwCl (w3 u ++ tl) H1 → va_D A (w3 u ++ tl) → va_S A s.heap H1 locs1 → W p l e R s m args below meth c H1 locs1 (cells + mc) (slots + ms) Q (F0 m (pc + 3) ls (.int r :: rest))) : W p l e R s m args below meth c H locs cells slots Q (F0 m pc ls st0) := by
  have hFc := xw_free hD hS hA isC hC
  refine va_calli (va_runV (As := As) (rest := rest) S hM (cwV n S.2.2.2.2 hG rfl hrc hrs hd hRm) ⟨xQ_blind, by rw [← hqC]; exact va_recv hK (xw_sub hP isC hC) hci hq0, fun U hU hWm => ⟨rfl, by rw [hU], by rw [hU]; exact xw_sub hP isC hC, va_K.moved hWm.alike hK, ((xw_dl hD).sub isC hnC hC).weaken (fun _ _ _ _ => trivial), nwAll.warm hWm hN⟩⟩ rfl hn hsz hst (lv_room hW) hdg hf) hS (fun q _ h => hFc q h) hFc ?_
  intro r u t H1 locs1 ht hvm hpost hB hz1 hk1 hS1
  obtain ⟨hP1, hD1⟩ := hB
  rw [ht] at hP1
  obtain ⟨hP2, hD2⟩ := xw_join hP hD isC isR hC hR hnR hdis hk1 hFc hP1 hD1
  obtain ⟨hP3, hD3⟩ := xw_perm hP2 hD2 isP hnP (hpm u)
  exact kk r u H1 locs1 hpost hP3 hD3 hS1
theorem xq_Vl {Sg : Type} {post : Int64 → Sg → Prop} {w1 : Sg → va_W} {w3 : Sg → va_W} (S : CallFix p m c cc nL s args lw_all own) (hM : Met l y (ws_ y bytes maxL ret) rm (va_Pc (.ref b :: As) (xQ D E wc H.size)) (va_Ql post (fun u t => xR D E (va_A wc H.size) (w1 u) t) (va_A wc H.size)) mc ms (va_A wc H.size)) (hG : GoodIn lw_all (wsV own index C y (ws_ y bytes maxL ret))) (hd : y.cls = C ∧ y.cls ≠ "java/lang/invoke/MethodHandle" ∧ y.cls ≠ "java/lang/invoke/VarHandle" ∧ (parseMethodDescriptor y.desc).map (fun d => d.parameters.length) = some n) (hRm : rm.frames + 1 ≤ R.frames ∧ 8 + (maxL + 11) + rm.locals ≤ R.locals) (hrc : rm.cells = mc) (hrs : rm.slots = ms)
    (hK : va_K D vwCl (xT E) s) (hN : nwAll s) (hP : va_P D vwCl (ws ++ tl) H) (hD : va_D A (ws ++ tl)) (hS : va_S A s.heap H locs) (hA : ∀ q, s.heap.size ≤ q → A q) (isC isR isP : List Nat) (hC : isC.map (fun i => ws[i]?) = wc.map some) (hR : isR.map (fun i => ws[i]?) = wr.map some) (hnC : va_nd isC = true) (hnR : va_nd isR = true) (hnP : va_nd isP = true) (hdis : ∀ i ∈ isR, i ∉ isC) (hpm : ∀ u, isP.map (fun i => (wr ++ w1 u)[i]?) = (w3 u).map some) {q0 ci : Nat} {fs : List Value} {qC : vw_C} (hq0 : wc[q0]? = some (b, .inr (ci, fs))) (hci : vwCl[ci]? = some qC) (hqC : qC.1 = C) (hn : As.length = n) (hsz : ls.size = nL) (hst : st0 = As.reverse ++ .ref b :: rest) (hW : (rest.map fun v => v.category).sum ≤ 8) (hdg : decode cc pc = .ok (.invokevirtual index, 3)) (hf : cells + mc ≤ R.cells ∧ slots + ms ≤ R.slots)
    (kk : ∀ (r : Int64) (u : Sg) (H1 : Heap) (locs1 : List Loc), post r u → va_P D vwCl (w3 u ++ tl) H1 → va_D A (w3 u ++ tl) → va_S A s.heap H1 locs1 → W p l e R s m args below meth c H1 locs1 (cells + mc) (slots + ms) Q (F0 m (pc + 3) ls (.long r :: rest))) : W p l e R s m args below meth c H locs cells slots Q (F0 m pc ls st0) := by
  have hFc := xw_free hD hS hA isC hC
  refine va_calll (va_runV (As := As) (rest := rest) S hM (cwV n S.2.2.2.2 hG rfl hrc hrs hd hRm) ⟨xQ_blind, by rw [← hqC]; exact va_recv hK (xw_sub hP isC hC) hci hq0, fun U hU hWm => ⟨rfl, by rw [hU], by rw [hU]; exact xw_sub hP isC hC, va_K.moved hWm.alike hK, ((xw_dl hD).sub isC hnC hC).weaken (fun _ _ _ _ => trivial), nwAll.warm hWm hN⟩⟩ rfl hn hsz hst (lv_room hW) hdg hf) hS (fun q _ h => hFc q h) hFc ?_
  intro r u t H1 locs1 ht hvm hpost hB hz1 hk1 hS1
  obtain ⟨hP1, hD1⟩ := hB
  rw [ht] at hP1
  obtain ⟨hP2, hD2⟩ := xw_join hP hD isC isR hC hR hnR hdis hk1 hFc hP1 hD1
  obtain ⟨hP3, hD3⟩ := xw_perm hP2 hD2 isP hnP (hpm u)
  exact kk r u H1 locs1 hpost hP3 hD3 hS1
theorem xq_Vv {Sg : Type} {post : Sg → Prop} {w1 : Sg → va_W} {w3 : Sg → va_W} (S : CallFix p m c cc nL s args lw_all own) (hM : Met l y (ws_ y bytes maxL ret) rm (va_Pc (.ref b :: As) (xQ D E wc H.size)) (va_Qv post (fun u t => xR D E (va_A wc H.size) (w1 u) t) (va_A wc H.size)) mc ms (va_A wc H.size)) (hG : GoodIn lw_all (wsV own index C y (ws_ y bytes maxL ret))) (hd : y.cls = C ∧ y.cls ≠ "java/lang/invoke/MethodHandle" ∧ y.cls ≠ "java/lang/invoke/VarHandle" ∧ (parseMethodDescriptor y.desc).map (fun d => d.parameters.length) = some n) (hRm : rm.frames + 1 ≤ R.frames ∧ 8 + (maxL + 11) + rm.locals ≤ R.locals) (hrc : rm.cells = mc) (hrs : rm.slots = ms)
    (hK : va_K D vwCl (xT E) s) (hN : nwAll s) (hP : va_P D vwCl (ws ++ tl) H) (hD : va_D A (ws ++ tl)) (hS : va_S A s.heap H locs) (hA : ∀ q, s.heap.size ≤ q → A q) (isC isR isP : List Nat) (hC : isC.map (fun i => ws[i]?) = wc.map some) (hR : isR.map (fun i => ws[i]?) = wr.map some) (hnC : va_nd isC = true) (hnR : va_nd isR = true) (hnP : va_nd isP = true) (hdis : ∀ i ∈ isR, i ∉ isC) (hpm : ∀ u, isP.map (fun i => (wr ++ w1 u)[i]?) = (w3 u).map some) {q0 ci : Nat} {fs : List Value} {qC : vw_C} (hq0 : wc[q0]? = some (b, .inr (ci, fs))) (hci : vwCl[ci]? = some qC) (hqC : qC.1 = C) (hn : As.length = n) (hsz : ls.size = nL) (hst : st0 = As.reverse ++ .ref b :: rest) (hW : (rest.map fun v => v.category).sum ≤ 8) (hdg : decode cc pc = .ok (.invokevirtual index, 3)) (hf : cells + mc ≤ R.cells ∧ slots + ms ≤ R.slots)
    (kk : ∀ (u : Sg) (H1 : Heap) (locs1 : List Loc), post u → va_P D vwCl (w3 u ++ tl) H1 → va_D A (w3 u ++ tl) → va_S A s.heap H1 locs1 → W p l e R s m args below meth c H1 locs1 (cells + mc) (slots + ms) Q (F0 m (pc + 3) ls rest)) : W p l e R s m args below meth c H locs cells slots Q (F0 m pc ls st0) := by
  have hFc := xw_free hD hS hA isC hC
  refine va_callv (va_runV (As := As) (rest := rest) S hM (cwV n S.2.2.2.2 hG rfl hrc hrs hd hRm) ⟨xQ_blind, by rw [← hqC]; exact va_recv hK (xw_sub hP isC hC) hci hq0, fun U hU hWm => ⟨rfl, by rw [hU], by rw [hU]; exact xw_sub hP isC hC, va_K.moved hWm.alike hK, ((xw_dl hD).sub isC hnC hC).weaken (fun _ _ _ _ => trivial), nwAll.warm hWm hN⟩⟩ rfl hn hsz hst (lv_room hW) hdg hf) hS (fun q _ h => hFc q h) hFc ?_
  intro u t H1 locs1 ht hvm hpost hB hz1 hk1 hS1
  obtain ⟨hP1, hD1⟩ := hB
  rw [ht] at hP1
  obtain ⟨hP2, hD2⟩ := xw_join hP hD isC isR hC hR hnR hdis hk1 hFc hP1 hD1
  obtain ⟨hP3, hD3⟩ := xw_perm hP2 hD2 isP hnP (hpm u)
  exact kk u H1 locs1 hpost hP3 hD3 hS1
theorem xq_Si {Sg : Type} {post : Int32 → Sg → Prop} {w1 : Sg → va_W} {w3 : Sg → va_W} (S : CallFix p m c cc nL s args lw_all own) (hM : Met l y (ws_ y bytes maxL ret) rm (va_Pc As (xQ D E wc H.size)) (va_Qi post (fun u t => xR D E (va_A wc H.size) (w1 u) t) (va_A wc H.size)) mc ms (va_A wc H.size)) (hG : GoodIn lw_all (va_wsS own index y (ws_ y bytes maxL ret))) (hd : y.cls ≠ "java/lang/invoke/MethodHandle" ∧ y.cls ≠ "java/lang/invoke/VarHandle" ∧ (parseMethodDescriptor y.desc).map (fun d => d.parameters.length) = some n) (hRm : rm.frames + 1 ≤ R.frames ∧ 8 + (maxL + 11) + rm.locals ≤ R.locals) (hrc : rm.cells = mc) (hrs : rm.slots = ms)
    (hK : va_K D vwCl (xT E) s) (hN : nwAll s) (hP : va_P D vwCl (ws ++ tl) H) (hD : va_D A (ws ++ tl)) (hS : va_S A s.heap H locs) (hA : ∀ q, s.heap.size ≤ q → A q) (isC isR isP : List Nat) (hC : isC.map (fun i => ws[i]?) = wc.map some) (hR : isR.map (fun i => ws[i]?) = wr.map some) (hnC : va_nd isC = true) (hnR : va_nd isR = true) (hnP : va_nd isP = true) (hdis : ∀ i ∈ isR, i ∉ isC) (hpm : ∀ u, isP.map (fun i => (wr ++ w1 u)[i]?) = (w3 u).map some)  (hn : As.length = n) (hsz : ls.size = nL) (hst : st0 = As.reverse ++ rest) (hW : (rest.map fun v => v.category).sum ≤ 8) (hdg : decode cc pc = .ok (.invokestatic index, 3)) (hf : cells + mc ≤ R.cells ∧ slots + ms ≤ R.slots)
    (kk : ∀ (r : Int32) (u : Sg) (H1 : Heap) (locs1 : List Loc), post r u → va_P D vwCl (w3 u ++ tl) H1 → va_D A (w3 u ++ tl) → va_S A s.heap H1 locs1 → W p l e R s m args below meth c H1 locs1 (cells + mc) (slots + ms) Q (F0 m (pc + 3) ls (.int r :: rest))) : W p l e R s m args below meth c H locs cells slots Q (F0 m pc ls st0) := by
  have hFc := xw_free hD hS hA isC hC
  refine va_calli (va_runS (As := As) (rest := rest) S hM (va_cwS n S.2.2.2.2 hG rfl hrc hrs hd hRm) ⟨xQ_blind, fun U hU hWm => ⟨rfl, by rw [hU], by rw [hU]; exact xw_sub hP isC hC, va_K.moved hWm.alike hK, ((xw_dl hD).sub isC hnC hC).weaken (fun _ _ _ _ => trivial), nwAll.warm hWm hN⟩⟩ rfl hn hsz hst (lv_room hW) hdg hf) hS (fun q _ h => hFc q h) hFc ?_
  intro r u t H1 locs1 ht hvm hpost hB hz1 hk1 hS1
  obtain ⟨hP1, hD1⟩ := hB
  rw [ht] at hP1
  obtain ⟨hP2, hD2⟩ := xw_join hP hD isC isR hC hR hnR hdis hk1 hFc hP1 hD1
  obtain ⟨hP3, hD3⟩ := xw_perm hP2 hD2 isP hnP (hpm u)
  exact kk r u H1 locs1 hpost hP3 hD3 hS1
theorem xq_Sl {Sg : Type} {post : Int64 → Sg → Prop} {w1 : Sg → va_W} {w3 : Sg → va_W} (S : CallFix p m c cc nL s args lw_all own) (hM : Met l y (ws_ y bytes maxL ret) rm (va_Pc As (xQ D E wc H.size)) (va_Ql post (fun u t => xR D E (va_A wc H.size) (w1 u) t) (va_A wc H.size)) mc ms (va_A wc H.size)) (hG : GoodIn lw_all (va_wsS own index y (ws_ y bytes maxL ret))) (hd : y.cls ≠ "java/lang/invoke/MethodHandle" ∧ y.cls ≠ "java/lang/invoke/VarHandle" ∧ (parseMethodDescriptor y.desc).map (fun d => d.parameters.length) = some n) (hRm : rm.frames + 1 ≤ R.frames ∧ 8 + (maxL + 11) + rm.locals ≤ R.locals) (hrc : rm.cells = mc) (hrs : rm.slots = ms)
    (hK : va_K D vwCl (xT E) s) (hN : nwAll s) (hP : va_P D vwCl (ws ++ tl) H) (hD : va_D A (ws ++ tl)) (hS : va_S A s.heap H locs) (hA : ∀ q, s.heap.size ≤ q → A q) (isC isR isP : List Nat) (hC : isC.map (fun i => ws[i]?) = wc.map some) (hR : isR.map (fun i => ws[i]?) = wr.map some) (hnC : va_nd isC = true) (hnR : va_nd isR = true) (hnP : va_nd isP = true) (hdis : ∀ i ∈ isR, i ∉ isC) (hpm : ∀ u, isP.map (fun i => (wr ++ w1 u)[i]?) = (w3 u).map some)  (hn : As.length = n) (hsz : ls.size = nL) (hst : st0 = As.reverse ++ rest) (hW : (rest.map fun v => v.category).sum ≤ 8) (hdg : decode cc pc = .ok (.invokestatic index, 3)) (hf : cells + mc ≤ R.cells ∧ slots + ms ≤ R.slots)
    (kk : ∀ (r : Int64) (u : Sg) (H1 : Heap) (locs1 : List Loc), post r u → va_P D vwCl (w3 u ++ tl) H1 → va_D A (w3 u ++ tl) → va_S A s.heap H1 locs1 → W p l e R s m args below meth c H1 locs1 (cells + mc) (slots + ms) Q (F0 m (pc + 3) ls (.long r :: rest))) : W p l e R s m args below meth c H locs cells slots Q (F0 m pc ls st0) := by
  have hFc := xw_free hD hS hA isC hC
  refine va_calll (va_runS (As := As) (rest := rest) S hM (va_cwS n S.2.2.2.2 hG rfl hrc hrs hd hRm) ⟨xQ_blind, fun U hU hWm => ⟨rfl, by rw [hU], by rw [hU]; exact xw_sub hP isC hC, va_K.moved hWm.alike hK, ((xw_dl hD).sub isC hnC hC).weaken (fun _ _ _ _ => trivial), nwAll.warm hWm hN⟩⟩ rfl hn hsz hst (lv_room hW) hdg hf) hS (fun q _ h => hFc q h) hFc ?_
  intro r u t H1 locs1 ht hvm hpost hB hz1 hk1 hS1
  obtain ⟨hP1, hD1⟩ := hB
  rw [ht] at hP1
  obtain ⟨hP2, hD2⟩ := xw_join hP hD isC isR hC hR hnR hdis hk1 hFc hP1 hD1
  obtain ⟨hP3, hD3⟩ := xw_perm hP2 hD2 isP hnP (hpm u)
  exact kk r u H1 locs1 hpost hP3 hD3 hS1
theorem xq_Sv {Sg : Type} {post : Sg → Prop} {w1 : Sg → va_W} {w3 : Sg → va_W} (S : CallFix p m c cc nL s args lw_all own) (hM : Met l y (ws_ y bytes maxL ret) rm (va_Pc As (xQ D E wc H.size)) (va_Qv post (fun u t => xR D E (va_A wc H.size) (w1 u) t) (va_A wc H.size)) mc ms (va_A wc H.size)) (hG : GoodIn lw_all (va_wsS own index y (ws_ y bytes maxL ret))) (hd : y.cls ≠ "java/lang/invoke/MethodHandle" ∧ y.cls ≠ "java/lang/invoke/VarHandle" ∧ (parseMethodDescriptor y.desc).map (fun d => d.parameters.length) = some n) (hRm : rm.frames + 1 ≤ R.frames ∧ 8 + (maxL + 11) + rm.locals ≤ R.locals) (hrc : rm.cells = mc) (hrs : rm.slots = ms)
    (hK : va_K D vwCl (xT E) s) (hN : nwAll s) (hP : va_P D vwCl (ws ++ tl) H) (hD : va_D A (ws ++ tl)) (hS : va_S A s.heap H locs) (hA : ∀ q, s.heap.size ≤ q → A q) (isC isR isP : List Nat) (hC : isC.map (fun i => ws[i]?) = wc.map some) (hR : isR.map (fun i => ws[i]?) = wr.map some) (hnC : va_nd isC = true) (hnR : va_nd isR = true) (hnP : va_nd isP = true) (hdis : ∀ i ∈ isR, i ∉ isC) (hpm : ∀ u, isP.map (fun i => (wr ++ w1 u)[i]?) = (w3 u).map some)  (hn : As.length = n) (hsz : ls.size = nL) (hst : st0 = As.reverse ++ rest) (hW : (rest.map fun v => v.category).sum ≤ 8) (hdg : decode cc pc = .ok (.invokestatic index, 3)) (hf : cells + mc ≤ R.cells ∧ slots + ms ≤ R.slots)
    (kk : ∀ (u : Sg) (H1 : Heap) (locs1 : List Loc), post u → va_P D vwCl (w3 u ++ tl) H1 → va_D A (w3 u ++ tl) → va_S A s.heap H1 locs1 → W p l e R s m args below meth c H1 locs1 (cells + mc) (slots + ms) Q (F0 m (pc + 3) ls rest)) : W p l e R s m args below meth c H locs cells slots Q (F0 m pc ls st0) := by
  have hFc := xw_free hD hS hA isC hC
  refine va_callv (va_runS (As := As) (rest := rest) S hM (va_cwS n S.2.2.2.2 hG rfl hrc hrs hd hRm) ⟨xQ_blind, fun U hU hWm => ⟨rfl, by rw [hU], by rw [hU]; exact xw_sub hP isC hC, va_K.moved hWm.alike hK, ((xw_dl hD).sub isC hnC hC).weaken (fun _ _ _ _ => trivial), nwAll.warm hWm hN⟩⟩ rfl hn hsz hst (lv_room hW) hdg hf) hS (fun q _ h => hFc q h) hFc ?_
  intro u t H1 locs1 ht hvm hpost hB hz1 hk1 hS1
  obtain ⟨hP1, hD1⟩ := hB
  rw [ht] at hP1
  obtain ⟨hP2, hD2⟩ := xw_join hP hD isC isR hC hR hnR hdis hk1 hFc hP1 hD1
  obtain ⟨hP3, hD3⟩ := xw_perm hP2 hD2 isP hnP (hpm u)
  exact kk u H1 locs1 hpost hP3 hD3 hS1
theorem xq_Iv {Sg : Type} {post : Sg → Prop} {w1 : Sg → va_W} {w3 : Sg → va_W} (S : CallFix p m c cc nL s args lw_all own) (hM : Met l y (ws_ y bytes maxL none) rm (va_Pc (.ref b :: As) (xQ D E wc H.size)) (va_Qv post (fun u t => xR D E (va_A wc H.size) (w1 u) t) (va_A wc H.size)) mc ms (va_A wc H.size)) (hG : Cond.code y bytes maxL none ∈ lw_all) (hini : Cond.initialized y.cls ∈ lw_all) (hlk : Cond.methodLink own index y ∈ lw_all) (hin : Cond.instanceMethod y ∈ lw_all) (hy1 : y.name = "<init>") (hd : y.cls ≠ "java/lang/invoke/MethodHandle" ∧ y.cls ≠ "java/lang/invoke/VarHandle" ∧ (parseMethodDescriptor y.desc).map (fun d => d.parameters.length) = some n) (hRm : rm.frames + 1 ≤ R.frames ∧ 8 + (maxL + 11) + rm.locals ≤ R.locals) (hrc : rm.cells = mc) (hrs : rm.slots = ms)
    (hK : va_K D vwCl (xT E) s) (hN : nwAll s) (hP : va_P D vwCl (ws ++ tl) H) (hD : va_D A (ws ++ tl)) (hS : va_S A s.heap H locs) (hA : ∀ q, s.heap.size ≤ q → A q) (isC isR isP : List Nat) (hC : isC.map (fun i => ws[i]?) = wc.map some) (hR : isR.map (fun i => ws[i]?) = wr.map some) (hnC : va_nd isC = true) (hnR : va_nd isR = true) (hnP : va_nd isP = true) (hdis : ∀ i ∈ isR, i ∉ isC) (hpm : ∀ u, isP.map (fun i => (wr ++ w1 u)[i]?) = (w3 u).map some)  (hn : As.length = n) (hsz : ls.size = nL) (hst : st0 = As.reverse ++ .ref b :: rest) (hW : (rest.map fun v => v.category).sum ≤ 8) (hdg : decode cc pc = .ok (.invokespecial index, 3)) (hf : cells + mc ≤ R.cells ∧ slots + ms ≤ R.slots)
    (kk : ∀ (u : Sg) (H1 : Heap) (locs1 : List Loc), post u → va_P D vwCl (w3 u ++ tl) H1 → va_D A (w3 u ++ tl) → va_S A s.heap H1 locs1 → W p l e R s m args below meth c H1 locs1 (cells + mc) (slots + ms) Q (F0 m (pc + 3) ls rest)) : W p l e R s m args below meth c H locs cells slots Q (F0 m pc ls st0) := by
  have hFc := xw_free hD hS hA isC hC
  refine va_callv (va_runI (As := As) (rest := rest) S hM (cwI n S.2.2.2.2 (lw_meth hG) rfl hrc hrs (S.2.2.2.2 _ hini) (S.2.2.2.2 _ hlk) (S.2.2.2.2 _ hin) hy1 hd hRm) ⟨xQ_blind, fun U hU hWm => ⟨rfl, by rw [hU], by rw [hU]; exact xw_sub hP isC hC, va_K.moved hWm.alike hK, ((xw_dl hD).sub isC hnC hC).weaken (fun _ _ _ _ => trivial), nwAll.warm hWm hN⟩⟩ rfl hn hsz hst (lv_room hW) hdg hf) hS (fun q _ h => hFc q h) hFc ?_
  intro u t H1 locs1 ht hvm hpost hB hz1 hk1 hS1
  obtain ⟨hP1, hD1⟩ := hB
  rw [ht] at hP1
  obtain ⟨hP2, hD2⟩ := xw_join hP hD isC isR hC hR hnR hdis hk1 hFc hP1 hD1
  obtain ⟨hP3, hD3⟩ := xw_perm hP2 hD2 isP hnP (hpm u)
  exact kk u H1 locs1 hpost hP3 hD3 hS1
end XC
