/-! signs and speeds, place by place; the model's gap -/
def SgTo (C : C3) (n K : Nat) (sg : Nat → Nat) (x : Nat) : Prop := ∀ q, q < x → sg q < 12 ∧ wsg C n (fwN (mS C sg) q) q (sg q) = K ∧ ∀ g, g < sg q → wsg C n (fwN (mS C sg) q) q g ≠ K
theorem fw_up {C : C3} {sg : Nat → Nat} {x g q v : Nat} (hq : q ≤ x) (hv : v < 9) : fwN (mS C (va_up sg x g)) q v = fwN (mS C sg) q v := fwN_cong (fun y w hy hw => by
  show C y (va_up sg x g y) w = C y (sg y) w
  rw [va_up_ne _ _ (by omega)]) hv
theorem SgTo.step {C : C3} {n K x g : Nat} {sg : Nat → Nat} (h : SgTo C n K sg x) (hg : g < 12) (h1 : wsg C n (fwN (mS C sg) x) x g = K) (h2 : ∀ z, z < g → wsg C n (fwN (mS C sg) x) x z ≠ K) : SgTo C n K (va_up sg x g) (x + 1) := by
  intro q hq
  have hc : ∀ z, wsg C n (fwN (mS C (va_up sg x g)) q) q z = wsg C n (fwN (mS C sg) q) q z := fun z => wsg_cong (fun v hv => fw_up (by omega) hv)
  by_cases e : q = x
  · subst e
    rw [va_up_self]
    exact ⟨hg, by rw [hc]; exact h1, fun z hz => by rw [hc]; exact h2 z hz⟩
  · rw [va_up_ne _ _ e]
    obtain ⟨a1, a2, a3⟩ := h q (by omega)
    exact ⟨a1, by rw [hc]; exact a2, fun z hz => by rw [hc]; exact a3 z hz⟩
theorem may_first {C : C3} {n K : Nat} {sg : Nat → Nat} (hK : isMin (bk (cheap C) n n) K) : ∃ v, v < 9 ∧ mayP C n K sg 0 v := by
  obtain ⟨-, v, h1, h2⟩ := hK
  refine ⟨v, h1, ?_⟩
  show 0 + bk (cheap C) n (n - 0) v = K
  rw [Nat.sub_zero, Nat.zero_add]
  exact h2
theorem sign_ex {C : C3} {n K x : Nat} {sg : Nat → Nat} (hC : Sm C n) (hn : n ≤ 20) (hK : isMin (bk (cheap C) n n) K) (hs : ∀ q, q < x → sg q < 12) (hx : x < n) (hm : ∃ v, v < 9 ∧ mayP C n K sg x v) : ∃ g, g < 12 ∧ wsg C n (fwN (mS C sg) x) x g = K := by
  obtain ⟨v, h1, h2⟩ := hm
  obtain ⟨g, w, a1, a2, a3⟩ := may_go hC hx h1 h2
  exact ⟨g, a1, (goP_wsg hC hn hK hs hx a1).mp ⟨w, a2, a3⟩⟩
theorem goP_up {C : C3} {n K x g w : Nat} {sg : Nat → Nat} (h : goP C n K sg x g w) : goP C n K (va_up sg x g) x (va_up sg x g x) w := by
  obtain ⟨v, a1, a2, a3⟩ := h
  refine ⟨v, a1, ?_, ?_⟩
  · unfold mayP at a2 ⊢
    rw [fw_up (Nat.le_refl x) a1]
    exact a2
  · rw [va_up_self]
    exact a3
theorem may_step {C : C3} {n K x g : Nat} {sg : Nat → Nat} (hC : Sm C n) (hn : n ≤ 20) (hK : isMin (bk (cheap C) n n) K) (hs : ∀ q, q < x → sg q < 12) (hx : x < n) (hg : g < 12) (h1 : wsg C n (fwN (mS C sg) x) x g = K) : ∃ w, w < 9 ∧ mayP C n K (va_up sg x g) (x + 1) w := by
  obtain ⟨w, a1, a2⟩ := (goP_wsg hC hn hK hs hx hg).mpr h1
  refine ⟨w, a1, (goP_may hK (fun q hq => ?_) hx a1).mp (goP_up a2)⟩
  by_cases e : q = x
  · subst e
    rw [va_up_self]
    exact hg
  · rw [va_up_ne _ _ e]
    exact hs q (by omega)
-- speeds
def SpTo (C : C3) (n K : Nat) (sg sp : Nat → Nat) (x : Nat) : Prop := ∀ q, q < x → sp q < 9 ∧ okV C n K sg sp q (sp q) ∧ ∀ v, v < sp q → ¬ okV C n K sg sp q v
theorem okV_up {C : C3} {n K x v q z : Nat} {sg sp : Nat → Nat} (hq : q ≤ x) (hqn : q < n) (hz : z < 9) : okV C n K sg (va_up sp x v) q z ↔ okV C n K sg sp q z := okV_cong hz hqn (fun _ _ => rfl) (fun y hy => va_up_ne _ _ (by omega))
theorem SpTo.step {C : C3} {n K x v : Nat} {sg sp : Nat → Nat} (h : SpTo C n K sg sp x) (hx : x < n) (hv : v < 9) (h1 : okV C n K sg sp x v) (h2 : ∀ z, z < v → ¬ okV C n K sg sp x z) : SpTo C n K sg (va_up sp x v) (x + 1) := by
  intro q hq
  by_cases e : q = x
  · subst e
    rw [va_up_self]
    exact ⟨hv, (okV_up (Nat.le_refl q) hx hv).mpr h1, fun z hz c => h2 z hz ((okV_up (Nat.le_refl q) hx (by omega)).mp c)⟩
  · rw [va_up_ne _ _ e]
    obtain ⟨a1, a2, a3⟩ := h q (by omega)
    exact ⟨a1, (okV_up (by omega) (by omega) a1).mpr a2, fun z hz c => a3 z hz ((okV_up (by omega) (by omega) (by omega)).mp c)⟩
theorem lefts_up {C : C3} {K x v : Nat} {sg sp : Nat → Nat} : lefts C K sg (va_up sp x v) (x + 1) = lefts C K sg sp x - C x (sg x) v := by
  show lefts C K sg (va_up sp x v) x - C x (sg x) (va_up sp x v x) = _
  rw [va_up_self, lefts_cong (n := 0) (sg2 := sg) (sp2 := sp) (fun q hq => ⟨rfl, va_up_ne _ _ (by omega)⟩)]
theorem spd_first {C : C3} {n K : Nat} {sg sp : Nat → Nat} (h : isMin (bk (mS C sg) n n) K) : ∃ v, v < 9 ∧ okV C n K sg sp 0 v := by
  obtain ⟨-, v, h1, h2⟩ := h
  exact ⟨v, h1, by rw [Nat.sub_zero]; exact h2, Or.inl rfl⟩
theorem spd_le {C : C3} {n K x v : Nat} {sg sp : Nat → Nat} (hx : x < n) (h : okV C n K sg sp x v) : C x (sg x) v ≤ lefts C K sg sp x := by
  have h1 := h.1
  rw [bk_at hx] at h1
  have h2 : mS C sg x v = C x (sg x) v := rfl
  omega
theorem spd_next {C : C3} {n K x v : Nat} {sg sp : Nat → Nat} (hx : x < n) (hv : v < 9) (h : okV C n K sg sp x v) : ∃ w, w < 9 ∧ okV C n K sg (va_up sp x v) (x + 1) w := by
  have h1 := h.1
  rw [bk_at hx] at h1
  have h2 : mS C sg x v = C x (sg x) v := rfl
  obtain ⟨w, b1, b2, b3, b4⟩ := nr_ex (bk (mS C sg) n (n - 1 - x)) hv
  refine ⟨w, b1, ?_, Or.inr ?_⟩
  · rw [lefts_up, show n - (x + 1) = n - 1 - x by omega]
    omega
  · rw [Nat.add_sub_cancel, va_up_self]
    exact ⟨b2, b3⟩
/-- the first speed that fits -/
theorem spd_least {C : C3} {n K x : Nat} {sg sp : Nat → Nat} (h : ∃ v, v < 9 ∧ okV C n K sg sp x v) : ∃ v, v < 9 ∧ okV C n K sg sp x v ∧ ∀ z, z < v → ¬ okV C n K sg sp x z := by
  obtain ⟨v, ⟨h1, h2⟩, h3⟩ := pk_least (fun v => v < 9 ∧ okV C n K sg sp x v) h
  exact ⟨v, h1, h2, fun z hz c => h3 z hz ⟨by omega, c⟩⟩
theorem sign_least {C : C3} {n K x : Nat} {N : Nat → Nat} (h : ∃ g, g < 12 ∧ wsg C n N x g = K) : ∃ g, g < 12 ∧ wsg C n N x g = K ∧ ∀ z, z < g → wsg C n N x z ≠ K := by
  obtain ⟨v, ⟨h1, h2⟩, h3⟩ := pk_least (fun g => g < 12 ∧ wsg C n N x g = K) h
  exact ⟨v, h1, h2, fun z hz c => h3 z hz ⟨by omega, c⟩⟩
/-- where the search begins at the earliest -/
def sp0 (sp : Nat → Nat) (x : Nat) : Nat := if x = 0 then 0 else sp (x - 1) - 1
theorem spd_from {C : C3} {n K x v : Nat} {sg sp : Nat → Nat} (h : okV C n K sg sp x v) : sp0 sp x ≤ v := by
  unfold sp0
  rcases h.2 with e | e
  · rw [if_pos e]; omega
  · split <;> omega
theorem spd_hit {C : C3} {n K x v vs : Nat} {sg sp : Nat → Nat} (h : okV C n K sg sp x vs) (h2 : ∀ z, z < vs → ¬ okV C n K sg sp x z) (h0 : sp0 sp x ≤ v) (hv : v ≤ vs) (e : bk (mS C sg) n (n - x) v = lefts C K sg sp x) : v = vs := by
  rcases Nat.lt_or_ge v vs with q | q
  · exfalso
    refine h2 v q ⟨e, ?_⟩
    rcases h.2 with e1 | e1
    · exact Or.inl e1
    · by_cases hz : x = 0
      · exact Or.inl hz
      · right
        unfold sp0 at h0
        rw [if_neg hz] at h0
        omega
  · omega
-- the gap, from the model's side
def gapM (C : C3) (n : Nat) (sg : Nat → Nat) (b x g : Nat) : Prop := b ≤ 100000000 ∧ (∀ q z, (q < x ∨ q = x ∧ z < g) → z < 12 → z ≠ sg q → b ≤ wsg C n (fwN (cheap C) q) q z) ∧ (b = 100000000 ∨ ∃ q z, q < n ∧ z < 12 ∧ z ≠ sg q ∧ b = wsg C n (fwN (cheap C) q) q z)
theorem gapM_0 {C : C3} {n : Nat} {sg : Nat → Nat} : gapM C n sg 100000000 0 0 := ⟨Nat.le_refl _, fun q z h => by omega, Or.inl rfl⟩
theorem gapM_row {C : C3} {n b x : Nat} {sg : Nat → Nat} (h : gapM C n sg b x 12) : gapM C n sg b (x + 1) 0 := by
  obtain ⟨h0, h1, h2⟩ := h
  exact ⟨h0, fun q z hq hz hne => h1 q z (by omega) hz hne, h2⟩
theorem gapM_skip {C : C3} {n b x g : Nat} {sg : Nat → Nat} (h : gapM C n sg b x g) (e : g = sg x) : gapM C n sg b x (g + 1) := by
  obtain ⟨h0, h1, h2⟩ := h
  refine ⟨h0, fun q z hq hz hne => ?_, h2⟩
  by_cases c : q = x ∧ z = g
  · exact absurd (by rw [c.1, c.2, e]) hne
  · exact h1 q z (by omega) hz hne
theorem gapM_low {C : C3} {n b x g : Nat} {sg : Nat → Nat} (h : gapM C n sg b x g) (hx : x < n) (hg : g < 12) (hne : g ≠ sg x) (c : wsg C n (fwN (cheap C) x) x g < b) : gapM C n sg (wsg C n (fwN (cheap C) x) x g) x (g + 1) := by
  obtain ⟨h0, h1, h2⟩ := h
  refine ⟨by omega, fun q z hq hz hn2 => ?_, Or.inr ⟨x, g, hx, hg, hne, rfl⟩⟩
  by_cases e : q = x ∧ z = g
  · rw [e.1, e.2]
    exact Nat.le_refl _
  · exact Nat.le_trans (Nat.le_of_lt c) (h1 q z (by omega) hz hn2)
theorem gapM_keep {C : C3} {n b x g : Nat} {sg : Nat → Nat} (h : gapM C n sg b x g) (c : b ≤ wsg C n (fwN (cheap C) x) x g) : gapM C n sg b x (g + 1) := by
  obtain ⟨h0, h1, h2⟩ := h
  refine ⟨h0, fun q z hq hz hn2 => ?_, h2⟩
  by_cases e : q = x ∧ z = g
  · rw [e.1, e.2]
    exact c
  · exact h1 q z (by omega) hz hn2
theorem wsg_ex {C : C3} {n q g : Nat} (hC : Sm C n) (hn : n ≤ 20) (hq : q < n) (hg : g < 12) : ∃ v, v < 9 ∧ wsg C n (fwN (cheap C) q) q g = fwN (cheap C) q v + C q g v + nr (bk (cheap C) n (n - 1 - q)) v := by
  have h1 := fwN_sm hC hq (v := 0) (by decide)
  have h2 := hC q g 0 hq hg (by decide)
  have h3 := bk_sm hC (r := n - 1 - q) (v := 0) (by omega) (by decide)
  have h4 : nr (bk (cheap C) n (n - 1 - q)) 0 ≤ bk (cheap C) n (n - 1 - q) 0 := nr_le (by decide) (by omega) (by omega)
  obtain ⟨v, a1, -, a3⟩ := mnP_at (F := 100000000) (ok := al) (f := fun v => fwN (cheap C) q v + C q g v + nr (bk (cheap C) n (n - 1 - q)) v) (n := 9) ⟨0, by decide, rfl, by omega⟩
  exact ⟨v, a1, a3⟩
theorem gapM_end {C : C3} {n K b : Nat} {sg : Nat → Nat} (hC : Sm C n) (hn : n ≤ 20) (h0 : 0 < n) (hK : isMin (bk (cheap C) n n) K) (h : gapM C n sg b n 0) : K ≤ b ∧ b < 100000000 ∧ Gap C n K sg (b - K) := by
  obtain ⟨a0, a1, a2⟩ := h
  have hb : b < 100000000 ∧ ∃ q z, q < n ∧ z < 12 ∧ z ≠ sg q ∧ b = wsg C n (fwN (cheap C) q) q z := by
    rcases a2 with e | e
    · -- some sign other than the first one's
      exfalso
      obtain ⟨z, hz, hne⟩ : ∃ z, z < 12 ∧ z ≠ sg 0 := by
        by_cases c : sg 0 = 0
        · exact ⟨1, by decide, by omega⟩
        · exact ⟨0, by decide, by omega⟩
      have h1 := a1 0 z (Or.inl h0) hz hne
      obtain ⟨v, b1, b2⟩ := wsg_ex hC hn h0 hz
      have h2 := fwN_sm hC h0 b1
      have h3 := hC 0 z v h0 hz b1
      have h4 := bk_sm hC (r := n - 1 - 0) (v := v) (by omega) b1
      have h5 : nr (bk (cheap C) n (n - 1 - 0)) v ≤ bk (cheap C) n (n - 1 - 0) v := nr_le b1 (by omega) (by omega)
      omega
    · obtain ⟨q, z, c1, c2, c3, c4⟩ := e
      refine ⟨?_, q, z, c1, c2, c3, c4⟩
      obtain ⟨v, b1, b2⟩ := wsg_ex hC hn c1 c2
      have h2 := fwN_sm hC c1 b1
      have h3 := hC q z v c1 c2 b1
      have h4 := bk_sm hC (r := n - 1 - q) (v := v) (by omega) b1
      have h5 : nr (bk (cheap C) n (n - 1 - q)) v ≤ bk (cheap C) n (n - 1 - q) v := nr_le b1 (by omega) (by omega)
      omega
  obtain ⟨hb1, q, z, c1, c2, c3, c4⟩ := hb
  obtain ⟨v, b1, b2⟩ := wsg_ex hC hn c1 c2
  have hKb : K ≤ b := by
    have h1 := (fb_mid hK c1).1 v b1
    have h2 : cheap C q v ≤ C q z v := cheap_le c2
    dsimp only at h1
    omega
  refine ⟨hKb, hb1, fun y g w d1 d2 d3 d4 => ?_, q, z, v, c1, c2, c3, b1, ?_⟩
  · have h1 := a1 y g (Or.inl d1) d2 d3
    have h2 : wsg C n (fwN (cheap C) y) y g ≤ fwN (cheap C) y w + C y g w + nr (bk (cheap C) n (n - 1 - y)) w := mnP_le (f := fun v => fwN (cheap C) y v + C y g v + nr (bk (cheap C) n (n - 1 - y)) v) d4 rfl
    omega
  · omega
theorem mS_sm {C : C3} {n : Nat} {sg : Nat → Nat} (hC : Sm C n) (hs : ∀ q, q < n → sg q < 12) : ∀ q w, w < 9 → q < n → mS C sg q w ≤ 336 := fun q w hw hq => hC q (sg q) w hq (hs q hq) hw
theorem up_step {s1 : Nat → Int32} {sg : Nat → Nat} {x g : Nat} (h : ∀ q, q < x → s1 q = nI (sg q)) : ∀ q, q < x + 1 → upd s1 x (nI g) q = nI (va_up sg x g q) := by
  intro q hq
  by_cases e : q = x
  · subst e
    rw [pk_us, va_up_self]
  · rw [pk_un e, va_up_ne _ _ e]
    exact h q (by omega)
theorem fwN_pred {m : Nat → Nat → Nat} {x z : Nat} : fwN m x z = if x = 0 then 0 else nr (fun z => fwN m (x - 1) z + m (x - 1) z) z := by
  cases x with
  | zero => rfl
  | succ x => rfl
