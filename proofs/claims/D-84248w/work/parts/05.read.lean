/-! what a reading is: the least cost, the first signs of it, the first speeds, the gap; each is told once alone -/
abbrev C3 : Type := Nat → Nat → Nat → Nat
def cheap (C : C3) (p v : Nat) : Nat := mnP 1000000 al (fun g => C p g v) 12
def mS (C : C3) (sg : Nat → Nat) (p v : Nat) : Nat := C p (sg p) v
/-- all costs are small -/
def Sm (C : C3) (n : Nat) : Prop := ∀ p g v, p < n → g < 12 → v < 9 → C p g v ≤ 336
theorem cheap_le {C : C3} {p g v : Nat} (hg : g < 12) : cheap C p v ≤ C p g v := mnP_le hg rfl
theorem cheap_ex {C : C3} {n p v : Nat} (hC : Sm C n) (hp : p < n) (hv : v < 9) : ∃ g, g < 12 ∧ cheap C p v = C p g v := by
  have h0 := hC p 0 v hp (by decide) hv
  obtain ⟨i, h1, -, h3⟩ := mnP_at (F := 1000000) (ok := al) (f := fun g => C p g v) (n := 12) ⟨0, by decide, rfl, by omega⟩
  exact ⟨i, h1, h3⟩
theorem cheap_sm {C : C3} {n p v : Nat} (hC : Sm C n) (hp : p < n) (hv : v < 9) : cheap C p v ≤ 336 :=
  Nat.le_trans (cheap_le (g := 0) (by decide)) (hC p 0 v hp (by decide) hv)
/-- the model's bound gives the same -/
theorem cheap_far {C : C3} {n p v : Nat} (hC : Sm C n) (hp : p < n) (hv : v < 9) : mnP 100000000 al (fun g => C p g v) 12 = cheap C p v := by
  have h0 := hC p 0 v hp (by decide) hv
  exact mnP_far ⟨0, by decide, rfl, by omega, by omega⟩
theorem bk_sm {C : C3} {n r v : Nat} (hC : Sm C n) (hr : r ≤ n) (hv : v < 9) : bk (cheap C) n r v ≤ 336 * r := bk_le (fun p w hw hp => cheap_sm hC hp hw) hr hv
/-- the least cost with sign g at place p, N ahead of it -/
def wsg (C : C3) (n : Nat) (N : Nat → Nat) (p g : Nat) : Nat := mnP 100000000 al (fun v => N v + C p g v + nr (bk (cheap C) n (n - 1 - p)) v) 9
def Signs (C : C3) (n K : Nat) (sg : Nat → Nat) : Prop := ∀ p, p < n → sg p < 12 ∧ wsg C n (fwN (mS C sg) p) p (sg p) = K ∧ ∀ g, g < sg p → wsg C n (fwN (mS C sg) p) p g ≠ K
theorem wsg_cong {C : C3} {n p g : Nat} {N N2 : Nat → Nat} (h : ∀ v, v < 9 → N v = N2 v) : wsg C n N p g = wsg C n N2 p g := mnP_cong (fun v hv => ⟨rfl, by rw [h v hv]⟩)
theorem Signs.uniq {C : C3} {n K : Nat} {a b : Nat → Nat} (ha : Signs C n K a) (hb : Signs C n K b) : ∀ p, p < n → a p = b p := by
  intro p
  induction p using Nat.strongRecOn with
  | _ p ih =>
    intro hp
    have hN : ∀ g, wsg C n (fwN (mS C a) p) p g = wsg C n (fwN (mS C b) p) p g := fun g => wsg_cong (fun v hv => fwN_cong (fun q w hq hw => by
      show C q (a q) w = C q (b q) w
      rw [ih q hq (by omega)]) hv)
    obtain ⟨-, a1, a2⟩ := ha p hp
    obtain ⟨-, b1, b2⟩ := hb p hp
    rcases Nat.lt_trichotomy (a p) (b p) with h | h | h
    · exact absurd (by rw [← hN]; exact a1) (b2 (a p) h)
    · exact h
    · exact absurd (by rw [hN]; exact b1) (a2 (b p) h)
def lefts (C : C3) (K : Nat) (sg sp : Nat → Nat) : Nat → Nat
  | 0 => K
  | p + 1 => lefts C K sg sp p - C p (sg p) (sp p)
def okV (C : C3) (n K : Nat) (sg sp : Nat → Nat) (p v : Nat) : Prop := bk (mS C sg) n (n - p) v = lefts C K sg sp p ∧ (p = 0 ∨ (v ≤ sp (p - 1) + 1 ∧ sp (p - 1) ≤ v + 1))
def Speeds (C : C3) (n K : Nat) (sg sp : Nat → Nat) : Prop := ∀ p, p < n → sp p < 9 ∧ okV C n K sg sp p (sp p) ∧ ∀ v, v < sp p → ¬ okV C n K sg sp p v
theorem lefts_cong {C : C3} {K n : Nat} {sg sg2 sp sp2 : Nat → Nat} : ∀ {p : Nat}, (∀ q, q < p → sg q = sg2 q ∧ sp q = sp2 q) → lefts C K sg sp p = lefts C K sg2 sp2 p
  | 0, _ => rfl
  | p + 1, h => by
    unfold lefts
    rw [lefts_cong (n := n) (p := p) (fun q hq => h q (by omega)), (h p (by omega)).1, (h p (by omega)).2]
theorem okV_cong {C : C3} {n K p v : Nat} {sg sg2 sp sp2 : Nat → Nat} (hv : v < 9) (hp : p < n) (h1 : ∀ q, q < n → sg q = sg2 q) (h2 : ∀ q, q < p → sp q = sp2 q) : okV C n K sg sp p v ↔ okV C n K sg2 sp2 p v := by
  unfold okV
  rw [lefts_cong (n := n) (fun q hq => ⟨h1 q (by omega), h2 q hq⟩), bk_cong (m2 := mS C sg2) (fun q w a b c => by show C q (sg q) w = C q (sg2 q) w; rw [h1 q b]) (by omega) hv]
  by_cases hz : p = 0
  · simp [hz]
  · rw [h2 (p - 1) (by omega)]
theorem Speeds.uniq {C : C3} {n K : Nat} {sg sg2 a b : Nat → Nat} (hs : ∀ p, p < n → sg p = sg2 p) (ha : Speeds C n K sg a) (hb : Speeds C n K sg2 b) : ∀ p, p < n → a p = b p := by
  intro p
  induction p using Nat.strongRecOn with
  | _ p ih =>
    intro hp
    obtain ⟨a0, a1, a2⟩ := ha p hp
    obtain ⟨b0, b1, b2⟩ := hb p hp
    have hc : ∀ v, v < 9 → (okV C n K sg a p v ↔ okV C n K sg2 b p v) := fun v hv => okV_cong hv hp hs (fun q hq => ih q hq (by omega))
    rcases Nat.lt_trichotomy (a p) (b p) with h | h | h
    · exact absurd ((hc _ a0).mp a1) (b2 (a p) h)
    · exact h
    · exact absurd ((hc _ b0).mpr b1) (a2 (b p) h)
/-- K + G is the least cost of all that has another sign somewhere -/
def Gap (C : C3) (n K : Nat) (sg : Nat → Nat) (G : Nat) : Prop := (∀ p g v, p < n → g < 12 → g ≠ sg p → v < 9 → K + G ≤ fwN (cheap C) p v + C p g v + nr (bk (cheap C) n (n - 1 - p)) v) ∧ ∃ p g v, p < n ∧ g < 12 ∧ g ≠ sg p ∧ v < 9 ∧ K + G = fwN (cheap C) p v + C p g v + nr (bk (cheap C) n (n - 1 - p)) v
theorem Gap.uniq {C : C3} {n K G G2 : Nat} {sg sg2 : Nat → Nat} (hs : ∀ p, p < n → sg p = sg2 p) (h1 : Gap C n K sg G) (h2 : Gap C n K sg2 G2) : G = G2 := by
  obtain ⟨a1, p, g, v, b1, b2, b3, b4, b5⟩ := h1
  obtain ⟨c1, q, g2, w, d1, d2, d3, d4, d5⟩ := h2
  have e1 := a1 q g2 w d1 d2 (by rw [hs q d1]; exact d3) d4
  have e2 := c1 p g v b1 b2 (by rw [← hs p b1]; exact b3) b4
  omega
/-- what a reading says -/
def Rd (C : C3) (n K G : Nat) (sg sp : Nat → Nat) : Prop := isMin (bk (cheap C) n n) K ∧ Signs C n K sg ∧ Speeds C n K sg sp ∧ Gap C n K sg G
theorem Rd.uniq {C : C3} {n K K2 G G2 : Nat} {sg sg2 sp sp2 : Nat → Nat} (h1 : Rd C n K G sg sp) (h2 : Rd C n K2 G2 sg2 sp2) : K = K2 ∧ G = G2 ∧ ∀ p, p < n → sg p = sg2 p ∧ sp p = sp2 p := by
  obtain ⟨a1, a2, a3, a4⟩ := h1
  obtain ⟨b1, b2, b3, b4⟩ := h2
  have e := isMin_eq a1 b1
  subst e
  have es := a2.uniq b2
  exact ⟨rfl, a4.uniq es b4, fun p hp => ⟨es p hp, a3.uniq es b3 p hp⟩⟩
/-! ===== the desk's way to the signs ===== -/
theorem fwN_mono {m m2 : Nat → Nat → Nat} : ∀ {p v : Nat}, (∀ q w, q < p → w < 9 → m q w ≤ m2 q w) → v < 9 → fwN m p v ≤ fwN m2 p v
  | 0, _, _, _ => Nat.le_refl _
  | p + 1, v, h, hv => by
    unfold fwN
    obtain ⟨z, b1, b2, b3, b4⟩ := nr_ex (fun w => fwN m2 p w + m2 p w) hv
    rw [b4]
    have h1 := fwN_mono (p := p) (fun q w hq hw => h q w (by omega) hw) b1
    have h2 := h p z (by omega) b1
    have h3 : nr (fun w => fwN m p w + m p w) v ≤ fwN m p z + m p z := nr_le (f := fun w => fwN m p w + m p w) b1 b2 b3
    try dsimp only
    omega
theorem lowS {C : C3} {n K p v : Nat} {sg : Nat → Nat} (hK : isMin (bk (cheap C) n n) K) (hs : ∀ q, q < p → sg q < 12) (hp : p ≤ n) (hv : v < 9) : K ≤ fwN (mS C sg) p v + bk (cheap C) n (n - p) v := by
  have h1 := (fb_all hK hp).1 v hv
  have h2 : fwN (cheap C) p v ≤ fwN (mS C sg) p v := fwN_mono (fun q w hq hw => cheap_le (hs q hq)) hv
  try dsimp only at h1
  omega
/-- speed v may be at place p -/
def mayP (C : C3) (n K : Nat) (sg : Nat → Nat) (p v : Nat) : Prop := fwN (mS C sg) p v + bk (cheap C) n (n - p) v = K
/-- sign g can be at p and speed w behind it -/
def goP (C : C3) (n K : Nat) (sg : Nat → Nat) (p g w : Nat) : Prop := ∃ v, v < 9 ∧ mayP C n K sg p v ∧ w ≤ v + 1 ∧ v ≤ w + 1 ∧ bk (cheap C) n (n - p) v = C p g v + bk (cheap C) n (n - 1 - p) w
theorem goP_wsg {C : C3} {n K p g : Nat} {sg : Nat → Nat} (hC : Sm C n) (hn : n ≤ 20) (hK : isMin (bk (cheap C) n n) K) (hs : ∀ q, q < p → sg q < 12) (hp : p < n) (hg : g < 12) : (∃ w, w < 9 ∧ goP C n K sg p g w) ↔ wsg C n (fwN (mS C sg) p) p g = K := by
  have hKs : K ≤ 6720 := by
    have h1 := hK.1 0 (by decide)
    have h2 := bk_sm hC (Nat.le_refl n) (v := 0) (by decide)
    omega
  have low : ∀ v, v < 9 → K ≤ fwN (mS C sg) p v + C p g v + nr (bk (cheap C) n (n - 1 - p)) v := by
    intro v hv
    have h1 := lowS hK hs (Nat.le_of_lt hp) hv
    rw [bk_at hp] at h1
    have h2 : cheap C p v ≤ C p g v := cheap_le hg
    omega
  constructor
  · rintro ⟨w, hw, v, hv, h1, h2, h3, h4⟩
    have h5 : nr (bk (cheap C) n (n - 1 - p)) v ≤ bk (cheap C) n (n - 1 - p) w := nr_le hw h2 h3
    have h6 := low v hv
    unfold mayP at h1
    exact (mnP_uniq (fun i hi _ => low i hi) ⟨v, hv, rfl, by omega⟩ (by omega)).symm
  · intro h
    rcases mnP_ex (F := 100000000) (ok := al) (f := fun v => fwN (mS C sg) p v + C p g v + nr (bk (cheap C) n (n - 1 - p)) v) (n := 9) with q | ⟨v, hv, -, q⟩
    · unfold wsg at h
      omega
    · have e : fwN (mS C sg) p v + C p g v + nr (bk (cheap C) n (n - 1 - p)) v = K := q.symm.trans h
      obtain ⟨w, b1, b2, b3, b4⟩ := nr_ex (bk (cheap C) n (n - 1 - p)) hv
      have h1 := lowS hK hs (Nat.le_of_lt hp) hv
      have h3 := bk_at (m := cheap C) (v := v) hp
      have h2 : cheap C p v ≤ C p g v := cheap_le hg
      refine ⟨w, b1, v, hv, ?_, b2, b3, ?_⟩
      · unfold mayP
        omega
      · omega
theorem goP_may {C : C3} {n K p w : Nat} {sg : Nat → Nat} (hK : isMin (bk (cheap C) n n) K) (hs : ∀ q, q ≤ p → sg q < 12) (hp : p < n) (hw : w < 9) : goP C n K sg p (sg p) w ↔ mayP C n K sg (p + 1) w := by
  have e1 : n - (p + 1) = n - 1 - p := by omega
  unfold mayP
  rw [e1]
  have hlow := lowS hK (sg := sg) (p := p + 1) (v := w) (fun q hq => hs q (by omega)) (by omega) hw
  rw [e1] at hlow
  constructor
  · rintro ⟨v, hv, h1, h2, h3, h4⟩
    unfold mayP at h1
    have h5 : fwN (mS C sg) (p + 1) w ≤ fwN (mS C sg) p v + mS C sg p v := nr_le (f := fun v => fwN (mS C sg) p v + mS C sg p v) hv h3 h2
    have h6 : mS C sg p v = C p (sg p) v := rfl
    omega
  · intro h
    obtain ⟨v, b1, b2, b3, b4⟩ := nr_ex (fun v => fwN (mS C sg) p v + mS C sg p v) hw
    have h5 : fwN (mS C sg) (p + 1) w = fwN (mS C sg) p v + mS C sg p v := b4
    have h6 : mS C sg p v = C p (sg p) v := rfl
    have h7 := lowS hK (sg := sg) (fun q hq => hs q (by omega)) (Nat.le_of_lt hp) b1
    have h8 : nr (bk (cheap C) n (n - 1 - p)) v ≤ bk (cheap C) n (n - 1 - p) w := nr_le hw b3 b2
    have h9 := bk_at (m := cheap C) (v := v) hp
    have h10 : cheap C p v ≤ C p (sg p) v := cheap_le (hs p (Nat.le_refl p))
    refine ⟨v, b1, ?_, b3, b2, ?_⟩
    · unfold mayP
      omega
    · omega
theorem may_go {C : C3} {n K p v : Nat} {sg : Nat → Nat} (hC : Sm C n) (hp : p < n) (hv : v < 9) (h : mayP C n K sg p v) : ∃ g w, g < 12 ∧ w < 9 ∧ goP C n K sg p g w := by
  obtain ⟨g, h1, h2⟩ := cheap_ex hC hp hv
  obtain ⟨w, b1, b2, b3, b4⟩ := nr_ex (bk (cheap C) n (n - 1 - p)) hv
  refine ⟨g, w, h1, b1, v, hv, h, b2, b3, ?_⟩
  rw [bk_at hp, h2, b4]
/-- all signs taken: these signs alone cost K at least, and that at most -/
theorem signs_min {C : C3} {n K v : Nat} {sg : Nat → Nat} (hK : isMin (bk (cheap C) n n) K) (hs : ∀ q, q < n → sg q < 12) (hv : v < 9) (h : mayP C n K sg n v) : isMin (bk (mS C sg) n n) K := by
  have e : ∀ v, v < 9 → fwN (mS C sg) n v + bk (mS C sg) n (n - n) v = fwN (mS C sg) n v := fun v _ => by
    rw [Nat.sub_self]
    rfl
  have e2 : ∀ v, bk (cheap C) n (n - n) v = 0 := fun v => by rw [Nat.sub_self]; rfl
  unfold mayP at h
  rw [e2] at h
  have hm : isMin (fun v => fwN (mS C sg) n v) K := ⟨fun w hw => by
    have := lowS hK hs (Nat.le_refl n) hw
    rw [e2] at this
    exact this, v, hv, h⟩
  -- the least of its own, carried to the end, is that
  obtain ⟨x, hx⟩ : ∃ x, isMin (bk (mS C sg) n n) x := by
    refine ⟨mnP (bk (mS C sg) n n 0 + 1) al (bk (mS C sg) n n) 9, isMin_of (Nat.lt_succ_self _)⟩
  have h1 := isMin_cong (fb_all hx (Nat.le_refl n)) e
  rw [isMin_eq hm h1]
  exact hx
/-- with a sign barred at one place -/
def barC (C : C3) (at_ no : Nat) (p v : Nat) : Nat := mnP 1000000 (fun g => !(p == at_ && g == no)) (fun g => C p g v) 12
theorem barC_off {C : C3} {a no p v : Nat} (h : p ≠ a) : barC C a no p v = cheap C p v := by
  refine mnP_cong (fun i _ => ⟨?_, rfl⟩)
  simp [h]
theorem barC_ex {C : C3} {n a no v : Nat} (hC : Sm C n) (ha : a < n) (hv : v < 9) : ∃ g, g < 12 ∧ g ≠ no ∧ barC C a no a v = C a g v := by
  have h0 := hC a 0 v ha (by decide) hv
  have h1 := hC a 1 v ha (by decide) hv
  have : ∃ i, i < 12 ∧ (!(a == a && i == no)) = true ∧ C a i v < 1000000 := by
    by_cases h : no = 0
    · exact ⟨1, by decide, by simp [h], by omega⟩
    · exact ⟨0, by decide, by simp; omega, by omega⟩
  obtain ⟨i, a1, a2, a3⟩ := mnP_at (F := 1000000) (ok := fun g => !(a == a && g == no)) (f := fun g => C a g v) (n := 12) this
  refine ⟨i, a1, ?_, a3⟩
  intro e
  simp [e] at a2
theorem barC_le {C : C3} {a no g v : Nat} (hg : g < 12) (h : g ≠ no) : barC C a no a v ≤ C a g v := by
  refine mnP_le hg ?_
  simp [h]
theorem barC_sm {C : C3} {n a no p v : Nat} (hC : Sm C n) (hp : p < n) (hv : v < 9) : barC C a no p v ≤ 336 := by
  by_cases h : p = a
  · subst h
    obtain ⟨g, h1, -, h3⟩ := barC_ex (no := no) hC hp hv
    rw [h3]
    exact hC p g v hp h1 hv
  · rw [barC_off h]
    exact cheap_sm hC hp hv
/-- the least with a sign barred at a: through a, by sums ahead and behind -/
theorem barC_min {C : C3} {n a no x : Nat} (ha : a < n) (h : isMin (bk (barC C a no) n n) x) : isMin (fun v => fwN (cheap C) a v + barC C a no a v + nr (bk (cheap C) n (n - 1 - a)) v) x := by
  refine isMin_cong (fb_mid h ha) (fun v hv => ?_)
  show fwN (barC C a no) a v + barC C a no a v + nr (bk (barC C a no) n (n - 1 - a)) v = _
  rw [fwN_cong (m2 := cheap C) (fun q w hq hw => barC_off (by omega)) hv, nr_cong hv (fun w hw => bk_cong (m2 := cheap C) (fun q z h1 h2 h3 => barC_off (by omega)) (by omega) hw)]
/-- the desk's gap, place by place -/
def gapD (C : C3) (n K : Nat) (sg : Nat → Nat) (G P : Nat) : Prop := (∀ p g v, p < P → g < 12 → g ≠ sg p → v < 9 → K + G ≤ fwN (cheap C) p v + C p g v + nr (bk (cheap C) n (n - 1 - p)) v) ∧ (G = 1000000 ∧ P = 0 ∨ ∃ p g v, p < P ∧ g < 12 ∧ g ≠ sg p ∧ v < 9 ∧ K + G = fwN (cheap C) p v + C p g v + nr (bk (cheap C) n (n - 1 - p)) v)
theorem gapD_0 {C : C3} {n K : Nat} {sg : Nat → Nat} : gapD C n K sg 1000000 0 := ⟨fun p g v h => absurd h (Nat.not_lt_zero _), Or.inl ⟨rfl, rfl⟩⟩
theorem gapD_succ {C : C3} {n K G P x : Nat} {sg : Nat → Nat} (hC : Sm C n) (hP : P < n) (hKx : K ≤ x) (hx6 : x - K < 1000000) (h : gapD C n K sg G P) (hx : isMin (bk (barC C P (sg P)) n n) x) : gapD C n K sg (if x - K < G then x - K else G) (P + 1) := by
  have hm := barC_min hP hx
  have low : ∀ g v, g < 12 → g ≠ sg P → v < 9 → x ≤ fwN (cheap C) P v + C P g v + nr (bk (cheap C) n (n - 1 - P)) v := by
    intro g v hg hne hv
    have h1 := hm.1 v hv
    have h2 : barC C P (sg P) P v ≤ C P g v := barC_le hg hne
    try dsimp only at h1
    omega
  obtain ⟨h1, h2⟩ := h
  refine ⟨fun p g v hp hg hne hv => ?_, ?_⟩
  · rcases Nat.lt_succ_iff_lt_or_eq.mp hp with q | q
    · have := h1 p g v q hg hne hv
      split <;> omega
    · subst q
      have := low g v hg hne hv
      split <;> omega
  · right
    by_cases hc : x - K < G
    · obtain ⟨-, v, hv, hvx⟩ := hm
      obtain ⟨g, a1, a2, a3⟩ := barC_ex (no := sg P) hC hP hv
      refine ⟨P, g, v, Nat.lt_succ_self P, a1, a2, hv, ?_⟩
      rw [if_pos hc, ← a3]
      clear h1 h2
      try dsimp only at hvx
      omega
    · rw [if_neg hc]
      rcases h2 with ⟨e1, -⟩ | ⟨p, g, v, a1, a2⟩
      · omega
      · exact ⟨p, g, v, Nat.lt_succ_of_lt a1, a2⟩
theorem gapD_end {C : C3} {n K G : Nat} {sg : Nat → Nat} (hn : 0 < n) (h : gapD C n K sg G n) : Gap C n K sg G := by
  obtain ⟨h1, h2⟩ := h
  refine ⟨h1, ?_⟩
  rcases h2 with ⟨-, e⟩ | h2
  · omega
  · exact h2
theorem fwN_le {m : Nat → Nat → Nat} {n M : Nat} (hm : ∀ p w, w < 9 → p < n → m p w ≤ M) : ∀ {p v : Nat}, p ≤ n → v < 9 → fwN m p v ≤ M * p
  | 0, v, _, _ => Nat.zero_le _
  | p + 1, v, hp, hv => by
    unfold fwN
    have h1 := hm p v hv (by omega)
    have h2 : nr (fun w => fwN m p w + m p w) v ≤ fwN m p v + m p v := nr_le (f := fun w => fwN m p w + m p w) hv (by omega) (by omega)
    have h3 := fwN_le hm (p := p) (v := v) (by omega) hv
    rw [Nat.mul_succ]
    omega
theorem fwN_sm {C : C3} {n p v : Nat} (hC : Sm C n) (hp : p < n) (hv : v < 9) : fwN (cheap C) p v ≤ 336 * p := fwN_le (n := n) (fun p w hw hp => cheap_sm hC hp hw) (by omega) hv
