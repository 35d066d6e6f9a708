/-! plain functions: least of neighbours, least of a row, sums from behind and from ahead -/
def nr1 (f : Nat → Nat) (v : Nat) : Nat := if 0 < v ∧ f (v - 1) < f v then f (v - 1) else f v
def nr (f : Nat → Nat) (v : Nat) : Nat := if v < 8 ∧ f (v + 1) < nr1 f v then f (v + 1) else nr1 f v
theorem nr_le {f : Nat → Nat} {v w : Nat} (hw : w < 9) (h1 : w ≤ v + 1) (h2 : v ≤ w + 1) : nr f v ≤ f w := by
  have h : w = v ∨ v = w + 1 ∨ w = v + 1 := by omega
  unfold nr nr1
  rcases h with rfl | rfl | rfl
  · split <;> split <;> omega
  · rw [Nat.add_sub_cancel]
    split <;> split <;> omega
  · split <;> split <;> omega
theorem nr_ex (f : Nat → Nat) {v : Nat} (hv : v < 9) : ∃ w, w < 9 ∧ w ≤ v + 1 ∧ v ≤ w + 1 ∧ nr f v = f w := by
  unfold nr
  split
  · exact ⟨v + 1, by omega, by omega, by omega, rfl⟩
  · unfold nr1
    split
    · exact ⟨v - 1, by omega, by omega, by omega, rfl⟩
    · exact ⟨v, by omega, by omega, by omega, rfl⟩
theorem nr_uniq {f : Nat → Nat} {v x : Nat} (hv : v < 9) (h1 : ∀ w, w < 9 → w ≤ v + 1 → v ≤ w + 1 → x ≤ f w) (h2 : ∃ w, w < 9 ∧ w ≤ v + 1 ∧ v ≤ w + 1 ∧ x = f w) : x = nr f v := by
  obtain ⟨w, a1, a2, a3, a4⟩ := h2
  obtain ⟨z, b1, b2, b3, b4⟩ := nr_ex f hv
  have c1 : nr f v ≤ f w := nr_le a1 a2 a3
  have c2 := h1 z b1 b2 b3
  omega
theorem nr_cong {f g : Nat → Nat} {v : Nat} (hv : v < 9) (h : ∀ w, w < 9 → f w = g w) : nr f v = nr g v := by
  obtain ⟨z, b1, b2, b3, b4⟩ := nr_ex f hv
  refine nr_uniq hv (fun w h1 h2 h3 => ?_) ⟨z, b1, b2, b3, by rw [b4]; exact h z b1⟩
  rw [← h w h1]
  exact nr_le h1 h2 h3
theorem nr_zero {v : Nat} (hv : v < 9) : nr (fun _ => 0) v = 0 := by
  obtain ⟨z, b1, b2, b3, b4⟩ := nr_ex (fun _ => 0) hv
  exact b4
/-- the least of f over those i < n that are let, F at most -/
def mnP (F : Nat) (ok : Nat → Bool) (f : Nat → Nat) : Nat → Nat
  | 0 => F
  | n + 1 => if ok n = true ∧ f n < mnP F ok f n then f n else mnP F ok f n
theorem mnP_le {F : Nat} {ok : Nat → Bool} {f : Nat → Nat} : ∀ {n i : Nat}, i < n → ok i = true → mnP F ok f n ≤ f i
  | n + 1, i, h, ho => by
    unfold mnP
    rcases Nat.lt_succ_iff_lt_or_eq.mp h with h1 | h1
    · have := mnP_le (F := F) (f := f) h1 ho
      split <;> omega
    · subst h1
      split
      · omega
      · rename_i h2
        have : ¬ f i < mnP F ok f i := fun q => h2 ⟨ho, q⟩
        omega
theorem mnP_leF {F : Nat} {ok : Nat → Bool} {f : Nat → Nat} : ∀ {n : Nat}, mnP F ok f n ≤ F
  | 0 => Nat.le_refl _
  | n + 1 => by
    unfold mnP
    have := mnP_leF (F := F) (ok := ok) (f := f) (n := n)
    split <;> omega
theorem mnP_ex {F : Nat} {ok : Nat → Bool} {f : Nat → Nat} : ∀ {n : Nat}, mnP F ok f n = F ∨ ∃ i, i < n ∧ ok i = true ∧ mnP F ok f n = f i
  | 0 => Or.inl rfl
  | n + 1 => by
    unfold mnP
    split
    · rename_i h
      exact Or.inr ⟨n, Nat.lt_succ_self n, h.1, rfl⟩
    · rcases mnP_ex (F := F) (ok := ok) (f := f) (n := n) with h | ⟨i, h1, h2, h3⟩
      · exact Or.inl h
      · exact Or.inr ⟨i, Nat.lt_succ_of_lt h1, h2, h3⟩
theorem mnP_at {F : Nat} {ok : Nat → Bool} {f : Nat → Nat} {n : Nat} (h : ∃ i, i < n ∧ ok i = true ∧ f i < F) : ∃ i, i < n ∧ ok i = true ∧ mnP F ok f n = f i := by
  obtain ⟨i, h1, h2, h3⟩ := h
  have h4 : mnP F ok f n ≤ f i := mnP_le h1 h2
  rcases mnP_ex (F := F) (ok := ok) (f := f) (n := n) with h | h
  · omega
  · exact h
theorem mnP_uniq {F : Nat} {ok : Nat → Bool} {f : Nat → Nat} {n x : Nat} (h1 : ∀ i, i < n → ok i = true → x ≤ f i) (h2 : ∃ i, i < n ∧ ok i = true ∧ x = f i) (hF : x < F) : x = mnP F ok f n := by
  obtain ⟨i, a1, a2, a3⟩ := h2
  have a4 : mnP F ok f n ≤ f i := mnP_le a1 a2
  rcases mnP_ex (F := F) (ok := ok) (f := f) (n := n) with h | ⟨j, b1, b2, b3⟩
  · omega
  · have := h1 j b1 b2
    omega
theorem mnP_cong {F : Nat} {ok ok2 : Nat → Bool} {f g : Nat → Nat} : ∀ {n : Nat}, (∀ i, i < n → ok i = ok2 i ∧ f i = g i) → mnP F ok f n = mnP F ok2 g n
  | 0, _ => rfl
  | n + 1, h => by
    unfold mnP
    rw [mnP_cong (n := n) (fun i hi => h i (Nat.lt_succ_of_lt hi)), (h n (Nat.lt_succ_self n)).1, (h n (Nat.lt_succ_self n)).2]
abbrev al : Nat → Bool := fun _ => true
/-- two bounds that are both beyond give the same -/
theorem mnP_far {F G : Nat} {ok : Nat → Bool} {f : Nat → Nat} {n : Nat} (h : ∃ i, i < n ∧ ok i = true ∧ f i < F ∧ f i < G) : mnP F ok f n = mnP G ok f n := by
  obtain ⟨i, h1, h2, h3, h4⟩ := h
  obtain ⟨j, b1, b2, b3⟩ := mnP_at (F := F) ⟨i, h1, h2, h3⟩
  have h5 : mnP F ok f n ≤ f i := mnP_le h1 h2
  exact mnP_uniq (fun k c1 c2 => mnP_le c1 c2) ⟨j, b1, b2, b3⟩ (by omega)
/-- from a place on: r places are left of n -/
def bk (m : Nat → Nat → Nat) (n : Nat) : Nat → Nat → Nat
  | 0, _ => 0
  | r + 1, v => m (n - 1 - r) v + nr (bk m n r) v
/-- ahead of a place, at speeds near v there -/
def fwN (m : Nat → Nat → Nat) : Nat → Nat → Nat
  | 0, _ => 0
  | p + 1, v => nr (fun w => fwN m p w + m p w) v
theorem bk_le {m : Nat → Nat → Nat} {n M : Nat} (hm : ∀ p w, w < 9 → p < n → m p w ≤ M) : ∀ {r v : Nat}, r ≤ n → v < 9 → bk m n r v ≤ M * r
  | 0, v, _, _ => Nat.zero_le _
  | r + 1, v, hr, hv => by
    unfold bk
    have h1 := hm (n - 1 - r) v hv (by omega)
    have h2 : nr (bk m n r) v ≤ bk m n r v := nr_le hv (by omega) (by omega)
    have h3 := bk_le hm (r := r) (v := v) (by omega) hv
    rw [Nat.mul_succ]
    omega
theorem bk_cong {m m2 : Nat → Nat → Nat} {n : Nat} : ∀ {r v : Nat}, (∀ p w, n - r ≤ p → p < n → w < 9 → m p w = m2 p w) → r ≤ n → v < 9 → bk m n r v = bk m2 n r v
  | 0, _, _, _, _ => rfl
  | r + 1, v, h, hr, hv => by
    unfold bk
    rw [h (n - 1 - r) v (by omega) (by omega) hv]
    congr 1
    exact nr_cong hv (fun w hw => bk_cong (fun p w h1 h2 h3 => h p w (by omega) h2 h3) (by omega) hw)
theorem fwN_cong {m m2 : Nat → Nat → Nat} : ∀ {p v : Nat}, (∀ q w, q < p → w < 9 → m q w = m2 q w) → v < 9 → fwN m p v = fwN m2 p v
  | 0, _, _, _ => rfl
  | p + 1, v, h, hv => by
    unfold fwN
    exact nr_cong hv (fun w hw => by rw [fwN_cong (p := p) (fun q w h1 h2 => h q w (by omega) h2) hw, h p w (by omega) hw])
theorem bk_at {m : Nat → Nat → Nat} {n p v : Nat} (hp : p < n) : bk m n (n - p) v = m p v + nr (bk m n (n - 1 - p)) v := by
  have e : n - p = (n - 1 - p) + 1 := by omega
  rw [e]
  show m (n - 1 - (n - 1 - p)) v + nr (bk m n (n - 1 - p)) v = _
  have e2 : n - 1 - (n - 1 - p) = p := by omega
  rw [e2]
/-- x is the least of f over the nine speeds -/
def isMin (f : Nat → Nat) (x : Nat) : Prop := (∀ v, v < 9 → x ≤ f v) ∧ ∃ v, v < 9 ∧ f v = x
theorem isMin_of {F : Nat} {f : Nat → Nat} (h : f 0 < F) : isMin f (mnP F al f 9) := by
  obtain ⟨i, h1, -, h3⟩ := mnP_at (F := F) (ok := al) (f := f) (n := 9) ⟨0, by decide, rfl, h⟩
  exact ⟨fun v hv => mnP_le hv rfl, i, h1, h3.symm⟩
theorem isMin_eq {f : Nat → Nat} {x y : Nat} (h1 : isMin f x) (h2 : isMin f y) : x = y := by
  obtain ⟨a1, v, a2, a3⟩ := h1
  obtain ⟨b1, w, b2, b3⟩ := h2
  have := a1 w b2
  have := b1 v a2
  omega
theorem isMin_cong {f g : Nat → Nat} {x : Nat} (h : isMin f x) (e : ∀ v, v < 9 → f v = g v) : isMin g x := by
  obtain ⟨a1, v, a2, a3⟩ := h
  exact ⟨fun w hw => by rw [← e w hw]; exact a1 w hw, v, a2, by rw [← e v a2]; exact a3⟩
/-- one place on: the least over all ways through is the same -/
theorem fb_step {m : Nat → Nat → Nat} {n p x : Nat} (hp : p < n) (h : isMin (fun v => fwN m p v + bk m n (n - p) v) x) : isMin (fun v => fwN m (p + 1) v + bk m n (n - (p + 1)) v) x := by
  have e1 : n - (p + 1) = n - 1 - p := by omega
  rw [e1]
  obtain ⟨a1, v, a2, a3⟩ := h
  dsimp only at a1 a3
  refine ⟨fun w hw => ?_, ?_⟩
  · show x ≤ nr (fun w => fwN m p w + m p w) w + bk m n (n - 1 - p) w
    obtain ⟨z, b1, b2, b3, b4⟩ := nr_ex (fun w => fwN m p w + m p w) hw
    rw [b4]
    have h1 := a1 z b1
    rw [bk_at hp] at h1
    have h2 : nr (bk m n (n - 1 - p)) z ≤ bk m n (n - 1 - p) w := nr_le hw b3 b2
    try dsimp only
    omega
  · rw [bk_at hp] at a3
    obtain ⟨w, b1, b2, b3, b4⟩ := nr_ex (bk m n (n - 1 - p)) a2
    refine ⟨w, b1, ?_⟩
    show nr (fun w => fwN m p w + m p w) w + bk m n (n - 1 - p) w = x
    have h1 : nr (fun w => fwN m p w + m p w) w ≤ fwN m p v + m p v := nr_le (f := fun w => fwN m p w + m p w) a2 b3 b2
    obtain ⟨z, c1, c2, c3, c4⟩ := nr_ex (fun w => fwN m p w + m p w) b1
    try dsimp only at c4
    have h2 := a1 z c1
    rw [bk_at hp] at h2
    have h3 : nr (bk m n (n - 1 - p)) z ≤ bk m n (n - 1 - p) w := nr_le b1 c3 c2
    rw [c4] at h1 ⊢
    omega
theorem fb_all {m : Nat → Nat → Nat} {n x : Nat} (h : isMin (bk m n n) x) : ∀ {p : Nat}, p ≤ n → isMin (fun v => fwN m p v + bk m n (n - p) v) x
  | 0, _ => by
    refine isMin_cong h (fun v hv => ?_)
    show bk m n n v = 0 + bk m n (n - 0) v
    rw [Nat.sub_zero, Nat.zero_add]
  | p + 1, hp => fb_step (by omega) (fb_all h (p := p) (by omega))
theorem fb_mid {m : Nat → Nat → Nat} {n x p : Nat} (h : isMin (bk m n n) x) (hp : p < n) : isMin (fun v => fwN m p v + m p v + nr (bk m n (n - 1 - p)) v) x := by
  refine isMin_cong (fb_all h (p := p) (by omega)) (fun v hv => ?_)
  show fwN m p v + bk m n (n - p) v = fwN m p v + m p v + nr (bk m n (n - 1 - p)) v
  rw [bk_at hp]
  omega
