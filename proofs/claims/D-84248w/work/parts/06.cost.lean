/-! costs: one place, one sign, one speed -/
def absd (a b : Nat) : Nat := (a - b) + (b - a)
/-- a number less one, as an int -/
def dn (j : Nat) : Int32 := nI j + (-1)
theorem dn_succ (j : Nat) : dn (j + 1) = nI j := pk_m1 j
theorem dn_0 : dn 0 = -1 := by decide
theorem dn_sub (j : Nat) : nI j - nI 1 = dn j := by
  unfold dn
  rw [Int32.sub_eq_add_neg]
  rfl
theorem dn_lt {j : Nat} (h : j < 2147483648) : dn j < 0 ↔ j = 0 := by
  cases j with
  | zero => exact ⟨fun _ => rfl, fun _ => by decide⟩
  | succ j => rw [dn_succ]; exact ⟨fun q => absurd q (nI_pos (by omega)), fun q => by omega⟩
theorem dn_ge {j : Nat} (h : j < 2147483648) : 0 ≤ dn j ↔ 0 < j := by
  cases j with
  | zero => exact ⟨fun q => absurd q (by decide), fun q => by omega⟩
  | succ j => rw [dn_succ]; exact ⟨fun _ => by omega, fun _ => nI_pos' (by omega)⟩
theorem sub_toInt {a b : Nat} (ha : a < 1073741824) (hb : b < 1073741824) : (nI a - nI b).toInt = (a : Int) - b := pk_sub_toInt ha hb
theorem absd_pos {a b : Nat} (ha : a < 1073741824) (hb : b < 1073741824) (h : 0 ≤ nI a - nI b) : nI a - nI b = nI (absd a b) := by
  have h1 := Int32.le_iff_toInt_le.mp h
  rw [sub_toInt ha hb] at h1
  have h2 : (0 : Int32).toInt = 0 := by decide
  rw [h2] at h1
  have h3 : b ≤ a := by omega
  rw [pk_sub h3]
  congr 1
  unfold absd
  omega
theorem absd_neg {a b : Nat} (ha : a < 1073741824) (hb : b < 1073741824) (h : ¬ 0 ≤ nI a - nI b) : -(nI a - nI b) = nI (absd a b) := by
  have h2 : (0 : Int32).toInt = 0 := by decide
  have h1 : ¬ (0 : Int) ≤ (a : Int) - b := fun q => h (Int32.le_iff_toInt_le.mpr (by rw [sub_toInt ha hb, h2]; exact q))
  have h3 : a ≤ b := by omega
  rw [Int32.neg_sub, pk_sub h3]
  congr 1
  unfold absd
  omega
theorem absd_abs {a b : Nat} (ha : a < 1073741824) (hb : b < 1073741824) : (if 0 ≤ nI a - nI b then nI a - nI b else 0 - (nI a - nI b)) = nI (absd a b) := by
  split
  · rename_i h
    exact absd_pos ha hb h
  · rename_i h
    rw [Int32.zero_sub]
    exact absd_neg ha hb h
def ixT (t tn i : Nat) : Nat := if t = 0 then i else tn - 1 - i
def dgt (wd k : Nat) : Nat := wd / 10 ^ (5 - k) % 10
def trm (tk : Nat → Nat) (t tn x v wd k : Nat) : Nat := absd (tk (ixT t tn (6 * x + k))) ((4 + v) * dgt wd k)
def cstA (tk : Nat → Nat) (t tn x v wd : Nat) : Nat → Nat
  | 0 => 0
  | k + 1 => cstA tk t tn x v wd k + trm tk t tn x v wd k
def cstB (tk : Nat → Nat) (t tn x v wd : Nat) : Nat → Nat
  | 0 => 0
  | r + 1 => cstB tk t tn x v wd r + trm tk t tn x v wd (5 - r)
theorem cstAB (tk : Nat → Nat) (t tn x v wd : Nat) : cstB tk t tn x v wd 6 = cstA tk t tn x v wd 6 := by
  show 0 + trm tk t tn x v wd 5 + trm tk t tn x v wd 4 + trm tk t tn x v wd 3 + trm tk t tn x v wd 2 + trm tk t tn x v wd 1 + trm tk t tn x v wd 0 = 0 + trm tk t tn x v wd 0 + trm tk t tn x v wd 1 + trm tk t tn x v wd 2 + trm tk t tn x v wd 3 + trm tk t tn x v wd 4 + trm tk t tn x v wd 5
  omega
theorem dgt_le (wd k : Nat) : dgt wd k ≤ 9 := by unfold dgt; omega
theorem trm_le {tk : Nat → Nat} {t tn x v wd k : Nat} (h : ∀ i, tk i ≤ 60) (hv : v < 9) : trm tk t tn x v wd k ≤ 168 := by
  have h1 := h (ixT t tn (6 * x + k))
  have h2 := dgt_le wd k
  have h3 : (4 + v) * dgt wd k ≤ 12 * 9 := Nat.mul_le_mul (by omega) h2
  unfold trm absd
  omega
/-- the cost of a place, a sign, a speed: ticks tk, tn of them, turned if t is not 0; the signs' widths wd -/
def cst (tk : Nat → Nat) (t tn : Nat) (wd : Nat → Nat) (x g v : Nat) : Nat := cstA tk t tn x v (wd g) 6
/-- widths that are taught: six digits from 1 to 3 -/
def okW (wd : Nat) : Prop := wd ≤ 333333 ∧ ∀ k, k < 6 → 1 ≤ dgt wd k ∧ dgt wd k ≤ 3
theorem trm_ok {tk : Nat → Nat} {t tn x v wd k : Nat} (h : ∀ i, 1 ≤ tk i ∧ tk i ≤ 60) (hv : v < 9) (hw : 1 ≤ dgt wd k ∧ dgt wd k ≤ 3) : trm tk t tn x v wd k ≤ 56 := by
  have h1 := h (ixT t tn (6 * x + k))
  have h2 : 4 + v ≤ 12 := by omega
  have h3 : (4 + v) * dgt wd k ≤ 12 * 3 := Nat.mul_le_mul h2 hw.2
  have h4 : 4 * 1 ≤ (4 + v) * dgt wd k := Nat.mul_le_mul (by omega) hw.1
  unfold trm absd
  omega
theorem cst_ok {tk : Nat → Nat} {t tn x g v : Nat} {wd : Nat → Nat} (h : ∀ i, 1 ≤ tk i ∧ tk i ≤ 60) (hv : v < 9) (hw : okW (wd g)) : cst tk t tn wd x g v ≤ 336 := by
  have h0 := trm_ok (t := t) (tn := tn) (x := x) (k := 0) h hv (hw.2 0 (by decide))
  have h1 := trm_ok (t := t) (tn := tn) (x := x) (k := 1) h hv (hw.2 1 (by decide))
  have h2 := trm_ok (t := t) (tn := tn) (x := x) (k := 2) h hv (hw.2 2 (by decide))
  have h3 := trm_ok (t := t) (tn := tn) (x := x) (k := 3) h hv (hw.2 3 (by decide))
  have h4 := trm_ok (t := t) (tn := tn) (x := x) (k := 4) h hv (hw.2 4 (by decide))
  have h5 := trm_ok (t := t) (tn := tn) (x := x) (k := 5) h hv (hw.2 5 (by decide))
  unfold cst
  simp only [cstA]
  omega
/-- a table laid out flat -/
def fl (C : C3) (k : Nat) : Nat := C (k / 108) (k / 9 % 12) (k % 9)
theorem fl_at {C : C3} {x g v : Nat} (hg : g < 12) (hv : v < 9) : fl C ((x * 12 + g) * 9 + v) = C x g v := by
  unfold fl
  have e1 : ((x * 12 + g) * 9 + v) / 108 = x := by omega
  have e2 : ((x * 12 + g) * 9 + v) / 9 % 12 = g := by omega
  have e3 : ((x * 12 + g) * 9 + v) % 9 = v := by omega
  rw [e1, e2, e3]
theorem fill_step {a F : Nat → Int32} {i : Nat} {x : Int32} (h : ∀ k, k < i → a k = F k) (hx : x = F i) : ∀ k, k < i + 1 → upd a i x k = F k := by
  intro k hk
  by_cases e : k = i
  · subst e
    rw [pk_us, hx]
  · rw [pk_un e]
    exact h k (by omega)
theorem div10 (w r : Nat) : w / 10 ^ r / 10 = w / 10 ^ (r + 1) := by
  rw [Nat.div_div_eq_div_mul, Nat.pow_succ]
theorem row_step {b F : Nat → Int32} {o v : Nat} {x : Int32} (h : ∀ z, z < v → b (o + z) = F z) (hx : x = F v) : ∀ z, z < v + 1 → upd b (o + v) x (o + z) = F z := by
  intro z hz
  by_cases e : z = v
  · subst e
    rw [pk_us, hx]
  · rw [pk_un (by omega)]
    exact h z (by omega)
