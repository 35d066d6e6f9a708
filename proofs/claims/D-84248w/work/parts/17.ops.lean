/-! the operations, told plainly; the model's cells -/
def okW6 (w : Nat) : Prop := 111111 ≤ w ∧ w ≤ 333333 ∧ ∀ k, k < 6 → 1 ≤ dgt w k ∧ dgt w k ≤ 3
def okT (x y : Int32) : Prop := ∃ g w, g < 12 ∧ x = nI g ∧ y = nI w ∧ okW6 w
/-- between two numbers -/
def inR (lo hi : Nat) (x : Int32) : Prop := ∃ n, lo ≤ n ∧ n ≤ hi ∧ x = nI n
theorem inR_mk {lo hi : Nat} {x : Int32} (hh : hi < 2147483648) (hl : lo ≤ hi) (h1 : ¬ x < nI lo) (h2 : x ≤ nI hi) : inR lo hi x := by
  have a1 : ¬ x.toInt < (nI lo).toInt := fun q => h1 (Int32.lt_iff_toInt_lt.mpr q)
  rw [nI_toInt (by omega)] at a1
  have a2 := Int32.le_iff_toInt_le.mp h2
  rw [nI_toInt hh] at a2
  refine ⟨x.toInt.toNat, by omega, by omega, ?_⟩
  refine Int32.toInt_inj.mp ?_
  rw [nI_toInt (by omega)]
  omega
theorem inR_lo {lo hi : Nat} {x : Int32} (hh : hi < 2147483648) (h1 : x < nI lo) (hl : lo < 2147483648) : ¬ inR lo hi x := by
  rintro ⟨n, a1, a2, rfl⟩
  exact nI_nlt (by omega) (by omega) h1
theorem inR_hi {lo hi : Nat} {x : Int32} (hh : hi < 2147483648) (h1 : ¬ x ≤ nI hi) : ¬ inR lo hi x := by
  rintro ⟨n, a1, a2, rfl⟩
  exact h1 (nI_le (by omega) hh)
theorem inR_mk0 {hi : Nat} {x : Int32} (hh : hi < 2147483648) (h1 : ¬ x < 0) (h2 : x ≤ nI hi) : inR 0 hi x := inR_mk hh (by omega) (by rw [nI_0]; exact h1) h2
theorem inR_lo0 {hi : Nat} {x : Int32} (hh : hi < 2147483648) (h1 : x < 0) : ¬ inR 0 hi x := inR_lo hh (by rw [nI_0]; exact h1) (by decide)
/-- below a number -/
theorem inL_mk {n : Nat} {x : Int32} (hn : n < 2147483648) (h1 : ¬ x < 0) (h2 : x < nI n) : ∃ k, k < n ∧ x = nI k := by
  obtain ⟨j, a1, rfl⟩ := nI_of h1
  exact ⟨j, (nI_ltI a1 hn).mp h2, rfl⟩
/-- a batch's number -/
def inB (bt : Nat) (x : Int32) : Prop := ∃ k, k < bt ∧ x = nI k
theorem inB_lo {bt : Nat} {x : Int32} (hb : bt < 2147483648) (h : x < 0) : ¬ inB bt x := by
  rintro ⟨k, a1, rfl⟩
  exact nI_pos (by omega) h
theorem inB_hi {bt : Nat} {x : Int32} (hb : bt < 2147483648) (h : nI bt ≤ x) : ¬ inB bt x := by
  rintro ⟨k, a1, rfl⟩
  exact nI_ge a1 hb h
theorem inB_mk {bt : Nat} {x : Int32} (hb : bt < 2147483648) (h1 : ¬ x < 0) (h2 : ¬ nI bt ≤ x) : inB bt x := inL_mk hb h1 (by
  rcases Int32.lt_or_le x (nI bt) with q | q
  · exact q
  · exact absurd q h2)
def aboutF (rd pl K G tu : Nat) (x : Int32) : Int32 := if rd = 0 then -1 else if x = nI 0 then nI pl else if x = nI 1 then nI K else if x = nI 2 then nI G else if x = nI 3 then nI tu else 0
def placeF (rd pl : Nat) (sg sp : Nat → Nat) (k x : Int32) : Int32 := if rd = 0 ∨ k < 0 ∨ nI pl ≤ k then -1 else if x = nI 0 then nI (sg k.toNatClampNeg) else nI (4 + sp k.toNatClampNeg)
/-- how many signs are taught -/
def cntW (wd : Nat → Nat) : Nat → Nat
  | 0 => 0
  | n + 1 => cntW wd n + (if wd n = 0 then 0 else 1)
theorem cntW_le (wd : Nat → Nat) : ∀ n, cntW wd n ≤ n
  | 0 => Nat.le_refl _
  | n + 1 => by
    unfold cntW
    have := cntW_le wd n
    split <;> omega
def countF (wd : Nat → Nat) (tn bt : Nat) (x : Int32) : Int32 := if x = nI 0 then nI (cntW wd 12) else if x = nI 1 then nI tn else if x = nI 2 then nI bt else if x = nI 3 then 0 else -1
/-- how many slips a batch has: its sum is all that is out -/
def slN (t : Nat) : Nat := if t = 0 then 0 else if t ≤ 9999999 then 1 else 0
def slipF (t : Nat) (k x : Int32) : Int32 := if k < 0 ∨ nI (slN t) ≤ k then -1 else if x = nI 0 then 3 else if x = nI 1 then -1 else nI t
/-- the model's cells: what they hold -/
def MIs (E : Nat → ClassId) (mo : Nat) (th : Int32) (wd tk : Nat → Nat) (tn rd pl K G tu : Nat) (sg sp : Nat → Nat) (bt : Nat) (ts : Nat → Nat) (w : va_W) : Prop :=
  ∃ (m1 m2 m4 m5 m8 m9 m14 m15 m16 m17 m20 m22 m23 m24 m25 m26 : Nat) (i6 i18 i19 i28 i29 i30 : Int32) (a1 a2 a4 a5 a8 a9 a14 a15 a16 a17 a20 a22 a23 a24 a25 a26 : Nat → Int32),
    (∀ g, g < 12 → a1 g = nI (wd g)) ∧ (∀ i, i < tn → a2 i = nI (tk i)) ∧ (∀ q, q < pl → a14 q = nI (sg q) ∧ a15 q = nI (sp q)) ∧ (∀ b, b < bt → a20 b = nI (ts b)) ∧
    w = [xo mo 1 [.int th, .ref m1, .ref m2, .int (nI tn), .ref m4, .ref m5, .int i6, .int (nI pl), .ref m8, .ref m9, .int (nI K), .int (nI G), .int (nI rd), .int (nI tu), .ref m14, .ref m15, .ref m16, .ref m17, .int i18, .int i19, .ref m20, .int (nI bt), .ref m22, .ref m23, .ref m24, .ref m25, .ref m26, .int (nI 0), .int i28, .int i29, .int i30],
      xi E 0 m1 12 a1, xi E 0 m2 120 a2, xi E 0 m4 2160 a4, xi E 0 m5 2160 a5, xi E 0 m8 189 a8, xi E 0 m9 180 a9, xi E 0 m14 20 a14, xi E 0 m15 20 a15, xi E 0 m16 9 a16, xi E 0 m17 9 a17, xi E 0 m20 20 a20, xi E 0 m22 100 a22, xi E 0 m23 100 a23, xi E 0 m24 100 a24, xi E 0 m25 100 a25, xi E 0 m26 100 a26]
theorem inR_out {lo hi : Nat} {x : Int32} (hh : hi < 2147483648) (h : ¬ inR lo hi x) : x.toInt < (lo : Int) ∨ (hi : Int) < x.toInt := by
  rcases Int.lt_or_le x.toInt lo with q | q
  · exact Or.inl q
  · rcases Int.lt_or_le (hi : Int) x.toInt with q2 | q2
    · exact Or.inr q2
    · exfalso
      refine h ⟨x.toInt.toNat, by omega, by omega, ?_⟩
      refine Int32.toInt_inj.mp ?_
      rw [nI_toInt (by omega)]
      omega
theorem okT_nI {g w : Nat} (hg : g < 12) (hw : w < 2147483648) : okT (nI g) (nI w) ↔ okW6 w := by
  constructor
  · rintro ⟨g2, w2, a1, a2, a3, a4⟩
    have : w = w2 := (nI_eq hw (by have := a4.2.1; omega)).mp a3
    rw [this]
    exact a4
  · exact fun h => ⟨g, w, hg, rfl, rfl, h⟩
theorem okT_x {x y : Int32} (h : ¬ inB 12 x) : ¬ okT x y := by
  rintro ⟨g, w, a1, a2, -⟩
  exact h ⟨g, a1, a2⟩
theorem okT_y {x y : Int32} (h : ¬ inR 111111 333333 y) : ¬ okT x y := by
  rintro ⟨g, w, a1, a2, a3, a4⟩
  exact h ⟨w, a4.1, a4.2.1, a3⟩
theorem upd_up {a : Nat → Int32} {f : Nat → Nat} {n g w : Nat} (h : ∀ q, q < n → a q = nI (f q)) : ∀ q, q < n → upd a g (nI w) q = nI (va_up f g w q) := by
  intro q hq
  by_cases e : q = g
  · subst e
    rw [pk_us, va_up_self]
  · rw [pk_un e, va_up_ne _ _ e]
    exact h q hq
-- longs
theorem neg_l {t : Nat} (h : t < 2147483648) : (-(nI t)).toInt64 = -(lN t) := by
  refine Int64.toInt_inj.mp ?_
  rw [Int32.toInt_toInt64, sb_negT h, Int64.toInt_neg, lN_toInt h]
  simp only [Int.bmod]
  omega
theorem neg_lt {t : Nat} (h : t < 2147483648) : (-(lN t)).toInt = -(t : Int) := by
  rw [← neg_l h, Int32.toInt_toInt64, sb_negT h]
theorem neg_l0 {t : Nat} (h : t < 2147483648) : -(lN t) = 0 ↔ t = 0 := by
  constructor
  · intro e
    have := congrArg Int64.toInt e
    rw [neg_lt h] at this
    have h0 : (0 : Int64).toInt = 0 := by decide
    omega
  · intro e
    subst e
    decide
theorem neg_lp {t : Nat} (h : t < 2147483648) : ¬ (0 : Int64) < -(lN t) := by
  intro q
  have := Int64.lt_iff_toInt_lt.mp q
  rw [neg_lt h] at this
  have h0 : (0 : Int64).toInt = 0 := by decide
  omega
theorem neg_neg_l (t : Nat) : -(-(lN t)) = lN t := Int64.neg_neg
def isAm (v : Int64) : Prop := 0 ≤ v ∧ v ≤ 9999999
theorem isAm_lN {t : Nat} (h : t < 2147483648) : isAm (lN t) ↔ t ≤ 9999999 := by
  unfold isAm
  rw [Int64.le_iff_toInt_le, Int64.le_iff_toInt_le, lN_toInt h]
  have h0 : (0 : Int64).toInt = 0 := by decide
  have h9 : (9999999 : Int64).toInt = 9999999 := by decide
  rw [h0, h9]
  omega
theorem isAm_i {x : Int32} : isAm x.toInt64 ↔ inR 0 9999999 x := by
  unfold isAm
  rw [Int64.le_iff_toInt_le, Int64.le_iff_toInt_le, Int32.toInt_toInt64]
  have h0 : (0 : Int64).toInt = 0 := by decide
  have h9 : (9999999 : Int64).toInt = 9999999 := by decide
  rw [h0, h9]
  constructor
  · rintro ⟨a, b⟩
    refine ⟨x.toInt.toNat, by omega, by omega, Int32.toInt_inj.mp ?_⟩
    rw [nI_toInt (by omega)]
    omega
  · rintro ⟨n, a, b, rfl⟩
    rw [nI_toInt (by omega)]
    omega
/-- a new reading, of tn ticks -/
def RdT (tk : Nat → Nat) (tn : Nat) (wd : Nat → Nat) (K G tu : Nat) (sg sp : Nat → Nat) : Prop := ∃ K0 K1, isMin (bk (cheap (cst tk 0 tn wd)) (tn / 6) (tn / 6)) K0 ∧ isMin (bk (cheap (cst tk 1 tn wd)) (tn / 6) (tn / 6)) K1 ∧ tu = (if K1 < K0 then 1 else 0) ∧ Rd (cst tk (if K1 < K0 then 1 else 0) tn wd) (tn / 6) K G sg sp
theorem RdT.uniq {tk : Nat → Nat} {tn K K2 G G2 tu tu2 : Nat} {wd sg sg2 sp sp2 : Nat → Nat} (h1 : RdT tk tn wd K G tu sg sp) (h2 : RdT tk tn wd K2 G2 tu2 sg2 sp2) : K = K2 ∧ G = G2 ∧ tu = tu2 ∧ ∀ q, q < tn / 6 → sg q = sg2 q ∧ sp q = sp2 q := by
  obtain ⟨a, b, a1, a2, a3, a4⟩ := h1
  obtain ⟨c, d, b1, b2, b3, b4⟩ := h2
  have e1 := isMin_eq a1 b1
  have e2 := isMin_eq a2 b2
  subst e1 e2
  obtain ⟨f1, f2, f3⟩ := a4.uniq b4
  exact ⟨f1, f2, by rw [a3, b3], f3⟩
theorem okW_of {w : Nat} (h : okW6 w) : okW w := ⟨h.2.1, h.2.2⟩
theorem Sm_of {tk : Nat → Nat} {t tn n : Nat} {wd : Nat → Nat} (h : ∀ i, 1 ≤ tk i ∧ tk i ≤ 60) (hw : ∀ g, g < 12 → okW6 (wd g)) : Sm (cst tk t tn wd) n := fun q g v _ hg hv => cst_ok h hv (okW_of (hw g hg))
theorem isMin_mn {C : C3} {n : Nat} (hC : Sm C n) (hn : n ≤ 20) : isMin (bk (cheap C) n n) (mnP 100000000 al (bk (cheap C) n n) 9) := isMin_of (by have := bk_sm hC (Nat.le_refl n) (v := 0) (by decide); omega)
theorem xle_of {a b : Int32} (h : ¬ a < b) : b ≤ a := by
  rcases Int32.lt_or_le a b with q | q
  · exact absurd q h
  · exact q
theorem placeF_in {rd pl k : Nat} {sg sp : Nat → Nat} {x : Int32} (hr : rd ≠ 0) (hk : k < pl) (hp : pl < 2147483648) : placeF rd pl sg sp (nI k) x = if x = nI 0 then nI (sg k) else nI (4 + sp k) := by
  unfold placeF
  rw [if_neg, nI_clamp (Nat.lt_trans hk hp)]
  rintro (q | q | q)
  · exact hr q
  · exact nI_pos (Nat.lt_trans hk hp) q
  · exact nI_ge hk hp q
theorem placeF_out {rd pl : Nat} {sg sp : Nat → Nat} {k x : Int32} (h : rd = 0 ∨ k < 0 ∨ nI pl ≤ k) : placeF rd pl sg sp k x = -1 := if_pos h
theorem slipF_out {t : Nat} {k x : Int32} (h : k < 0 ∨ nI (slN t) ≤ k) : slipF t k x = -1 := if_pos h
theorem slipF_in {t : Nat} {x : Int32} (h : slN t = 1) : slipF t (nI 0) x = if x = nI 0 then 3 else if x = nI 1 then -1 else nI t := by
  unfold slipF
  rw [h, if_neg]
  decide
theorem slip_0 {k : Int32} (h : ¬ k < 0) : nI 0 ≤ k := by
  rw [nI_0]
  exact xle_of h
theorem slip_1 {k : Int32} (h : ¬ k < nI 1) : nI 1 ≤ k := xle_of h
theorem slip_far {k : Int32} {t : Nat} (h : nI 100000 < k) : nI (slN t) ≤ k := by
  have h1 : nI (slN t) ≤ nI 100000 := nI_le (by unfold slN; split; omega; split <;> omega) (by decide)
  exact Int32.le_trans h1 (Int32.le_of_lt h)
theorem slip_k {k : Int32} (h1 : ¬ k < 0) (h2 : k < nI 1) : k = nI 0 := by
  obtain ⟨j, a1, rfl⟩ := inL_mk (n := 1) (by decide) h1 h2
  rw [show j = 0 by omega]
