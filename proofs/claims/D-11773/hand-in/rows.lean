section
/-! ints and longs by their integers -/
def ht_i (x : Int) : Int32 := Int32.ofInt x
def ht_l (x : Int) : Int64 := Int64.ofInt x
theorem ht_iadd (x y : Int) : ht_i x + ht_i y = ht_i (x + y) := (Int32.ofInt_add x y).symm
theorem ht_isub (x y : Int) : ht_i x - ht_i y = ht_i (x - y) := (Int32.ofInt_sub x y).symm
theorem ht_imul (x y : Int) : ht_i x * ht_i y = ht_i (x * y) := (Int32.ofInt_mul x y).symm
theorem ht_iN (n : Nat) : nI n = ht_i (n : Int) := Int32.ofInt_eq_ofNat.symm
theorem ht_it {x : Int} (h : -2147483648 ≤ x) (h2 : x < 2147483648) : (ht_i x).toInt = x :=
  Int32.toInt_ofInt_of_le (by omega) (by omega)
theorem ht_iinj {x y : Int} (h : -2147483648 ≤ x) (h2 : x < 2147483648) (h3 : -2147483648 ≤ y) (h4 : y < 2147483648) : ht_i x = ht_i y ↔ x = y := by
  constructor
  · intro e
    have := congrArg Int32.toInt e
    rwa [ht_it h h2, ht_it h3 h4] at this
  · intro e
    rw [e]
theorem ht_iof (x : Int32) : x = ht_i x.toInt := (Int32.ofInt_toInt x).symm
theorem ht_ile {x y : Int} (h : -2147483648 ≤ x) (h2 : x < 2147483648) (h3 : -2147483648 ≤ y) (h4 : y < 2147483648) : ht_i x ≤ ht_i y ↔ x ≤ y := by
  rw [Int32.le_iff_toInt_le, ht_it h h2, ht_it h3 h4]
theorem ht_ilt {x y : Int} (h : -2147483648 ≤ x) (h2 : x < 2147483648) (h3 : -2147483648 ≤ y) (h4 : y < 2147483648) : ht_i x < ht_i y ↔ x < y := by
  rw [Int32.lt_iff_toInt_lt, ht_it h h2, ht_it h3 h4]
theorem ht_il {x : Int} (h : -2147483648 ≤ x) (h2 : x < 2147483648) : (ht_i x).toInt64 = ht_l x := by
  refine Int32.toInt64_ofInt ?_ ?_
  · have : Int32.minValue.toInt = -2147483648 := by decide
    omega
  · have : Int32.maxValue.toInt = 2147483647 := by decide
    omega
theorem ht_ladd (x y : Int) : ht_l x + ht_l y = ht_l (x + y) := (Int64.ofInt_add x y).symm
theorem ht_lsub (x y : Int) : ht_l x - ht_l y = ht_l (x - y) := (Int64.ofInt_sub x y).symm
theorem ht_lmul (x y : Int) : ht_l x * ht_l y = ht_l (x * y) := (Int64.ofInt_mul x y).symm
theorem ht_lt {x : Int} (h : -9223372036854775808 ≤ x) (h2 : x < 9223372036854775808) : (ht_l x).toInt = x :=
  Int64.toInt_ofInt_of_le (by omega) (by omega)
theorem ht_llt {x y : Int} (h : -9223372036854775808 ≤ x) (h2 : x < 9223372036854775808) (h3 : -9223372036854775808 ≤ y) (h4 : y < 9223372036854775808) : ht_l x < ht_l y ↔ x < y := by
  rw [Int64.lt_iff_toInt_lt, ht_lt h h2, ht_lt h3 h4]
theorem ht_lle {x y : Int} (h : -9223372036854775808 ≤ x) (h2 : x < 9223372036854775808) (h3 : -9223372036854775808 ≤ y) (h4 : y < 9223372036854775808) : ht_l x ≤ ht_l y ↔ x ≤ y := by
  rw [Int64.le_iff_toInt_le, ht_lt h h2, ht_lt h3 h4]
theorem ht_idiv {x y : Int} (h : -2147483648 ≤ x) (h2 : x < 2147483648) (h3 : 0 < y) (h4 : y < 2147483648) : ht_i x / ht_i y = ht_i (x.tdiv y) := by
  refine (Int32.ofInt_tdiv ?_ ?_ ?_ ?_).symm
  · have : Int32.minValue.toInt = -2147483648 := by decide
    omega
  · have : Int32.maxValue.toInt = 2147483647 := by decide
    omega
  · have : Int32.minValue.toInt = -2147483648 := by decide
    omega
  · have : Int32.maxValue.toInt = 2147483647 := by decide
    omega
theorem ht_i0 : (0 : Int32) = ht_i 0 := by decide
theorem ht_i1 : (1 : Int32) = ht_i 1 := by decide
/-! indices -/
theorem ht_i24 (k i : Nat) : nI k * 24 + nI i = nI (24 * k + i) := by
  rw [show (24 : Int32) = nI 24 from rfl, pk_mul, nI_add, Nat.mul_comm]
theorem ht_i3 (k f v : Nat) : nI k * 24 + nI f * 8 + nI v = nI (24 * k + 8 * f + v) := by
  rw [show (24 : Int32) = nI 24 from rfl, show (8 : Int32) = nI 8 from rfl, pk_mul, pk_mul, nI_add, nI_add, Nat.mul_comm k, Nat.mul_comm f]
theorem ht_i7 (t k : Nat) : nI t * 7 + nI k = nI (7 * t + k) := by
  rw [show (7 : Int32) = nI 7 from rfl, pk_mul, nI_add, Nat.mul_comm]
theorem ht_i21 (k : Nat) : 2 * nI k + 1 = nI (2 * k + 1) := by
  rw [show (2 : Int32) = nI 2 from rfl, pk_mul, nI_1]
theorem ht_i22 (k : Nat) : 2 * nI k + 2 = nI (2 * k + 2) := by
  rw [show (2 : Int32) = nI 2 from rfl, pk_mul, nI_add]
theorem ht_half {k : Nat} (h : 1 ≤ k) (h2 : k < 7) : (nI k - 1) / 2 = nI ((k - 1) / 2) := by
  rw [show (1 : Int32) = nI 1 from rfl, pk_sub h, show (2 : Int32) = nI 2 from rfl, pk_div (by omega) (by omega) (by omega)]
/-! histograms: what the rows i < n of node k give to the cell v of feature f, and to the cells below m -/
def ht_hs (V : Nat → Nat → Nat) (nd : Nat → Nat) (R : Nat → Int) (k f v : Nat) : Nat → Int
  | 0 => 0
  | i + 1 => ht_hs V nd R k f v i + (if nd i = k ∧ V f i = v then R i else 0)
def ht_ps (V : Nat → Nat → Nat) (nd : Nat → Nat) (R : Nat → Int) (k f m : Nat) : Nat → Int
  | 0 => 0
  | i + 1 => ht_ps V nd R k f m i + (if nd i = k ∧ V f i < m then R i else 0)
theorem ht_ps0 (V : Nat → Nat → Nat) (nd : Nat → Nat) (R : Nat → Int) (k f : Nat) : ∀ n, ht_ps V nd R k f 0 n = 0
  | 0 => rfl
  | n + 1 => by
    show ht_ps V nd R k f 0 n + (if nd n = k ∧ V f n < 0 then R n else 0) = 0
    rw [ht_ps0 V nd R k f n, if_neg (by omega)]
    rfl
theorem ht_pss (V : Nat → Nat → Nat) (nd : Nat → Nat) (R : Nat → Int) (k f m : Nat) : ∀ n, ht_ps V nd R k f (m + 1) n = ht_ps V nd R k f m n + ht_hs V nd R k f m n
  | 0 => rfl
  | n + 1 => by
    show ht_ps V nd R k f (m + 1) n + (if nd n = k ∧ V f n < m + 1 then R n else 0) = ht_ps V nd R k f m n + (if nd n = k ∧ V f n < m then R n else 0) + (ht_hs V nd R k f m n + (if nd n = k ∧ V f n = m then R n else 0))
    rw [ht_pss V nd R k f m n]
    by_cases c1 : nd n = k ∧ V f n < m
    · rw [if_pos c1, if_pos (by omega), if_neg (by omega)]
      omega
    · by_cases c2 : nd n = k ∧ V f n = m
      · rw [if_neg c1, if_pos (by omega), if_pos c2]
        omega
      · rw [if_neg c1, if_neg (by omega), if_neg c2]
        omega
/-- the sum of the first m places behind b -/
def ht_pre (a : Nat → Int32) (b : Nat) : Nat → Int32
  | 0 => 0
  | m + 1 => ht_pre a b m + a (b + m)
theorem ht_pre_ps {a : Nat → Int32} {V : Nat → Nat → Nat} {nd : Nat → Nat} {R : Nat → Int} {k f n b : Nat} (h : ∀ v, v < 8 → a (b + v) = ht_i (ht_hs V nd R k f v n)) : ∀ m, m ≤ 8 → ht_pre a b m = ht_i (ht_ps V nd R k f m n)
  | 0, _ => by
    rw [ht_ps0]
    exact ht_i0
  | m + 1, hm => by
    show ht_pre a b m + a (b + m) = _
    rw [ht_pre_ps h m (by omega), h m (by omega), ht_iadd, ht_pss]
/-- the rows' nodes once node k is split by feature F at bd -/
def ht_nd (V : Nat → Nat → Nat) (nd : Nat → Nat) (k F bd : Nat) : Nat → Nat := fun i => if nd i = k then (if V F i ≤ bd then 2 * k + 1 else 2 * k + 2) else nd i
theorem ht_nd_sum {V : Nat → Nat → Nat} {nd : Nat → Nat} {R : Nat → Int} {k F bd f v : Nat} : ∀ n, (∀ i, i < n → nd i ≠ 2 * k + 1 ∧ nd i ≠ 2 * k + 2) → ht_hs V nd R k f v n = ht_hs V (ht_nd V nd k F bd) R (2 * k + 1) f v n + ht_hs V (ht_nd V nd k F bd) R (2 * k + 2) f v n
  | 0, _ => rfl
  | n + 1, h => by
    have hn := h n (by omega)
    show ht_hs V nd R k f v n + (if nd n = k ∧ V f n = v then R n else 0) = ht_hs V (ht_nd V nd k F bd) R (2 * k + 1) f v n + (if (if nd n = k then (if V F n ≤ bd then 2 * k + 1 else 2 * k + 2) else nd n) = 2 * k + 1 ∧ V f n = v then R n else 0) + (ht_hs V (ht_nd V nd k F bd) R (2 * k + 2) f v n + (if (if nd n = k then (if V F n ≤ bd then 2 * k + 1 else 2 * k + 2) else nd n) = 2 * k + 2 ∧ V f n = v then R n else 0))
    rw [ht_nd_sum (F := F) (bd := bd) n (fun i hi => h i (by omega))]
    by_cases c1 : nd n = k
    · by_cases c2 : V F n ≤ bd
      · rw [if_pos c1, if_pos c2, if_neg (c := 2 * k + 1 = 2 * k + 2 ∧ V f n = v) (by omega)]
        by_cases c3 : V f n = v
        · rw [if_pos ⟨c1, c3⟩, if_pos ⟨rfl, c3⟩]
          omega
        · rw [if_neg (fun z => c3 z.2), if_neg (fun z => c3 z.2)]
          omega
      · rw [if_pos c1, if_neg c2, if_neg (c := 2 * k + 2 = 2 * k + 1 ∧ V f n = v) (by omega)]
        by_cases c3 : V f n = v
        · rw [if_pos ⟨c1, c3⟩, if_pos ⟨rfl, c3⟩]
          omega
        · rw [if_neg (fun z => c3 z.2), if_neg (fun z => c3 z.2)]
          omega
    · rw [if_neg c1, if_neg (fun z => c1 z.1), if_neg (fun z => hn.1 z.1), if_neg (fun z => hn.2 z.1)]
      omega
theorem ht_nd_oth {V : Nat → Nat → Nat} {nd : Nat → Nat} {R : Nat → Int} {k F bd f v m : Nat} (h0 : m ≠ k) (h1 : m ≠ 2 * k + 1) (h2 : m ≠ 2 * k + 2) : ∀ n, ht_hs V (ht_nd V nd k F bd) R m f v n = ht_hs V nd R m f v n
  | 0 => rfl
  | n + 1 => by
    show ht_hs V (ht_nd V nd k F bd) R m f v n + (if (if nd n = k then (if V F n ≤ bd then 2 * k + 1 else 2 * k + 2) else nd n) = m ∧ V f n = v then R n else 0) = ht_hs V nd R m f v n + (if nd n = m ∧ V f n = v then R n else 0)
    rw [ht_nd_oth h0 h1 h2 n]
    by_cases c1 : nd n = k
    · rw [if_pos c1, if_neg (c := nd n = m ∧ V f n = v) (by omega)]
      by_cases c2 : V F n ≤ bd
      · rw [if_pos c2, if_neg (by omega)]
      · rw [if_neg c2, if_neg (by omega)]
    · rw [if_neg c1]
/-- node k's cells hold its histogram -/
def ht_bl (V : Nat → Nat → Nat) (nd : Nat → Nat) (R : Nat → Int) (n k : Nat) (a9 a10 : Nat → Int32) : Prop :=
  ∀ f v, f < 3 → v < 8 → a9 (24 * k + 8 * f + v) = ht_i (ht_hs V nd (fun _ => 1) k f v n) ∧ a10 (24 * k + 8 * f + v) = ht_i (ht_hs V nd R k f v n)
/-- a step of addRow on one of the two tables -/
theorem ht_add1 {s a : Nat → Int32} {k g : Nat} {w : Nat → Nat} {x : Int32} (hg : g < 3) (hw : ∀ f, f < 3 → w f < 8)
    (h : ∀ f v, f < 3 → v < 8 → s (24 * k + 8 * f + v) = a (24 * k + 8 * f + v) + (if f < g ∧ w f = v then x else 0)) :
    ∀ f v, f < 3 → v < 8 → upd s (24 * k + 8 * g + w g) (s (24 * k + 8 * g + w g) + x) (24 * k + 8 * f + v) = a (24 * k + 8 * f + v) + (if f < g + 1 ∧ w f = v then x else 0) := by
  intro f v hf hv
  have hwg := hw g hg
  by_cases e : f = g
  · subst e
    by_cases e2 : w f = v
    · subst e2
      rw [pk_us, h f (w f) hf hv, if_neg (by omega), if_pos (by omega), Int32.add_zero]
    · rw [pk_un (by omega), h f v hf hv, if_neg (by omega), if_neg (by omega)]
  · rw [pk_un (by omega), h f v hf hv]
    by_cases c : f < g ∧ w f = v
    · rw [if_pos c, if_pos (by omega)]
    · rw [if_neg c, if_neg (by omega)]
theorem ht_fo {post : Int32 → Prop} {x w r : Int32} (e : (x >>> ((3 * w) &&& 31)) &&& 7 = r) (h : post r) : wpX_featureOf post () x w := by
  unfold wpX_featureOf
  rw [e]
  exact h
end
section
theorem ht_clear {post : St2 → Prop} {ls ct tr bf bb : Int32} {bt bn : Int64} {a1 a2 a3 a4 a5 a6 a7 a8 a9 a10 : Nat → Int32} {k : Nat} (hk : k < 7)
    (H : ∀ b9 b10 : Nat → Int32, (∀ j, 24 * k ≤ j → j < 24 * k + 24 → b9 j = 0 ∧ b10 j = 0) → (∀ j, j < 24 * k ∨ 24 * k + 24 ≤ j → b9 j = a9 j ∧ b10 j = a10 j) → post (ls, ct, tr, bf, bb, bt, bn, a1, a2, a3, a4, a5, a6, a7, a8, b9, b10)) :
    wpX_clearCells post (ls, ct, tr, bf, bb, bt, bn, a1, a2, a3, a4, a5, a6, a7, a8, a9, a10) (nI k) := by
  unfold wpX_clearCells
  refine pk_loop (fun n i (s : (Nat → Int32) × (Nat → Int32)) => wX_clearCells_2 post (nI k) ls ct tr bf bb bt bn n (nI i) a1 a2 a3 a4 a5 a6 a7 a8 s.1 s.2)
    (fun i s => (∀ j, 24 * k ≤ j → j < 24 * k + i → s.1 j = 0 ∧ s.2 j = 0) ∧ (∀ j, j < 24 * k ∨ 24 * k + i ≤ j → s.1 j = a9 j ∧ s.2 j = a10 j)) 24 0 (a9, a10) (by omega) ⟨fun j h1 h2 => absurd h2 (by omega), fun j _ => ⟨rfl, rfl⟩⟩
    (fun n s h => pk_le 24 24 (fun _ => H s.1 s.2 h.1 h.2) (fun z => absurd z (by omega)))
    (fun n i s hi h hw => pk_le 24 i (fun z => absurd z (by omega)) (fun _ => ⟨pk_in (24 * k + i) 168 (by omega) (ht_i24 k i), nm_e ⟨pk_in (24 * k + i) 168 (by omega) (ht_i24 k i), nm_e (nm_r (nI_1 i) (hw (upd s.1 (nI k * 24 + nI i).toNatClampNeg 0, upd s.2 (nI k * 24 + nI i).toNatClampNeg 0) ?_))⟩⟩))
  rw [pk_cl (24 * k + i) (ht_i24 k i)]
  constructor
  · intro j h1 h2
    dsimp only
    by_cases e : j = 24 * k + i
    · rw [e, pk_us, pk_us]
      exact ⟨rfl, rfl⟩
    · rw [pk_un e, pk_un e]
      exact h.1 j h1 (by omega)
  · intro j hj
    dsimp only
    rw [pk_un (by omega), pk_un (by omega)]
    exact h.2 j (by omega)
theorem ht_addRow {post : St2 → Prop} {ls ct tr bf bb : Int32} {bt bn : Int64} {a1 a2 a3 a4 a5 a6 a7 a8 a9 a10 : Nat → Int32} {k i : Nat} {w : Nat → Nat} (hk : k < 7) (hi : i < 24) (hV : ∀ f, f < 3 → (a1 i >>> ((3 * nI f) &&& 31)) &&& 7 = nI (w f)) (hW : ∀ f, f < 3 → w f < 8)
    (H : ∀ b9 b10 : Nat → Int32, (∀ f v, f < 3 → v < 8 → b9 (24 * k + 8 * f + v) = a9 (24 * k + 8 * f + v) + (if w f = v then 1 else 0)) → (∀ f v, f < 3 → v < 8 → b10 (24 * k + 8 * f + v) = a10 (24 * k + 8 * f + v) + (if w f = v then a7 i else 0)) → (∀ j, j < 24 * k ∨ 24 * k + 24 ≤ j → b9 j = a9 j ∧ b10 j = a10 j) → post (ls, ct, tr, bf, bb, bt, bn, a1, a2, a3, a4, a5, a6, a7, a8, b9, b10)) :
    wpX_addRow post (ls, ct, tr, bf, bb, bt, bn, a1, a2, a3, a4, a5, a6, a7, a8, a9, a10) (nI k) (nI i) := by
  unfold wpX_addRow
  refine pk_loop (fun n g (s : (Nat → Int32) × (Nat → Int32)) => wX_addRow_2 post (nI k) (nI i) ls ct tr bf bb bt bn n (nI g) a1 a2 a3 a4 a5 a6 a7 a8 s.1 s.2)
    (fun g s => (∀ f v, f < 3 → v < 8 → s.1 (24 * k + 8 * f + v) = a9 (24 * k + 8 * f + v) + (if f < g ∧ w f = v then 1 else 0)) ∧ (∀ f v, f < 3 → v < 8 → s.2 (24 * k + 8 * f + v) = a10 (24 * k + 8 * f + v) + (if f < g ∧ w f = v then a7 i else 0)) ∧ (∀ j, j < 24 * k ∨ 24 * k + 24 ≤ j → s.1 j = a9 j ∧ s.2 j = a10 j)) 3 0 (a9, a10) (by omega) ⟨fun f v _ _ => ?_, fun f v _ _ => ?_, fun j _ => ⟨rfl, rfl⟩⟩
    (fun n s h => pk_le 3 3 (fun _ => H s.1 s.2 (fun f v hf hv => ?_) (fun f v hf hv => ?_) h.2.2) (fun z => absurd z (by omega)))
    (fun n g s hg h hw => pk_le 3 g (fun z => absurd z (by omega)) (fun _ => ⟨pk_in i 24 hi, ht_fo (r := nI (w g)) ?_ (nm_r (ht_i3 k g (w g)) ?_)⟩))
  · dsimp only
    rw [if_neg (by omega), Int32.add_zero]
  · dsimp only
    rw [if_neg (by omega), Int32.add_zero]
  · rw [h.1 f v hf hv]
    by_cases c : w f = v
    · rw [if_pos c, if_pos ⟨hf, c⟩]
    · rw [if_neg c, if_neg (fun z => c z.2)]
  · rw [h.2.1 f v hf hv]
    by_cases c : w f = v
    · rw [if_pos c, if_pos ⟨hf, c⟩]
    · rw [if_neg c, if_neg (fun z => c z.2)]
  · rw [nI_clamp (by omega)]
    exact hV g hg
  · have hb : 24 * k + 8 * g + w g < 168 := by
      have := hW g hg
      omega
    have hin : vp_in (nI (24 * k + 8 * g + w g)) 168 := pk_in (24 * k + 8 * g + w g) 168 hb
    refine ⟨hin, hin, nm_e ⟨hin, pk_in i 24 hi, hin, nm_e (nm_r (nI_1 g) (hw (upd s.1 (nI (24 * k + 8 * g + w g)).toNatClampNeg (s.1 (nI (24 * k + 8 * g + w g)).toNatClampNeg + 1), upd s.2 (nI (24 * k + 8 * g + w g)).toNatClampNeg (s.2 (nI (24 * k + 8 * g + w g)).toNatClampNeg + a7 (nI i).toNatClampNeg)) ?_))⟩⟩
    rw [nI_clamp (show 24 * k + 8 * g + w g < 2 ^ 31 by omega), nI_clamp (show i < 2 ^ 31 by omega)]
    refine ⟨ht_add1 hg hW h.1, ht_add1 hg hW h.2.1, fun j hj => ?_⟩
    have := hW g hg
    dsimp only
    rw [pk_un (by omega), pk_un (by omega)]
    exact h.2.2 j hj
theorem ht_fromRows {post : St2 → Prop} {ls tr bf bb : Int32} {bt bn : Int64} {a1 a2 a3 a4 a5 a6 a7 a8 a9 a10 : Nat → Int32} {k n : Nat} {V : Nat → Nat → Nat} {nd : Nat → Nat} {R : Nat → Int} (hk : k < 7) (hn : n ≤ 24)
    (hV : ∀ f i, f < 3 → i < n → (a1 i >>> ((3 * nI f) &&& 31)) &&& 7 = nI (V f i)) (hW : ∀ f i, f < 3 → i < n → V f i < 8) (h7 : ∀ i, i < n → a7 i = ht_i (R i)) (h8 : ∀ i, i < n → a8 i = nI (nd i) ∧ nd i < 7)
    (H : ∀ b9 b10 : Nat → Int32, ht_bl V nd R n k b9 b10 → (∀ j, j < 24 * k ∨ 24 * k + 24 ≤ j → b9 j = a9 j ∧ b10 j = a10 j) → post (ls, nI n, tr, bf, bb, bt, bn, a1, a2, a3, a4, a5, a6, a7, a8, b9, b10)) :
    wpX_fromRows post (ls, nI n, tr, bf, bb, bt, bn, a1, a2, a3, a4, a5, a6, a7, a8, a9, a10) (nI k) := by
  unfold wpX_fromRows
  refine ht_clear hk (fun c9 c10 hc1 hc2 => ?_)
  refine pk_loop (fun m i (s : (Nat → Int32) × (Nat → Int32)) => wX_fromRows_7 post (nI k) m (nI i) ls (nI n) tr bf bb bt bn a1 a2 a3 a4 a5 a6 a7 a8 s.1 s.2)
    (fun i s => ht_bl V nd R i k s.1 s.2 ∧ (∀ j, j < 24 * k ∨ 24 * k + 24 ≤ j → s.1 j = a9 j ∧ s.2 j = a10 j)) n 0 (c9, c10) (by omega) ⟨fun f v hf hv => ?_, hc2⟩
    (fun m s h => pk_le n n (fun _ => H s.1 s.2 h.1 h.2) (fun z => absurd z (by omega)))
    (fun m i s hi h hw => pk_le n i (fun z => absurd z (by omega)) (fun _ => ⟨pk_in i 24 (by omega), pk_eq (nd i) k (fun e => ?_) (fun e => nm_r (nI_1 i) (hw s ⟨fun f v hf hv => ?_, h.2⟩)) ?_ rfl ?_ ?_⟩))
  · exact ⟨(hc1 _ (by omega) (by omega)).1.trans ht_i0, (hc1 _ (by omega) (by omega)).2.trans ht_i0⟩
  · refine ht_addRow (w := fun f => V f i) hk (by omega) (fun f hf => hV f i hf hi) (fun f hf => hW f i hf hi) (fun b9 b10 h1 h2 h3 => nm_r (nI_1 i) (hw (b9, b10) ⟨fun f v hf hv => ?_, fun j hj => ?_⟩))
    · have q1 := h1 f v hf hv
      have q2 := h2 f v hf hv
      have q := h.1 f v hf hv
      rw [q.1] at q1
      rw [q.2, h7 i hi] at q2
      dsimp only
      rw [q1, q2]
      show ht_i _ + _ = ht_i (ht_hs V nd (fun _ => 1) k f v i + (if nd i = k ∧ V f i = v then 1 else 0)) ∧ ht_i _ + _ = ht_i (ht_hs V nd R k f v i + (if nd i = k ∧ V f i = v then R i else 0))
      by_cases c : V f i = v
      · rw [if_pos c, if_pos c, if_pos ⟨e, c⟩, if_pos ⟨e, c⟩, ← ht_iadd, ← ht_iadd]
        exact ⟨rfl, rfl⟩
      · rw [if_neg c, if_neg c, if_neg (fun z => c z.2), if_neg (fun z => c z.2), Int32.add_zero, Int32.add_zero, Int.add_zero, Int.add_zero]
        exact ⟨rfl, rfl⟩
    · dsimp only
      rw [(h3 j hj).1, (h3 j hj).2]
      exact h.2 j hj
  · show _ = ht_i (ht_hs V nd (fun _ => 1) k f v i + (if nd i = k ∧ V f i = v then 1 else 0)) ∧ _ = ht_i (ht_hs V nd R k f v i + (if nd i = k ∧ V f i = v then R i else 0))
    rw [if_neg (fun z => e z.1), if_neg (fun z => e z.1), Int.add_zero, Int.add_zero]
    exact h.1 f v hf hv
  · rw [nI_clamp (by omega)]
    exact (h8 i hi).1
  · have := (h8 i hi).2
    omega
  · omega
theorem ht_fromParent {post : St2 → Prop} {ls ct tr bf bb : Int32} {bt bn : Int64} {a1 a2 a3 a4 a5 a6 a7 a8 a9 a10 : Nat → Int32} {l p o : Nat} (hl : l < 7) (hp : p < 7) (ho : o < 7) (hlp : l ≠ p) (hlo : l ≠ o)
    (H : ∀ b9 b10 : Nat → Int32, (∀ c, c < 24 → b9 (24 * l + c) = a9 (24 * p + c) - a9 (24 * o + c) ∧ b10 (24 * l + c) = a10 (24 * p + c) - a10 (24 * o + c)) → (∀ j, j < 24 * l ∨ 24 * l + 24 ≤ j → b9 j = a9 j ∧ b10 j = a10 j) → post (ls, ct, tr, bf, bb, bt, bn, a1, a2, a3, a4, a5, a6, a7, a8, b9, b10)) :
    wpX_fromParent post (ls, ct, tr, bf, bb, bt, bn, a1, a2, a3, a4, a5, a6, a7, a8, a9, a10) (nI l) (nI p) (nI o) := by
  unfold wpX_fromParent
  refine pk_loop (fun n i (s : (Nat → Int32) × (Nat → Int32)) => wX_fromParent_3 post (nI l) (nI p) (nI o) ls ct tr bf bb bt bn n (nI i) a1 a2 a3 a4 a5 a6 a7 a8 s.1 s.2)
    (fun i s => (∀ c, c < i → s.1 (24 * l + c) = a9 (24 * p + c) - a9 (24 * o + c) ∧ s.2 (24 * l + c) = a10 (24 * p + c) - a10 (24 * o + c)) ∧ (∀ j, j < 24 * l ∨ 24 * l + i ≤ j → s.1 j = a9 j ∧ s.2 j = a10 j)) 24 0 (a9, a10) (by omega) ⟨fun c h => absurd h (by omega), fun j _ => ⟨rfl, rfl⟩⟩
    (fun n s h => pk_le 24 24 (fun _ => H s.1 s.2 h.1 h.2) (fun z => absurd z (by omega)))
    (fun n i s hi h hw => pk_le 24 i (fun z => absurd z (by omega)) (fun _ => ?_))
  have ip : vp_in (nI p * 24 + nI i) 168 := pk_in (24 * p + i) 168 (by omega) (ht_i24 p i)
  have io : vp_in (nI o * 24 + nI i) 168 := pk_in (24 * o + i) 168 (by omega) (ht_i24 o i)
  have il : vp_in (nI l * 24 + nI i) 168 := pk_in (24 * l + i) 168 (by omega) (ht_i24 l i)
  refine ⟨ip, io, il, nm_e ⟨ip, io, il, nm_e (nm_r (nI_1 i) (hw (upd s.1 (nI l * 24 + nI i).toNatClampNeg (s.1 (nI p * 24 + nI i).toNatClampNeg - s.1 (nI o * 24 + nI i).toNatClampNeg), upd s.2 (nI l * 24 + nI i).toNatClampNeg (s.2 (nI p * 24 + nI i).toNatClampNeg - s.2 (nI o * 24 + nI i).toNatClampNeg)) ?_))⟩⟩
  rw [pk_cl (24 * l + i) (ht_i24 l i), pk_cl (24 * p + i) (ht_i24 p i), pk_cl (24 * o + i) (ht_i24 o i)]
  constructor
  · intro c hc
    dsimp only
    by_cases e : c = i
    · rw [e, pk_us, pk_us, (h.2 (24 * p + i) (by omega)).1, (h.2 (24 * p + i) (by omega)).2, (h.2 (24 * o + i) (by omega)).1, (h.2 (24 * o + i) (by omega)).2]
      exact ⟨rfl, rfl⟩
    · rw [pk_un (by omega), pk_un (by omega)]
      exact h.1 c (by omega)
  · intro j hj
    dsimp only
    rw [pk_un (by omega), pk_un (by omega)]
    exact h.2 j (by omega)
end
section
theorem ht_rowsIn {post : Int32 → Prop} {ls ct tr bf bb : Int32} {bt bn : Int64} {a1 a2 a3 a4 a5 a6 a7 a8 a9 a10 : Nat → Int32} {k : Nat} (hk : k < 7) (H : post (ht_pre a9 (24 * k) 8)) : wpX_rowsIn post (ls, ct, tr, bf, bb, bt, bn, a1, a2, a3, a4, a5, a6, a7, a8, a9, a10) (nI k) := by
  unfold wpX_rowsIn
  exact pk_loop (σ := Unit) (fun n v _ => wX_rowsIn_4 post (nI k) ls ct tr bf bb bt bn a1 a2 a3 a4 a5 a6 a7 a8 a9 a10 n (ht_pre a9 (24 * k) v) (nI v)) (fun _ _ => True) 8 0 () (by omega) trivial
    (fun n _ _ => pk_le 8 8 (fun _ => H) (fun z => absurd z (by omega)))
    (fun n v _ hv _ hw => pk_le 8 v (fun z => absurd z (by omega)) (fun _ => ⟨pk_in (24 * k + v) 168 (by omega) (ht_i24 k v), nm_r (e' := ht_pre a9 (24 * k) (v + 1)) (by rw [pk_cl (24 * k + v) (ht_i24 k v)]; rfl) (nm_r (nI_1 v) (hw () trivial))⟩))
theorem ht_sumIn {post : Int32 → Prop} {ls ct tr bf bb : Int32} {bt bn : Int64} {a1 a2 a3 a4 a5 a6 a7 a8 a9 a10 : Nat → Int32} {k : Nat} (hk : k < 7) (H : post (ht_pre a10 (24 * k) 8)) : wpX_sumIn post (ls, ct, tr, bf, bb, bt, bn, a1, a2, a3, a4, a5, a6, a7, a8, a9, a10) (nI k) := by
  unfold wpX_sumIn
  exact pk_loop (σ := Unit) (fun n v _ => wX_sumIn_4 post (nI k) ls ct tr bf bb bt bn a1 a2 a3 a4 a5 a6 a7 a8 a9 a10 n (ht_pre a10 (24 * k) v) (nI v)) (fun _ _ => True) 8 0 () (by omega) trivial
    (fun n _ _ => pk_le 8 8 (fun _ => H) (fun z => absurd z (by omega)))
    (fun n v _ hv _ hw => pk_le 8 v (fun z => absurd z (by omega)) (fun _ => ⟨pk_in (24 * k + v) 168 (by omega) (ht_i24 k v), nm_r (e' := ht_pre a10 (24 * k) (v + 1)) (by rw [pk_cl (24 * k + v) (ht_i24 k v)]; rfl) (nm_r (nI_1 v) (hw () trivial))⟩))
/-- what tryLeft makes of the best split found so far -/
def ht_tl (ls f b : Int32) (nl sl n s : Int64) (B : Int32 × Int32 × Int64 × Int64) : Int32 × Int32 × Int64 × Int64 :=
  if nl < ls.toInt64 then B else if ls.toInt64 ≤ n - nl then
    (if B.1 < 0 ∨ B.2.2.1 * (nl * (n - nl)) < (sl * sl * (n - nl) + (s - sl) * (s - sl) * nl) * B.2.2.2 then (f, b, sl * sl * (n - nl) + (s - sl) * (s - sl) * nl, nl * (n - nl)) else B) else B
theorem ht_tryLeft {post : St2 → Prop} {ls ct tr bf bb : Int32} {bt bn : Int64} {a1 a2 a3 a4 a5 a6 a7 a8 a9 a10 : Nat → Int32} {f b : Int32} {nl sl n s : Int64} {B : Int32 × Int32 × Int64 × Int64} (hB : ht_tl ls f b nl sl n s (bf, bb, bt, bn) = B)
    (H : post (ls, ct, tr, B.1, B.2.1, B.2.2.1, B.2.2.2, a1, a2, a3, a4, a5, a6, a7, a8, a9, a10)) : wpX_tryLeft post (ls, ct, tr, bf, bb, bt, bn, a1, a2, a3, a4, a5, a6, a7, a8, a9, a10) f b nl sl n s := by
  subst hB
  unfold ht_tl at H
  unfold wpX_tryLeft
  refine nm_e (nm_e (br_c (fun h => ?_) (fun h => ?_)))
  · rw [if_pos h] at H
    exact H
  · rw [if_neg h] at H
    refine br_c (fun h2 => ?_) (fun h2 => ?_)
    · rw [if_pos h2] at H
      refine nm_e (nm_e (br_c (fun h3 => ?_) (fun h3 => br_c (fun h4 => ?_) (fun h4 => ?_))))
      · rw [if_pos (Or.inl h3)] at H
        exact H
      · rw [if_pos (Or.inr h4)] at H
        exact H
      · rw [if_neg (fun z => z.elim h3 h4)] at H
        exact H
    · rw [if_neg h2] at H
      exact H
/-- the running best over feature f's cells, and over the features; P, Q: the running sums -/
def ht_fb (ls : Int32) (P Q : Nat → Nat → Int32) (n s : Int32) (f : Nat) (B : Int32 × Int32 × Int64 × Int64) : Nat → Int32 × Int32 × Int64 × Int64
  | 0 => B
  | b + 1 => ht_tl ls (nI f) (nI b) (P f (b + 1)).toInt64 (Q f (b + 1)).toInt64 n.toInt64 s.toInt64 (ht_fb ls P Q n s f B b)
def ht_ff (ls : Int32) (P Q : Nat → Nat → Int32) (n s : Int32) (B : Int32 × Int32 × Int64 × Int64) : Nat → Int32 × Int32 × Int64 × Int64
  | 0 => B
  | f + 1 => ht_fb ls P Q n s f (ht_ff ls P Q n s B f) 7
theorem ht_fs23 {post : St2 → Prop} {ls ct tr : Int32} {a1 a2 a3 a4 a5 a6 a7 a8 a9 a10 : Nat → Int32} {J : Int32 → Int32 → Int32 → Int32 → Int32 → Int32 → Int64 → Int64 → (Nat → Int32) → (Nat → Int32) → (Nat → Int32) → (Nat → Int32) → (Nat → Int32) → (Nat → Int32) → (Nat → Int32) → (Nat → Int32) → (Nat → Int32) → (Nat → Int32) → Prop} {k f : Nat} {n s : Int32} {P Q : Nat → Nat → Int32} (hk : k < 7) (hf : f < 3)
    (hP : ∀ f m, P f m = ht_pre a9 (24 * k + 8 * f) m) (hQ : ∀ f m, Q f m = ht_pre a10 (24 * k + 8 * f) m) (B : Int32 × Int32 × Int64 × Int64)
    (H : J (nI (f + 1)) ls ct tr (ht_fb ls P Q n s f B 7).1 (ht_fb ls P Q n s f B 7).2.1 (ht_fb ls P Q n s f B 7).2.2.1 (ht_fb ls P Q n s f B 7).2.2.2 a1 a2 a3 a4 a5 a6 a7 a8 a9 a10) :
    ∃ fu, wX_findSplit_23 post J (nI k) n s (nI f) fu 0 0 0 ls ct tr B.1 B.2.1 B.2.2.1 B.2.2.2 a1 a2 a3 a4 a5 a6 a7 a8 a9 a10 := by
  have e0 : P f 0 = 0 := hP f 0
  have q0 : Q f 0 = 0 := hQ f 0
  have main : ∃ fu, wX_findSplit_23 post J (nI k) n s (nI f) fu (P f 0) (Q f 0) (nI 0) ls ct tr B.1 B.2.1 B.2.2.1 B.2.2.2 a1 a2 a3 a4 a5 a6 a7 a8 a9 a10 := by
    refine pk_loop (σ := Unit) (fun m b _ => wX_findSplit_23 post J (nI k) n s (nI f) m (P f b) (Q f b) (nI b) ls ct tr (ht_fb ls P Q n s f B b).1 (ht_fb ls P Q n s f B b).2.1 (ht_fb ls P Q n s f B b).2.2.1 (ht_fb ls P Q n s f B b).2.2.2 a1 a2 a3 a4 a5 a6 a7 a8 a9 a10) (fun _ _ => True) 7 0 () (by omega) trivial
      (fun m _ _ => pk_le 7 7 (fun _ => nm_r (nI_1 f) H) (fun z => absurd z (by omega)))
      (fun m b _ hb _ hw => pk_le 7 b (fun z => absurd z (by omega)) (fun _ => ⟨pk_in (24 * k + 8 * f + b) 168 (by omega) (ht_i3 k f b), nm_r (e' := P f (b + 1)) ?_ ⟨pk_in (24 * k + 8 * f + b) 168 (by omega) (ht_i3 k f b), nm_r (e' := Q f (b + 1)) ?_ (ht_tryLeft (B := ht_fb ls P Q n s f B (b + 1)) rfl (nm_r (nI_1 b) (hw () trivial)))⟩⟩))
    · rw [pk_cl (24 * k + 8 * f + b) (ht_i3 k f b), hP, hP]
      rfl
    · rw [pk_cl (24 * k + 8 * f + b) (ht_i3 k f b), hQ, hQ]
      rfl
  rw [e0, q0] at main
  exact main
theorem ht_findSplit {post : St2 → Prop} {ls ct tr bf bb : Int32} {bt bn : Int64} {a1 a2 a3 a4 a5 a6 a7 a8 a9 a10 : Nat → Int32} {k : Nat} {n s : Int32} {P Q : Nat → Nat → Int32} (hk : k < 7)
    (hP : ∀ f m, P f m = ht_pre a9 (24 * k + 8 * f) m) (hQ : ∀ f m, Q f m = ht_pre a10 (24 * k + 8 * f) m) {B : Int32 × Int32 × Int64 × Int64} (hB : ht_ff ls P Q n s ((-1), bb, bt, bn) 3 = B)
    (H : post (ls, ct, tr, B.1, B.2.1, B.2.2.1, B.2.2.2, a1, a2, a3, a4, a5, a6, a7, a8, a9, a10)) : wpX_findSplit post (ls, ct, tr, bf, bb, bt, bn, a1, a2, a3, a4, a5, a6, a7, a8, a9, a10) (nI k) n s := by
  subst hB
  unfold wpX_findSplit
  exact pk_loop (σ := Unit) (fun m f _ => wX_findSplit_8 post (nI k) n s m (nI f) ls ct tr (ht_ff ls P Q n s ((-1), bb, bt, bn) f).1 (ht_ff ls P Q n s ((-1), bb, bt, bn) f).2.1 (ht_ff ls P Q n s ((-1), bb, bt, bn) f).2.2.1 (ht_ff ls P Q n s ((-1), bb, bt, bn) f).2.2.2 a1 a2 a3 a4 a5 a6 a7 a8 a9 a10) (fun _ _ => True) 3 0 () (by omega) trivial
    (fun m _ _ => pk_le 3 3 (fun _ => H) (fun z => absurd z (by omega)))
    (fun m f _ hf _ hw => pk_le 3 f (fun z => absurd z (by omega)) (fun _ => ht_fs23 hk hf hP hQ (ht_ff ls P Q n s ((-1), bb, bt, bn) f) (hw () trivial)))
/-- a leaf's value -/
def ht_lv (n s : Int32) : Int32 := if n ≤ 0 then 0 else s / n
theorem ht_83 {post : Int32 → St2 → Prop} {ls ct tr bf bb : Int32} {bt bn : Int64} {a1 a2 a3 a4 a5 a6 a7 a8 a9 a10 : Nat → Int32} {m : Nat} {n s : Int32} (hm : m < 28) (H : post 0 (ls, ct, tr, bf, bb, bt, bn, a1, a2, upd a3 m (-6), a4, upd a5 m (ht_lv n s), a6, a7, a8, a9, a10)) : wX_splitNode_83 post (nI m) n s ls ct tr bf bb bt bn a1 a2 a3 a4 a5 a6 a7 a8 a9 a10 := by
  have e : (nI m).toNatClampNeg = m := nI_clamp (by omega)
  have hin : vp_in (nI m) 28 := pk_in m 28 hm
  unfold wX_splitNode_83 wpX_makeLeaf
  rw [e]
  refine ⟨hin, nm_e (br_c (fun h => ⟨hin, nm_e ?_⟩) (fun h => ⟨fun z => h (by rw [z]; exact Int32.le_refl 0), hin, nm_e ?_⟩))⟩
  · unfold ht_lv at H
    rw [if_pos h] at H
    exact H
  · unfold ht_lv at H
    rw [if_neg h] at H
    exact H
theorem ht_48l {post : Int32 → St2 → Prop} {ls ct tr bf bb : Int32} {bt bn : Int64} {a1 a2 a3 a4 a5 a6 a7 a8 a9 a10 : Nat → Int32} {m : Nat} {n s : Int32} (hm : m < 28) (hc : bf < 0 ∨ ¬ (s.toInt64 * s.toInt64) * bn < bt * n.toInt64) (H : post 0 (ls, ct, tr, bf, bb, bt, bn, a1, a2, upd a3 m (-6), a4, upd a5 m (ht_lv n s), a6, a7, a8, a9, a10)) : wX_splitNode_48 post (nI m) n s ls ct tr bf bb bt bn a1 a2 a3 a4 a5 a6 a7 a8 a9 a10 := by
  unfold wX_splitNode_48
  refine nm_e (br_c (fun h => ht_83 hm H) (fun h => br_f (hc.resolve_left h) (ht_83 hm H)))
theorem ht_48s {post : Int32 → St2 → Prop} {ls ct tr bf bb : Int32} {bt bn : Int64} {a1 a2 a3 a4 a5 a6 a7 a8 a9 a10 : Nat → Int32} {m : Nat} {n s : Int32} (hm : m < 28) (h1 : ¬ bf < 0) (h2 : (s.toInt64 * s.toInt64) * bn < bt * n.toInt64) (H : post 1 (ls, ct, tr, bf, bb, bt, bn, a1, a2, upd a3 m bf, upd a4 m bb, upd a5 m 0, a6, a7, a8, a9, a10)) : wX_splitNode_48 post (nI m) n s ls ct tr bf bb bt bn a1 a2 a3 a4 a5 a6 a7 a8 a9 a10 := by
  have e : (nI m).toNatClampNeg = m := nI_clamp (by omega)
  have hin : vp_in (nI m) 28 := pk_in m 28 hm
  unfold wX_splitNode_48
  rw [e]
  exact nm_e (br_f h1 (br_t h2 ⟨hin, nm_e ⟨hin, nm_e ⟨hin, nm_e H⟩⟩⟩))
theorem ht_splitNode {post : Int32 → St2 → Prop} {ls ct tr bf bb : Int32} {bt bn : Int64} {a1 a2 a3 a4 a5 a6 a7 a8 a9 a10 : Nat → Int32} {t k : Nat} {n s : Int32} {P Q : Nat → Nat → Int32} {B : Int32 × Int32 × Int64 × Int64} (ht : t < 4) (hk : k < 7)
    (hn : ht_pre a9 (24 * k) 8 = n) (hs : ht_pre a10 (24 * k) 8 = s) (hP : ∀ f m, P f m = ht_pre a9 (24 * k + 8 * f) m) (hQ : ∀ f m, Q f m = ht_pre a10 (24 * k + 8 * f) m)
    (hB : k < 3 → ht_ff ls P Q n s ((-1), bb, bt, bn) 3 = B) (hB' : 3 ≤ k → ((-1), bb, bt, bn) = B)
    (H : wX_splitNode_48 post (nI (7 * t + k)) n s ls ct tr B.1 B.2.1 B.2.2.1 B.2.2.2 a1 a2 a3 a4 a5 (upd a6 (7 * t + k) n) a7 a8 a9 a10) : wpX_splitNode post (ls, ct, tr, bf, bb, bt, bn, a1, a2, a3, a4, a5, a6, a7, a8, a9, a10) (nI t) (nI k) := by
  have e : (nI (7 * t + k)).toNatClampNeg = 7 * t + k := nI_clamp (by omega)
  have hin : vp_in (nI (7 * t + k)) 28 := pk_in (7 * t + k) 28 (by omega)
  unfold wpX_splitNode
  refine nm_r (ht_i7 t k) (ht_rowsIn hk (ht_sumIn hk ?_))
  rw [e, hn, hs]
  refine ⟨hin, nm_e (pk_le 3 k (fun z => ?_) (fun z => ht_findSplit hk hP hQ (hB z) H))⟩
  have := hB' z
  subst this
  exact H
end
section
theorem ht_146 {post : St2 → Prop} {ls tr bf bb : Int32} {bt bn : Int64} {a1 a2 a3 a4 a5 a6 a7 a8 a9 a10 : Nat → Int32} {k S L n : Nat} {V : Nat → Nat → Nat} {nd nd' : Nat → Nat} {R : Nat → Int} (hk : k < 7) (hS : S < 7) (hL : L < 7) (hn : n ≤ 24) (d1 : L ≠ k) (d2 : L ≠ S) (d3 : S ≠ k)
    (hV : ∀ f i, f < 3 → i < n → (a1 i >>> ((3 * nI f) &&& 31)) &&& 7 = nI (V f i)) (hW : ∀ f i, f < 3 → i < n → V f i < 8) (h7 : ∀ i, i < n → a7 i = ht_i (R i)) (h8 : ∀ i, i < n → a8 i = nI (nd' i) ∧ nd' i < 7)
    (hb : ht_bl V nd R n k a9 a10) (hsum : ∀ (R : Nat → Int) f v, ht_hs V nd R k f v n = ht_hs V nd' R S f v n + ht_hs V nd' R L f v n)
    (H : ∀ b9 b10 : Nat → Int32, ht_bl V nd' R n S b9 b10 → ht_bl V nd' R n L b9 b10 → (∀ j, (j < 24 * S ∨ 24 * S + 24 ≤ j) → (j < 24 * L ∨ 24 * L + 24 ≤ j) → b9 j = a9 j ∧ b10 j = a10 j) → post (ls, nI n, tr, bf, bb, bt, bn, a1, a2, a3, a4, a5, a6, a7, a8, b9, b10)) :
    wX_part_146 post (nI k) (nI S) (nI L) ls (nI n) tr bf bb bt bn a1 a2 a3 a4 a5 a6 a7 a8 a9 a10 := by
  unfold wX_part_146
  refine ht_fromRows hS hn hV hW h7 h8 (fun c9 c10 hc1 hc2 => ht_fromParent hL hk hS d1 d2 (fun b9 b10 hb1 hb2 => H b9 b10 (fun f v hf hv => ?_) (fun f v hf hv => ?_) (fun j hj1 hj2 => ?_)))
  · have q := hb2 (24 * S + 8 * f + v) (by omega)
    rw [q.1, q.2]
    exact hc1 f v hf hv
  · have q := hb1 (8 * f + v) (by omega)
    have p1 := hc2 (24 * k + 8 * f + v) (by omega)
    have p2 := hb f v hf hv
    have p3 := hc1 f v hf hv
    rw [← Nat.add_assoc, ← Nat.add_assoc, ← Nat.add_assoc, p1.1, p1.2, p2.1, p2.2, p3.1, p3.2, ht_isub, ht_isub, hsum, hsum R] at q
    rw [q.1, q.2]
    constructor
    · congr 1
      omega
    · congr 1
      omega
  · rw [(hb2 j hj2).1, (hb2 j hj2).2]
    exact hc2 j hj1
theorem ht_part {post : St2 → Prop} {ls tr bf bb : Int32} {bt bn : Int64} {a1 a2 a3 a4 a5 a6 a7 a8 a9 a10 : Nat → Int32} {t k n F bd : Nat} {V : Nat → Nat → Nat} {nd : Nat → Nat} {R : Nat → Int} (ht : t < 4) (hk : k < 3) (hn : n ≤ 24) (hF : F < 3) (hbd : bd < 8)
    (hV : ∀ f i, f < 3 → i < n → (a1 i >>> ((3 * nI f) &&& 31)) &&& 7 = nI (V f i)) (hW : ∀ f i, f < 3 → i < n → V f i < 8) (h7 : ∀ i, i < n → a7 i = ht_i (R i)) (h8 : ∀ i, i < n → a8 i = nI (nd i) ∧ nd i < 7)
    (hd : ∀ i, i < n → nd i ≠ 2 * k + 1 ∧ nd i ≠ 2 * k + 2) (h3 : a3 (7 * t + k) = nI F) (h4 : a4 (7 * t + k) = nI bd) (hb : ht_bl V nd R n k a9 a10)
    (H : ∀ b8 b9 b10 : Nat → Int32, (∀ i, i < n → b8 i = nI (ht_nd V nd k F bd i) ∧ ht_nd V nd k F bd i < 7) → ht_bl V (ht_nd V nd k F bd) R n (2 * k + 1) b9 b10 → ht_bl V (ht_nd V nd k F bd) R n (2 * k + 2) b9 b10 → (∀ j, j < 24 * (2 * k + 1) ∨ 24 * (2 * k + 3) ≤ j → b9 j = a9 j ∧ b10 j = a10 j) → post (ls, nI n, tr, bf, bb, bt, bn, a1, a2, a3, a4, a5, a6, a7, b8, b9, b10)) :
    wpX_part post (ls, nI n, tr, bf, bb, bt, bn, a1, a2, a3, a4, a5, a6, a7, a8, a9, a10) (nI t) (nI k) := by
  have hl : ∀ i, i < n → ht_nd V nd k F bd i < 7 := by
    intro i hi
    have := (h8 i hi).2
    unfold ht_nd
    by_cases c1 : nd i = k
    · rw [if_pos c1]
      by_cases c2 : V F i ≤ bd
      · rw [if_pos c2]
        omega
      · rw [if_neg c2]
        omega
    · rw [if_neg c1]
      exact this
  have e7 : (nI (7 * t + k)).toNatClampNeg = 7 * t + k := nI_clamp (by omega)
  have i7 : vp_in (nI (7 * t + k)) 28 := pk_in (7 * t + k) 28 (by omega)
  unfold wpX_part
  refine nm_r (ht_i7 t k) (nm_r (ht_i21 k) ?_)
  refine pk_loop (fun m i (s : Int32 × (Nat → Int32)) => wX_part_20 post (nI k) (nI (7 * t + k)) (nI (2 * k + 1)) ls (nI n) tr bf bb bt bn m s.1 (nI i) a1 a2 a3 a4 a5 a6 a7 s.2 a9 a10)
    (fun i s => ∀ j, j < n → s.2 j = nI (if j < i then ht_nd V nd k F bd j else nd j)) n 0 (0, a8) (by omega) (fun j hj => ?_)
    (fun m s h => pk_le n n (fun _ => ⟨i7, br_c (fun _ => ?_) (fun _ => ?_)⟩) (fun z => absurd z (by omega)))
    (fun m i s hi h hw => pk_le n i (fun z => absurd z (by omega)) (fun _ => ⟨pk_in i 24 (by omega), pk_eq (nd i) k (fun e => ?_) (fun e => nm_r (nI_1 i) (hw s (fun j hj => ?_))) ?_ rfl ?_ ?_⟩))
  · dsimp only
    rw [if_neg (by omega)]
    exact (h8 j hj).1
  · have h8' : ∀ i, i < n → s.2 i = nI (ht_nd V nd k F bd i) ∧ ht_nd V nd k F bd i < 7 := fun i hi => ⟨by rw [h i hi, if_pos hi], hl i hi⟩
    refine pk_eq (2 * k + 2) (2 * k + 1) (fun z => absurd z (by omega)) (fun _ => ?_) (nI_1 (2 * k + 1)) rfl
    rw [nI_1]
    refine ht_146 (nd' := ht_nd V nd k F bd) (S := 2 * k + 2) (L := 2 * k + 1) (by omega) (by omega) (by omega) hn (by omega) (by omega) (by omega) hV hW h7 h8' hb (fun R f v => ?_) (fun b9 b10 q1 q2 q3 => H s.2 b9 b10 h8' q2 q1 (fun j hj => q3 j (by omega) (by omega)))
    rw [ht_nd_sum (F := F) (bd := bd) n hd]
    omega
  · have h8' : ∀ i, i < n → s.2 i = nI (ht_nd V nd k F bd i) ∧ ht_nd V nd k F bd i < 7 := fun i hi => ⟨by rw [h i hi, if_pos hi], hl i hi⟩
    refine br_t rfl ?_
    rw [nI_1]
    exact ht_146 (nd' := ht_nd V nd k F bd) (S := 2 * k + 1) (L := 2 * k + 2) (by omega) (by omega) (by omega) hn (by omega) (by omega) (by omega) hV hW h7 h8' hb (fun R f v => ht_nd_sum (F := F) (bd := bd) n hd) (fun b9 b10 q1 q2 q3 => H s.2 b9 b10 h8' q1 q2 (fun j hj => q3 j (by omega) (by omega)))
  · have ei : (nI i).toNatClampNeg = i := nI_clamp (by omega)
    have ii : vp_in (nI i) 24 := pk_in i 24 (by omega)
    have hv8 := hW F i hF hi
    refine ⟨ii, i7, ht_fo (r := nI (V F i)) (by rw [ei, e7, h3]; exact hV F i hF hi) ⟨i7, pk_lt bd (V F i) (fun g => ?_) (fun g => ?_) (by rw [e7]; exact h4) rfl⟩⟩
    · have st : ∀ j, j < n → upd s.2 i (nI (2 * k + 2)) j = nI (if j < i + 1 then ht_nd V nd k F bd j else nd j) := by
        intro j hj
        by_cases ej : j = i
        · subst ej
          rw [pk_us, if_pos (by omega)]
          unfold ht_nd
          rw [if_pos e, if_neg (by omega)]
        · rw [pk_un ej, h j hj]
          by_cases c : j < i
          · rw [if_pos c, if_pos (by omega)]
          · rw [if_neg c, if_neg (by omega)]
      unfold wX_part_84
      rw [ei, nI_1]
      exact ⟨ii, nm_e ⟨ii, br_c (fun _ => nm_e (nm_r (nI_1 i) (hw (s.1 + 1, upd s.2 i (nI (2 * k + 2))) st))) (fun _ => nm_r (nI_1 i) (hw (s.1, upd s.2 i (nI (2 * k + 2))) st))⟩⟩
    · have st : ∀ j, j < n → upd s.2 i (nI (2 * k + 1)) j = nI (if j < i + 1 then ht_nd V nd k F bd j else nd j) := by
        intro j hj
        by_cases ej : j = i
        · subst ej
          rw [pk_us, if_pos (by omega)]
          unfold ht_nd
          rw [if_pos e, if_pos (by omega)]
        · rw [pk_un ej, h j hj]
          by_cases c : j < i
          · rw [if_pos c, if_pos (by omega)]
          · rw [if_neg c, if_neg (by omega)]
      unfold wX_part_84
      rw [ei]
      exact ⟨ii, nm_e ⟨ii, br_c (fun _ => nm_e (nm_r (nI_1 i) (hw (s.1 + 1, upd s.2 i (nI (2 * k + 1))) st))) (fun _ => nm_r (nI_1 i) (hw (s.1, upd s.2 i (nI (2 * k + 1))) st))⟩⟩
  · rw [h j hj]
    by_cases c : j < i
    · rw [if_pos c, if_pos (by omega)]
    · rw [if_neg c]
      by_cases c2 : j < i + 1
      · have : j = i := by omega
        subst this
        rw [if_pos c2]
        unfold ht_nd
        rw [if_neg e]
      · rw [if_neg c2]
  · rw [nI_clamp (by omega), h i hi, if_neg (by omega)]
  · have := (h8 i hi).2
    omega
  · omega
theorem ht_growL {post : Int32 → St2 → Prop} {ls ct tr bf bb : Int32} {bt bn : Int64} {a1 a2 a3 a4 a5 a6 a7 a8 a9 a10 : Nat → Int32} {t k : Nat} {n s : Int32} {P Q : Nat → Nat → Int32} {B : Int32 × Int32 × Int64 × Int64} (ht : t < 4) (hk : k < 7)
    (hn : ht_pre a9 (24 * k) 8 = n) (hs : ht_pre a10 (24 * k) 8 = s) (hP : ∀ f m, P f m = ht_pre a9 (24 * k + 8 * f) m) (hQ : ∀ f m, Q f m = ht_pre a10 (24 * k + 8 * f) m)
    (hB : k < 3 → ht_ff ls P Q n s ((-1), bb, bt, bn) 3 = B) (hB' : 3 ≤ k → ((-1), bb, bt, bn) = B)
    (hc : B.1 < 0 ∨ ¬ (s.toInt64 * s.toInt64) * B.2.2.2 < B.2.2.1 * n.toInt64)
    (H : post 1 (ls, ct, tr, B.1, B.2.1, B.2.2.1, B.2.2.2, a1, a2, upd a3 (7 * t + k) (-6), a4, upd a5 (7 * t + k) (ht_lv n s), upd a6 (7 * t + k) n, a7, a8, a9, a10)) : wpX_grow post (ls, ct, tr, bf, bb, bt, bn, a1, a2, a3, a4, a5, a6, a7, a8, a9, a10) (nI t) (nI k) := by
  unfold wpX_grow
  exact ht_splitNode ht hk hn hs hP hQ hB hB' (ht_48l (by omega) hc (br_t rfl (br_t rfl H)))
theorem ht_growS {post : Int32 → St2 → Prop} {ls tr bf bb : Int32} {bt bn : Int64} {a1 a2 a3 a4 a5 a6 a7 a8 a9 a10 : Nat → Int32} {t k n F bd : Nat} {nn s : Int32} {P Q : Nat → Nat → Int32} {top bot : Int64} {V : Nat → Nat → Nat} {nd : Nat → Nat} {R : Nat → Int} (ht : t < 4) (hk : k < 3) (hn : n ≤ 24) (hF : F < 3) (hbd : bd < 8)
    (hV : ∀ f i, f < 3 → i < n → (a1 i >>> ((3 * nI f) &&& 31)) &&& 7 = nI (V f i)) (hW : ∀ f i, f < 3 → i < n → V f i < 8) (h7 : ∀ i, i < n → a7 i = ht_i (R i)) (h8 : ∀ i, i < n → a8 i = nI (nd i) ∧ nd i < 7)
    (hd : ∀ i, i < n → nd i ≠ 2 * k + 1 ∧ nd i ≠ 2 * k + 2) (hb : ht_bl V nd R n k a9 a10)
    (hn' : ht_pre a9 (24 * k) 8 = nn) (hs : ht_pre a10 (24 * k) 8 = s) (hP : ∀ f m, P f m = ht_pre a9 (24 * k + 8 * f) m) (hQ : ∀ f m, Q f m = ht_pre a10 (24 * k + 8 * f) m)
    (hB : ht_ff ls P Q nn s ((-1), bb, bt, bn) 3 = (nI F, nI bd, top, bot)) (hc : (s.toInt64 * s.toInt64) * bot < top * nn.toInt64)
    (H : ∀ b8 b9 b10 : Nat → Int32, (∀ i, i < n → b8 i = nI (ht_nd V nd k F bd i) ∧ ht_nd V nd k F bd i < 7) → ht_bl V (ht_nd V nd k F bd) R n (2 * k + 1) b9 b10 → ht_bl V (ht_nd V nd k F bd) R n (2 * k + 2) b9 b10 → (∀ j, j < 24 * (2 * k + 1) ∨ 24 * (2 * k + 3) ≤ j → b9 j = a9 j ∧ b10 j = a10 j) →
      post 0 (ls, nI n, tr, nI F, nI bd, top, bot, a1, a2, upd a3 (7 * t + k) (nI F), upd a4 (7 * t + k) (nI bd), upd a5 (7 * t + k) 0, upd a6 (7 * t + k) nn, a7, b8, b9, b10)) :
    wpX_grow post (ls, nI n, tr, bf, bb, bt, bn, a1, a2, a3, a4, a5, a6, a7, a8, a9, a10) (nI t) (nI k) := by
  unfold wpX_grow
  refine ht_splitNode (B := (nI F, nI bd, top, bot)) ht (by omega) hn' hs hP hQ (fun _ => hB) (fun z => absurd z (by omega)) (ht_48s (by omega) (nI_pos (by omega)) hc (br_f (by decide) ?_))
  exact ht_part ht hk hn hF hbd hV hW h7 h8 hd pk_us pk_us hb (fun b8 b9 b10 q1 q2 q3 q4 => br_f (by decide) (H b8 b9 b10 q1 q2 q3 q4))
end
section
/-- predictBy answers r on tree t and features x -/
def ht_PB (a3 a4 a5 : Nat → Int32) (t : Nat) (x r : Int32) : Prop :=
  ∀ (post : Int32 → Prop) (ls ct tr bf bb : Int32) (bt bn : Int64) (a1 a2 a6 a7 a8 a9 a10 : Nat → Int32), post r → wpX_predictBy post (ls, ct, tr, bf, bb, bt, bn, a1, a2, a3, a4, a5, a6, a7, a8, a9, a10) (nI t) x
/-- restOf answers r on row i -/
def ht_RS (tr : Int32) (a1 a2 a3 a4 a5 : Nat → Int32) (i : Nat) (r : Int32) : Prop :=
  ∀ (post : Int32 → Prop) (ls ct bf bb : Int32) (bt bn : Int64) (a6 a7 a8 a9 a10 : Nat → Int32), post r → wpX_restOf post (ls, ct, tr, bf, bb, bt, bn, a1, a2, a3, a4, a5, a6, a7, a8, a9, a10) (nI i)
theorem ht_78 {post : Int32 → Prop} {ls ct tr bf bb : Int32} {bt bn : Int64} {a1 a2 a3 a4 a5 a6 a7 a8 a9 a10 : Nat → Int32} {t m : Nat} (ht : t < 4) (hm : m < 7) (H : post (a5 (7 * t + m))) : wX_predictBy_78 post (nI t) (nI m) ls ct tr bf bb bt bn a1 a2 a3 a4 a5 a6 a7 a8 a9 a10 := by
  unfold wX_predictBy_78
  rw [ht_i7, nI_clamp (by omega)]
  exact ⟨pk_in (7 * t + m) 28 (by omega), H⟩
theorem ht_pbE {post : Int32 → Prop} {ls ct tr bf bb : Int32} {bt bn : Int64} {a1 a2 a3 a4 a5 a6 a7 a8 a9 a10 : Nat → Int32} {t m q : Nat} {x : Int32} (ht : t < 4) (hm : m < 7) (H : post (a5 (7 * t + m))) : wX_predictBy_5 post (nI t) x ls ct tr bf bb bt bn a1 a2 a3 a4 a5 a6 a7 a8 a9 a10 (q + 1) (nI m) (nI 2) :=
  pk_le 2 2 (fun _ => ht_78 ht hm H) (fun z => absurd z (by omega))
theorem ht_pbL {post : Int32 → Prop} {ls ct tr bf bb : Int32} {bt bn : Int64} {a1 a2 a3 a4 a5 a6 a7 a8 a9 a10 : Nat → Int32} {t m c q : Nat} {x : Int32} (ht : t < 4) (hm : m < 7) (hc : c < 2) (h : a3 (7 * t + m) < 0) (H : post (a5 (7 * t + m))) : wX_predictBy_5 post (nI t) x ls ct tr bf bb bt bn a1 a2 a3 a4 a5 a6 a7 a8 a9 a10 (q + 1) (nI m) (nI c) :=
  pk_le 2 c (fun z => absurd z (by omega)) (fun _ => ⟨pk_in (7 * t + m) 28 (by omega) (ht_i7 t m), br_t (by rw [pk_cl (7 * t + m) (ht_i7 t m)]; exact h) (ht_78 ht hm H)⟩)
theorem ht_pbS {post : Int32 → Prop} {ls ct tr bf bb : Int32} {bt bn : Int64} {a1 a2 a3 a4 a5 a6 a7 a8 a9 a10 : Nat → Int32} {t m c q F bd v m' : Nat} {x : Int32} (ht : t < 4) (hm : m < 7) (hc : c < 2) (hF : F < 3) (hbd : bd < 8) (hv8 : v < 8) (h3 : a3 (7 * t + m) = nI F) (h4 : a4 (7 * t + m) = nI bd) (hv : (x >>> ((3 * nI F) &&& 31)) &&& 7 = nI v)
    (hm' : (if v ≤ bd then 2 * m + 1 else 2 * m + 2) = m') (H : wX_predictBy_5 post (nI t) x ls ct tr bf bb bt bn a1 a2 a3 a4 a5 a6 a7 a8 a9 a10 q (nI m') (nI (c + 1))) : wX_predictBy_5 post (nI t) x ls ct tr bf bb bt bn a1 a2 a3 a4 a5 a6 a7 a8 a9 a10 (q + 1) (nI m) (nI c) := by
  have e : (nI (7 * t + m)).toNatClampNeg = 7 * t + m := nI_clamp (by omega)
  have hin : vp_in (nI (7 * t + m)) 28 := pk_in (7 * t + m) 28 (by omega)
  subst hm'
  refine pk_le 2 c (fun z => absurd z (by omega)) (fun _ => ⟨pk_in (7 * t + m) 28 (by omega) (ht_i7 t m), br_f ?_ (nm_r (ht_i7 t m) ⟨hin, ht_fo (r := nI v) ?_ ⟨hin, pk_lt bd v (fun g => ?_) (fun g => ?_) ?_ rfl⟩⟩)⟩)
  · rw [pk_cl (7 * t + m) (ht_i7 t m), h3]
    exact nI_pos (by omega)
  · rw [e, h3]
    exact hv
  · rw [if_neg (by omega)] at H
    exact nm_r (ht_i22 m) (nm_r (nI_1 c) H)
  · rw [if_pos (by omega)] at H
    exact nm_r (ht_i21 m) (nm_r (nI_1 c) H)
  · rw [e]
    exact h4
theorem ht_PB0 {a3 a4 a5 : Nat → Int32} {t : Nat} {x r : Int32} (ht : t < 4) (h : a3 (7 * t) < 0) (hr : a5 (7 * t) = r) : ht_PB a3 a4 a5 t x r := by
  subst hr
  intro post ls ct tr bf bb bt bn a1 a2 a6 a7 a8 a9 a10 H
  unfold wpX_predictBy
  exact ⟨1, ht_pbL (m := 0) (c := 0) ht (by omega) (by omega) h H⟩
theorem ht_PB1 {a3 a4 a5 : Nat → Int32} {t F bd v m : Nat} {x r : Int32} (ht : t < 4) (hF : F < 3) (hbd : bd < 8) (hv8 : v < 8) (h3 : a3 (7 * t) = nI F) (h4 : a4 (7 * t) = nI bd) (hv : (x >>> ((3 * nI F) &&& 31)) &&& 7 = nI v)
    (hm : (if v ≤ bd then 1 else 2) = m) (h : a3 (7 * t + m) < 0) (hr : a5 (7 * t + m) = r) : ht_PB a3 a4 a5 t x r := by
  subst hr
  intro post ls ct tr bf bb bt bn a1 a2 a6 a7 a8 a9 a10 H
  have hm7 : m < 7 := by
    rw [← hm]
    by_cases c : v ≤ bd
    · rw [if_pos c]
      omega
    · rw [if_neg c]
      omega
  unfold wpX_predictBy
  exact ⟨2, ht_pbS (m := 0) (c := 0) ht (by omega) (by omega) hF hbd hv8 h3 h4 hv hm (ht_pbL (c := 1) ht hm7 (by omega) h H)⟩
theorem ht_PB2 {a3 a4 a5 : Nat → Int32} {t F bd v m F' bd' v' m' : Nat} {x r : Int32} (ht : t < 4) (hF : F < 3) (hbd : bd < 8) (hv8 : v < 8) (h3 : a3 (7 * t) = nI F) (h4 : a4 (7 * t) = nI bd) (hv : (x >>> ((3 * nI F) &&& 31)) &&& 7 = nI v)
    (hm : (if v ≤ bd then 1 else 2) = m) (hF' : F' < 3) (hbd' : bd' < 8) (hv8' : v' < 8) (h3' : a3 (7 * t + m) = nI F') (h4' : a4 (7 * t + m) = nI bd') (hv' : (x >>> ((3 * nI F') &&& 31)) &&& 7 = nI v') (hm' : (if v' ≤ bd' then 2 * m + 1 else 2 * m + 2) = m') (hr : a5 (7 * t + m') = r) : ht_PB a3 a4 a5 t x r := by
  subst hr
  intro post ls ct tr bf bb bt bn a1 a2 a6 a7 a8 a9 a10 H
  have hm3 : m < 3 := by
    rw [← hm]
    by_cases c : v ≤ bd
    · rw [if_pos c]
      omega
    · rw [if_neg c]
      omega
  have hm7 : m' < 7 := by
    rw [← hm']
    by_cases c : v' ≤ bd'
    · rw [if_pos c]
      omega
    · rw [if_neg c]
      omega
  unfold wpX_predictBy
  exact ⟨3, ht_pbS (m := 0) (c := 0) ht (by omega) (by omega) hF hbd hv8 h3 h4 hv hm (ht_pbS (c := 1) ht (by omega) (by omega) hF' hbd' hv8' h3' h4' hv' hm' (ht_pbE ht hm7 H))⟩
def ht_su (rr : Nat → Int32) : Nat → Int32
  | 0 => 0
  | t + 1 => ht_su rr t + rr t
theorem ht_pa {post : Int32 → Prop} {ls ct bf bb : Int32} {bt bn : Int64} {a1 a2 a3 a4 a5 a6 a7 a8 a9 a10 : Nat → Int32} {T : Nat} {x : Int32} {rr : Nat → Int32} (hT : T ≤ 4) (h : ∀ t, t < T → ht_PB a3 a4 a5 t x (rr t)) (H : post (ht_su rr T)) : wpX_predictAll post (ls, ct, nI T, bf, bb, bt, bn, a1, a2, a3, a4, a5, a6, a7, a8, a9, a10) x := by
  unfold wpX_predictAll
  exact pk_loop (σ := Unit) (fun n t _ => wX_predictAll_4 post x ls ct (nI T) bf bb bt bn a1 a2 a3 a4 a5 a6 a7 a8 a9 a10 n (ht_su rr t) (nI t)) (fun _ _ => True) T 0 () (by omega) trivial
    (fun n _ _ => pk_le T T (fun _ => H) (fun z => absurd z (by omega)))
    (fun n t _ ht _ hw => pk_le T t (fun z => absurd z (by omega)) (fun _ => h t ht _ _ _ _ _ _ _ _ _ _ _ _ _ _ _ (nm_r (e' := ht_su rr (t + 1)) rfl (nm_r (nI_1 t) (hw () trivial)))))
theorem ht_RSi {a1 a2 a3 a4 a5 : Nat → Int32} {T i : Nat} {r : Int32} {rr : Nat → Int32} (hT : T ≤ 4) (hi : i < 24) (h : ∀ t, t < T → ht_PB a3 a4 a5 t (a1 i) (rr t)) (hr : a2 i - ht_su rr T = r) : ht_RS (nI T) a1 a2 a3 a4 a5 i r := by
  subst hr
  intro post ls ct bf bb bt bn a6 a7 a8 a9 a10 H
  unfold wpX_restOf
  rw [nI_clamp (show i < 2 ^ 31 by omega)]
  exact ⟨pk_in i 24 hi, ht_pa hT h ⟨pk_in i 24 hi, H⟩⟩
theorem ht_loss {post : Int32 → Prop} {ls tr bf bb : Int32} {bt bn : Int64} {a1 a2 a3 a4 a5 a6 a7 a8 a9 a10 : Nat → Int32} {n : Nat} (hn : n ≤ 24) (h : ∀ i, i < n → ht_RS tr a1 a2 a3 a4 a5 i 0) (H : post 0) : wpX_loss post (ls, nI n, tr, bf, bb, bt, bn, a1, a2, a3, a4, a5, a6, a7, a8, a9, a10) := by
  unfold wpX_loss
  exact pk_loop (σ := Unit) (fun m i _ => wX_loss_4 post ls (nI n) tr bf bb bt bn a1 a2 a3 a4 a5 a6 a7 a8 a9 a10 m 0 (nI i)) (fun _ _ => True) n 0 () (by omega) trivial
    (fun m _ _ => pk_le n n (fun _ => H) (fun z => absurd z (by omega)))
    (fun m i _ hi _ hw => pk_le n i (fun z => absurd z (by omega)) (fun _ => h i hi _ _ _ _ _ _ _ _ _ _ _ _ (nm_r (e' := 0) (by decide) (nm_r (nI_1 i) (hw () trivial)))))
theorem ht_rest {post : Int32 → Prop} {ls tr bf bb : Int32} {bt bn : Int64} {a1 a2 a3 a4 a5 a6 a7 a8 a9 a10 : Nat → Int32} {n i : Nat} {r : Int32} (hn : n ≤ 24) (hi : i < n) (h : ht_RS tr a1 a2 a3 a4 a5 i r) (H : post r) : wpX_rest post (ls, nI n, tr, bf, bb, bt, bn, a1, a2, a3, a4, a5, a6, a7, a8, a9, a10) (nI i) := by
  unfold wpX_rest
  exact br_f (nI_pos (by omega)) (pk_lt i n (fun _ => h _ _ _ _ _ _ _ _ _ _ _ _ H) (fun z => absurd z (by omega)))
theorem ht_predict {post : Int32 → Prop} {ls ct bf bb : Int32} {bt bn : Int64} {a1 a2 a3 a4 a5 a6 a7 a8 a9 a10 : Nat → Int32} {T : Nat} {x : Int32} {rr : Nat → Int32} (hT : T ≤ 4) (h : ∀ t, t < T → ht_PB a3 a4 a5 t (x &&& 511) (rr t)) (H : post (ht_su rr T)) : wpX_predict post (ls, ct, nI T, bf, bb, bt, bn, a1, a2, a3, a4, a5, a6, a7, a8, a9, a10) x := by
  unfold wpX_predict
  exact ht_pa hT h H
theorem ht_nn {post : Int32 → Prop} {ls ct bf bb : Int32} {bt bn : Int64} {a1 a2 a3 a4 a5 a6 a7 a8 a9 a10 : Nat → Int32} {T t k : Nat} (hT : T ≤ 4) (ht : t < T) (hk : k < 7) (H : post 0) : wpX_noNode post (ls, ct, nI T, bf, bb, bt, bn, a1, a2, a3, a4, a5, a6, a7, a8, a9, a10) (nI t) (nI k) := by
  unfold wpX_noNode
  exact br_f (nI_pos (by omega)) (pk_le T t (fun z => absurd z (by omega)) (fun _ => br_f (nI_pos (by omega)) (pk_lt k 7 (fun _ => H) (fun z => absurd z (by omega)))))
theorem ht_feature {post : Int32 → Prop} {ls ct bf bb : Int32} {bt bn : Int64} {a1 a2 a3 a4 a5 a6 a7 a8 a9 a10 : Nat → Int32} {T t k : Nat} (hT : T ≤ 4) (ht : t < T) (hk : k < 7) (H : post (a3 (7 * t + k))) : wpX_feature post (ls, ct, nI T, bf, bb, bt, bn, a1, a2, a3, a4, a5, a6, a7, a8, a9, a10) (nI t) (nI k) := by
  unfold wpX_feature
  refine ht_nn hT ht hk (br_t rfl ?_)
  rw [ht_i7, nI_clamp (by omega)]
  exact ⟨pk_in (7 * t + k) 28 (by omega), H⟩
theorem ht_rows {post : Int32 → Prop} {ls ct bf bb : Int32} {bt bn : Int64} {a1 a2 a3 a4 a5 a6 a7 a8 a9 a10 : Nat → Int32} {T t k : Nat} (hT : T ≤ 4) (ht : t < T) (hk : k < 7) (H : post (a6 (7 * t + k))) : wpX_rows post (ls, ct, nI T, bf, bb, bt, bn, a1, a2, a3, a4, a5, a6, a7, a8, a9, a10) (nI t) (nI k) := by
  unfold wpX_rows
  refine ht_nn hT ht hk (br_t rfl ?_)
  rw [ht_i7, nI_clamp (by omega)]
  exact ⟨pk_in (7 * t + k) 28 (by omega), H⟩
theorem ht_boundS {post : Int32 → Prop} {ls ct bf bb : Int32} {bt bn : Int64} {a1 a2 a3 a4 a5 a6 a7 a8 a9 a10 : Nat → Int32} {T t k F : Nat} (hT : T ≤ 4) (ht : t < T) (hk : k < 7) (hF : F < 3) (h3 : a3 (7 * t + k) = nI F) (H : post (a4 (7 * t + k))) : wpX_bound post (ls, ct, nI T, bf, bb, bt, bn, a1, a2, a3, a4, a5, a6, a7, a8, a9, a10) (nI t) (nI k) := by
  unfold wpX_bound
  refine ht_nn hT ht hk (br_t rfl ?_)
  rw [ht_i7, nI_clamp (by omega)]
  exact ⟨pk_in (7 * t + k) 28 (by omega), nm_r h3 (br_t (nI_pos' (by omega)) ⟨pk_in (7 * t + k) 28 (by omega), H⟩)⟩
theorem ht_boundL {post : Int32 → Prop} {ls ct bf bb : Int32} {bt bn : Int64} {a1 a2 a3 a4 a5 a6 a7 a8 a9 a10 : Nat → Int32} {T t k : Nat} (hT : T ≤ 4) (ht : t < T) (hk : k < 7) (h3 : a3 (7 * t + k) = -6) (H : post (-6)) : wpX_bound post (ls, ct, nI T, bf, bb, bt, bn, a1, a2, a3, a4, a5, a6, a7, a8, a9, a10) (nI t) (nI k) := by
  unfold wpX_bound
  refine ht_nn hT ht hk (br_t rfl ?_)
  rw [ht_i7, nI_clamp (by omega)]
  exact ⟨pk_in (7 * t + k) 28 (by omega), nm_r h3 (br_f (by decide) H)⟩
theorem ht_valueL {post : Int32 → Prop} {ls ct bf bb : Int32} {bt bn : Int64} {a1 a2 a3 a4 a5 a6 a7 a8 a9 a10 : Nat → Int32} {T t k : Nat} (hT : T ≤ 4) (ht : t < T) (hk : k < 7) (h3 : a3 (7 * t + k) = -6) (H : post (a5 (7 * t + k))) : wpX_value post (ls, ct, nI T, bf, bb, bt, bn, a1, a2, a3, a4, a5, a6, a7, a8, a9, a10) (nI t) (nI k) := by
  unfold wpX_value
  refine ht_nn hT ht hk (br_t rfl ?_)
  rw [ht_i7, nI_clamp (by omega)]
  exact ⟨pk_in (7 * t + k) 28 (by omega), br_t h3 ⟨pk_in (7 * t + k) 28 (by omega), H⟩⟩
theorem ht_valueN {post : Int32 → Prop} {ls ct bf bb : Int32} {bt bn : Int64} {a1 a2 a3 a4 a5 a6 a7 a8 a9 a10 : Nat → Int32} {T t k : Nat} (hT : T ≤ 4) (ht : t < T) (hk : k < 7) (h3 : ¬ a3 (7 * t + k) = -6) (H : post 0) : wpX_value post (ls, ct, nI T, bf, bb, bt, bn, a1, a2, a3, a4, a5, a6, a7, a8, a9, a10) (nI t) (nI k) := by
  unfold wpX_value
  refine ht_nn hT ht hk (br_t rfl ?_)
  rw [ht_i7, nI_clamp (by omega)]
  exact ⟨pk_in (7 * t + k) 28 (by omega), br_f h3 H⟩
theorem ht_row {post : Int32 → St2 → Prop} {ls tr bf bb : Int32} {bt bn : Int64} {a1 a2 a3 a4 a5 a6 a7 a8 a9 a10 : Nat → Int32} {c : Nat} {x y : Int32} (hc : c < 24) (h1 : ¬ y < -50) (h2 : y ≤ 50) (H : post (nI (c + 1)) (ls, nI (c + 1), tr, bf, bb, bt, bn, upd a1 c (x &&& 511), upd a2 c y, a3, a4, a5, a6, a7, a8, a9, a10)) : wpX_row post (ls, nI c, tr, bf, bb, bt, bn, a1, a2, a3, a4, a5, a6, a7, a8, a9, a10) x y := by
  have e : (nI c).toNatClampNeg = c := nI_clamp (by omega)
  unfold wpX_row
  exact br_f h1 (br_t h2 (pk_lt c 24 (fun _ => ⟨pk_in c 24 hc, nm_r (e' := upd a1 c (x &&& 511)) (by rw [e]) ⟨pk_in c 24 hc, nm_r (e' := upd a2 c y) (by rw [e]) (nm_r (nI_1 c) H)⟩⟩) (fun z => absurd z (by omega))))
theorem ht_retarget {post : Int32 → St2 → Prop} {ls tr bf bb : Int32} {bt bn : Int64} {a1 a2 a3 a4 a5 a6 a7 a8 a9 a10 : Nat → Int32} {n i : Nat} {y : Int32} (hn : n ≤ 24) (hi : i < n) (h1 : ¬ y < -50) (h2 : y ≤ 50) (H : post (a2 i) (ls, nI n, tr, bf, bb, bt, bn, a1, upd a2 i y, a3, a4, a5, a6, a7, a8, a9, a10)) : wpX_retarget post (ls, nI n, tr, bf, bb, bt, bn, a1, a2, a3, a4, a5, a6, a7, a8, a9, a10) (nI i) y := by
  unfold wpX_retarget
  rw [nI_clamp (show i < 2 ^ 31 by omega)]
  exact br_f (nI_pos (by omega)) (pk_lt i n (fun _ => br_f h1 (br_t h2 ⟨pk_in i 24 (by omega), nm_e ⟨pk_in i 24 (by omega), nm_e H⟩⟩)) (fun z => absurd z (by omega)))
theorem ht_drop {post : Int32 → St2 → Prop} {ls ct bf bb : Int32} {bt bn : Int64} {a1 a2 a3 a4 a5 a6 a7 a8 a9 a10 : Nat → Int32} {T : Nat} (hT : T < 4) (H : post (nI T) (ls, ct, nI T, bf, bb, bt, bn, a1, a2, a3, a4, a5, a6, a7, a8, a9, a10)) : wpX_dropTree post (ls, ct, nI (T + 1), bf, bb, bt, bn, a1, a2, a3, a4, a5, a6, a7, a8, a9, a10) := by
  unfold wpX_dropTree
  exact br_f (nI_ne0 (by omega) (by omega)) (nm_r (nI_pred T) H)
end
section
/-! train: the steps of its last loop -/
theorem ht_tEnd {post : Int32 → St2 → Prop} {ls ct tr bf bb : Int32} {bt bn : Int64} {a1 a2 a3 a4 a5 a6 a7 a8 a9 a10 : Nat → Int32} {t m : Nat} {x : Int32} (H : post x (ls, ct, tr + 1, bf, bb, bt, bn, a1, a2, a3, a4, a5, a6, a7, a8, a9, a10)) : wX_train_110 post (nI t) (m + 1) x (nI 7) ls ct tr bf bb bt bn a1 a2 a3 a4 a5 a6 a7 a8 a9 a10 :=
  pk_le 7 7 (fun _ => nm_e H) (fun z => absurd z (by omega))
theorem ht_tSkip {post : Int32 → St2 → Prop} {ls ct tr bf bb : Int32} {bt bn : Int64} {a1 a2 a3 a4 a5 a6 a7 a8 a9 a10 : Nat → Int32} {t k m : Nat} {x : Int32} (ht : t < 4) (h1 : 1 ≤ k) (hk : k < 7) (h3 : a3 (7 * t + (k - 1) / 2) < 0) (H : wX_train_110 post (nI t) m x (nI (k + 1)) ls ct tr bf bb bt bn a1 a2 a3 a4 a5 a6 a7 a8 a9 a10) : wX_train_110 post (nI t) (m + 1) x (nI k) ls ct tr bf bb bt bn a1 a2 a3 a4 a5 a6 a7 a8 a9 a10 := by
  have e : nI t * 7 + (nI k - 1) / 2 = nI (7 * t + (k - 1) / 2) := by rw [ht_half h1 hk, ht_i7]
  refine pk_le 7 k (fun z => absurd z (by omega)) (fun _ => pk_eq k 0 (fun z => absurd z (by omega)) (fun _ => ⟨by decide, pk_in (7 * t + (k - 1) / 2) 28 (by omega) e, br_t ?_ (br_t rfl (nm_r (nI_1 k) H))⟩))
  rw [pk_cl (7 * t + (k - 1) / 2) e]
  exact h3
theorem ht_tGo {post : Int32 → St2 → Prop} {ls ct tr bf bb : Int32} {bt bn : Int64} {a1 a2 a3 a4 a5 a6 a7 a8 a9 a10 : Nat → Int32} {t k m : Nat} {x : Int32} (ht : t < 4) (hk : k < 7) (h3 : k = 0 ∨ ¬ a3 (7 * t + (k - 1) / 2) < 0) (G : wX_train_143 post (wX_train_110 post (nI t) m) (nI t) x (nI k) 1 ls ct tr bf bb bt bn a1 a2 a3 a4 a5 a6 a7 a8 a9 a10) : wX_train_110 post (nI t) (m + 1) x (nI k) ls ct tr bf bb bt bn a1 a2 a3 a4 a5 a6 a7 a8 a9 a10 := by
  refine pk_le 7 k (fun z => absurd z (by omega)) (fun _ => pk_eq k 0 (fun z => G) (fun z => ?_))
  have e : nI t * 7 + (nI k - 1) / 2 = nI (7 * t + (k - 1) / 2) := by rw [ht_half (by omega) hk, ht_i7]
  refine ⟨by decide, pk_in (7 * t + (k - 1) / 2) 28 (by omega) e, br_f ?_ G⟩
  rw [pk_cl (7 * t + (k - 1) / 2) e]
  exact h3.resolve_left z
theorem ht_tLeaf {post : Int32 → St2 → Prop} {ls ct tr bf bb : Int32} {bt bn : Int64} {a1 a2 a3 a4 a5 a6 a7 a8 a9 a10 : Nat → Int32} {t k m : Nat} {x : Int32} {n s : Int32} {P Q : Nat → Nat → Int32} {B : Int32 × Int32 × Int64 × Int64} (ht : t < 4) (hk : k < 7) (h3 : k = 0 ∨ ¬ a3 (7 * t + (k - 1) / 2) < 0)
    (hn : ht_pre a9 (24 * k) 8 = n) (hs : ht_pre a10 (24 * k) 8 = s) (hP : ∀ f m, P f m = ht_pre a9 (24 * k + 8 * f) m) (hQ : ∀ f m, Q f m = ht_pre a10 (24 * k + 8 * f) m)
    (hB : k < 3 → ht_ff ls P Q n s ((-1), bb, bt, bn) 3 = B) (hB' : 3 ≤ k → ((-1), bb, bt, bn) = B)
    (hc : B.1 < 0 ∨ ¬ (s.toInt64 * s.toInt64) * B.2.2.2 < B.2.2.1 * n.toInt64)
    (H : wX_train_110 post (nI t) m (x + 1) (nI (k + 1)) ls ct tr B.1 B.2.1 B.2.2.1 B.2.2.2 a1 a2 (upd a3 (7 * t + k) (-6)) a4 (upd a5 (7 * t + k) (ht_lv n s)) (upd a6 (7 * t + k) n) a7 a8 a9 a10) : wX_train_110 post (nI t) (m + 1) x (nI k) ls ct tr bf bb bt bn a1 a2 a3 a4 a5 a6 a7 a8 a9 a10 :=
  ht_tGo ht hk h3 (br_f (by decide) (ht_growL ht hk hn hs hP hQ hB hB' hc (nm_e (nm_r (nI_1 k) H))))
theorem ht_tSplit {post : Int32 → St2 → Prop} {ls tr bf bb : Int32} {bt bn : Int64} {a1 a2 a3 a4 a5 a6 a7 a8 a9 a10 : Nat → Int32} {t k m n F bd : Nat} {x : Int32} {nn s : Int32} {P Q : Nat → Nat → Int32} {top bot : Int64} {V : Nat → Nat → Nat} {nd : Nat → Nat} {R : Nat → Int} (ht : t < 4) (hk : k < 3) (h3 : k = 0 ∨ ¬ a3 (7 * t + (k - 1) / 2) < 0) (hn : n ≤ 24) (hF : F < 3) (hbd : bd < 8)
    (hV : ∀ f i, f < 3 → i < n → (a1 i >>> ((3 * nI f) &&& 31)) &&& 7 = nI (V f i)) (hW : ∀ f i, f < 3 → i < n → V f i < 8) (h7 : ∀ i, i < n → a7 i = ht_i (R i)) (h8 : ∀ i, i < n → a8 i = nI (nd i) ∧ nd i < 7)
    (hd : ∀ i, i < n → nd i ≠ 2 * k + 1 ∧ nd i ≠ 2 * k + 2) (hb : ht_bl V nd R n k a9 a10)
    (hn' : ht_pre a9 (24 * k) 8 = nn) (hs : ht_pre a10 (24 * k) 8 = s) (hP : ∀ f m, P f m = ht_pre a9 (24 * k + 8 * f) m) (hQ : ∀ f m, Q f m = ht_pre a10 (24 * k + 8 * f) m)
    (hB : ht_ff ls P Q nn s ((-1), bb, bt, bn) 3 = (nI F, nI bd, top, bot)) (hc : (s.toInt64 * s.toInt64) * bot < top * nn.toInt64)
    (H : ∀ b8 b9 b10 : Nat → Int32, (∀ i, i < n → b8 i = nI (ht_nd V nd k F bd i) ∧ ht_nd V nd k F bd i < 7) → ht_bl V (ht_nd V nd k F bd) R n (2 * k + 1) b9 b10 → ht_bl V (ht_nd V nd k F bd) R n (2 * k + 2) b9 b10 → (∀ j, j < 24 * (2 * k + 1) ∨ 24 * (2 * k + 3) ≤ j → b9 j = a9 j ∧ b10 j = a10 j) →
      wX_train_110 post (nI t) m x (nI (k + 1)) ls (nI n) tr (nI F) (nI bd) top bot a1 a2 (upd a3 (7 * t + k) (nI F)) (upd a4 (7 * t + k) (nI bd)) (upd a5 (7 * t + k) 0) (upd a6 (7 * t + k) nn) a7 b8 b9 b10) :
    wX_train_110 post (nI t) (m + 1) x (nI k) ls (nI n) tr bf bb bt bn a1 a2 a3 a4 a5 a6 a7 a8 a9 a10 :=
  ht_tGo ht (by omega) h3 (br_f (by decide) (ht_growS ht hk hn hF hbd hV hW h7 h8 hd hb hn' hs hP hQ hB hc (fun b8 b9 b10 q1 q2 q3 q4 => nm_r (Int32.add_zero x) (nm_r (nI_1 k) (H b8 b9 b10 q1 q2 q3 q4)))))
/-! train up to its last loop -/
def ht_fl (a : Nat → Int32) (t i : Nat) (x : Int32) : Nat → Int32 := fun j => if 7 * t ≤ j ∧ j < 7 * t + i then x else a j
theorem ht_fl_0 (a : Nat → Int32) (t : Nat) (x : Int32) : ht_fl a t 0 x = a := by
  funext j
  exact if_neg (by omega)
theorem ht_fl_s (a : Nat → Int32) (t i : Nat) (x : Int32) : upd (ht_fl a t i x) (7 * t + i) x = ht_fl a t (i + 1) x := by
  funext j
  show (if j = 7 * t + i then x else if 7 * t ≤ j ∧ j < 7 * t + i then x else a j) = if 7 * t ≤ j ∧ j < 7 * t + (i + 1) then x else a j
  by_cases e : j = 7 * t + i
  · rw [if_pos e, if_pos (by omega)]
  · by_cases c : 7 * t ≤ j ∧ j < 7 * t + i
    · rw [if_neg e, if_pos c, if_pos (by omega)]
    · rw [if_neg e, if_neg c, if_neg (by omega)]
theorem ht_fl_in {a : Nat → Int32} {t k : Nat} {x : Int32} (h : k < 7) : ht_fl a t 7 x (7 * t + k) = x := if_pos (by omega)
theorem ht_fl_out {a : Nat → Int32} {t j : Nat} {x : Int32} (h : j < 7 * t ∨ 7 * t + 7 ≤ j) : ht_fl a t 7 x j = a j := if_neg (by omega)
theorem ht_52 {post : Int32 → St2 → Prop} {ls tr bf bb : Int32} {bt bn : Int64} {a1 a2 a3 a4 a5 a6 a7 a8 a9 a10 : Nat → Int32} {t n : Nat} {V : Nat → Nat → Nat} {R : Nat → Int} (ht : t < 4) (hn : n ≤ 24)
    (hV : ∀ f i, f < 3 → i < n → (a1 i >>> ((3 * nI f) &&& 31)) &&& 7 = nI (V f i)) (hW : ∀ f i, f < 3 → i < n → V f i < 8) (h7 : ∀ i, i < n → a7 i = ht_i (R i)) (h8 : ∀ i, i < n → a8 i = 0)
    (H : ∀ b9 b10 : Nat → Int32, ht_bl V (fun _ => 0) R n 0 b9 b10 → ∃ fu, wX_train_110 post (nI t) fu 0 0 ls (nI n) tr bf bb bt bn a1 a2 (ht_fl a3 t 7 (-7)) a4 (ht_fl a5 t 7 0) (ht_fl a6 t 7 0) a7 a8 b9 b10) :
    ∃ fu, wX_train_52 post (nI t) ls (nI n) tr bf bb bt bn fu 0 a1 a2 a3 a4 a5 a6 a7 a8 a9 a10 := by
  have main : ∃ fu, wX_train_52 post (nI t) ls (nI n) tr bf bb bt bn fu (nI 0) a1 a2 (ht_fl a3 t 0 (-7)) a4 (ht_fl a5 t 0 0) (ht_fl a6 t 0 0) a7 a8 a9 a10 := by
    refine pk_loop (σ := Unit) (fun m k _ => wX_train_52 post (nI t) ls (nI n) tr bf bb bt bn m (nI k) a1 a2 (ht_fl a3 t k (-7)) a4 (ht_fl a5 t k 0) (ht_fl a6 t k 0) a7 a8 a9 a10) (fun _ _ => True) 7 0 () (by omega) trivial
      (fun m _ _ => pk_le 7 7 (fun _ => ht_fromRows (k := 0) (nd := fun _ => 0) (by omega) hn hV hW h7 (fun i hi => ⟨h8 i hi, by omega⟩) (fun b9 b10 q _ => H b9 b10 q)) (fun z => absurd z (by omega)))
      (fun m k _ hk _ hw => pk_le 7 k (fun z => absurd z (by omega)) (fun _ => ?_))
    have hin : vp_in (nI t * 7 + nI k) 28 := pk_in (7 * t + k) 28 (by omega) (ht_i7 t k)
    have w := hw () trivial
    rw [← ht_fl_s a3, ← ht_fl_s a5, ← ht_fl_s a6, ← pk_cl (7 * t + k) (ht_i7 t k)] at w
    exact ⟨hin, nm_e ⟨hin, nm_e ⟨hin, nm_e (nm_r (nI_1 k) w)⟩⟩⟩
  rw [ht_fl_0, ht_fl_0, ht_fl_0] at main
  exact main
theorem ht_train {post : Int32 → St2 → Prop} {ls bf bb : Int32} {bt bn : Int64} {a1 a2 a3 a4 a5 a6 a7 a8 a9 a10 : Nat → Int32} {t n : Nat} {V : Nat → Nat → Nat} {R : Nat → Int} (ht : t < 4) (hn : n ≤ 24)
    (hV : ∀ f i, f < 3 → i < n → (a1 i >>> ((3 * nI f) &&& 31)) &&& 7 = nI (V f i)) (hW : ∀ f i, f < 3 → i < n → V f i < 8) (hR : ∀ i, i < n → ht_RS (nI t) a1 a2 a3 a4 a5 i (ht_i (R i)))
    (H : ∀ b7 b8 b9 b10 : Nat → Int32, (∀ i, i < n → b7 i = ht_i (R i)) → (∀ i, i < n → b8 i = 0) → ht_bl V (fun _ => 0) R n 0 b9 b10 → ∃ fu, wX_train_110 post (nI t) fu 0 0 ls (nI n) (nI t) bf bb bt bn a1 a2 (ht_fl a3 t 7 (-7)) a4 (ht_fl a5 t 7 0) (ht_fl a6 t 7 0) b7 b8 b9 b10) :
    wpX_train post (ls, nI n, nI t, bf, bb, bt, bn, a1, a2, a3, a4, a5, a6, a7, a8, a9, a10) := by
  unfold wpX_train
  refine pk_lt t 4 (fun _ => ?_) (fun z => absurd z (by omega))
  refine pk_loop (fun m i (s : (Nat → Int32) × (Nat → Int32)) => wX_train_18 post (nI t) ls (nI n) (nI t) bf bb bt bn m (nI i) a1 a2 a3 a4 a5 a6 s.1 s.2 a9 a10)
    (fun i s => ∀ j, j < i → s.1 j = ht_i (R j) ∧ s.2 j = 0) n 0 (a7, a8) (by omega) (fun j hj => absurd hj (by omega))
    (fun m s h => pk_le n n (fun _ => ht_52 ht hn hV hW (fun i hi => (h i hi).1) (fun i hi => (h i hi).2) (fun b9 b10 q => H s.1 s.2 b9 b10 (fun i hi => (h i hi).1) (fun i hi => (h i hi).2) q)) (fun z => absurd z (by omega)))
    (fun m i s hi h hw => pk_le n i (fun z => absurd z (by omega)) (fun _ => hR i hi _ _ _ _ _ _ _ _ _ _ _ _ ⟨pk_in i 24 (by omega), nm_e ⟨pk_in i 24 (by omega), nm_e (nm_r (nI_1 i) (hw (upd s.1 (nI i).toNatClampNeg (ht_i (R i)), upd s.2 (nI i).toNatClampNeg 0) ?_))⟩⟩))
  rw [nI_clamp (show i < 2 ^ 31 by omega)]
  intro j hj
  dsimp only
  by_cases e : j = i
  · rw [e, pk_us, pk_us]
    exact ⟨rfl, rfl⟩
  · rw [pk_un e, pk_un e]
    exact h j (by omega)
end
section
/-! the running best: what one feature adds -/
theorem ht_tl_0 {f b : Int32} {sl n s : Int64} {B : Int32 × Int32 × Int64 × Int64} : ht_tl 2 f b (0 : Int32).toInt64 sl n s B = B := if_pos (by decide)
theorem ht_tl_n {f b : Int32} {sl n s : Int64} {B : Int32 × Int32 × Int64 × Int64} : ht_tl 2 f b n sl n s B = B := by
  unfold ht_tl
  by_cases h : n < (2 : Int32).toInt64
  · rw [if_pos h]
  · rw [if_neg h, Int64.sub_self, if_neg (by decide)]
theorem ht_tl_idem {ls b b' : Int32} {f : Nat} {nl sl n s : Int64} {B : Int32 × Int32 × Int64 × Int64} (hf : f < 3) : ht_tl ls (nI f) b' nl sl n s (ht_tl ls (nI f) b nl sl n s B) = ht_tl ls (nI f) b nl sl n s B := by
  unfold ht_tl
  by_cases h : nl < ls.toInt64
  · rw [if_pos h, if_pos h]
  · rw [if_neg h, if_neg h]
    by_cases h2 : ls.toInt64 ≤ n - nl
    · rw [if_pos h2, if_pos h2]
      by_cases h3 : B.1 < 0 ∨ B.2.2.1 * (nl * (n - nl)) < (sl * sl * (n - nl) + (s - sl) * (s - sl) * nl) * B.2.2.2
      · rw [if_pos h3]
        exact if_neg (fun z => z.elim (nI_pos (by omega)) Int64.lt_irrefl)
      · rw [if_neg h3, if_neg h3]
    · rw [if_neg h2, if_neg h2]
theorem ht_fb_triv {P Q : Nat → Nat → Int32} {n s : Int32} {f : Nat} {B : Int32 × Int32 × Int64 × Int64} (h : ∀ m, 1 ≤ m → m ≤ 7 → P f m = 0 ∨ P f m = n) : ∀ b, b ≤ 7 → ht_fb 2 P Q n s f B b = B
  | 0, _ => rfl
  | b + 1, hb => by
    show ht_tl 2 (nI f) (nI b) (P f (b + 1)).toInt64 (Q f (b + 1)).toInt64 n.toInt64 s.toInt64 (ht_fb 2 P Q n s f B b) = B
    rw [ht_fb_triv h b (by omega)]
    rcases h (b + 1) (by omega) hb with e | e
    · rw [e]
      exact ht_tl_0
    · rw [e]
      exact ht_tl_n
theorem ht_fb_two {P Q : Nat → Nat → Int32} {n s c S : Int32} {f v1 v2 : Nat} {B : Int32 × Int32 × Int64 × Int64} (hf : f < 3) (hv : v1 < v2) (h1 : ∀ m, 1 ≤ m → m ≤ v1 → P f m = 0) (h2 : ∀ m, v1 < m → m ≤ v2 → P f m = c ∧ Q f m = S) (h3 : ∀ m, v2 < m → m ≤ 7 → P f m = n) :
    ∀ b, b ≤ 7 → ht_fb 2 P Q n s f B b = if b ≤ v1 then B else ht_tl 2 (nI f) (nI v1) c.toInt64 S.toInt64 n.toInt64 s.toInt64 B
  | 0, _ => (if_pos (by omega)).symm
  | b + 1, hb => by
    show ht_tl 2 (nI f) (nI b) (P f (b + 1)).toInt64 (Q f (b + 1)).toInt64 n.toInt64 s.toInt64 (ht_fb 2 P Q n s f B b) = _
    rw [ht_fb_two hf hv h1 h2 h3 b (by omega)]
    by_cases c1 : b + 1 ≤ v1
    · rw [if_pos c1, if_pos (by omega), h1 (b + 1) (by omega) c1]
      exact ht_tl_0
    · rw [if_neg c1]
      by_cases c2 : b ≤ v1
      · have e : b = v1 := by omega
        subst e
        rw [if_pos c2, (h2 (b + 1) (by omega) (by omega)).1, (h2 (b + 1) (by omega) (by omega)).2]
      · rw [if_neg c2]
        by_cases c3 : b + 1 ≤ v2
        · rw [(h2 (b + 1) (by omega) c3).1, (h2 (b + 1) (by omega) c3).2]
          exact ht_tl_idem hf
        · rw [h3 (b + 1) (by omega) hb]
          exact ht_tl_n
theorem ht_tl_v {f b : Int32} {nl sl n s : Int} {B : Int32 × Int32 × Int64 × Int64} (h1 : 2 ≤ nl) (h2 : 2 ≤ n - nl) (h3 : n < 2147483648) :
    ht_tl 2 f b (ht_l nl) (ht_l sl) (ht_l n) (ht_l s) B = if B.1 < 0 ∨ B.2.2.1 * ht_l (nl * (n - nl)) < ht_l (sl * sl * (n - nl) + (s - sl) * (s - sl) * nl) * B.2.2.2 then (f, b, ht_l (sl * sl * (n - nl) + (s - sl) * (s - sl) * nl), ht_l (nl * (n - nl))) else B := by
  have e : (2 : Int32).toInt64 = ht_l 2 := by decide
  unfold ht_tl
  rw [if_neg, if_pos]
  · simp only [ht_lsub, ht_lmul, ht_ladd]
  · rw [e, ht_lsub, ht_lle (by omega) (by omega) (by omega) (by omega)]
    exact h2
  · rw [e, ht_llt (by omega) (by omega) (by omega) (by omega)]
    omega
theorem ht_perm {β : Type} (G : Nat → β → β) (TP TQ : β → β) {p q : Nat} (hp : p < 3) (hq : q < 3) (hpq : q ≠ p) (h1 : ∀ B, G p B = TP B) (h2 : ∀ B, G q B = TQ B) (h3 : ∀ f B, f < 3 → f ≠ p → f ≠ q → G f B = B) (B : β) :
    G 2 (G 1 (G 0 B)) = TP (TQ B) ∨ G 2 (G 1 (G 0 B)) = TQ (TP B) := by
  rcases (show p = 0 ∨ p = 1 ∨ p = 2 by omega) with e | e | e <;> rcases (show q = 0 ∨ q = 1 ∨ q = 2 by omega) with e' | e' | e' <;> subst e <;> subst e'
  · exact absurd rfl hpq
  · exact Or.inr (by rw [h3 2 _ (by omega) (by omega) (by omega), h2, h1])
  · exact Or.inr (by rw [h3 1 _ (by omega) (by omega) (by omega), h2, h1])
  · exact Or.inl (by rw [h3 2 _ (by omega) (by omega) (by omega), h2, h1])
  · exact absurd rfl hpq
  · exact Or.inr (by rw [h3 0 _ (by omega) (by omega) (by omega), h2, h1])
  · exact Or.inl (by rw [h3 1 _ (by omega) (by omega) (by omega), h2, h1])
  · exact Or.inl (by rw [h3 0 _ (by omega) (by omega) (by omega), h2, h1])
  · exact absurd rfl hpq
/-! sums over a set of rows -/
def ht_sm (c : Nat → Bool) (R : Nat → Int) : Nat → Int
  | 0 => 0
  | i + 1 => ht_sm c R i + (if c i = true then R i else 0)
theorem ht_ps_sm {V : Nat → Nat → Nat} {nd : Nat → Nat} {R : Nat → Int} {k f m : Nat} (c : Nat → Bool) : ∀ n, (∀ i, i < n → ((nd i = k ∧ V f i < m) ↔ c i = true)) → ht_ps V nd R k f m n = ht_sm c R n
  | 0, _ => rfl
  | n + 1, h => by
    show ht_ps V nd R k f m n + (if nd n = k ∧ V f n < m then R n else 0) = ht_sm c R n + (if c n = true then R n else 0)
    rw [ht_ps_sm c n (fun i hi => h i (by omega))]
    have := h n (by omega)
    by_cases e : c n = true
    · rw [if_pos e, if_pos (this.mpr e)]
    · rw [if_neg e, if_neg (fun z => e (this.mp z))]
theorem ht_blP {V : Nat → Nat → Nat} {nd : Nat → Nat} {R : Nat → Int} {n k f m : Nat} {a9 a10 : Nat → Int32} (hb : ht_bl V nd R n k a9 a10) (hf : f < 3) (hm : m ≤ 8) (c : Nat → Bool) (hc : ∀ i, i < n → ((nd i = k ∧ V f i < m) ↔ c i = true)) :
    ht_pre a9 (24 * k + 8 * f) m = ht_i (ht_sm c (fun _ => 1) n) ∧ ht_pre a10 (24 * k + 8 * f) m = ht_i (ht_sm c R n) := by
  rw [← ht_ps_sm c n hc, ← ht_ps_sm c n hc]
  exact ⟨ht_pre_ps (fun v hv => (hb f v hf hv).1) m hm, ht_pre_ps (fun v hv => (hb f v hf hv).2) m hm⟩
/-! the law's rows: feature p has 1 or 6, q has 2 or 5, the third one 0 -/
def ht_V (p q : Nat) : Nat → Nat → Nat := fun f i => if f = p then (if i % 4 < 2 then 1 else 6) else if f = q then (if i % 2 = 0 then 2 else 5) else 0
def ht_R (A B D E : Int) : Nat → Int := fun i => if i % 4 = 0 then A else if i % 4 = 1 then B else if i % 4 = 2 then D else E
theorem ht_Vp (p q i : Nat) : ht_V p q p i = if i % 4 < 2 then 1 else 6 := if_pos rfl
theorem ht_Vq {p q : Nat} (h : q ≠ p) (i : Nat) : ht_V p q q i = if i % 2 = 0 then 2 else 5 := by
  show (if q = p then (if i % 4 < 2 then 1 else 6) else if q = q then (if i % 2 = 0 then 2 else 5) else 0) = _
  rw [if_neg h, if_pos rfl]
theorem ht_Vo {p q f : Nat} (h : f ≠ p) (h2 : f ≠ q) (i : Nat) : ht_V p q f i = 0 := by
  show (if f = p then (if i % 4 < 2 then 1 else 6) else if f = q then (if i % 2 = 0 then 2 else 5) else 0) = _
  rw [if_neg h, if_neg h2]
theorem ht_V8 (p q f i : Nat) : ht_V p q f i < 8 := by
  show (if f = p then (if i % 4 < 2 then 1 else 6) else if f = q then (if i % 2 = 0 then 2 else 5) else 0) < 8
  split
  · split <;> omega
  · split
    · split <;> omega
    · omega
/-! the root -/
theorem ht_rootN {p q : Nat} {A B D E : Int} {a9 a10 : Nat → Int32} (hb : ht_bl (ht_V p q) (fun _ => 0) (ht_R A B D E) 8 0 a9 a10) :
    ht_pre a9 (24 * 0) 8 = ht_i 8 ∧ ht_pre a10 (24 * 0) 8 = ht_i (2 * A + 2 * B + 2 * D + 2 * E) := by
  have h := ht_blP (f := 0) (m := 8) hb (by omega) (by omega) (fun _ => true) (fun i _ => ⟨fun _ => rfl, fun _ => ⟨rfl, ht_V8 p q 0 i⟩⟩)
  refine ⟨h.1, h.2.trans ?_⟩
  show ht_i (0 + A + B + D + E + A + B + D + E) = _
  congr 1
  omega
theorem ht_rootF {p q : Nat} {A B D E : Int} {a9 a10 : Nat → Int32} {s : Int32} (hp : p < 3) (hq : q < 3) (hpq : q ≠ p) (hb : ht_bl (ht_V p q) (fun _ => 0) (ht_R A B D E) 8 0 a9 a10) (G : Int32 × Int32 × Int64 × Int64) :
    ht_ff 2 (fun f m => ht_pre a9 (24 * 0 + 8 * f) m) (fun f m => ht_pre a10 (24 * 0 + 8 * f) m) (ht_i 8) s G 3 = ht_tl 2 (nI p) (nI 1) (ht_i 4).toInt64 (ht_i (2 * A + 2 * B)).toInt64 (ht_i 8).toInt64 s.toInt64 (ht_tl 2 (nI q) (nI 2) (ht_i 4).toInt64 (ht_i (2 * A + 2 * D)).toInt64 (ht_i 8).toInt64 s.toInt64 G)
    ∨ ht_ff 2 (fun f m => ht_pre a9 (24 * 0 + 8 * f) m) (fun f m => ht_pre a10 (24 * 0 + 8 * f) m) (ht_i 8) s G 3 = ht_tl 2 (nI q) (nI 2) (ht_i 4).toInt64 (ht_i (2 * A + 2 * D)).toInt64 (ht_i 8).toInt64 s.toInt64 (ht_tl 2 (nI p) (nI 1) (ht_i 4).toInt64 (ht_i (2 * A + 2 * B)).toInt64 (ht_i 8).toInt64 s.toInt64 G) := by
  refine ht_perm (fun f B => ht_fb 2 (fun f m => ht_pre a9 (24 * 0 + 8 * f) m) (fun f m => ht_pre a10 (24 * 0 + 8 * f) m) (ht_i 8) s f B 7) _ _ hp hq hpq (fun G => ?_) (fun G => ?_) (fun f G hf h1 h2 => ?_) G
  · refine (ht_fb_two (c := ht_i 4) (S := ht_i (2 * A + 2 * B)) (v1 := 1) (v2 := 6) hp (by omega) (fun m m1 m2 => ?_) (fun m m1 m2 => ?_) (fun m m1 m2 => ?_) 7 (by omega)).trans (if_neg (by omega))
    · refine (ht_blP hb hp (by omega) (fun _ => false) (fun i _ => ?_)).1.trans ht_i0.symm
      rw [ht_Vp]
      split <;> simp <;> omega
    · have h := ht_blP hb hp (m := m) (by omega) (fun i => decide (i % 4 < 2)) (fun i _ => by
        rw [ht_Vp, decide_eq_true_iff]
        split <;> simp <;> omega)
      refine ⟨h.1, h.2.trans ?_⟩
      show ht_i (0 + A + B + 0 + 0 + A + B + 0 + 0) = _
      congr 1
      omega
    · refine (ht_blP hb hp (by omega) (fun _ => true) (fun i _ => ?_)).1
      rw [ht_Vp]
      split <;> simp <;> omega
  · refine (ht_fb_two (c := ht_i 4) (S := ht_i (2 * A + 2 * D)) (v1 := 2) (v2 := 5) hq (by omega) (fun m m1 m2 => ?_) (fun m m1 m2 => ?_) (fun m m1 m2 => ?_) 7 (by omega)).trans (if_neg (by omega))
    · refine (ht_blP hb hq (by omega) (fun _ => false) (fun i _ => ?_)).1.trans ht_i0.symm
      rw [ht_Vq hpq]
      split <;> simp <;> omega
    · have h := ht_blP hb hq (m := m) (by omega) (fun i => decide (i % 2 = 0)) (fun i _ => by
        rw [ht_Vq hpq, decide_eq_true_iff]
        split <;> simp <;> omega)
      refine ⟨h.1, h.2.trans ?_⟩
      show ht_i (0 + A + 0 + D + 0 + A + 0 + D + 0) = _
      congr 1
      omega
    · refine (ht_blP hb hq (by omega) (fun _ => true) (fun i _ => ?_)).1
      rw [ht_Vq hpq]
      split <;> simp <;> omega
  · refine ht_fb_triv (fun m m1 m2 => ?_) 7 (by omega)
    refine Or.inr (ht_blP hb hf (by omega) (fun _ => true) (fun i _ => ?_)).1
    rw [ht_Vo h1 h2]
    simp
    omega
theorem ht_sqle {u c : Int} (h1 : -c ≤ u) (h2 : u ≤ c) : u * u ≤ c * c := by
  have h := Int.mul_nonneg (show 0 ≤ c - u by omega) (show 0 ≤ c + u by omega)
  have e : (c - u) * (c + u) = c * c - u * u := by
    rw [Int.sub_mul, Int.mul_add, Int.mul_add, Int.mul_comm u c]
    omega
  omega
theorem ht_sqge {u c : Int} (h : c ≤ u ∨ u ≤ -c) (h0 : 0 ≤ c) : c * c ≤ u * u := by
  have e : (u - c) * (u + c) = u * u - c * c := by
    rw [Int.sub_mul, Int.mul_add, Int.mul_add, Int.mul_comm c u]
    omega
  rcases h with h | h
  · have := Int.mul_nonneg (show 0 ≤ u - c by omega) (show 0 ≤ u + c by omega)
    omega
  · have := Int.mul_nonneg (show 0 ≤ c - u by omega) (show 0 ≤ -c - u by omega)
    have e2 : (c - u) * (-c - u) = (u - c) * (u + c) := by
      rw [show c - u = -(u - c) by omega, show -c - u = -(u + c) by omega, Int.neg_mul_neg]
    omega
/-- the best split of the root: by p at 1, and it gains -/
theorem ht_root {p q : Nat} {A B D E : Int} {a9 a10 : Nat → Int32} (hp : p < 3) (hq : q < 3) (hpq : q ≠ p) (hA : 20 ≤ A ∧ A ≤ 40) (hB : 20 ≤ B ∧ B ≤ 40) (hD : -40 ≤ D ∧ D ≤ -20) (hE : -40 ≤ E ∧ E ≤ -20) (hb : ht_bl (ht_V p q) (fun _ => 0) (ht_R A B D E) 8 0 a9 a10) :
    ∃ top bot : Int64, (∀ G : Int32 × Int32 × Int64 × Int64, G.1 < 0 → ht_ff 2 (fun f m => ht_pre a9 (24 * 0 + 8 * f) m) (fun f m => ht_pre a10 (24 * 0 + 8 * f) m) (ht_i 8) (ht_i (2 * A + 2 * B + 2 * D + 2 * E)) G 3 = (nI p, nI 1, top, bot))
      ∧ ((ht_i (2 * A + 2 * B + 2 * D + 2 * E)).toInt64 * (ht_i (2 * A + 2 * B + 2 * D + 2 * E)).toInt64) * bot < top * (ht_i 8).toInt64 := by
  have eS : 2 * A + 2 * B + 2 * D + 2 * E - (2 * A + 2 * B) = 2 * D + 2 * E := by omega
  have eS' : 2 * A + 2 * B + 2 * D + 2 * E - (2 * A + 2 * D) = 2 * B + 2 * E := by omega
  have u1 := ht_sqge (u := 2 * A + 2 * B) (c := 80) (by omega) (by omega)
  have u2 := ht_sqle (u := 2 * A + 2 * B) (c := 160) (by omega) (by omega)
  have w1 := ht_sqge (u := 2 * D + 2 * E) (c := 80) (by omega) (by omega)
  have w2 := ht_sqle (u := 2 * D + 2 * E) (c := 160) (by omega) (by omega)
  have x1 := ht_sqge (u := 2 * A + 2 * D) (c := 0) (by omega) (by omega)
  have x2 := ht_sqle (u := 2 * A + 2 * D) (c := 40) (by omega) (by omega)
  have y1 := ht_sqge (u := 2 * B + 2 * E) (c := 0) (by omega) (by omega)
  have y2 := ht_sqle (u := 2 * B + 2 * E) (c := 40) (by omega) (by omega)
  have s1 := ht_sqge (u := 2 * A + 2 * B + 2 * D + 2 * E) (c := 0) (by omega) (by omega)
  have s2 := ht_sqle (u := 2 * A + 2 * B + 2 * D + 2 * E) (c := 80) (by omega) (by omega)
  refine ⟨ht_l ((2 * A + 2 * B) * (2 * A + 2 * B) * (8 - 4) + (2 * D + 2 * E) * (2 * D + 2 * E) * 4), ht_l (4 * (8 - 4)), fun G hG => ?_, ?_⟩
  · have h := ht_rootF (s := ht_i (2 * A + 2 * B + 2 * D + 2 * E)) hp hq hpq hb G
    rw [ht_il (x := 4) (by omega) (by omega), ht_il (x := 8) (by omega) (by omega), ht_il (x := 2 * A + 2 * B) (by omega) (by omega), ht_il (x := 2 * A + 2 * D) (by omega) (by omega), ht_il (x := 2 * A + 2 * B + 2 * D + 2 * E) (by omega) (by omega)] at h
    rcases h with h | h
    · rw [h, ht_tl_v (f := nI q) (by omega) (by omega) (by omega), if_pos (Or.inl hG), ht_tl_v (by omega) (by omega) (by omega), eS, eS', if_pos]
      right
      dsimp only
      rw [ht_lmul, ht_lmul, ht_llt (by omega) (by omega) (by omega) (by omega)]
      omega
    · rw [h, ht_tl_v (f := nI p) (by omega) (by omega) (by omega), if_pos (Or.inl hG), ht_tl_v (by omega) (by omega) (by omega), eS, eS', if_neg]
      dsimp only
      rw [ht_lmul, ht_lmul, ht_llt (by omega) (by omega) (by omega) (by omega)]
      intro z
      rcases z with z | z
      · exact nI_pos (by omega) z
      · omega
  · rw [ht_il (x := 8) (by omega) (by omega), ht_il (x := 2 * A + 2 * B + 2 * D + 2 * E) (by omega) (by omega), ht_lmul, ht_lmul, ht_lmul, ht_llt (by omega) (by omega) (by omega) (by omega)]
    omega
/-! nodes 1 and 2 -/
theorem ht_nodeN {p q k : Nat} {A B D E : Int} {nd : Nat → Nat} {a9 a10 : Nat → Int32} (hk : k = 1 ∨ k = 2) (hnd : ∀ i, i < 8 → (nd i = k ↔ i % 4 / 2 = k - 1)) (hb : ht_bl (ht_V p q) nd (ht_R A B D E) 8 k a9 a10) :
    ht_pre a9 (24 * k) 8 = ht_i 4 ∧ ht_pre a10 (24 * k) 8 = ht_i (2 * ht_R A B D E (2 * (k - 1)) + 2 * ht_R A B D E (2 * (k - 1) + 1)) := by
  have h := ht_blP (f := 0) (m := 8) hb (by omega) (by omega) (fun i => decide (i % 4 / 2 = k - 1)) (fun i hi => by
    rw [decide_eq_true_iff, hnd i hi]
    exact ⟨fun z => z.1, fun z => ⟨z, ht_V8 p q 0 i⟩⟩)
  rcases hk with e | e
  · subst e
    refine ⟨h.1, h.2.trans ?_⟩
    show ht_i (0 + A + B + 0 + 0 + A + B + 0 + 0) = ht_i (2 * A + 2 * B)
    congr 1
    omega
  · subst e
    refine ⟨h.1, h.2.trans ?_⟩
    show ht_i (0 + 0 + 0 + D + E + 0 + 0 + D + E) = ht_i (2 * D + 2 * E)
    congr 1
    omega
theorem ht_nodeF {p q k : Nat} {A B D E : Int} {nd : Nat → Nat} {a9 a10 : Nat → Int32} {s : Int32} (hp : p < 3) (hq : q < 3) (hpq : q ≠ p) (hk : k = 1 ∨ k = 2) (hnd : ∀ i, i < 8 → (nd i = k ↔ i % 4 / 2 = k - 1)) (hb : ht_bl (ht_V p q) nd (ht_R A B D E) 8 k a9 a10) (G : Int32 × Int32 × Int64 × Int64) :
    ht_ff 2 (fun f m => ht_pre a9 (24 * k + 8 * f) m) (fun f m => ht_pre a10 (24 * k + 8 * f) m) (ht_i 4) s G 3 = ht_tl 2 (nI q) (nI 2) (ht_i 2).toInt64 (ht_i (2 * ht_R A B D E (2 * (k - 1)))).toInt64 (ht_i 4).toInt64 s.toInt64 G := by
  have hN : ∀ f m, f < 3 → m ≤ 8 → (∀ i, i < 8 → ((nd i = k ∧ ht_V p q f i < m) ↔ decide (i % 4 / 2 = k - 1) = true)) → ht_pre a9 (24 * k + 8 * f) m = ht_i 4 := by
    intro f m hf hm hc
    have h := (ht_blP hb hf hm (fun i => decide (i % 4 / 2 = k - 1)) hc).1
    rcases hk with e | e
    · subst e
      exact h
    · subst e
      exact h
  refine (ht_perm (fun f B => ht_fb 2 (fun f m => ht_pre a9 (24 * k + 8 * f) m) (fun f m => ht_pre a10 (24 * k + 8 * f) m) (ht_i 4) s f B 7) (fun G => G) (fun G => ht_tl 2 (nI q) (nI 2) (ht_i 2).toInt64 (ht_i (2 * ht_R A B D E (2 * (k - 1)))).toInt64 (ht_i 4).toInt64 s.toInt64 G) hp hq hpq (fun G => ?_) (fun G => ?_) (fun f G hf h1 h2 => ?_) G).elim id id
  · refine ht_fb_triv (fun m m1 m2 => ?_) 7 (by omega)
    by_cases c : (k = 1 ∧ 2 ≤ m) ∨ (k = 2 ∧ 7 ≤ m)
    · refine Or.inr (hN p m hp (by omega) (fun i hi => ?_))
      rw [ht_Vp, decide_eq_true_iff, hnd i hi]
      split <;> omega
    · refine Or.inl ((ht_blP hb hp (by omega) (fun _ => false) (fun i hi => ?_)).1.trans ht_i0.symm)
      rw [ht_Vp, hnd i hi]
      split <;> simp <;> omega
  · refine (ht_fb_two (c := ht_i 2) (S := ht_i (2 * ht_R A B D E (2 * (k - 1)))) (v1 := 2) (v2 := 5) hq (by omega) (fun m m1 m2 => ?_) (fun m m1 m2 => ?_) (fun m m1 m2 => ?_) 7 (by omega)).trans (if_neg (by omega))
    · refine (ht_blP hb hq (by omega) (fun _ => false) (fun i _ => ?_)).1.trans ht_i0.symm
      rw [ht_Vq hpq]
      split <;> simp <;> omega
    · have h := ht_blP hb hq (m := m) (by omega) (fun i => decide (i % 4 = 2 * (k - 1))) (fun i hi => by
        rw [ht_Vq hpq, decide_eq_true_iff, hnd i hi]
        split <;> omega)
      rcases hk with e | e
      · subst e
        refine ⟨h.1, h.2.trans ?_⟩
        show ht_i (0 + A + 0 + 0 + 0 + A + 0 + 0 + 0) = ht_i (2 * A)
        congr 1
        omega
      · subst e
        refine ⟨h.1, h.2.trans ?_⟩
        show ht_i (0 + 0 + 0 + D + 0 + 0 + 0 + D + 0) = ht_i (2 * D)
        congr 1
        omega
    · refine hN q m hq (by omega) (fun i hi => ?_)
      rw [ht_Vq hpq, decide_eq_true_iff, hnd i hi]
      split <;> omega
  · refine ht_fb_triv (fun m m1 m2 => ?_) 7 (by omega)
    refine Or.inr (hN f m hf (by omega) (fun i hi => ?_))
    rw [ht_Vo h1 h2, decide_eq_true_iff, hnd i hi]
    omega
/-- the best split of node 1 or 2: by q at 2; it gains just where the two kinds' targets differ -/
theorem ht_node {p q k : Nat} {A B D E x y : Int} {nd : Nat → Nat} {a9 a10 : Nat → Int32} (hp : p < 3) (hq : q < 3) (hpq : q ≠ p) (hk : k = 1 ∨ k = 2) (hnd : ∀ i, i < 8 → (nd i = k ↔ i % 4 / 2 = k - 1)) (hb : ht_bl (ht_V p q) nd (ht_R A B D E) 8 k a9 a10)
    (hx : ht_R A B D E (2 * (k - 1)) = x) (hy : ht_R A B D E (2 * (k - 1) + 1) = y) (bx : -40 ≤ x ∧ x ≤ 40) (by' : -40 ≤ y ∧ y ≤ 40) :
    ∃ top bot : Int64, (∀ G : Int32 × Int32 × Int64 × Int64, G.1 < 0 → ht_ff 2 (fun f m => ht_pre a9 (24 * k + 8 * f) m) (fun f m => ht_pre a10 (24 * k + 8 * f) m) (ht_i 4) (ht_i (2 * x + 2 * y)) G 3 = (nI q, nI 2, top, bot))
      ∧ (((ht_i (2 * x + 2 * y)).toInt64 * (ht_i (2 * x + 2 * y)).toInt64) * bot < top * (ht_i 4).toInt64 ↔ x ≠ y) := by
  have eS : 2 * x + 2 * y - 2 * x = 2 * y := by omega
  have u1 := ht_sqge (u := 2 * x) (c := 0) (by omega) (by omega)
  have u2 := ht_sqle (u := 2 * x) (c := 80) (by omega) (by omega)
  have w1 := ht_sqge (u := 2 * y) (c := 0) (by omega) (by omega)
  have w2 := ht_sqle (u := 2 * y) (c := 80) (by omega) (by omega)
  have s1 := ht_sqge (u := 2 * x + 2 * y) (c := 0) (by omega) (by omega)
  have s2 := ht_sqle (u := 2 * x + 2 * y) (c := 160) (by omega) (by omega)
  refine ⟨ht_l ((2 * x) * (2 * x) * (4 - 2) + (2 * y) * (2 * y) * 2), ht_l (2 * (4 - 2)), fun G hG => ?_, ?_⟩
  · have h := ht_nodeF (s := ht_i (2 * x + 2 * y)) hp hq hpq hk hnd hb G
    rw [hx, ht_il (x := 4) (by omega) (by omega), ht_il (x := 2) (by omega) (by omega), ht_il (x := 2 * x) (by omega) (by omega), ht_il (x := 2 * x + 2 * y) (by omega) (by omega)] at h
    rw [h, ht_tl_v (by omega) (by omega) (by omega), eS, if_pos (Or.inl hG)]
  · rw [ht_il (x := 4) (by omega) (by omega), ht_il (x := 2 * x + 2 * y) (by omega) (by omega), ht_lmul, ht_lmul, ht_lmul, ht_llt (by omega) (by omega) (by omega) (by omega)]
    have e1 : (2 * x + 2 * y) * (2 * x + 2 * y) = 4 * (x * x) + 8 * (x * y) + 4 * (y * y) := by grind
    have e2 : (2 * x) * (2 * x) = 4 * (x * x) := by grind
    have e3 : (2 * y) * (2 * y) = 4 * (y * y) := by grind
    have e4 : (x - y) * (x - y) = x * x - 2 * (x * y) + y * y := by grind
    rw [e1, e2, e3]
    constructor
    · intro z e
      subst e
      omega
    · intro z
      have : 0 < (x - y) * (x - y) := by
        rcases Int.lt_or_gt_of_ne z with c | c
        · have := Int.mul_pos (show 0 < y - x by omega) (show 0 < y - x by omega)
          rw [show x - y = -(y - x) by omega, Int.neg_mul_neg]
          exact this
        · exact Int.mul_pos (show 0 < x - y by omega) (show 0 < x - y by omega)
      omega
theorem ht_lvx {c x : Int} (h : 0 < c) (h2 : c < 2147483648) (h3 : -2147483648 ≤ c * x) (h4 : c * x < 2147483648) : ht_lv (ht_i c) (ht_i (c * x)) = ht_i x := by
  unfold ht_lv
  rw [if_neg, ht_idiv h3 h4 h h2, Int.mul_tdiv_cancel_left x (by omega)]
  rw [ht_i0, ht_ile (by omega) (by omega) (by omega) (by omega)]
  omega
/-- the two parts of node 1 or 2 -/
theorem ht_kids {p q k : Nat} {A B D E x y : Int} {nd : Nat → Nat} {a9 a10 : Nat → Int32} (hpq : q ≠ p) (hk : k = 1 ∨ k = 2) (hnd : ∀ i, i < 8 → (nd i = k ↔ i % 4 / 2 = k - 1)) (hd : ∀ i, i < 8 → nd i ≠ 2 * k + 1 ∧ nd i ≠ 2 * k + 2)
    (hx : ht_R A B D E (2 * (k - 1)) = x) (hy : ht_R A B D E (2 * (k - 1) + 1) = y)
    (hb1 : ht_bl (ht_V p q) (ht_nd (ht_V p q) nd k q 2) (ht_R A B D E) 8 (2 * k + 1) a9 a10) (hb2 : ht_bl (ht_V p q) (ht_nd (ht_V p q) nd k q 2) (ht_R A B D E) 8 (2 * k + 2) a9 a10) :
    (ht_pre a9 (24 * (2 * k + 1)) 8 = ht_i 2 ∧ ht_pre a10 (24 * (2 * k + 1)) 8 = ht_i (2 * x)) ∧ (ht_pre a9 (24 * (2 * k + 2)) 8 = ht_i 2 ∧ ht_pre a10 (24 * (2 * k + 2)) 8 = ht_i (2 * y)) := by
  have hN : ∀ i, ht_nd (ht_V p q) nd k q 2 i = if nd i = k then (if i % 2 = 0 then 2 * k + 1 else 2 * k + 2) else nd i := by
    intro i
    show (if nd i = k then (if ht_V p q q i ≤ 2 then 2 * k + 1 else 2 * k + 2) else nd i) = _
    rw [ht_Vq hpq]
    by_cases c : i % 2 = 0
    · rw [if_pos c, if_pos c, if_pos (c := (2 : Nat) ≤ 2) (by omega)]
    · rw [if_neg c, if_neg c, if_neg (c := (5 : Nat) ≤ 2) (by omega)]
  have h1 := ht_blP (f := 0) (m := 8) hb1 (by omega) (by omega) (fun i => decide (i % 4 = 2 * (k - 1))) (fun i hi => by
    have a := hnd i hi
    have b := hd i hi
    have c := ht_V8 p q 0 i
    rw [decide_eq_true_iff, hN i]
    by_cases c1 : nd i = k
    · by_cases c2 : i % 2 = 0
      · rw [if_pos c1, if_pos c2]
        omega
      · rw [if_pos c1, if_neg c2]
        omega
    · rw [if_neg c1]
      omega)
  have h2 := ht_blP (f := 0) (m := 8) hb2 (by omega) (by omega) (fun i => decide (i % 4 = 2 * (k - 1) + 1)) (fun i hi => by
    have a := hnd i hi
    have b := hd i hi
    have c := ht_V8 p q 0 i
    rw [decide_eq_true_iff, hN i]
    by_cases c1 : nd i = k
    · by_cases c2 : i % 2 = 0
      · rw [if_pos c1, if_pos c2]
        omega
      · rw [if_pos c1, if_neg c2]
        omega
    · rw [if_neg c1]
      omega)
  subst hx hy
  rcases hk with e | e
  · subst e
    refine ⟨⟨h1.1, h1.2.trans ?_⟩, ⟨h2.1, h2.2.trans ?_⟩⟩
    · show ht_i (0 + A + 0 + 0 + 0 + A + 0 + 0 + 0) = ht_i (2 * A)
      congr 1
      omega
    · show ht_i (0 + 0 + B + 0 + 0 + 0 + B + 0 + 0) = ht_i (2 * B)
      congr 1
      omega
  · subst e
    refine ⟨⟨h1.1, h1.2.trans ?_⟩, ⟨h2.1, h2.2.trans ?_⟩⟩
    · show ht_i (0 + 0 + 0 + D + 0 + 0 + 0 + D + 0) = ht_i (2 * D)
      congr 1
      omega
    · show ht_i (0 + 0 + 0 + 0 + E + 0 + 0 + 0 + E) = ht_i (2 * E)
      congr 1
      omega
end
section
theorem ht_n1 (p q : Nat) : ht_nd (ht_V p q) (fun _ => 0) 0 p 1 = fun i => if i % 4 < 2 then 1 else 2 := by
  funext i
  show (if (0 : Nat) = 0 then (if ht_V p q p i ≤ 1 then 2 * 0 + 1 else 2 * 0 + 2) else 0) = _
  rw [if_pos rfl, ht_Vp]
  by_cases c : i % 4 < 2
  · rw [if_pos c, if_pos c, if_pos (by omega)]
  · rw [if_neg c, if_neg c, if_neg (by omega)]
theorem ht_ndq {p q k i : Nat} {nd : Nat → Nat} (hpq : q ≠ p) : ht_nd (ht_V p q) nd k q 2 i = if nd i = k then (if i % 2 = 0 then 2 * k + 1 else 2 * k + 2) else nd i := by
  show (if nd i = k then (if ht_V p q q i ≤ 2 then 2 * k + 1 else 2 * k + 2) else nd i) = _
  rw [ht_Vq hpq]
  by_cases c : i % 2 = 0
  · rw [if_pos c, if_pos c, if_pos (c := (2 : Nat) ≤ 2) (by omega)]
  · rw [if_neg c, if_neg c, if_neg (c := (5 : Nat) ≤ 2) (by omega)]
theorem ht_pre_c {a b : Nat → Int32} {c : Nat} : ∀ m, (∀ j, c ≤ j → j < c + m → a j = b j) → ht_pre a c m = ht_pre b c m
  | 0, _ => rfl
  | m + 1, h => by
    show ht_pre a c m + a (c + m) = ht_pre b c m + b (c + m)
    rw [ht_pre_c m (fun j h1 h2 => h j h1 (by omega)), h (c + m) (by omega) (by omega)]
/-- node 1 or 2 of the first tree -/
theorem ht_step {post : Int32 → St2 → Prop} {tr bf bb : Int32} {bt bn : Int64} {a1 a2 a3 a4 a5 a6 a7 a8 a9 a10 : Nat → Int32} {p q k m : Nat} {A B D E x y : Int} {nd : Nat → Nat} {z : Int32} (hp : p < 3) (hq : q < 3) (hpq : q ≠ p) (hk : k = 1 ∨ k = 2) (hnd : ∀ i, i < 8 → (nd i = k ↔ i % 4 / 2 = k - 1)) (hd : ∀ i, i < 8 → nd i ≠ 2 * k + 1 ∧ nd i ≠ 2 * k + 2)
    (hV : ∀ f i, f < 3 → i < 8 → (a1 i >>> ((3 * nI f) &&& 31)) &&& 7 = nI (ht_V p q f i)) (h7 : ∀ i, i < 8 → a7 i = ht_i (ht_R A B D E i)) (h8 : ∀ i, i < 8 → a8 i = nI (nd i) ∧ nd i < 7)
    (hb : ht_bl (ht_V p q) nd (ht_R A B D E) 8 k a9 a10) (h3 : ¬ a3 0 < 0)
    (hx : ht_R A B D E (2 * (k - 1)) = x) (hy : ht_R A B D E (2 * (k - 1) + 1) = y) (bx : -40 ≤ x ∧ x ≤ 40) (by' : -40 ≤ y ∧ y ≤ 40)
    (HL : x = y → ∀ (bf bb : Int32) (bt bn : Int64), wX_train_110 post (nI 0) m (z + 1) (nI (k + 1)) 2 (nI 8) tr bf bb bt bn a1 a2 (upd a3 (7 * 0 + k) (-6)) a4 (upd a5 (7 * 0 + k) (ht_i x)) (upd a6 (7 * 0 + k) (ht_i 4)) a7 a8 a9 a10)
    (HS : x ≠ y → ∀ (bf bb : Int32) (bt bn : Int64) (b8 b9 b10 : Nat → Int32), (∀ i, i < 8 → b8 i = nI (ht_nd (ht_V p q) nd k q 2 i) ∧ ht_nd (ht_V p q) nd k q 2 i < 7) → (∀ j, j < 24 * (2 * k + 1) ∨ 24 * (2 * k + 3) ≤ j → b9 j = a9 j ∧ b10 j = a10 j) →
      (ht_pre b9 (24 * (2 * k + 1)) 8 = ht_i 2 ∧ ht_pre b10 (24 * (2 * k + 1)) 8 = ht_i (2 * x)) → (ht_pre b9 (24 * (2 * k + 2)) 8 = ht_i 2 ∧ ht_pre b10 (24 * (2 * k + 2)) 8 = ht_i (2 * y)) →
      wX_train_110 post (nI 0) m z (nI (k + 1)) 2 (nI 8) tr bf bb bt bn a1 a2 (upd a3 (7 * 0 + k) (nI q)) (upd a4 (7 * 0 + k) (nI 2)) (upd a5 (7 * 0 + k) 0) (upd a6 (7 * 0 + k) (ht_i 4)) a7 b8 b9 b10) :
    wX_train_110 post (nI 0) (m + 1) z (nI k) 2 (nI 8) tr bf bb bt bn a1 a2 a3 a4 a5 a6 a7 a8 a9 a10 := by
  have n1 := ht_nodeN hk hnd hb
  rw [hx, hy] at n1
  obtain ⟨top, bot, hG, hc⟩ := ht_node hp hq hpq hk hnd hb hx hy bx by'
  have h3' : k = 0 ∨ ¬ a3 (7 * 0 + (k - 1) / 2) < 0 := by
    right
    rw [show 7 * 0 + (k - 1) / 2 = 0 by omega]
    exact h3
  by_cases e : x = y
  · refine ht_tLeaf (B := (nI q, nI 2, top, bot)) (by omega) (by omega) h3' n1.1 n1.2 (fun _ _ => rfl) (fun _ _ => rfl) (fun _ => hG _ (show (-1 : Int32) < 0 by decide)) (fun z => absurd z (by omega)) (Or.inr (fun z => hc.mp z e)) ?_
    have ev : ht_lv (ht_i 4) (ht_i (2 * x + 2 * y)) = ht_i x := by
      rw [show 2 * x + 2 * y = 4 * x by omega]
      exact ht_lvx (by omega) (by omega) (by omega) (by omega)
    rw [ev]
    exact HL e _ _ _ _
  · refine ht_tSplit (n := 8) (F := q) (bd := 2) (by omega) (by omega) h3' (by omega) hq (by omega) hV (fun f i _ _ => ht_V8 p q f i) h7 h8 hd hb n1.1 n1.2 (fun _ _ => rfl) (fun _ _ => rfl) (hG _ (show (-1 : Int32) < 0 by decide)) (hc.mpr e) (fun b8 b9 b10 q1 q2 q3 q4 => ?_)
    have kk := ht_kids hpq hk hnd hd hx hy q2 q3
    exact HS e _ _ _ _ b8 b9 b10 q1 q4 kk.1 kk.2
theorem ht_pairS {post : Int32 → St2 → Prop} {ls ct tr bf bb : Int32} {bt bn : Int64} {a1 a2 a3 a4 a5 a6 a7 a8 a9 a10 : Nat → Int32} {k m : Nat} {z : Int32} (hk : k = 1 ∨ k = 2) (h3 : a3 k < 0) (H : wX_train_110 post (nI 0) m z (nI (2 * k + 3)) ls ct tr bf bb bt bn a1 a2 a3 a4 a5 a6 a7 a8 a9 a10) : wX_train_110 post (nI 0) (m + 1 + 1) z (nI (2 * k + 1)) ls ct tr bf bb bt bn a1 a2 a3 a4 a5 a6 a7 a8 a9 a10 := by
  have e1 : 7 * 0 + (2 * k + 1 - 1) / 2 = k := by omega
  have e2 : 7 * 0 + (2 * k + 1 + 1 - 1) / 2 = k := by omega
  exact ht_tSkip (by omega) (by omega) (by omega) (by rw [e1]; exact h3) (ht_tSkip (by omega) (by omega) (by omega) (by rw [e2]; exact h3) H)
theorem ht_pairG {post : Int32 → St2 → Prop} {ls ct tr bf bb : Int32} {bt bn : Int64} {a1 a2 a3 a4 a5 a6 a7 a8 a9 a10 : Nat → Int32} {k m : Nat} {z : Int32} {x y : Int} (hk : k = 1 ∨ k = 2) (h3 : ¬ a3 k < 0) (bx : -40 ≤ x ∧ x ≤ 40) (by' : -40 ≤ y ∧ y ≤ 40)
    (h1 : ht_pre a9 (24 * (2 * k + 1)) 8 = ht_i 2 ∧ ht_pre a10 (24 * (2 * k + 1)) 8 = ht_i (2 * x)) (h2 : ht_pre a9 (24 * (2 * k + 2)) 8 = ht_i 2 ∧ ht_pre a10 (24 * (2 * k + 2)) 8 = ht_i (2 * y))
    (H : wX_train_110 post (nI 0) m (z + 1 + 1) (nI (2 * k + 3)) ls ct tr (-1) bb bt bn a1 a2 (upd (upd a3 (7 * 0 + (2 * k + 1)) (-6)) (7 * 0 + (2 * k + 2)) (-6)) a4 (upd (upd a5 (7 * 0 + (2 * k + 1)) (ht_i x)) (7 * 0 + (2 * k + 2)) (ht_i y)) (upd (upd a6 (7 * 0 + (2 * k + 1)) (ht_i 2)) (7 * 0 + (2 * k + 2)) (ht_i 2)) a7 a8 a9 a10) :
    wX_train_110 post (nI 0) (m + 1 + 1) z (nI (2 * k + 1)) ls ct tr bf bb bt bn a1 a2 a3 a4 a5 a6 a7 a8 a9 a10 := by
  have e1 : 7 * 0 + (2 * k + 1 - 1) / 2 = k := by omega
  have e2 : 7 * 0 + (2 * k + 1 + 1 - 1) / 2 = k := by omega
  have v1 : ht_lv (ht_i 2) (ht_i (2 * x)) = ht_i x := ht_lvx (by omega) (by omega) (by omega) (by omega)
  have v2 : ht_lv (ht_i 2) (ht_i (2 * y)) = ht_i y := ht_lvx (by omega) (by omega) (by omega) (by omega)
  refine ht_tLeaf (B := ((-1), bb, bt, bn)) (by omega) (by omega) (Or.inr (by rw [e1]; exact h3)) h1.1 h1.2 (fun _ _ => rfl) (fun _ _ => rfl) (fun z => absurd z (by omega)) (fun _ => rfl) (Or.inl (show (-1 : Int32) < 0 by decide)) ?_
  refine ht_tLeaf (k := 2 * k + 2) (B := ((-1), bb, bt, bn)) (by omega) (by omega) (Or.inr (by rw [e2, pk_un (by omega)]; exact h3)) h2.1 h2.2 (fun _ _ => rfl) (fun _ _ => rfl) (fun z => absurd z (by omega)) (fun _ => rfl) (Or.inl (show (-1 : Int32) < 0 by decide)) ?_
  rw [v1, v2]
  exact H
/-- what the first tree holds -/
def ht_T1 (p q : Nat) (A B D E : Int) (a3 a4 a5 a6 : Nat → Int32) : Prop :=
  (a3 0 = nI p ∧ a4 0 = nI 1 ∧ a6 1 = ht_i 4 ∧ a6 2 = ht_i 4) ∧ (A = B → a3 1 = -6 ∧ a5 1 = ht_i A ∧ a3 3 = -7) ∧ (A ≠ B → a3 1 = nI q ∧ a4 1 = nI 2 ∧ a3 3 = -6 ∧ a5 3 = ht_i A ∧ a5 4 = ht_i B)
    ∧ (D = E → a3 2 = -6 ∧ a5 2 = ht_i D ∧ a6 6 = 0) ∧ (D ≠ E → a3 2 = nI q ∧ a4 2 = nI 2 ∧ a5 5 = ht_i D ∧ a5 6 = ht_i E ∧ a6 6 = ht_i 2)
def ht_lc (A B D E : Int) : Int32 := 2 + (if A = B then 0 else 1) + (if D = E then 0 else 1)
theorem ht_first {post : Int32 → St2 → Prop} {bf bb : Int32} {bt bn : Int64} {a1 a2 a3 a4 a5 a6 a7 a8 a9 a10 : Nat → Int32} {p q : Nat} {A B D E : Int} (hp : p < 3) (hq : q < 3) (hpq : q ≠ p) (hA : 20 ≤ A ∧ A ≤ 40) (hB : 20 ≤ B ∧ B ≤ 40) (hD : -40 ≤ D ∧ D ≤ -20) (hE : -40 ≤ E ∧ E ≤ -20)
    (hV : ∀ f i, f < 3 → i < 8 → (a1 i >>> ((3 * nI f) &&& 31)) &&& 7 = nI (ht_V p q f i)) (h2 : ∀ i, i < 8 → a2 i = ht_i (ht_R A B D E i))
    (H : ∀ (bf bb : Int32) (bt bn : Int64) (b3 b4 b5 b6 b7 b8 b9 b10 : Nat → Int32), ht_T1 p q A B D E b3 b4 b5 b6 → post (ht_lc A B D E) (2, nI 8, nI 1, bf, bb, bt, bn, a1, a2, b3, b4, b5, b6, b7, b8, b9, b10)) :
    wpX_train post (2, nI 8, nI 0, bf, bb, bt, bn, a1, a2, a3, a4, a5, a6, a7, a8, a9, a10) := by
  refine ht_train (V := ht_V p q) (R := ht_R A B D E) (by omega) (by omega) hV (fun f i _ _ => ht_V8 p q f i) (fun i hi => ht_RSi (rr := fun _ => 0) (by omega) (by omega) (fun t z => absurd z (by omega)) ((Int32.sub_zero _).trans (h2 i hi))) (fun b7 b8 b9 b10 h7 h8 hb => ⟨8, ?_⟩)
  obtain ⟨hn, hs⟩ := ht_rootN hb
  obtain ⟨top, bot, hG, hc⟩ := ht_root hp hq hpq hA hB hD hE hb
  refine ht_tSplit (k := 0) (n := 8) (F := p) (bd := 1) (nd := fun _ => 0) (by omega) (by omega) (Or.inl rfl) (by omega) hp (by omega) hV (fun f i _ _ => ht_V8 p q f i) h7 (fun i hi => ⟨h8 i hi, by omega⟩) (fun i _ => by omega) hb hn hs (fun _ _ => rfl) (fun _ _ => rfl) (hG _ (show (-1 : Int32) < 0 by decide)) hc (fun c8 c9 c10 q1 q2 q3 _ => ?_)
  rw [ht_n1] at q1 q2 q3
  have h30 : ∀ a : Nat → Int32, ¬ upd a (7 * 0 + 0) (nI p) 0 < 0 := fun a => nI_pos (n := p) (by omega)
  refine ht_step (k := 1) (x := A) (y := B) hp hq hpq (Or.inl rfl) (fun i _ => by split <;> omega) (fun i _ => by split <;> omega) hV h7 q1 q2 (h30 _) rfl rfl (by omega) (by omega) (fun eAB f1 f2 f3 f4 => ?_) (fun nAB f1 f2 f3 f4 d8 d9 d10 r1 r2 r3 r4 => ?_)
  · refine ht_step (k := 2) (x := D) (y := E) hp hq hpq (Or.inr rfl) (fun i _ => by split <;> omega) (fun i _ => by split <;> omega) hV h7 q1 q3 (nI_pos (n := p) (by omega)) rfl rfl (by omega) (by omega) (fun eDE g1 g2 g3 g4 => ?_) (fun nDE g1 g2 g3 g4 e8 e9 e10 s1 s2 s3 s4 => ?_)
    · refine ht_pairS (k := 1) (Or.inl rfl) (show (-6 : Int32) < 0 by decide) (ht_pairS (k := 2) (Or.inr rfl) (show (-6 : Int32) < 0 by decide) (ht_tEnd ?_))
      have el : ht_lc A B D E = 0 + 1 + 1 := by
        unfold ht_lc
        rw [if_pos eAB, if_pos eDE]
        decide
      rw [← el]
      exact H _ _ _ _ _ _ _ _ _ _ _ _ ⟨⟨rfl, rfl, rfl, rfl⟩, fun _ => ⟨rfl, rfl, rfl⟩, fun z => absurd eAB z, fun _ => ⟨rfl, rfl, rfl⟩, fun z => absurd eDE z⟩
    · refine ht_pairS (k := 1) (Or.inl rfl) (show (-6 : Int32) < 0 by decide) (ht_pairG (k := 2) (x := D) (y := E) (Or.inr rfl) (nI_pos (n := q) (by omega)) (by omega) (by omega) s3 s4 (ht_tEnd ?_))
      have el : ht_lc A B D E = 0 + 1 + 1 + 1 := by
        unfold ht_lc
        rw [if_pos eAB, if_neg nDE]
        decide
      rw [← el]
      exact H _ _ _ _ _ _ _ _ _ _ _ _ ⟨⟨rfl, rfl, rfl, rfl⟩, fun _ => ⟨rfl, rfl, rfl⟩, fun z => absurd eAB z, fun z => absurd z nDE, fun _ => ⟨rfl, rfl, rfl, rfl, rfl⟩⟩
  · have hN : ∀ i, i < 8 → ht_nd (ht_V p q) (fun i => if i % 4 < 2 then 1 else 2) 1 q 2 i = if i % 4 < 2 then (if i % 2 = 0 then 3 else 4) else 2 := by
      intro i _
      rw [ht_ndq hpq]
      by_cases c : i % 4 < 2
      · have e : (fun i => if i % 4 < 2 then 1 else 2) i = 1 := if_pos c
        rw [if_pos e, if_pos c]
      · have e : (fun i => if i % 4 < 2 then 1 else 2) i = 2 := if_neg c
        have e' : ¬ (fun i => if i % 4 < 2 then 1 else 2) i = 1 := fun z => absurd (e.symm.trans z) (by omega)
        refine (if_neg e').trans (e.trans (if_neg c).symm)
    have hb2 : ht_bl (ht_V p q) (ht_nd (ht_V p q) (fun i => if i % 4 < 2 then 1 else 2) 1 q 2) (ht_R A B D E) 8 2 d9 d10 := by
      intro f v hf hv
      rw [ht_nd_oth (by omega) (by omega) (by omega), ht_nd_oth (by omega) (by omega) (by omega), (r2 (24 * 2 + 8 * f + v) (by omega)).1, (r2 (24 * 2 + 8 * f + v) (by omega)).2]
      exact q3 f v hf hv
    refine ht_step (k := 2) (x := D) (y := E) hp hq hpq (Or.inr rfl) (fun i hi => by rw [hN i hi]; split; split <;> omega; omega) (fun i hi => by rw [hN i hi]; split; split <;> omega; omega) hV h7 r1 hb2 (nI_pos (n := p) (by omega)) rfl rfl (by omega) (by omega) (fun eDE g1 g2 g3 g4 => ?_) (fun nDE g1 g2 g3 g4 e8 e9 e10 s1 s2 s3 s4 => ?_)
    · refine ht_pairG (k := 1) (x := A) (y := B) (Or.inl rfl) (nI_pos (n := q) (by omega)) (by omega) (by omega) r3 r4 (ht_pairS (k := 2) (Or.inr rfl) (show (-6 : Int32) < 0 by decide) (ht_tEnd ?_))
      have el : ht_lc A B D E = 0 + 1 + 1 + 1 := by
        unfold ht_lc
        rw [if_neg nAB, if_pos eDE]
        decide
      rw [← el]
      exact H _ _ _ _ _ _ _ _ _ _ _ _ ⟨⟨rfl, rfl, rfl, rfl⟩, fun z => absurd z nAB, fun _ => ⟨rfl, rfl, rfl, rfl, rfl⟩, fun _ => ⟨rfl, rfl, rfl⟩, fun z => absurd eDE z⟩
    · have r3' : ht_pre e9 (24 * (2 * 1 + 1)) 8 = ht_i 2 ∧ ht_pre e10 (24 * (2 * 1 + 1)) 8 = ht_i (2 * A) :=
        ⟨(ht_pre_c 8 (fun j _ _ => (s2 j (by omega)).1)).trans r3.1, (ht_pre_c 8 (fun j _ _ => (s2 j (by omega)).2)).trans r3.2⟩
      have r4' : ht_pre e9 (24 * (2 * 1 + 2)) 8 = ht_i 2 ∧ ht_pre e10 (24 * (2 * 1 + 2)) 8 = ht_i (2 * B) :=
        ⟨(ht_pre_c 8 (fun j _ _ => (s2 j (by omega)).1)).trans r4.1, (ht_pre_c 8 (fun j _ _ => (s2 j (by omega)).2)).trans r4.2⟩
      refine ht_pairG (k := 1) (x := A) (y := B) (Or.inl rfl) (nI_pos (n := q) (by omega)) (by omega) (by omega) r3' r4' (ht_pairG (k := 2) (x := D) (y := E) (Or.inr rfl) (nI_pos (n := q) (by omega)) (by omega) (by omega) s3 s4 (ht_tEnd ?_))
      have el : ht_lc A B D E = 0 + 1 + 1 + 1 + 1 := by
        unfold ht_lc
        rw [if_neg nAB, if_neg nDE]
        decide
      rw [← el]
      exact H _ _ _ _ _ _ _ _ _ _ _ _ ⟨⟨rfl, rfl, rfl, rfl⟩, fun z => absurd z nAB, fun _ => ⟨rfl, rfl, rfl, rfl, rfl⟩, fun z => absurd z nDE, fun _ => ⟨rfl, rfl, rfl, rfl, rfl⟩⟩
end
section
/-! a train whose rests are all 0: one leaf of value 0 -/
theorem ht_tl_z {ls f b : Int32} {nl n : Int64} {B : Int32 × Int32 × Int64 × Int64} (h : B.1 < 0 ∨ B.2.2.1 = 0) : (ht_tl ls f b nl (0 : Int32).toInt64 n (0 : Int32).toInt64 B).1 < 0 ∨ (ht_tl ls f b nl (0 : Int32).toInt64 n (0 : Int32).toInt64 B).2.2.1 = 0 := by
  have e : (0 : Int32).toInt64 = 0 := by decide
  rw [e]
  unfold ht_tl
  split
  · exact h
  · split
    · split
      · right
        show (0 : Int64) * 0 * (n - nl) + (0 - 0) * (0 - 0) * nl = 0
        rw [Int64.sub_self, Int64.zero_mul, Int64.zero_mul, Int64.zero_mul]
        decide
      · exact h
    · exact h
theorem ht_fb_z {ls : Int32} {P Q : Nat → Nat → Int32} {n : Int32} {f : Nat} {B : Int32 × Int32 × Int64 × Int64} (hQ : ∀ m, m ≤ 7 → Q f m = 0) (h : B.1 < 0 ∨ B.2.2.1 = 0) : ∀ b, b ≤ 7 → (ht_fb ls P Q n 0 f B b).1 < 0 ∨ (ht_fb ls P Q n 0 f B b).2.2.1 = 0
  | 0, _ => h
  | b + 1, hb => by
    have i := ht_fb_z (ls := ls) (P := P) (n := n) hQ h b (by omega)
    show (ht_tl ls (nI f) (nI b) (P f (b + 1)).toInt64 (Q f (b + 1)).toInt64 n.toInt64 (0 : Int32).toInt64 (ht_fb ls P Q n 0 f B b)).1 < 0 ∨ (ht_tl ls (nI f) (nI b) (P f (b + 1)).toInt64 (Q f (b + 1)).toInt64 n.toInt64 (0 : Int32).toInt64 (ht_fb ls P Q n 0 f B b)).2.2.1 = 0
    rw [hQ (b + 1) hb]
    exact ht_tl_z i
theorem ht_ff_z {ls : Int32} {P Q : Nat → Nat → Int32} {n : Int32} {B : Int32 × Int32 × Int64 × Int64} (hQ : ∀ f m, f < 3 → m ≤ 7 → Q f m = 0) (h : B.1 < 0 ∨ B.2.2.1 = 0) : ∀ f, f ≤ 3 → (ht_ff ls P Q n 0 B f).1 < 0 ∨ (ht_ff ls P Q n 0 B f).2.2.1 = 0
  | 0, _ => h
  | f + 1, hf => ht_fb_z (fun m hm => hQ f m (by omega) hm) (ht_ff_z hQ h f (by omega)) 7 (by omega)
theorem ht_ps_z {V : Nat → Nat → Nat} {nd : Nat → Nat} {k f m : Nat} : ∀ n, ht_ps V nd (fun _ => 0) k f m n = 0
  | 0 => rfl
  | n + 1 => by
    show ht_ps V nd (fun _ => 0) k f m n + (if nd n = k ∧ V f n < m then 0 else 0) = 0
    rw [ht_ps_z n]
    split <;> rfl
theorem ht_zero {post : Int32 → St2 → Prop} {ls bf bb : Int32} {bt bn : Int64} {a1 a2 a3 a4 a5 a6 a7 a8 a9 a10 : Nat → Int32} {t n : Nat} {V : Nat → Nat → Nat} (ht : t < 4) (hn : n ≤ 24)
    (hV : ∀ f i, f < 3 → i < n → (a1 i >>> ((3 * nI f) &&& 31)) &&& 7 = nI (V f i)) (hW : ∀ f i, f < 3 → i < n → V f i < 8) (hR : ∀ i, i < n → ht_RS (nI t) a1 a2 a3 a4 a5 i 0)
    (H : ∀ (bf bb : Int32) (bt bn : Int64) (b3 b5 b6 b7 b8 b9 b10 : Nat → Int32), b3 (7 * t) = -6 → b5 (7 * t) = 0 → (n = 0 → b6 (7 * t) = 0) → (∀ j, j < 7 * t → b3 j = a3 j ∧ b5 j = a5 j) → post 1 (ls, nI n, nI (t + 1), bf, bb, bt, bn, a1, a2, b3, a4, b5, b6, b7, b8, b9, b10)) :
    wpX_train post (ls, nI n, nI t, bf, bb, bt, bn, a1, a2, a3, a4, a5, a6, a7, a8, a9, a10) := by
  refine ht_train (V := V) (R := fun _ => 0) ht hn hV hW (fun i hi => by rw [← ht_i0]; exact hR i hi) (fun b7 b8 b9 b10 h7 h8 hb => ⟨8, ?_⟩)
  have hQ : ∀ f m, f < 3 → m ≤ 8 → ht_pre b10 (24 * 0 + 8 * f) m = 0 := by
    intro f m hf hm
    rw [ht_pre_ps (fun v hv => (hb f v hf hv).2) m hm, ht_ps_z, ← ht_i0]
  have hs : ht_pre b10 (24 * 0) 8 = 0 := hQ 0 8 (by omega) (by omega)
  have hn0 : ht_pre b9 (24 * 0) 8 = ht_i (ht_ps V (fun _ => 0) (fun _ => 1) 0 0 8 n) := ht_pre_ps (fun v hv => (hb 0 v (by omega) hv).1) 8 (by omega)
  have hz := ht_ff_z (ls := ls) (P := fun f m => ht_pre b9 (24 * 0 + 8 * f) m) (Q := fun f m => ht_pre b10 (24 * 0 + 8 * f) m) (n := ht_i (ht_ps V (fun _ => 0) (fun _ => 1) 0 0 8 n)) (B := ((-1), bb, bt, bn)) (fun f m hf hm => hQ f m hf (by omega)) (Or.inl (show (-1 : Int32) < 0 by decide)) 3 (by omega)
  have hlv : ∀ n : Int32, ht_lv n 0 = 0 := by
    intro n
    unfold ht_lv
    split
    · rfl
    · exact Int32.zero_div
  refine ht_tLeaf (k := 0) ht (by omega) (Or.inl rfl) hn0 hs (fun _ _ => rfl) (fun _ _ => rfl) (fun _ => rfl) (fun z => absurd z (by omega)) (hz.imp id (fun e => ?_)) ?_
  · rw [e, show (0 : Int32).toInt64 = 0 by decide, Int64.zero_mul, Int64.zero_mul, Int64.zero_mul]
    decide
  · rw [hlv]
    have h3 : ∀ j, j < 3 → upd (ht_fl a3 t 7 (-7)) (7 * t + 0) (-6) (7 * t + j) < 0 := by
      intro j hj
      by_cases e : j = 0
      · subst e
        rw [pk_us]
        decide
      · rw [pk_un (by omega), ht_fl_in (by omega)]
        decide
    refine ht_tSkip (k := 1) ht (by omega) (by omega) (h3 _ (by omega)) (ht_tSkip (k := 2) ht (by omega) (by omega) (h3 _ (by omega)) (ht_tSkip (k := 3) ht (by omega) (by omega) (h3 _ (by omega)) (ht_tSkip (k := 4) ht (by omega) (by omega) (h3 _ (by omega)) (ht_tSkip (k := 5) ht (by omega) (by omega) (h3 _ (by omega)) (ht_tSkip (k := 6) ht (by omega) (by omega) (h3 _ (by omega)) (ht_tEnd ?_))))))
    rw [nI_1]
    refine H _ _ _ _ _ _ _ _ _ _ _ pk_us pk_us (fun e => ?_) (fun j hj => ?_)
    · subst e
      exact pk_us.trans ht_i0.symm
    · rw [pk_un (by omega), pk_un (by omega), ht_fl_out (by omega), ht_fl_out (by omega)]
      exact ⟨rfl, rfl⟩
end
section
/-! the law's rows and what the first tree answers on them -/
def ht_w (u w : Int32) (p q : Nat) : Int32 := (u <<< ((3 * nI p) &&& 31)) ||| (w <<< ((3 * nI q) &&& 31))
theorem ht_words : ∀ p, p < 3 → ∀ q, q < 3 → q ≠ p → ∀ f, f < 3 →
    ((ht_w 1 2 p q &&& 511) >>> ((3 * nI f) &&& 31)) &&& 7 = nI (if f = p then 1 else if f = q then 2 else 0)
    ∧ ((ht_w 1 5 p q &&& 511) >>> ((3 * nI f) &&& 31)) &&& 7 = nI (if f = p then 1 else if f = q then 5 else 0)
    ∧ ((ht_w 6 2 p q &&& 511) >>> ((3 * nI f) &&& 31)) &&& 7 = nI (if f = p then 6 else if f = q then 2 else 0)
    ∧ ((ht_w 6 5 p q &&& 511) >>> ((3 * nI f) &&& 31)) &&& 7 = nI (if f = p then 6 else if f = q then 5 else 0) := by
  intro p hp q hq hpq f hf
  rcases (show p = 0 ∨ p = 1 ∨ p = 2 by omega) with e | e | e <;> rcases (show q = 0 ∨ q = 1 ∨ q = 2 by omega) with e' | e' | e' <;> rcases (show f = 0 ∨ f = 1 ∨ f = 2 by omega) with e'' | e'' | e'' <;> subst e <;> subst e' <;> subst e'' <;> first | exact absurd rfl hpq | decide +kernel
theorem ht_pbT {p q i : Nat} {A B D E : Int} {a3 a4 a5 a6 : Nat → Int32} {x : Int32} (hp : p < 3) (hq : q < 3) (hpq : q ≠ p) (h : ht_T1 p q A B D E a3 a4 a5 a6)
    (hvp : (x >>> ((3 * nI p) &&& 31)) &&& 7 = nI (ht_V p q p i)) (hvq : (x >>> ((3 * nI q) &&& 31)) &&& 7 = nI (ht_V p q q i)) : ht_PB a3 a4 a5 0 x (ht_i (ht_R A B D E i)) := by
  obtain ⟨⟨e30, e40, _, _⟩, hAB, nAB, hDE, nDE⟩ := h
  rw [ht_Vp] at hvp
  rw [ht_Vq hpq] at hvq
  have n6 : (-6 : Int32) < 0 := by decide
  have eR : ht_R A B D E i = if i % 4 = 0 then A else if i % 4 = 1 then B else if i % 4 = 2 then D else E := rfl
  by_cases c1 : i % 4 < 2
  · rw [if_pos c1] at hvp
    by_cases e : A = B
    · obtain ⟨f1, f2, _⟩ := hAB e
      have eA : ht_R A B D E i = A := by
        rw [eR]
        by_cases c : i % 4 = 0
        · rw [if_pos c]
        · rw [if_neg c, if_pos (by omega), e]
      rw [eA]
      exact ht_PB1 (m := 1) (v := 1) (bd := 1) (by omega) hp (by omega) (by omega) e30 e40 hvp rfl (by show a3 1 < 0; rw [f1]; exact n6) f2
    · obtain ⟨f1, f2, _, f4, f5⟩ := nAB e
      by_cases c2 : i % 2 = 0
      · rw [if_pos c2] at hvq
        rw [eR, if_pos (by omega)]
        exact ht_PB2 (m := 1) (v := 1) (bd := 1) (v' := 2) (bd' := 2) (m' := 3) (by omega) hp (by omega) (by omega) e30 e40 hvp rfl hq (by omega) (by omega) f1 f2 hvq rfl f4
      · rw [if_neg c2] at hvq
        rw [eR, if_neg (by omega), if_pos (by omega)]
        exact ht_PB2 (m := 1) (v := 1) (bd := 1) (v' := 5) (bd' := 2) (m' := 4) (by omega) hp (by omega) (by omega) e30 e40 hvp rfl hq (by omega) (by omega) f1 f2 hvq rfl f5
  · rw [if_neg c1] at hvp
    by_cases e : D = E
    · obtain ⟨f1, f2, _⟩ := hDE e
      have eA : ht_R A B D E i = D := by
        rw [eR, if_neg (by omega), if_neg (by omega)]
        by_cases c : i % 4 = 2
        · rw [if_pos c]
        · rw [if_neg c, e]
      rw [eA]
      exact ht_PB1 (m := 2) (v := 6) (bd := 1) (by omega) hp (by omega) (by omega) e30 e40 hvp rfl (by show a3 2 < 0; rw [f1]; exact n6) f2
    · obtain ⟨f1, f2, f4, f5, _⟩ := nDE e
      by_cases c2 : i % 2 = 0
      · rw [if_pos c2] at hvq
        rw [eR, if_neg (by omega), if_neg (by omega), if_pos (by omega)]
        exact ht_PB2 (m := 2) (v := 6) (bd := 1) (v' := 2) (bd' := 2) (m' := 5) (by omega) hp (by omega) (by omega) e30 e40 hvp rfl hq (by omega) (by omega) f1 f2 hvq rfl f4
      · rw [if_neg c2] at hvq
        rw [eR, if_neg (by omega), if_neg (by omega), if_neg (by omega)]
        exact ht_PB2 (m := 2) (v := 6) (bd := 1) (v' := 5) (bd' := 2) (m' := 6) (by omega) hp (by omega) (by omega) e30 e40 hvp rfl hq (by omega) (by omega) f1 f2 hvq rfl f5
theorem ht_T1c {p q : Nat} {A B D E : Int} {a3 a4 a5 a6 b3 b5 : Nat → Int32} (h : ht_T1 p q A B D E a3 a4 a5 a6) (g : ∀ j, j < 7 → b3 j = a3 j ∧ b5 j = a5 j) : ht_T1 p q A B D E b3 a4 b5 a6 := by
  unfold ht_T1
  rw [(g 0 (by omega)).1, (g 1 (by omega)).1, (g 1 (by omega)).2, (g 2 (by omega)).1, (g 2 (by omega)).2, (g 3 (by omega)).1, (g 3 (by omega)).2, (g 4 (by omega)).2, (g 5 (by omega)).2, (g 6 (by omega)).2]
  exact h
theorem ht_tgt {x : Int} (h1 : -50 ≤ x) (h2 : x ≤ 50) : ¬ ht_i x < -50 ∧ ht_i x ≤ 50 := by
  rw [show (-50 : Int32) = ht_i (-50) by decide, show (50 : Int32) = ht_i 50 by decide, ht_ilt (by omega) (by omega) (by omega) (by omega), ht_ile (by omega) (by omega) (by omega) (by omega)]
  omega
theorem ht_rem11 (x : Int32) : ∃ a : Int, (-10 ≤ a ∧ a ≤ 10) ∧ x - x / 11 * 11 = ht_i a := by
  have b1 := Int32.le_toInt x
  have b2 := Int32.toInt_lt x
  have e : x / 11 = ht_i (x.toInt.tdiv 11) := by
    have h := ht_idiv (x := x.toInt) (y := 11) (by omega) (by omega) (by omega) (by omega)
    rw [← ht_iof x] at h
    exact h
  have l1 := Int.tmod_lt_of_pos x.toInt (b := 11) (by omega)
  have l2 := Int.lt_tmod_of_pos x.toInt (b := 11) (by omega)
  refine ⟨x.toInt.tmod 11, by omega, ?_⟩
  rw [e, Int.tmod_def, show (11 : Int32) = ht_i 11 by decide, ht_imul, Int.mul_comm]
  exact (congrArg (fun y => y - ht_i (11 * x.toInt.tdiv 11)) (ht_iof x)).trans (ht_isub _ _)
/-- all that the law's later checks rest on -/
def ht_C (p q : Nat) (a b d e : Int) (a1 a2 a3 a4 a5 a6 : Nat → Int32) : Prop :=
  (p < 3 ∧ q < 3 ∧ q ≠ p) ∧ ((-10 ≤ a ∧ a ≤ 10) ∧ (-10 ≤ b ∧ b ≤ 10) ∧ (-10 ≤ d ∧ d ≤ 10) ∧ (-10 ≤ e ∧ e ≤ 10))
    ∧ (∀ f i, f < 3 → i < 8 → (a1 i >>> ((3 * nI f) &&& 31)) &&& 7 = nI (ht_V p q f i)) ∧ (∀ i, i < 8 → a2 i = ht_i (ht_R (30 + a) (30 + b) (-30 + d) (-30 + e) i))
    ∧ ht_T1 p q (30 + a) (30 + b) (-30 + d) (-30 + e) a3 a4 a5 a6
theorem ht_30 (a : Int) : 30 + ht_i a = ht_i (30 + a) := by
  rw [show (30 : Int32) = ht_i 30 by decide, ht_iadd]
theorem ht_m30 (a : Int) : -30 + ht_i a = ht_i (-30 + a) := by
  rw [show (-30 : Int32) = ht_i (-30) by decide, ht_iadd]
theorem ht_CR {p q : Nat} {a b d e : Int} {a1 a2 a3 a4 a5 a6 : Nat → Int32} (C : ht_C p q a b d e a1 a2 a3 a4 a5 a6) : ∀ i, i < 8 → ht_RS (nI 1) a1 a2 a3 a4 a5 i 0 := by
  obtain ⟨⟨hp, hq, hpq⟩, _, hV, h2, hT⟩ := C
  intro i hi
  refine ht_RSi (T := 1) (rr := fun _ => ht_i (ht_R (30 + a) (30 + b) (-30 + d) (-30 + e) i)) (by omega) (by omega) (fun t ht => ?_) ?_
  · have : t = 0 := by omega
    subst this
    exact ht_pbT hp hq hpq hT (hV p i hp hi) (hV q i hq hi)
  · rw [h2 i hi]
    show ht_i _ - (0 + ht_i _) = 0
    rw [Int32.zero_add, Int32.sub_self]
end
section
theorem ht_448 {post : Int32 → St0 → Prop} {mc ms kc ks : Nat} {x1 z0 z1 bf bb : Int32} {bt bn : Int64} {a1 a2 a3 a4 a5 a6 a7 a8 a9 a10 : Nat → Int32} {p q : Nat} {a b d e : Int} (C : ht_C p q a b d e a1 a2 a3 a4 a5 a6) (hz : z1 = z0) (hpost : post 1 ()) :
    wL_lawOf_448 post mc ms x1 (ht_i a) (ht_i b) z0 z1 kc ks 2 (nI 8) (nI 1) bf bb bt bn a1 a2 a3 a4 a5 a6 a7 a8 a9 a10 := by
  have hR := ht_CR C
  obtain ⟨⟨hp, hq, hpq⟩, ⟨ha, hb, hd, he⟩, hV, h2, hT⟩ := C
  unfold wL_lawOf_448
  refine br_t hz (ht_zero (t := 1) (n := 8) (V := ht_V p q) (by omega) (by omega) hV (fun f i _ _ => ht_V8 p q f i) hR (fun bf bb bt bn b3 b5 b6 b7 b8 b9 b10 g3 g5 _ g0 => ?_))
  have g0' : ∀ j, j < 7 → b3 j = a3 j ∧ b5 j = a5 j := fun j hj => g0 j (by omega)
  have hT' := ht_T1c hT g0'
  refine br_t rfl (ht_valueL (T := 2) (t := 1) (k := 0) (by omega) (by omega) (by omega) g3 (br_t g5 (ht_feature (T := 2) (t := 1) (k := 0) (by omega) (by omega) (by omega) (br_t g3 (ht_retarget (n := 8) (i := 0) (by omega) (by omega) (by decide) (by decide) (br_t ?_ ?_))))))
  · rw [ht_30]
    exact h2 0 (by omega)
  have r0 : ht_RS (nI 2) a1 (upd a2 0 (-50)) b3 a4 b5 0 (-80 - ht_i a) := by
    refine ht_RSi (T := 2) (rr := fun t => if t = 0 then ht_i (30 + a) else 0) (by omega) (by omega) (fun t ht => ?_) ?_
    · rcases (show t = 0 ∨ t = 1 by omega) with c | c
      · subst c
        exact ht_pbT (i := 0) hp hq hpq hT' (hV p 0 hp (by omega)) (hV q 0 hq (by omega))
      · subst c
        exact ht_PB0 (by omega) (by rw [g3]; decide) g5
    · show (-50 : Int32) - (0 + ht_i (30 + a) + 0) = -80 - ht_i a
      rw [Int32.zero_add, Int32.add_zero, show (-50 : Int32) = ht_i (-50) by decide, show (-80 : Int32) = ht_i (-80) by decide, ht_isub, ht_isub]
      congr 1
      omega
  refine ht_rest (n := 8) (i := 0) (by omega) (by omega) r0 (br_t rfl (ht_drop (T := 1) (by omega) (br_t rfl (ht_drop (T := 0) (by omega) (br_t rfl ?_)))))
  have r1 : ∀ i, i < 8 → ht_RS (nI 0) a1 (upd a2 0 (-50)) b3 a4 b5 i (upd a2 0 (-50) i) := fun i hi => ht_RSi (T := 0) (rr := fun _ => 0) (by omega) (by omega) (fun t z => absurd z (by omega)) (Int32.sub_zero _)
  refine ht_rest (n := 8) (i := 0) (by omega) (by omega) (r1 0 (by omega)) (br_t rfl (ht_rest (n := 8) (i := 1) (by omega) (by omega) (r1 1 (by omega)) (br_t ?_ ?_)))
  · rw [ht_30]
    exact h2 1 (by omega)
  unfold wpX_clear
  refine ht_loss (n := 0) (by omega) (fun i z => absurd z (by omega)) (br_t rfl (ht_zero (t := 0) (n := 0) (V := fun _ _ => 0) (by omega) (by omega) (fun f i _ z => absurd z (by omega)) (fun f i _ z => absurd z (by omega)) (fun i z => absurd z (by omega)) (fun bf bb bt bn c3 c5 c6 c7 c8 c9 c10 k3 k5 k6 _ => ?_)))
  have pb : ∀ x, ∀ t, t < 1 → ht_PB c3 a4 c5 t x 0 := by
    intro x t ht
    have : t = 0 := by omega
    subst this
    exact ht_PB0 (by omega) (by rw [k3]; decide) k5
  refine br_t rfl (ht_rows (T := 1) (t := 0) (k := 0) (by omega) (by omega) (by omega) (br_t (k6 rfl) (ht_predict (T := 1) (rr := fun _ => 0) (by omega) (pb _) (br_t (by decide) (ht_row (c := 0) (by omega) (by decide) (by decide) (br_t rfl (ht_rest (n := 1) (i := 0) (r := 9) (by omega) (by omega) (ht_RSi (T := 1) (rr := fun _ => 0) (by omega) (by omega) (pb _) ?_) (br_t rfl hpost))))))))
  show (9 : Int32) - (0 + 0) = 9
  decide
theorem ht_379 {post : Int32 → St0 → Prop} {mc ms kc ks : Nat} {x1 z0 z1 bf bb : Int32} {bt bn : Int64} {a1 a2 a3 a4 a5 a6 a7 a8 a9 a10 : Nat → Int32} {p q : Nat} {a b d e : Int} (C : ht_C p q a b d e a1 a2 a3 a4 a5 a6) (hz : z1 = z0) (hpost : post 1 ()) :
    wL_lawOf_379 post mc ms x1 (nI p) (nI q) (ht_i a) (ht_i b) (ht_i d) (ht_i e) z0 z1 kc ks 2 (nI 8) (nI 1) bf bb bt bn a1 a2 a3 a4 a5 a6 a7 a8 a9 a10 := by
  have hR := ht_CR C
  have C' := C
  obtain ⟨⟨hp, hq, hpq⟩, ⟨ha, hb, hd, he⟩, hV, h2, hT⟩ := C'
  have hpb : ∀ t, t < 1 → ht_PB a3 a4 a5 t ((((6 : Int32) <<< ((3 * nI p) &&& 31)) ||| ((2 : Int32) <<< ((3 * nI q) &&& 31))) &&& 511) (ht_i (-30 + d)) := by
    intro t ht
    have : t = 0 := by omega
    subst this
    exact ht_pbT (i := 2) hp hq hpq hT (ht_words p hp q hq hpq p hp).2.2.1 (ht_words p hp q hq hpq q hq).2.2.1
  unfold wL_lawOf_379
  refine br_t hz (ht_loss (n := 8) (by omega) hR (br_t rfl (ht_rest (n := 8) (i := 3) (by omega) (by omega) (hR 3 (by omega)) (br_t rfl (ht_predict (T := 1) (rr := fun _ => ht_i (-30 + d)) (by omega) hpb (br_t ?_ (ht_rows (T := 1) (t := 0) (k := 6) (by omega) (by omega) (by omega) (br_c (fun h => ?_) (fun h => ?_)))))))))
  · show 0 + ht_i (-30 + d) = _
    rw [Int32.zero_add, ht_m30]
  · have h' : d = e := (ht_iinj (by omega) (by omega) (by omega) (by omega)).mp h
    exact ht_448 C (hT.2.2.2.1 (by omega)).2.2 hpost
  · have h' : ¬ d = e := fun z => h (by rw [z])
    exact ht_448 C (hT.2.2.2.2 (by omega)).2.2.2.2 hpost
theorem ht_197 {post : Int32 → St0 → Prop} {mc ms kc ks : Nat} {x1 z0 z1 bf bb : Int32} {bt bn : Int64} {a1 a2 a3 a4 a5 a6 a7 a8 a9 a10 : Nat → Int32} {p q : Nat} {a b d e : Int} (hp : p < 3) (hq : q < 3) (hpq : q ≠ p) (ha : -10 ≤ a ∧ a ≤ 10) (hb : -10 ≤ b ∧ b ≤ 10) (hd : -10 ≤ d ∧ d ≤ 10) (he : -10 ≤ e ∧ e ≤ 10)
    (hV : ∀ f i, f < 3 → i < 8 → (a1 i >>> ((3 * nI f) &&& 31)) &&& 7 = nI (ht_V p q f i)) (h2 : ∀ i, i < 8 → a2 i = ht_i (ht_R (30 + a) (30 + b) (-30 + d) (-30 + e) i)) (hz : z1 + z0 = ht_lc (30 + a) (30 + b) (-30 + d) (-30 + e)) (hpost : post 1 ()) :
    wL_lawOf_197 post mc ms x1 (nI p) (nI q) (ht_i a) (ht_i b) (ht_i d) (ht_i e) z0 z1 kc ks 2 (nI 8) (nI 0) bf bb bt bn a1 a2 a3 a4 a5 a6 a7 a8 a9 a10 := by
  have iab : ht_i a = ht_i b ↔ a = b := ht_iinj (by omega) (by omega) (by omega) (by omega)
  have ide : ht_i d = ht_i e ↔ d = e := ht_iinj (by omega) (by omega) (by omega) (by omega)
  unfold wL_lawOf_197
  refine nm_r hz (ht_first hp hq hpq (A := 30 + a) (B := 30 + b) (D := -30 + d) (E := -30 + e) (by omega) (by omega) (by omega) (by omega) hV h2 (fun bf bb bt bn b3 b4 b5 b6 b7 b8 b9 b10 hT => ?_))
  have C : ht_C p q a b d e a1 a2 b3 b4 b5 b6 := ⟨⟨hp, hq, hpq⟩, ⟨ha, hb, hd, he⟩, hV, h2, hT⟩
  obtain ⟨⟨t1, t2, t3, t4⟩, hAB, nAB, hDE, nDE⟩ := hT
  have s353 : wL_lawOf_353 post mc ms x1 (nI p) (nI q) (ht_i a) (ht_i b) (ht_i d) (ht_i e) (if a = b then 0 else 30 + ht_i a) (if a = b then 0 else 30 + ht_i a) kc ks 2 (nI 8) (nI 1) bf bb bt bn a1 a2 b3 b4 b5 b6 b7 b8 b9 b10 := by
    unfold wL_lawOf_353
    refine br_t rfl ?_
    by_cases c : a = b
    · obtain ⟨f1, f2, f3⟩ := hAB (by omega)
      exact ht_valueL (T := 1) (t := 0) (k := 1) (by omega) (by omega) (by omega) f1 (br_t (iab.mpr c) (ht_379 C (by rw [ht_30]; exact f2) hpost))
    · obtain ⟨f1, f2, f3, f4, f5⟩ := nAB (by omega)
      exact ht_valueN (T := 1) (t := 0) (k := 1) (by omega) (by omega) (by omega) (fun z => absurd (f1.symm.trans z) (fun w => nI_pos (n := q) (by omega) (by rw [w]; decide))) (br_f (fun z => c (iab.mp z)) (ht_379 C rfl hpost))
  have s301 : wL_lawOf_301 post mc ms x1 (nI p) (nI q) (ht_i a) (ht_i b) (ht_i d) (ht_i e) (b3 2) (b3 2) kc ks 2 (nI 8) (nI 1) bf bb bt bn a1 a2 b3 b4 b5 b6 b7 b8 b9 b10 := by
    unfold wL_lawOf_301
    refine br_t rfl ?_
    by_cases c : a = b
    · obtain ⟨f1, f2, f3⟩ := hAB (by omega)
      rw [if_pos c] at s353
      refine ht_feature (T := 1) (t := 0) (k := 3) (by omega) (by omega) (by omega) (br_t (iab.mpr c) ?_)
      unfold wL_lawOf_327
      exact br_t f3 (ht_valueN (T := 1) (t := 0) (k := 3) (by omega) (by omega) (by omega) (fun z => absurd (f3.symm.trans z) (by decide)) (br_t (iab.mpr c) s353))
    · obtain ⟨f1, f2, f3, f4, f5⟩ := nAB (by omega)
      rw [if_neg c] at s353
      refine ht_feature (T := 1) (t := 0) (k := 3) (by omega) (by omega) (by omega) (br_f (fun z => c (iab.mp z)) ?_)
      unfold wL_lawOf_327
      refine br_t f3 (ht_valueL (T := 1) (t := 0) (k := 3) (by omega) (by omega) (by omega) f3 (br_f (fun z => c (iab.mp z)) ?_))
      rw [ht_30] at s353 ⊢
      have f4' : b5 (7 * 0 + 3) = ht_i (30 + a) := f4
      rw [f4']
      exact s353
  have s278 : ∀ w, wL_lawOf_278 post mc ms x1 (nI p) (nI q) (ht_i a) (ht_i b) (ht_i d) (ht_i e) w w kc ks 2 (nI 8) (nI 1) bf bb bt bn a1 a2 b3 b4 b5 b6 b7 b8 b9 b10 := by
    intro w
    have s301' : ∀ w, wL_lawOf_301 post mc ms x1 (nI p) (nI q) (ht_i a) (ht_i b) (ht_i d) (ht_i e) w w kc ks 2 (nI 8) (nI 1) bf bb bt bn a1 a2 b3 b4 b5 b6 b7 b8 b9 b10 := fun w => br_t rfl (s301.1 rfl)
    unfold wL_lawOf_278
    refine br_t rfl ?_
    by_cases c : d = e
    · obtain ⟨f1, f2, f3⟩ := hDE (by omega)
      exact ht_boundL (T := 1) (t := 0) (k := 2) (by omega) (by omega) (by omega) f1 (br_t (ide.mpr c) (s301' _))
    · obtain ⟨f1, f2, f3, f4, f5⟩ := nDE (by omega)
      refine ht_boundS (T := 1) (t := 0) (k := 2) (F := q) (by omega) (by omega) (by omega) hq f1 (br_f (fun z => c (ide.mp z)) ?_)
      have f2' : b4 (7 * 0 + 2) = 2 := f2
      rw [f2']
      exact s301' _
  refine br_t rfl (ht_feature (T := 1) (t := 0) (k := 0) (by omega) (by omega) (by omega) (br_t t1 (ht_boundS (T := 1) (t := 0) (k := 0) (F := p) (by omega) (by omega) (by omega) hp t1 (br_t t2 (ht_rows (T := 1) (t := 0) (k := 1) (by omega) (by omega) (by omega) (br_t t3 (ht_rows (T := 1) (t := 0) (k := 2) (by omega) (by omega) (by omega) (br_t t4 (ht_feature (T := 1) (t := 0) (k := 1) (by omega) (by omega) (by omega) ?_)))))))))
  by_cases c : a = b
  · obtain ⟨f1, f2, f3⟩ := hAB (by omega)
    refine br_t (iab.mpr c) ?_
    have f1' : b3 (7 * 0 + 1) = -6 := f1
    rw [f1']
    exact s278 _
  · obtain ⟨f1, f2, f3, f4, f5⟩ := nAB (by omega)
    refine br_f (fun z => c (iab.mp z)) ?_
    have f1' : b3 (7 * 0 + 1) = nI q := f1
    rw [f1']
    exact s278 _
theorem ht_61 {post : Int32 → St0 → Prop} {mc ms kc ks : Nat} {x1 bf bb : Int32} {bt bn : Int64} {a1 a2 a3 a4 a5 a6 a7 a8 a9 a10 : Nat → Int32} {p q : Nat} {a b d e : Int} (hp : p < 3) (hq : q < 3) (hpq : q ≠ p) (ha : -10 ≤ a ∧ a ≤ 10) (hb : -10 ≤ b ∧ b ≤ 10) (hd : -10 ≤ d ∧ d ≤ 10) (he : -10 ≤ e ∧ e ≤ 10) (hpost : post 1 ()) :
    ∃ fu, wL_lawOf_61 post mc ms x1 (nI p) (nI q) (ht_i a) (ht_i b) (ht_i d) (ht_i e) kc ks fu 0 2 0 0 bf bb bt bn a1 a2 a3 a4 a5 a6 a7 a8 a9 a10 := by
  have ta := ht_tgt (x := 30 + a) (by omega) (by omega)
  have tb := ht_tgt (x := 30 + b) (by omega) (by omega)
  have td := ht_tgt (x := -30 + d) (by omega) (by omega)
  have te := ht_tgt (x := -30 + e) (by omega) (by omega)
  rw [← ht_30] at ta tb
  rw [← ht_m30] at td te
  refine ⟨3, br_f (by decide) (ht_row (c := 0) (by omega) ta.1 ta.2 (ht_row (c := 1) (by omega) tb.1 tb.2 (ht_row (c := 2) (by omega) td.1 td.2 (ht_row (c := 3) (by omega) te.1 te.2 (nm_r (e' := 1) (by decide) ?_)))))⟩
  refine br_f (by decide) (ht_row (c := 4) (by omega) ta.1 ta.2 (ht_row (c := 5) (by omega) tb.1 tb.2 (ht_row (c := 6) (by omega) td.1 td.2 (ht_row (c := 7) (by omega) te.1 te.2 (nm_r (e' := 2) (by decide) (br_t (by decide) ?_))))))
  rw [ht_30, ht_30, ht_m30, ht_m30]
  have iab : ht_i a = ht_i b ↔ a = b := ht_iinj (by omega) (by omega) (by omega) (by omega)
  have ide : ht_i d = ht_i e ↔ d = e := ht_iinj (by omega) (by omega) (by omega) (by omega)
  have fin : ∀ z : Int32, z = (if a = b then 0 else 1) → ∀ (b1 b2 : Nat → Int32), (∀ f i, f < 3 → i < 8 → (b1 i >>> ((3 * nI f) &&& 31)) &&& 7 = nI (ht_V p q f i)) → (∀ i, i < 8 → b2 i = ht_i (ht_R (30 + a) (30 + b) (-30 + d) (-30 + e) i)) →
      wL_lawOf_184 post mc ms x1 (nI p) (nI q) (ht_i a) (ht_i b) (ht_i d) (ht_i e) z 2 kc ks 2 (nI 8) (nI 0) bf bb bt bn b1 b2 a3 a4 a5 a6 a7 a8 a9 a10 := by
    intro z hz b1 b2 hV h2
    unfold wL_lawOf_184
    refine br_c (fun h => ht_197 hp hq hpq ha hb hd he hV h2 ?_ hpost) (fun h => ht_197 hp hq hpq ha hb hd he hV h2 ?_ hpost)
    · have c := ide.mp h
      rw [hz]
      unfold ht_lc
      rw [if_pos (c := -30 + d = -30 + e) (by omega)]
      by_cases c2 : a = b
      · rw [if_pos c2, if_pos (by omega)]
      · rw [if_neg c2, if_neg (by omega)]
    · have c : ¬ d = e := fun z => h (ide.mpr z)
      rw [hz]
      unfold ht_lc
      rw [if_neg (c := -30 + d = -30 + e) (by omega)]
      by_cases c2 : a = b
      · rw [if_pos c2, if_pos (by omega)]
      · rw [if_neg c2, if_neg (by omega)]
  refine br_c (fun h => fin 0 (if_pos (iab.mp h)).symm _ _ (fun f i hf hi => ?_) (fun i hi => ?_)) (fun h => fin 1 (if_neg (fun z => h (iab.mpr z))).symm _ _ (fun f i hf hi => ?_) (fun i hi => ?_))
  · have w := ht_words p hp q hq hpq f hf
    rcases (show i = 0 ∨ i = 1 ∨ i = 2 ∨ i = 3 ∨ i = 4 ∨ i = 5 ∨ i = 6 ∨ i = 7 by omega) with c | c | c | c | c | c | c | c <;> subst c
    · exact w.1
    · exact w.2.1
    · exact w.2.2.1
    · exact w.2.2.2
    · exact w.1
    · exact w.2.1
    · exact w.2.2.1
    · exact w.2.2.2
  · rcases (show i = 0 ∨ i = 1 ∨ i = 2 ∨ i = 3 ∨ i = 4 ∨ i = 5 ∨ i = 6 ∨ i = 7 by omega) with c | c | c | c | c | c | c | c <;> subst c <;> rfl
  · have w := ht_words p hp q hq hpq f hf
    rcases (show i = 0 ∨ i = 1 ∨ i = 2 ∨ i = 3 ∨ i = 4 ∨ i = 5 ∨ i = 6 ∨ i = 7 by omega) with c | c | c | c | c | c | c | c <;> subst c
    · exact w.1
    · exact w.2.1
    · exact w.2.2.1
    · exact w.2.2.2
    · exact w.1
    · exact w.2.1
    · exact w.2.2.1
    · exact w.2.2.2
  · rcases (show i = 0 ∨ i = 1 ∨ i = 2 ∨ i = 3 ∨ i = 4 ∨ i = 5 ∨ i = 6 ∨ i = 7 by omega) with c | c | c | c | c | c | c | c <;> subst c <;> rfl
theorem ht_init {post : St2 → Prop} (H : post (2, 0, 0, 0, 0, 0, 0, (fun _ => 0), (fun _ => 0), (fun _ => 0), (fun _ => 0), (fun _ => 0), (fun _ => 0), (fun _ => 0), (fun _ => 0), (fun _ => 0), (fun _ => 0))) : wpX_init post 10 544 (0, 0, 0, 0, 0, 0, 0) 2 := by
  unfold wpX_init
  exact ⟨by omega, by omega, by omega, by omega, by omega, by omega, by omega, by omega, by omega, by omega, by omega, by omega, by omega, by omega, by omega, by omega, by omega, by omega, by omega, by omega, br_t (by decide) (br_t (by decide) H)⟩
theorem ht_law {post : Int32 → St0 → Prop} (x0 x1 x2 x3 x4 : Int32) (hpost : post 1 ()) : wpL_lawOf post 11 561 () x0 x1 x2 x3 x4 := by
  obtain ⟨N, hN, eN⟩ := pk_andE x0 (m := 2147483647) 31 (by decide)
  obtain ⟨c, hc, ec⟩ := pk_andE (x0 >>> ((8 : Int32) &&& 31)) (m := 1) 1 (by decide)
  obtain ⟨a, ha, ea⟩ := ht_rem11 x1
  obtain ⟨b, hb, eb⟩ := ht_rem11 x2
  obtain ⟨d, hd, ed⟩ := ht_rem11 x3
  obtain ⟨e, he, ee⟩ := ht_rem11 x4
  have e6 : (x0 &&& 2147483647) - (x0 &&& 2147483647) / 3 * 3 = nI (N % 3) := by
    rw [eN]
    exact pk_rem (d := 3) hN (by omega) (by omega)
  have e7 : ((nI (N % 3) + 1) + ((x0 >>> ((8 : Int32) &&& 31)) &&& 1)) - ((nI (N % 3) + 1) + ((x0 >>> ((8 : Int32) &&& 31)) &&& 1)) / 3 * 3 = nI ((N % 3 + 1 + c) % 3) := by
    rw [ec, nI_1, nI_add]
    exact pk_rem (d := 3) (by omega) (by omega) (by omega)
  unfold wpL_lawOf
  exact ⟨by omega, by omega, 10, 544, by omega, by omega, ht_init ⟨by decide, nm_r e6 ⟨by decide, nm_r e7 ⟨by decide, nm_r ea ⟨by decide, nm_r eb ⟨by decide, nm_r ed ⟨by decide, nm_r ee (ht_61 (by omega) (by omega) (by omega) ha hb hd he hpost)⟩⟩⟩⟩⟩⟩⟩
theorem ht_cell {post : Int32 → Prop} {L k : Nat} {xs : Nat → Int32} (hL : L ≤ 5) (hk : k < 5) (H : ∀ r, post r) : wpL_cellAt post L xs () (nI k) := by
  unfold wpL_cellAt
  exact pk_le L k (fun _ => H 0) (fun z => ⟨pk_in k L z, H _⟩)
end
section
theorem i_vc (xs : Nat → Int32) (L : Nat) (hL : L ≤ 5) : wpL_law (fun r => r = 1) L xs := by
  unfold wpL_law
  exact ht_cell (k := 0) hL (by omega) (fun r1 => ht_cell (k := 1) hL (by omega) (fun r2 => ht_cell (k := 2) hL (by omega) (fun r3 => ht_cell (k := 3) hL (by omega) (fun r4 => ht_cell (k := 4) hL (by omega) (fun r5 => ⟨11, 561, by omega, by omega, ht_law r1 r2 r3 r4 r5 rfl⟩)))))
end
