section
/-! part 1: bits of an Int32 (the first two families begin as rows of kit/laws/BITS.to-paste), counting -/
def bt (x : Int32) (i : Nat) : Bool := x.toBitVec.getLsbD i
theorem b_ext {x y : Int32} (h : ∀ i, i < 32 → bt x i = bt y i) : x = y := Int32.toBitVec_inj.mp (BitVec.eq_of_getLsbD_eq (fun i hi => h i hi))
theorem b_or (x y : Int32) (i : Nat) : bt (x ||| y) i = (bt x i || bt y i) := by unfold bt; rw [Int32.toBitVec_or, BitVec.getLsbD_or]
theorem b_and (x y : Int32) (i : Nat) : bt (x &&& y) i = (bt x i && bt y i) := by unfold bt; rw [Int32.toBitVec_and, BitVec.getLsbD_and]
theorem b_xor (x y : Int32) (i : Nat) : bt (x ^^^ y) i = (bt x i ^^ bt y i) := by unfold bt; rw [Int32.toBitVec_xor, BitVec.getLsbD_xor]
theorem b_big {x : Int32} {i : Nat} (h : 32 ≤ i) : bt x i = false := BitVec.getLsbD_of_ge _ _ h
theorem b_255 (i : Nat) : bt 255 i = decide (i < 8) := by
  rcases Nat.lt_or_ge i 32 with h | h
  · exact (by decide +kernel : ∀ i, i < 32 → bt 255 i = decide (i < 8)) i h
  · rw [b_big h, decide_eq_false (by omega)]
theorem b_65535 (i : Nat) : bt 65535 i = decide (i < 16) := by
  rcases Nat.lt_or_ge i 32 with h | h
  · exact (by decide +kernel : ∀ i, i < 32 → bt 65535 i = decide (i < 16)) i h
  · rw [b_big h, decide_eq_false (by omega)]
theorem b_m1 : ∀ i, i < 32 → bt (-1) i = true := by decide +kernel
theorem b_0 (i : Nat) : bt 0 i = false := BitVec.getLsbD_zero
theorem s_l : ∀ n, n < 32 → ((nI n &&& 31).toBitVec.smod 32).toNat = n := by decide +kernel
theorem s_u : ∀ n, n < 32 → (((nI n).toUInt32 &&& Int32.toUInt32 31).toBitVec % 32).toNat = n := by decide +kernel
theorem b_shl (n : Nat) (hn : n < 32) (x : Int32) {i : Nat} (hi : i < 32) : bt (x <<< (nI n &&& 31)) i = (decide (n ≤ i) && bt x (i - n)) := by
  unfold bt
  rw [Int32.toBitVec_shiftLeft]
  show (x.toBitVec <<< ((nI n &&& 31).toBitVec.smod 32).toNat).getLsbD i = _
  rw [s_l n hn, BitVec.getLsbD_shiftLeft]
  rcases Nat.lt_or_ge i n with h | h
  · simp [h, Nat.not_le.mpr h]
  · simp [hi, h, Nat.not_lt.mpr h]
theorem b_ushr (n : Nat) (hn : n < 32) (x : Int32) (i : Nat) : bt ((x.toUInt32 >>> ((nI n).toUInt32 &&& Int32.toUInt32 31)).toInt32) i = bt x (n + i) := by
  show (x.toUInt32 >>> ((nI n).toUInt32 &&& Int32.toUInt32 31)).toBitVec.getLsbD i = x.toUInt32.toBitVec.getLsbD (n + i)
  rw [UInt32.toBitVec_shiftRight]
  show (x.toUInt32.toBitVec >>> (((nI n).toUInt32 &&& Int32.toUInt32 31).toBitVec % 32).toNat).getLsbD i = _
  rw [s_u n hn, BitVec.getLsbD_ushiftRight]
theorem b_sshr (n : Nat) (hn : n < 32) (x : Int32) {i : Nat} (hi : i < 32) : bt (x >>> (nI n &&& 31)) i = if n + i < 32 then bt x (n + i) else bt x 31 := by
  unfold bt
  rw [Int32.toBitVec_shiftRight]
  show (x.toBitVec.sshiftRight ((nI n &&& 31).toBitVec.smod 32).toNat).getLsbD i = _
  rw [s_l n hn, BitVec.getLsbD_sshiftRight, BitVec.msb_eq_getLsbD_last]
  simp [hi]
theorem nx_and (a b : Nat) : nI a &&& nI b = nI (a &&& b) := by
  apply Int32.toBitVec_inj.1
  show BitVec.ofNat 32 a &&& BitVec.ofNat 32 b = BitVec.ofNat 32 (a &&& b)
  apply BitVec.eq_of_getLsbD_eq
  intro i hi
  simp [hi]
theorem nx_or (a b : Nat) : nI a ||| nI b = nI (a ||| b) := by
  apply Int32.toBitVec_inj.1
  show BitVec.ofNat 32 a ||| BitVec.ofNat 32 b = BitVec.ofNat 32 (a ||| b)
  apply BitVec.eq_of_getLsbD_eq
  intro i hi
  simp [hi]
/-- how many j < k have f j -/
def cn_t (f : Nat → Bool) : Nat → Nat
  | 0 => 0
  | k + 1 => cn_t f k + (f k).toNat
theorem cn_0 (f : Nat → Bool) : cn_t f 0 = 0 := rfl
theorem cn_s (f : Nat → Bool) (k : Nat) : cn_t f (k + 1) = cn_t f k + (f k).toNat := rfl
theorem cn_sT {f : Nat → Bool} {k : Nat} (h : f k = true) : cn_t f (k + 1) = cn_t f k + 1 := by rw [cn_s, h]; rfl
theorem cn_sF {f : Nat → Bool} {k : Nat} (h : f k = false) : cn_t f (k + 1) = cn_t f k := by rw [cn_s, h]; rfl
theorem cn_ext {f g : Nat → Bool} {k : Nat} (h : ∀ j, j < k → f j = g j) : cn_t f k = cn_t g k := by
  induction k with
  | zero => rfl
  | succ k ih => rw [cn_s, cn_s, ih (fun j hj => h j (by omega)), h k (by omega)]
theorem cn_b1 (b : Bool) : b.toNat ≤ 1 := by cases b <;> decide
theorem cn_le (f : Nat → Bool) (k : Nat) : cn_t f k ≤ k := by
  induction k with
  | zero => exact Nat.le_refl 0
  | succ k ih =>
    have := cn_b1 (f k)
    rw [cn_s]; omega
theorem cn_mono (f : Nat → Bool) {i j : Nat} (h : i ≤ j) : cn_t f i ≤ cn_t f j := by
  induction j with
  | zero => rw [show i = 0 by omega]; exact Nat.le_refl _
  | succ j ih =>
    rcases Nat.lt_or_ge j i with g | g
    · rw [show i = j + 1 by omega]; exact Nat.le_refl _
    · have := ih g
      rw [cn_s]; omega
theorem cn_lt {f : Nat → Bool} {i j : Nat} (hf : f i = true) (h : i < j) : cn_t f i < cn_t f j := by
  have := cn_mono f (show i + 1 ≤ j from h)
  rw [cn_sT hf] at this
  omega
theorem cn_add (f : Nat → Bool) (a b : Nat) : cn_t f (a + b) = cn_t f a + cn_t (fun j => f (a + j)) b := by
  induction b with
  | zero => rfl
  | succ b ih =>
    rw [show a + (b + 1) = (a + b) + 1 by omega, cn_s, ih, cn_s]; omega
theorem cn_F {f : Nat → Bool} {a b : Nat} (hab : a ≤ b) (h : ∀ j, a ≤ j → j < b → f j = false) : cn_t f b = cn_t f a := by
  induction b with
  | zero => rw [show a = 0 by omega]
  | succ b ih =>
    rcases Nat.lt_or_ge b a with g | g
    · rw [show a = b + 1 by omega]
    · rw [cn_sF (h b g (by omega)), ih g (fun j h1 h2 => h j h1 (by omega))]
theorem cn_split {f g h : Nat → Bool} {k : Nat} (e : ∀ j, j < k → (f j).toNat = (g j).toNat + (h j).toNat) : cn_t f k = cn_t g k + cn_t h k := by
  induction k with
  | zero => rfl
  | succ k ih =>
    rw [cn_s, cn_s, cn_s, ih (fun j hj => e j (by omega)), e k (by omega)]; omega
theorem cn_not (f : Nat → Bool) (k : Nat) : cn_t f k + cn_t (fun j => !f j) k = k := by
  induction k with
  | zero => rfl
  | succ k ih =>
    rw [cn_s, cn_s]
    cases hk : f k <;> simp <;> omega
theorem cn_all {f : Nat → Bool} {k : Nat} (h : ∀ j, j < k → f j = true) : cn_t f k = k := by
  induction k with
  | zero => rfl
  | succ k ih => rw [cn_sT (h k (by omega)), ih (fun j hj => h j (by omega))]
theorem cn_none {f : Nat → Bool} {k : Nat} (h : ∀ j, j < k → f j = false) : cn_t f k = 0 := by
  rw [cn_F (Nat.zero_le k) (fun j _ hj => h j hj)]; rfl
theorem cn_find {f : Nat → Bool} {k n : Nat} (h : k < cn_t f n) : ∃ i, i < n ∧ f i = true ∧ cn_t f i = k := by
  induction n with
  | zero => exact absurd h (Nat.not_lt_zero _)
  | succ n ih =>
    by_cases g : k < cn_t f n
    · obtain ⟨i, h1, h2, h3⟩ := ih g
      exact ⟨i, by omega, h2, h3⟩
    · cases hn : f n with
      | true =>
        rw [cn_sT hn] at h
        exact ⟨n, by omega, hn, by omega⟩
      | false =>
        rw [cn_sF hn] at h
        exact absurd h g
/-- setting the bit at i leaves the counts up to i -/
theorem cn_set {f g : Nat → Bool} {i k : Nat} (h : ∀ j, g j = (f j || decide (j = i))) (hk : k ≤ i) : cn_t g k = cn_t f k :=
  cn_ext (fun j hj => by rw [h j, decide_eq_false (by omega), Bool.or_false])
theorem cn_set1 {f g : Nat → Bool} {i : Nat} (h : ∀ j, g j = (f j || decide (j = i))) : cn_t g (i + 1) = cn_t f i + 1 := by
  rw [cn_sT (by rw [h i, decide_eq_true rfl, Bool.or_true]), cn_set h (Nat.le_refl i)]
theorem sx_8 : ∀ m, m < 128 → (nI m).toInt8.toInt32 = nI m := by decide +kernel
theorem sx_16 : ∀ m, m < 512 → (nI m).toInt16.toInt32 = nI m := by decide +kernel
theorem sx_nb {m : Nat} (h : m < 128) : vp_nar .byte (nI m) = nI m := by rw [vp_nar_byte, sx_8 m h]
theorem sx_ns {m : Nat} (h : m < 512) : vp_nar .short (nI m) = nI m := by rw [vp_nar_short, sx_16 m h]
theorem sx_sub1 {m : Nat} (h : 0 < m) : nI m - 1 = nI (m - 1) := pk_sub (b := 1) h
theorem sx_half (a b : Nat) (h : a + b < 2 ^ 31) : (nI a + nI b) / 2 = nI ((a + b) / 2) := by
  rw [nI_add]
  exact pk_div (d := 2) h (by omega) (by omega)
/-- a mask of k bits: the number that is left, and its bits -/
theorem sx_mask (y : Int32) {m : Int32} (k : Nat) (hm : m.toBitVec.toNat = 2 ^ k - 1) : ∃ v, v < 2 ^ k ∧ y &&& m = nI v ∧ ∀ j, v.testBit j = (decide (j < k) && bt y j) := by
  refine ⟨y.toBitVec.toNat % 2 ^ k, Nat.mod_lt _ (Nat.two_pow_pos k), pk_and y k hm, fun j => ?_⟩
  rw [Nat.testBit_mod_two_pow]
  rfl
theorem sx_m1 : ∀ r, r < 8 → (((1 : Int32) <<< (nI r &&& 31)) - 1).toBitVec.toNat = 2 ^ r - 1 := by decide +kernel
theorem sx_one : ∀ k, k < 32 → ∀ j, j < 32 → bt ((1 : Int32) <<< (nI k &&& 31)) j = decide (j = k) := by decide +kernel
theorem sx_and31 (i : Nat) (h : i < 2 ^ 31) : nI i &&& 31 = nI (i % 32) := pk_andN (by omega) 5 (by decide)
theorem sx_and7 (i : Nat) (h : i < 2 ^ 31) : nI i &&& 7 = nI (i % 8) := pk_andN (by omega) 3 (by decide)
theorem sx_and24 : ∀ i, i < 224 → nI i &&& 24 = nI (8 * (i / 8 % 4)) := by decide +kernel
theorem sx_shr5 (i : Nat) (h : i < 2 ^ 31) : nI i >>> ((5 : Int32) &&& 31) = nI (i / 32) := pk_shrN h _ 5 (by decide)
theorem sx_shr3 (i : Nat) (h : i < 2 ^ 31) : nI i >>> ((3 : Int32) &&& 31) = nI (i / 8) := pk_shrN h _ 3 (by decide)
theorem sx_w7 (r i : Nat) (h : i < 2 ^ 31) : nI r * 7 + nI i >>> ((5 : Int32) &&& 31) = nI (r * 7 + i / 32) := by
  rw [sx_shr5 i h, show (7 : Int32) = nI 7 from rfl, pk_mul, nI_add]
theorem sx_w13 (r i : Nat) (h : i < 2 ^ 31) : nI r * 13 + nI i >>> ((5 : Int32) &&& 31) = nI (r * 13 + i / 32) := by
  rw [sx_shr5 i h, show (13 : Int32) = nI 13 from rfl, pk_mul, nI_add]
theorem sx_w8 (r i : Nat) (h : i < 2 ^ 31) : nI r * 8 + nI i >>> ((5 : Int32) &&& 31) = nI (r * 8 + i / 32) := by
  rw [sx_shr5 i h, show (8 : Int32) = nI 8 from rfl, pk_mul, nI_add]
theorem sx_w28 (r i : Nat) (h : i < 2 ^ 31) : nI r * 28 + nI i >>> ((3 : Int32) &&& 31) = nI (r * 28 + i / 8) := by
  rw [sx_shr3 i h, show (28 : Int32) = nI 28 from rfl, pk_mul, nI_add]
/-- x * d + y in naturals, for a literal d -/
theorem sx_ma (x d y : Nat) (D : Int32) (hD : D = nI d) : nI x * D + nI y = nI (x * d + y) := by
  rw [hD, pk_mul, nI_add]
/-- a letter's digits and first digits -/
def dg_t (x l : Nat) : Nat := x / 2 ^ (2 - l) % 2
def db_t (x l : Nat) : Bool := decide (x / 2 ^ (2 - l) % 2 = 1)
def pf_t (x l : Nat) : Nat := x / 2 ^ (3 - l)
theorem sx_dg : ∀ x, x < 8 → ∀ l, l < 3 → (nI x >>> ((2 - nI l) &&& 31)) &&& 1 = nI (dg_t x l) := by decide +kernel
theorem sx_pf : ∀ x, x < 8 → ∀ l, l < 3 → nI x >>> ((3 - nI l) &&& 31) = nI (pf_t x l) := by decide +kernel
theorem sx_2l : ∀ l, l < 3 → (1 : Int32) <<< (nI l &&& 31) = nI (2 ^ l) := by decide +kernel
theorem dg_lt : ∀ x, x < 8 → ∀ l, l < 3 → dg_t x l < 2 := by decide +kernel
theorem dg_db (x l : Nat) : (dg_t x l = 1) ↔ db_t x l = true := by unfold dg_t db_t; exact decide_eq_true_iff.symm
theorem pf_lt : ∀ x, x < 8 → ∀ l, l < 3 → pf_t x l < 2 ^ l := by decide +kernel
theorem sq_digit {post : Int32 → Prop} {u : St0} {x l : Nat} (hx : x < 8) (hl : l < 3) (hp : post (nI (dg_t x l))) : wpX_digitOf post u (nI x) (nI l) := by
  unfold wpX_digitOf
  rw [sx_dg x hx l hl]
  exact hp
/-- the digit as a choice -/
theorem sq_digitB {A B : Prop} {x l : Nat} (f : db_t x l = true → A) (g : db_t x l = false → B) : (nI (dg_t x l) = 1 → A) ∧ (¬ nI (dg_t x l) = 1 → B) := by
  have h2 : dg_t x l < 2 := Nat.mod_lt _ (by omega)
  refine pk_eq (dg_t x l) 1 (fun h => f ((dg_db x l).mp h)) (fun h => g ?_)
  cases e : db_t x l with
  | true => exact absurd ((dg_db x l).mpr e) h
  | false => rfl
theorem sy_le {a b : Nat} {A B : Prop} (f : a ≤ b → A) (g : b < a → B) (ha : a < 2 ^ 31 := by omega) (hb : b < 2 ^ 31 := by omega) : (nI a ≤ nI b → A) ∧ (¬ nI a ≤ nI b → B) := pk_le a b f g
theorem sy_lt {a b : Nat} {A B : Prop} (f : a < b → A) (g : b ≤ a → B) (ha : a < 2 ^ 31 := by omega) (hb : b < 2 ^ 31 := by omega) : (nI a < nI b → A) ∧ (¬ nI a < nI b → B) := pk_lt a b f g
theorem sy_eq {a b : Nat} {A B : Prop} (f : a = b → A) (g : a ≠ b → B) (ha : a < 2 ^ 31 := by omega) (hb : b < 2 ^ 31 := by omega) : (nI a = nI b → A) ∧ (¬ nI a = nI b → B) := pk_eq a b f g
theorem sy_bt (b : Bool) : (b == true) = b := by cases b <;> rfl
theorem sy_bf (b : Bool) : (b == false) = !b := by cases b <;> rfl
end
section
/-! part 2: rows of bits: onesIn, setBit, sumRow, onesBefore, zerosBefore, placeOfBit -/
def pp_t (m : Nat) : Nat := cn_t (fun j => m.testBit j) 8
theorem on_dec : ∀ m, m < 256 → m ≠ 0 → pp_t (m &&& (m - 1)) + 1 = pp_t m ∧ m &&& (m - 1) < m := by decide +kernel
theorem pp_0 : pp_t 0 = 0 := by decide
theorem sq_onesIn_l {post : Int32 → Prop} : ∀ fu m c, m < 256 → m < fu → post (nI (c + pp_t m)) → wX_onesIn_4 post fu (nI c) (nI m) := by
  intro fu
  induction fu with
  | zero => intro m c _ h _; exact absurd h (Nat.not_lt_zero _)
  | succ fu ih =>
    intro m c hm hf hp
    refine pk_eq m 0 (fun h => ?_) (fun h => ?_)
    · rw [h, pp_0, Nat.add_zero] at hp
      exact hp
    · obtain ⟨h1, h2⟩ := on_dec m hm h
      refine nm_r (nI_1 c) (nm_r (e' := nI (m &&& (m - 1))) ?_ (ih _ _ (by omega) (by omega) ?_))
      · rw [sx_sub1 (by omega), nx_and]
      · rw [show c + 1 + pp_t (m &&& (m - 1)) = c + pp_t m by omega]
        exact hp
theorem sq_onesIn {post : Int32 → Prop} {u : St0} (m : Nat) (hm : m < 256) (hp : post (nI (pp_t m))) : wpX_onesIn post u (nI m) := by
  refine ⟨m + 1, sq_onesIn_l (m + 1) m 0 hm (by omega) ?_⟩
  rw [Nat.zero_add]
  exact hp
/-- a byte of a word -/
theorem sx_byte (x : Int32) (k : Nat) (hk : k < 32) : ∃ v, v < 256 ∧ (x.toUInt32 >>> ((nI k).toUInt32 &&& Int32.toUInt32 31)).toInt32 &&& 255 = nI v ∧ ∀ j, j < 8 → v.testBit j = bt x (k + j) := by
  obtain ⟨v, h1, h2, h3⟩ := sx_mask ((x.toUInt32 >>> ((nI k).toUInt32 &&& Int32.toUInt32 31)).toInt32) (m := 255) 8 (by decide)
  refine ⟨v, h1, h2, fun j hj => ?_⟩
  rw [h3 j, b_ushr k hk, decide_eq_true hj, Bool.true_and]
theorem sx_rest (x : Int32) (k r : Nat) (hk : k < 32) (hr : r < 8) : ∃ v, v < 256 ∧ (x.toUInt32 >>> ((nI k).toUInt32 &&& Int32.toUInt32 31)).toInt32 &&& (((1 : Int32) <<< (nI r &&& 31)) - 1) = nI v ∧ ∀ j, v.testBit j = (decide (j < r) && bt x (k + j)) := by
  obtain ⟨v, h1, h2, h3⟩ := sx_mask ((x.toUInt32 >>> ((nI k).toUInt32 &&& Int32.toUInt32 31)).toInt32) (m := ((1 : Int32) <<< (nI r &&& 31)) - 1) r (sx_m1 r hr)
  refine ⟨v, Nat.lt_trans h1 (Nat.lt_of_lt_of_le (Nat.pow_lt_pow_right (by omega) hr) (by decide)), h2, fun j => ?_⟩
  rw [h3 j, b_ushr k hk]
/-- the rows hold R -/
def rb_ok (a : Nat → Int32) (R : Nat → Nat → Bool) : Prop := ∀ r i, r < 21 → i < 224 → bt (a (r * 7 + i / 32)) (i % 32) = R r i
theorem sq_setBit {post : St2 → Prop} {f1 f2 f3 f4 f5 : Int32} {a1 a2 a3 a4 a5 a6 a7 a8 a9 a10 a11 a12 a13 a14 a15 a16 a17 a18 a19 a20 a21 a22 a23 a24 a25 a26 a27 : Nat → Int32} {R : Nat → Nat → Bool} {row i : Nat} (hr : row < 21) (hi : i < 224) (h : rb_ok a5 R)
    (hp : ∀ a, rb_ok a (fun r j => R r j || (decide (r = row) && decide (j = i))) → post (f1, f2, f3, f4, f5, a1, a2, a3, a4, a, a6, a7, a8, a9, a10, a11, a12, a13, a14, a15, a16, a17, a18, a19, a20, a21, a22, a23, a24, a25, a26, a27)) : wpX_setBit post (f1, f2, f3, f4, f5, a1, a2, a3, a4, a5, a6, a7, a8, a9, a10, a11, a12, a13, a14, a15, a16, a17, a18, a19, a20, a21, a22, a23, a24, a25, a26, a27) (nI row) (nI i) := by
  unfold wpX_setBit
  try dsimp only
  rw [sx_w7 row i (by omega), sx_and31 i (by omega)]
  refine ⟨pk_in (row * 7 + i / 32) 147 (by omega), pk_in (row * 7 + i / 32) 147 (by omega), nm_e (hp _ ?_)⟩
  intro r j hr' hj
  try dsimp only
  rw [nI_clamp (show row * 7 + i / 32 < 2 ^ 31 by omega)]
  by_cases e : r * 7 + j / 32 = row * 7 + i / 32
  · have e1 : r = row := by omega
    have e2 : j / 32 = i / 32 := by omega
    have e3 := h r j hr' hj
    rw [e, pk_us, b_or, sx_one (i % 32) (by omega) (j % 32) (by omega), ← e, e3, decide_eq_true e1, Bool.true_and]
    by_cases g : j = i
    · rw [decide_eq_true g, decide_eq_true (by omega)]
    · rw [decide_eq_false g, decide_eq_false (by omega)]
  · rw [pk_un e, h r j hr' hj]
    have : (decide (r = row) && decide (j = i)) = false := by
      by_cases g : r = row
      · rw [decide_eq_false (fun (z : j = i) => e (by rw [g, z])), Bool.and_false]
      · rw [decide_eq_false g, Bool.false_and]
    rw [this, Bool.or_false]
/-- the sums of row r -/
def sm_ok (a6 a7 : Nat → Int32) (f : Nat → Bool) (r : Nat) : Prop := (∀ w, w < 8 → a6 (r * 8 + w) = nI (cn_t f (32 * w))) ∧ (∀ j, j < 28 → a7 (r * 28 + j) = nI (cn_t f (8 * j) - cn_t f (32 * (j / 4))))
theorem sr_in {post : St2 → Prop} {J : Int32 → Int32 → (Nat → Int32) → (Nat → Int32) → (Nat → Int32) → (Nat → Int32) → (Nat → Int32) → (Nat → Int32) → (Nat → Int32) → (Nat → Int32) → (Nat → Int32) → (Nat → Int32) → (Nat → Int32) → (Nat → Int32) → (Nat → Int32) → (Nat → Int32) → (Nat → Int32) → (Nat → Int32) → (Nat → Int32) → (Nat → Int32) → (Nat → Int32) → (Nat → Int32) → (Nat → Int32) → (Nat → Int32) → (Nat → Int32) → (Nat → Int32) → (Nat → Int32) → (Nat → Int32) → (Nat → Int32) → Prop}
    {f1 f2 f3 f4 f5 : Int32} {a1 a2 a3 a4 a5 a6 a7 a8 a9 a10 a11 a12 a13 a14 a15 a16 a17 a18 a19 a20 a21 a22 a23 a24 a25 a26 a27 : Nat → Int32} {f : Nat → Bool} {r w : Nat} (hr : r < 21) (hw : w < 7) (h : ∀ i, i < 224 → bt (a5 (r * 7 + i / 32)) (i % 32) = f i)
    (K : ∀ a, (∀ j, j < r * 28 + 4 * w → a j = a7 j) → (∀ b, b < 4 → a (r * 28 + 4 * w + b) = nI (cn_t f (8 * (4 * w + b)) - cn_t f (32 * w))) → J (nI (cn_t f (32 * (w + 1)))) (nI (w + 1)) a1 a2 a3 a4 a5 a6 a a8 a9 a10 a11 a12 a13 a14 a15 a16 a17 a18 a19 a20 a21 a22 a23 a24 a25 a26 a27) :
    ∃ fu, wX_sumRow_29 post J (nI r) (nI (cn_t f (32 * w))) (nI w) f1 f2 f3 f4 f5 fu 0 0 a1 a2 a3 a4 a5 a6 a7 a8 a9 a10 a11 a12 a13 a14 a15 a16 a17 a18 a19 a20 a21 a22 a23 a24 a25 a26 a27 := by
  have hm : ∀ b, cn_t f (32 * w) ≤ cn_t f (32 * w + 8 * b) := fun b => cn_mono f (by omega)
  have hl : ∀ b, b ≤ 4 → cn_t f (32 * w + 8 * b) - cn_t f (32 * w) ≤ 32 := by
    intro b hb
    have := cn_add f (32 * w) (8 * b)
    have := cn_le (fun j => f (32 * w + j)) (8 * b)
    omega
  have L := pk_loop (fun n b s => wX_sumRow_29 post J (nI r) (nI (cn_t f (32 * w))) (nI w) f1 f2 f3 f4 f5 n (nI (cn_t f (32 * w + 8 * b) - cn_t f (32 * w))) (nI b) a1 a2 a3 a4 a5 a6 s a8 a9 a10 a11 a12 a13 a14 a15 a16 a17 a18 a19 a20 a21 a22 a23 a24 a25 a26 a27)
    (fun b s => (∀ j, j < r * 28 + 4 * w → s j = a7 j) ∧ (∀ b', b' < b → s (r * 28 + 4 * w + b') = nI (cn_t f (8 * (4 * w + b')) - cn_t f (32 * w)))) 4 0 a7 (by omega) ⟨fun j _ => rfl, fun b' hb => absurd hb (by omega)⟩ ?_ ?_
  · obtain ⟨n, hn⟩ := L
    refine ⟨n, ?_⟩
    rw [show 32 * w + 8 * 0 = 32 * w by omega, Nat.sub_self] at hn
    exact hn
  · intro n s hs
    refine pk_le 4 4 (fun _ => ?_) (fun z => absurd z (by omega))
    refine nm_r (e' := nI (cn_t f (32 * (w + 1)))) ?_ (nm_r (nI_1 w) (K s hs.1 hs.2))
    rw [nI_add]
    have := hm 4
    rw [show 32 * (w + 1) = 32 * w + 8 * 4 by omega]
    congr 1
    omega
  · intro n b s hb hs hW
    refine pk_le 4 b (fun z => absurd z (by omega)) (fun _ => ?_)
    rw [show (4 : Int32) * nI w = nI (4 * w) from pk_mul 4 w, sx_ma r 28 (4 * w) 28 rfl, nI_add, sx_ma r 7 w 7 rfl, nI_clamp (show r * 28 + 4 * w + b < 2 ^ 31 by omega), nI_clamp (show r * 7 + w < 2 ^ 31 by omega), show (8 : Int32) * nI b = nI (8 * b) from pk_mul 8 b]
    obtain ⟨v, hv, e, ht⟩ := sx_byte (a5 (r * 7 + w)) (8 * b) (by omega)
    rw [e]
    refine ⟨vp_in_nI (by omega) (by omega), nm_e ⟨vp_in_nI (by omega) (by omega), sq_onesIn v hv ?_⟩⟩
    have hpp : pp_t v = cn_t (fun j => f (32 * w + 8 * b + j)) 8 := by
      refine cn_ext (fun j hj => ?_)
      rw [ht j hj, ← h (32 * w + 8 * b + j) (by omega), show (32 * w + 8 * b + j) / 32 = w by omega, show (32 * w + 8 * b + j) % 32 = 8 * b + j by omega]
    have hadd := cn_add f (32 * w + 8 * b) 8
    have hmb := hm b
    have hlb := hl b (by omega)
    refine nm_r (e' := nI (cn_t f (32 * w + 8 * (b + 1)) - cn_t f (32 * w))) ?_ (nm_r (nI_1 b) (hW _ ⟨?_, ?_⟩))
    · rw [nI_add, hpp, show 32 * w + 8 * (b + 1) = 32 * w + 8 * b + 8 by omega, hadd]
      congr 1
      omega
    · intro j hj
      rw [pk_un (by omega), hs.1 j hj]
    · intro b' hb'
      by_cases eb : b' = b
      · rw [eb, pk_us, sx_8 _ (by omega), show 8 * (4 * w + b) = 32 * w + 8 * b by omega]
      · rw [pk_un (by omega), hs.2 b' (by omega)]
theorem sq_sumRow {post : St2 → Prop} {f1 f2 f3 f4 f5 : Int32} {a1 a2 a3 a4 a5 a6 a7 a8 a9 a10 a11 a12 a13 a14 a15 a16 a17 a18 a19 a20 a21 a22 a23 a24 a25 a26 a27 : Nat → Int32} {f : Nat → Bool} {r : Nat} (hr : r < 21) (h : ∀ i, i < 224 → bt (a5 (r * 7 + i / 32)) (i % 32) = f i)
    (K : ∀ a b, (∀ j, j < r * 8 → a j = a6 j) → (∀ j, j < r * 28 → b j = a7 j) → sm_ok a b f r → post (f1, f2, f3, f4, f5, a1, a2, a3, a4, a5, a, b, a8, a9, a10, a11, a12, a13, a14, a15, a16, a17, a18, a19, a20, a21, a22, a23, a24, a25, a26, a27)) : wpX_sumRow post (f1, f2, f3, f4, f5, a1, a2, a3, a4, a5, a6, a7, a8, a9, a10, a11, a12, a13, a14, a15, a16, a17, a18, a19, a20, a21, a22, a23, a24, a25, a26, a27) (nI r) := by
  have hl : ∀ w, w ≤ 7 → cn_t f (32 * w) ≤ 224 := by
    intro w hw
    have := cn_le f (32 * w)
    omega
  refine pk_loop (fun n w s => wX_sumRow_4 post (nI r) f1 f2 f3 f4 f5 n (nI (cn_t f (32 * w))) (nI w) a1 a2 a3 a4 a5 s.1 s.2 a8 a9 a10 a11 a12 a13 a14 a15 a16 a17 a18 a19 a20 a21 a22 a23 a24 a25 a26 a27)
    (fun w s => (∀ j, j < r * 8 → s.1 j = a6 j) ∧ (∀ j, j < r * 28 → s.2 j = a7 j) ∧ (∀ w', w' < w → s.1 (r * 8 + w') = nI (cn_t f (32 * w'))) ∧ (∀ j, j < 4 * w → s.2 (r * 28 + j) = nI (cn_t f (8 * j) - cn_t f (32 * (j / 4))))) 7 0 (a6, a7) (by omega) ⟨fun j _ => rfl, fun j _ => rfl, fun w' hw => absurd hw (by omega), fun j hj => absurd hj (by omega)⟩ ?_ ?_
  · intro n s hs
    obtain ⟨s6, s7⟩ := s
    refine pk_le 7 7 (fun _ => ?_) (fun z => absurd z (by omega))
    try dsimp only at hs ⊢
    rw [show nI r * 8 + 7 = nI (r * 8 + 7) from sx_ma r 8 7 8 rfl, nI_clamp (show r * 8 + 7 < 2 ^ 31 by omega)]
    refine ⟨vp_in_nI (by omega) (by omega), nm_e (K _ _ ?_ hs.2.1 ⟨?_, ?_⟩)⟩
    · intro j hj
      rw [pk_un (by omega), hs.1 j hj]
    · intro w hw
      by_cases e : w = 7
      · have := hl 7 (by omega)
        rw [e, pk_us, sx_16 _ (by omega)]
      · rw [pk_un (by omega), hs.2.2.1 w (by omega)]
    · intro j hj
      exact hs.2.2.2 j (by omega)
  · intro n w s hw hs hW
    obtain ⟨s6, s7⟩ := s
    refine pk_le 7 w (fun z => absurd z (by omega)) (fun _ => ?_)
    try dsimp only at hs ⊢
    rw [sx_ma r 8 w 8 rfl, nI_clamp (show r * 8 + w < 2 ^ 31 by omega)]
    refine ⟨vp_in_nI (by omega) (by omega), nm_e (sr_in hr hw h (fun a ha1 ha2 => ?_))⟩
    refine hW (_, a) ⟨?_, ?_, ?_, ?_⟩
    · intro j hj
      show upd s6 _ _ j = _
      rw [pk_un (by omega), hs.1 j hj]
    · intro j hj
      show a j = _
      rw [ha1 j (by omega), hs.2.1 j hj]
    · intro w' hw'
      show upd s6 _ _ _ = _
      by_cases e : w' = w
      · have := hl w (by omega)
        rw [e, pk_us, sx_16 _ (by omega)]
      · rw [pk_un (by omega), hs.2.2.1 w' (by omega)]
    · intro j hj
      show a _ = _
      by_cases g : j < 4 * w
      · rw [ha1 _ (by omega), hs.2.2.2 j g]
      · have := ha2 (j - 4 * w) (by omega)
        rw [show r * 28 + 4 * w + (j - 4 * w) = r * 28 + j by omega, show 4 * w + (j - 4 * w) = j by omega] at this
        rw [this, show j / 4 = w by omega]
/-- rows with their sums -/
def sq_Rows (a5 a6 a7 : Nat → Int32) (R : Nat → Nat → Bool) : Prop := rb_ok a5 R ∧ ∀ r, r < 21 → sm_ok a6 a7 (R r) r
theorem ob_37 {post : Int32 → Prop} {f1 f2 f3 f4 f5 : Int32} {a1 a2 a3 a4 a5 a6 a7 a8 a9 a10 a11 a12 a13 a14 a15 a16 a17 a18 a19 a20 a21 a22 a23 a24 a25 a26 a27 : Nat → Int32} {R : Nat → Nat → Bool} {r i v : Nat} (hR : sq_Rows a5 a6 a7 R) (hr : r < 21) (hi : i < 224) (hv : v < 256) (hc : cn_t (R r) (8 * (i / 8)) + pp_t v = cn_t (R r) i)
    (hp : post (nI (cn_t (R r) i))) : wX_onesBefore_37 post (nI r) (nI i) (nI v) f1 f2 f3 f4 f5 a1 a2 a3 a4 a5 a6 a7 a8 a9 a10 a11 a12 a13 a14 a15 a16 a17 a18 a19 a20 a21 a22 a23 a24 a25 a26 a27 := by
  unfold wX_onesBefore_37
  rw [sx_w8 r i (by omega), sx_w28 r i (by omega), nI_clamp (show r * 8 + i / 32 < 2 ^ 31 by omega), nI_clamp (show r * 28 + i / 8 < 2 ^ 31 by omega)]
  refine ⟨vp_in_nI (by omega) (by omega), vp_in_nI (by omega) (by omega), sq_onesIn v hv ?_⟩
  rw [(hR.2 r hr).1 (i / 32) (by omega), (hR.2 r hr).2 (i / 8) (by omega), nI_add, nI_add]
  have h1 : cn_t (R r) (32 * (i / 8 / 4)) ≤ cn_t (R r) (8 * (i / 8)) := cn_mono _ (by omega)
  rw [show i / 32 = i / 8 / 4 by omega]
  rw [show cn_t (R r) (32 * (i / 8 / 4)) + (cn_t (R r) (8 * (i / 8)) - cn_t (R r) (32 * (i / 8 / 4))) + pp_t v = cn_t (R r) i by omega]
  exact hp
theorem sq_onesBefore {post : Int32 → Prop} {f1 f2 f3 f4 f5 : Int32} {a1 a2 a3 a4 a5 a6 a7 a8 a9 a10 a11 a12 a13 a14 a15 a16 a17 a18 a19 a20 a21 a22 a23 a24 a25 a26 a27 : Nat → Int32} {R : Nat → Nat → Bool} {r i : Nat} (hR : sq_Rows a5 a6 a7 R) (hr : r < 21) (hi : i < 224)
    (hp : post (nI (cn_t (R r) i))) : wpX_onesBefore post (f1, f2, f3, f4, f5, a1, a2, a3, a4, a5, a6, a7, a8, a9, a10, a11, a12, a13, a14, a15, a16, a17, a18, a19, a20, a21, a22, a23, a24, a25, a26, a27) (nI r) (nI i) := by
  unfold wpX_onesBefore
  try dsimp only
  refine nm_r (sx_and7 i (by omega)) ?_
  refine pk_eq (i % 8) 0 (fun h => ?_) (fun h => ?_)
  · refine ob_37 (v := 0) hR hr hi (by omega) ?_ hp
    rw [pp_0, show 8 * (i / 8) = i by omega]
    rfl
  · rw [sx_w7 r i (by omega), sx_and24 i hi, nI_clamp (show r * 7 + i / 32 < 2 ^ 31 by omega)]
    obtain ⟨v, hv, e, ht⟩ := sx_rest (a5 (r * 7 + i / 32)) (8 * (i / 8 % 4)) (i % 8) (by omega) (by omega)
    rw [e]
    refine ⟨vp_in_nI (by omega) (by omega), ob_37 hR hr hi hv ?_ hp⟩
    have h2 := cn_add (R r) (8 * (i / 8)) (i % 8)
    rw [show 8 * (i / 8) + i % 8 = i by omega] at h2
    rw [h2]
    congr 1
    have h3 : pp_t v = cn_t (fun j => v.testBit j) (i % 8) := cn_F (by omega) (fun j h4 _ => by rw [ht j, decide_eq_false (by omega), Bool.false_and])
    rw [h3]
    refine cn_ext (fun j hj => ?_)
    rw [ht j, decide_eq_true hj, Bool.true_and, ← hR.1 r (8 * (i / 8) + j) hr (by omega), show (8 * (i / 8) + j) / 32 = i / 32 by omega, show (8 * (i / 8) + j) % 32 = 8 * (i / 8 % 4) + j by omega]
theorem sq_zerosBefore {post : Int32 → Prop} {f1 f2 f3 f4 f5 : Int32} {a1 a2 a3 a4 a5 a6 a7 a8 a9 a10 a11 a12 a13 a14 a15 a16 a17 a18 a19 a20 a21 a22 a23 a24 a25 a26 a27 : Nat → Int32} {R : Nat → Nat → Bool} {r i : Nat} (hR : sq_Rows a5 a6 a7 R) (hr : r < 21) (hi : i < 224)
    (hp : post (nI (i - cn_t (R r) i))) : wpX_zerosBefore post (f1, f2, f3, f4, f5, a1, a2, a3, a4, a5, a6, a7, a8, a9, a10, a11, a12, a13, a14, a15, a16, a17, a18, a19, a20, a21, a22, a23, a24, a25, a26, a27) (nI r) (nI i) := by
  unfold wpX_zerosBefore
  refine sq_onesBefore hR hr hi ?_
  rw [pk_sub (cn_le _ _)]
  exact hp
theorem pb_50 {post : Int32 → Prop} {J : Int32 → Int32 → Prop} {f1 f2 f3 f4 f5 : Int32} {a1 a2 a3 a4 a5 a6 a7 a8 a9 a10 a11 a12 a13 a14 a15 a16 a17 a18 a19 a20 a21 a22 a23 a24 a25 a26 a27 : Nat → Int32} {x1 x2 : Int32} {k g lo hi mid : Nat} (hk : k < 2 ^ 31) (hg : g < 2 ^ 31)
    (hA : k < g → J (nI lo) (nI mid)) (hB : g ≤ k → J (nI (mid + 1)) (nI hi)) : wX_placeOfBit_50 post J x1 x2 (nI k) (nI lo) (nI hi) (nI mid) (nI g) f1 f2 f3 f4 f5 a1 a2 a3 a4 a5 a6 a7 a8 a9 a10 a11 a12 a13 a14 a15 a16 a17 a18 a19 a20 a21 a22 a23 a24 a25 a26 a27 :=
  pk_lt k g (fun h => br_t rfl (br_t rfl (hA h))) (fun h => br_f (by decide) (br_f (by decide) (by rw [nI_1]; exact hB h)))
/-- the place t is found: the counts g are at most k up to t, and more than k behind it -/
theorem sq_pob {post : Int32 → Prop} {f2 f3 f4 f5 : Int32} {a1 a2 a3 a4 a5 a6 a7 a8 a9 a10 a11 a12 a13 a14 a15 a16 a17 a18 a19 a20 a21 a22 a23 a24 a25 a26 a27 : Nat → Int32} {R : Nat → Nat → Bool} {row k t N : Nat} {o : Bool} {g : Nat → Nat} (hR : sq_Rows a5 a6 a7 R) (hr : row < 21) (hN : N ≤ 200) (hk : k < 2 ^ 31)
    (h1 : o = true → ∀ i, i ≤ N → g i = cn_t (R row) i) (h0 : o = false → ∀ i, i ≤ N → g i = i - cn_t (R row) i) (ht : t ≤ N) (hle : ∀ i, i ≤ t → g i ≤ k) (hgt : ∀ i, t < i → i ≤ N → k < g i)
    (hp : post (nI t)) : wpX_placeOfBit post ((nI N), f2, f3, f4, f5, a1, a2, a3, a4, a5, a6, a7, a8, a9, a10, a11, a12, a13, a14, a15, a16, a17, a18, a19, a20, a21, a22, a23, a24, a25, a26, a27) (nI row) (nI o.toNat) (nI k) := by
  have main : ∀ fu lo hi, hi - lo < fu → lo ≤ t → t ≤ hi → hi ≤ N → wX_placeOfBit_9 post (nI row) (nI o.toNat) (nI k) (nI N) f2 f3 f4 f5 a1 a2 a3 a4 a5 a6 a7 a8 a9 a10 a11 a12 a13 a14 a15 a16 a17 a18 a19 a20 a21 a22 a23 a24 a25 a26 a27 fu (nI lo) (nI hi) := by
    intro fu
    induction fu with
    | zero => intro lo hi h; exact absurd h (Nat.not_lt_zero _)
    | succ fu ih =>
      intro lo hi hf hlo hhi hN2
      refine pk_le hi lo (fun h => ?_) (fun h => ?_)
      · rw [show lo = t by omega]
        exact hp
      · refine ⟨by decide, nm_r (sx_half lo hi (by omega)) ?_⟩
        have hgb : g ((lo + hi) / 2 + 1) ≤ 200 := by
          have hc := cn_le (R row) ((lo + hi) / 2 + 1)
          cases o with
          | true => rw [h1 rfl _ (by omega)]; omega
          | false => rw [h0 rfl _ (by omega)]; omega
        have step : wX_placeOfBit_50 post (wX_placeOfBit_9 post (nI row) (nI o.toNat) (nI k) (nI N) f2 f3 f4 f5 a1 a2 a3 a4 a5 a6 a7 a8 a9 a10 a11 a12 a13 a14 a15 a16 a17 a18 a19 a20 a21 a22 a23 a24 a25 a26 a27 fu) (nI row) (nI o.toNat) (nI k) (nI lo) (nI hi) (nI ((lo + hi) / 2)) (nI (g ((lo + hi) / 2 + 1))) (nI N) f2 f3 f4 f5 a1 a2 a3 a4 a5 a6 a7 a8 a9 a10 a11 a12 a13 a14 a15 a16 a17 a18 a19 a20 a21 a22 a23 a24 a25 a26 a27 := by
          refine pb_50 hk (by omega) (fun z => ih _ _ (by omega) hlo ?_ (by omega)) (fun z => ih _ _ (by omega) ?_ hhi hN2)
          · rcases Nat.lt_or_ge ((lo + hi) / 2) t with q | q
            · have := hle _ (show (lo + hi) / 2 + 1 ≤ t from q)
              omega
            · exact q
          · rcases Nat.lt_or_ge ((lo + hi) / 2) t with q | q
            · exact q
            · have := hgt _ (show t < (lo + hi) / 2 + 1 by omega) (by omega)
              omega
        rw [nI_1]
        cases o with
        | true =>
          refine br_f (by decide) (sq_onesBefore hR hr (by omega) ?_)
          rw [← h1 rfl _ (by omega)]
          exact step
        | false =>
          refine br_t rfl (sq_zerosBefore hR hr (by omega) ?_)
          rw [← h0 rfl _ (by omega)]
          exact step
  exact ⟨N + 1, main (N + 1) 0 N (by omega) (by omega) ht (Nat.le_refl N)⟩
end
section
/-! part 3: the tree of halves -/
theorem sx_0add (n : Nat) : (0 : Int32) + nI n = nI n := by
  rw [← nI_0, nI_add, Nat.zero_add]
theorem tr_b (x P : Nat) : (decide (x < P + 1)).toNat = (decide (x < P)).toNat + (decide (x = P)).toNat := by
  by_cases h1 : x < P
  · rw [decide_eq_true (show x < P + 1 by omega), decide_eq_true h1, decide_eq_false (show ¬ x = P by omega)]; rfl
  · by_cases h2 : x = P
    · rw [decide_eq_true (show x < P + 1 by omega), decide_eq_false h1, decide_eq_true h2]; rfl
    · rw [decide_eq_false (show ¬ x < P + 1 by omega), decide_eq_false h1, decide_eq_false h2]; rfl
theorem tr_bd (x P : Nat) (d : Bool) : (decide (x < P + 1) && d).toNat = (decide (x < P) && d).toNat + (decide (x = P) && d).toNat := by
  cases d with
  | true => rw [Bool.and_true, Bool.and_true, Bool.and_true]; exact tr_b x P
  | false => rw [Bool.and_false, Bool.and_false, Bool.and_false]; rfl
theorem pf_half : ∀ x, x < 8 → ∀ l, l < 3 → pf_t x l = pf_t x (l + 1) / 2 ∧ db_t x l = decide (pf_t x (l + 1) % 2 = 1) := by decide +kernel
/-- letters of first digits P before i; their place on level lv; the ones before it -/
def tr_c (lt : Nat → Nat) (lv P i : Nat) : Nat := cn_t (fun j => decide (pf_t (lt j) lv = P)) i
def tr_l (lt : Nat → Nat) (lv P i : Nat) : Nat := cn_t (fun j => decide (pf_t (lt j) lv < P)) i
def tr_A (lt : Nat → Nat) (N lv P i : Nat) : Nat := tr_l lt lv P N + tr_c lt lv P i
def tr_O (lt : Nat → Nat) (N lv P i : Nat) : Nat := cn_t (fun j => decide (pf_t (lt j) lv < P) && db_t (lt j) lv) N + cn_t (fun j => decide (pf_t (lt j) lv = P) && db_t (lt j) lv) i
theorem tr_A_nx (lt : Nat → Nat) (N lv P : Nat) : tr_A lt N lv P N = tr_A lt N lv (P + 1) 0 := by
  unfold tr_A tr_l tr_c
  rw [cn_0, Nat.add_zero]
  exact (cn_split (fun j _ => tr_b _ _)).symm
theorem tr_O_nx (lt : Nat → Nat) (N lv P : Nat) : tr_O lt N lv P N = tr_O lt N lv (P + 1) 0 := by
  unfold tr_O
  rw [cn_0, Nat.add_zero]
  exact (cn_split (fun j _ => tr_bd _ _ _)).symm
theorem tr_A_le (lt : Nat → Nat) {N : Nat} (lv P : Nat) {i : Nat} (h : i ≤ N) : tr_A lt N lv P i ≤ N := by
  have h1 : tr_A lt N lv P i ≤ tr_A lt N lv P N := Nat.add_le_add_left (cn_mono _ h) _
  have h2 : tr_A lt N lv (P + 1) 0 ≤ N := by
    unfold tr_A tr_l tr_c
    rw [cn_0, Nat.add_zero]
    exact cn_le _ _
  rw [tr_A_nx] at h1
  omega
def tr_I (lt : Nat → Nat) (N lv P i t : Nat) (f : Nat → Bool) : Prop :=
  t = tr_A lt N lv P i ∧ (∀ P' i', (P' < P ∧ i' ≤ N ∨ P' = P ∧ i' ≤ i) → tr_A lt N lv P' i' ≤ t ∧ cn_t f (tr_A lt N lv P' i') = tr_O lt N lv P' i') ∧ (∀ j, t ≤ j → f j = false)
def tr_D (lt : Nat → Nat) (N lv : Nat) (f : Nat → Bool) : Prop := ∀ P i, P < 2 ^ lv → i ≤ N → cn_t f (tr_A lt N lv P i) = tr_O lt N lv P i
theorem tr_I_0 (lt : Nat → Nat) (N lv : Nat) {f : Nat → Bool} (hf : ∀ j, f j = false) : tr_I lt N lv 0 0 0 f := by
  have hA : tr_A lt N lv 0 0 = 0 := by
    unfold tr_A tr_l tr_c
    rw [cn_none (fun j _ => decide_eq_false (Nat.not_lt_zero _))]
    rfl
  have hO : tr_O lt N lv 0 0 = 0 := by
    unfold tr_O
    rw [cn_none (fun j _ => by rw [decide_eq_false (Nat.not_lt_zero _), Bool.false_and])]
    rfl
  refine ⟨hA.symm, fun P' i' h => ?_, fun j _ => hf j⟩
  rcases h with h | h
  · exact absurd h.1 (Nat.not_lt_zero _)
  · rw [h.1, show i' = 0 by omega, hA, hO]
    exact ⟨Nat.le_refl 0, rfl⟩
theorem tr_I_nx {lt : Nat → Nat} {N lv P t : Nat} {f : Nat → Bool} (h : tr_I lt N lv P N t f) : tr_I lt N lv (P + 1) 0 t f := by
  obtain ⟨h1, h2, h3⟩ := h
  refine ⟨by rw [h1, tr_A_nx], fun P' i' g => ?_, h3⟩
  rcases g with g | g
  · exact h2 P' i' (by omega)
  · have := h2 P N (Or.inr ⟨rfl, Nat.le_refl N⟩)
    rw [tr_A_nx, tr_O_nx] at this
    rw [g.1, show i' = 0 by omega]
    exact this
theorem tr_I_skip {lt : Nat → Nat} {N lv P i t : Nat} {f : Nat → Bool} (h : tr_I lt N lv P i t f) (e : pf_t (lt i) lv ≠ P) : tr_I lt N lv P (i + 1) t f := by
  obtain ⟨h1, h2, h3⟩ := h
  have hA : tr_A lt N lv P (i + 1) = tr_A lt N lv P i := by
    unfold tr_A tr_c
    rw [cn_sF (decide_eq_false e)]
  have hO : tr_O lt N lv P (i + 1) = tr_O lt N lv P i := by
    unfold tr_O
    rw [cn_sF (k := i) (by rw [decide_eq_false e, Bool.false_and])]
  refine ⟨by rw [hA, h1], fun P' i' g => ?_, h3⟩
  by_cases g2 : P' = P ∧ i' = i + 1
  · rw [g2.1, g2.2, hA, hO]
    exact h2 P i (Or.inr ⟨rfl, Nat.le_refl i⟩)
  · exact h2 P' i' (by omega)
theorem tr_I_put {lt : Nat → Nat} {N lv P i t : Nat} {f g : Nat → Bool} (h : tr_I lt N lv P i t f) (e : pf_t (lt i) lv = P) (hg : ∀ j, g j = (f j || (db_t (lt i) lv && decide (j = t)))) : tr_I lt N lv P (i + 1) (t + 1) g := by
  obtain ⟨h1, h2, h3⟩ := h
  have hA : tr_A lt N lv P (i + 1) = tr_A lt N lv P i + 1 := by
    unfold tr_A tr_c
    rw [cn_sT (decide_eq_true e)]
    rfl
  have hO : tr_O lt N lv P (i + 1) = tr_O lt N lv P i + (db_t (lt i) lv).toNat := by
    unfold tr_O
    rw [cn_s _ i, decide_eq_true e, Bool.true_and]
    omega
  have hlow : ∀ k, k ≤ t → cn_t g k = cn_t f k := fun k hk => cn_ext (fun j hj => by rw [hg j, decide_eq_false (show ¬ j = t by omega), Bool.and_false, Bool.or_false])
  have hgt : g t = db_t (lt i) lv := by rw [hg t, h3 t (Nat.le_refl t), decide_eq_true rfl, Bool.and_true, Bool.false_or]
  refine ⟨by rw [hA, h1], fun P' i' q => ?_, fun j hj => ?_⟩
  · by_cases q2 : P' = P ∧ i' = i + 1
    · have := h2 P i (Or.inr ⟨rfl, Nat.le_refl i⟩)
      rw [q2.1, q2.2, hA, hO, ← h1, cn_s, hgt, hlow t (Nat.le_refl t)]
      rw [← h1] at this
      omega
    · have := h2 P' i' (by omega)
      rw [hlow _ this.1]
      exact ⟨by omega, this.2⟩
  · rw [hg j, h3 j (by omega), decide_eq_false (show ¬ j = t by omega), Bool.and_false, Bool.or_false]
theorem tr_21 {post : St2 → Prop} {J2 J11 : _} {f2 f3 f4 f5 : Int32} {a1 a2 a3 a4 a5 a6 a7 a8 a9 a10 a11 a12 a13 a14 a15 a16 a17 a18 a19 a20 a21 a22 a23 a24 a25 a26 a27 : Nat → Int32} {lt : Nat → Nat} {N lv P t : Nat} {R0 : Nat → Nat → Bool} (hl : ∀ i, lt i < 8) (hN : N ≤ 200) (hlv : lv < 3) (h1 : ∀ i, i < N → a1 i = nI (lt i))
    (hR : rb_ok a5 R0) (hI : tr_I lt N lv P 0 t (R0 lv)) (hP : P < 8)
    (K : ∀ t a R, rb_ok a R → tr_I lt N lv P N t (R lv) → (∀ r, r ≠ lv → ∀ j, R r j = R0 r j) → J11 (nI t) (nI (P + 1)) (nI N) f2 f3 f4 f5 a1 a2 a3 a4 a a6 a7 a8 a9 a10 a11 a12 a13 a14 a15 a16 a17 a18 a19 a20 a21 a22 a23 a24 a25 a26 a27) :
    ∃ fu, wX_packTree_21 post J2 J11 (nI lv) (nI P) fu (nI t) 0 (nI N) f2 f3 f4 f5 a1 a2 a3 a4 a5 a6 a7 a8 a9 a10 a11 a12 a13 a14 a15 a16 a17 a18 a19 a20 a21 a22 a23 a24 a25 a26 a27 := by
  refine pk_loop (fun n i s => wX_packTree_21 post J2 J11 (nI lv) (nI P) n (nI s.1) (nI i) (nI N) f2 f3 f4 f5 a1 a2 a3 a4 s.2 a6 a7 a8 a9 a10 a11 a12 a13 a14 a15 a16 a17 a18 a19 a20 a21 a22 a23 a24 a25 a26 a27)
    (fun i s => ∃ R, rb_ok s.2 R ∧ tr_I lt N lv P i s.1 (R lv) ∧ ∀ r, r ≠ lv → ∀ j, R r j = R0 r j) N 0 (t, a5) (Nat.zero_le N) ⟨R0, hR, hI, fun r _ j => rfl⟩ ?_ ?_
  · intro n s hs
    obtain ⟨R, g1, g2, g3⟩ := hs
    exact pk_le N N (fun _ => nm_r (nI_1 P) (K _ _ R g1 g2 g3)) (fun z => absurd z (by omega))
  · intro n i s hi hs hW
    obtain ⟨t', a⟩ := s
    obtain ⟨R, g1, g2, g3⟩ := hs
    try dsimp only at g1 g2
    refine pk_le N i (fun z => absurd z (by omega)) (fun _ => ⟨pk_in i 200 (by omega), ?_⟩)
    try dsimp only
    rw [nI_clamp (show i < 2 ^ 31 by omega), h1 i hi, sx_pf _ (hl i) lv hlv]
    have hpf := pf_lt _ (hl i) lv hlv
    have hpl : (2 : Nat) ^ lv ≤ 8 := Nat.le_trans (Nat.pow_le_pow_right (by omega) (show lv ≤ 3 by omega)) (by decide)
    refine pk_eq (pf_t (lt i) lv) P (fun e => ⟨pk_in i 200 (by omega), sq_digit (hl i) hlv (sq_digitB (fun hd => ?_) (fun hd => ?_))⟩) (fun e => ?_)
    · have htl : t' + 1 ≤ N := by
        have hq := (tr_I_put (g := fun j => R lv j || (db_t (lt i) lv && decide (j = t'))) g2 e (fun j => rfl)).1
        rw [hq]
        exact tr_A_le lt lv P (by omega)
      rw [sx_0add]
      refine sq_setBit (by omega) (by omega) g1 (fun b hb => ?_)
      try dsimp only
      refine nm_r (nI_1 t') (nm_r (nI_1 i) (hW (t' + 1, b) ⟨_, hb, tr_I_put g2 e (fun j => ?_), fun r hr j => ?_⟩))
      · rw [hd, Bool.true_and, decide_eq_true rfl, Bool.true_and]
      · skip
        rw [decide_eq_false hr, Bool.false_and, Bool.or_false, g3 r hr j]
    · refine nm_r (nI_1 t') (nm_r (nI_1 i) (hW (t' + 1, a) ⟨R, g1, tr_I_put g2 e (fun j => ?_), g3⟩))
      rw [hd, Bool.false_and, Bool.or_false]
    · exact nm_r (nI_1 i) (hW (t', a) ⟨R, g1, tr_I_skip g2 e, g3⟩)
theorem tr_11 {post : St2 → Prop} {J2 : _} {f2 f3 f4 f5 : Int32} {a1 a2 a3 a4 a5 a6 a7 a8 a9 a10 a11 a12 a13 a14 a15 a16 a17 a18 a19 a20 a21 a22 a23 a24 a25 a26 a27 : Nat → Int32} {lt : Nat → Nat} {N lv : Nat} {R0 : Nat → Nat → Bool} (hl : ∀ i, lt i < 8) (hN : N ≤ 200) (hlv : lv < 3) (h1 : ∀ i, i < N → a1 i = nI (lt i))
    (hR : rb_ok a5 R0) (h0 : ∀ j, R0 lv j = false)
    (K : ∀ a R, rb_ok a R → tr_D lt N lv (R lv) → (∀ r, r ≠ lv → ∀ j, R r j = R0 r j) → J2 (nI (lv + 1)) (nI N) f2 f3 f4 f5 a1 a2 a3 a4 a a6 a7 a8 a9 a10 a11 a12 a13 a14 a15 a16 a17 a18 a19 a20 a21 a22 a23 a24 a25 a26 a27) :
    ∃ fu, wX_packTree_11 post J2 (nI lv) fu 0 0 (nI N) f2 f3 f4 f5 a1 a2 a3 a4 a5 a6 a7 a8 a9 a10 a11 a12 a13 a14 a15 a16 a17 a18 a19 a20 a21 a22 a23 a24 a25 a26 a27 := by
  have hpl : (2 : Nat) ^ lv ≤ 4 := Nat.le_trans (Nat.pow_le_pow_right (by omega) (show lv ≤ 2 by omega)) (by decide)
  refine pk_loop (fun n P s => wX_packTree_11 post J2 (nI lv) n (nI s.1) (nI P) (nI N) f2 f3 f4 f5 a1 a2 a3 a4 s.2 a6 a7 a8 a9 a10 a11 a12 a13 a14 a15 a16 a17 a18 a19 a20 a21 a22 a23 a24 a25 a26 a27)
    (fun P s => ∃ R, rb_ok s.2 R ∧ tr_I lt N lv P 0 s.1 (R lv) ∧ ∀ r, r ≠ lv → ∀ j, R r j = R0 r j) (2 ^ lv) 0 ((0 : Nat), a5) (Nat.zero_le _) ⟨R0, hR, tr_I_0 lt N lv h0, fun r _ j => rfl⟩ ?_ ?_
  · intro n s hs
    obtain ⟨R, g1, g2, g3⟩ := hs
    refine br_t (by rw [sx_2l lv hlv]; exact nI_le (Nat.le_refl _) (by omega)) (nm_r (nI_1 lv) (K _ R g1 (fun P i hP hi => ?_) g3))
    exact (g2.2.1 P i (Or.inl ⟨hP, hi⟩)).2
  · intro n P s hP hs hW
    obtain ⟨t, a⟩ := s
    obtain ⟨R, g1, g2, g3⟩ := hs
    refine br_f (by rw [sx_2l lv hlv]; exact nI_ge hP (by omega)) ?_
    refine tr_21 hl hN hlv h1 g1 g2 (by omega) (fun t' a' R' q1 q2 q3 => ?_)
    exact hW (t', a') ⟨R', q1, tr_I_nx q2, fun r hr j => by rw [q3 r hr j, g3 r hr j]⟩
theorem sq_packTree {post : St2 → Prop} {f2 f3 f4 f5 : Int32} {a1 a2 a3 a4 a5 a6 a7 a8 a9 a10 a11 a12 a13 a14 a15 a16 a17 a18 a19 a20 a21 a22 a23 a24 a25 a26 a27 : Nat → Int32} {lt : Nat → Nat} {N : Nat} {R0 : Nat → Nat → Bool} (hl : ∀ i, lt i < 8) (hN : N ≤ 200) (h1 : ∀ i, i < N → a1 i = nI (lt i))
    (hR : rb_ok a5 R0) (h0 : ∀ r j, R0 r j = false)
    (K : ∀ a R, rb_ok a R → (∀ l, l < 3 → tr_D lt N l (R l)) → (∀ r, 3 ≤ r → ∀ j, R r j = false) → post ((nI N), f2, f3, f4, f5, a1, a2, a3, a4, a, a6, a7, a8, a9, a10, a11, a12, a13, a14, a15, a16, a17, a18, a19, a20, a21, a22, a23, a24, a25, a26, a27)) :
    wpX_packTree post ((nI N), f2, f3, f4, f5, a1, a2, a3, a4, a5, a6, a7, a8, a9, a10, a11, a12, a13, a14, a15, a16, a17, a18, a19, a20, a21, a22, a23, a24, a25, a26, a27) := by
  refine pk_loop (fun n l s => wX_packTree_2 post n (nI l) (nI N) f2 f3 f4 f5 a1 a2 a3 a4 s a6 a7 a8 a9 a10 a11 a12 a13 a14 a15 a16 a17 a18 a19 a20 a21 a22 a23 a24 a25 a26 a27)
    (fun l s => ∃ R, rb_ok s R ∧ (∀ l', l' < l → tr_D lt N l' (R l')) ∧ ∀ r, l ≤ r → ∀ j, R r j = false) 3 0 a5 (by omega) ⟨R0, hR, fun l' h => absurd h (by omega), fun r _ j => h0 r j⟩ ?_ ?_
  · intro n s hs
    obtain ⟨R, g1, g2, g3⟩ := hs
    exact pk_le 3 3 (fun _ => K s R g1 g2 g3) (fun z => absurd z (by omega))
  · intro n l s hl3 hs hW
    obtain ⟨R, g1, g2, g3⟩ := hs
    refine pk_le 3 l (fun z => absurd z (by omega)) (fun _ => ?_)
    refine tr_11 hl hN hl3 h1 g1 (fun j => g3 l (Nat.le_refl l) j) (fun a' R' q1 q2 q3 => ?_)
    refine hW a' ⟨R', q1, fun l' hl' => ?_, fun r hr j => by rw [q3 r (by omega) j, g3 r (by omega) j]⟩
    by_cases e : l' = l
    · rw [e]; exact q2
    · have h4 : R' l' = R l' := funext (fun j => q3 l' e j)
      rw [h4]
      exact g2 l' (by omega)
/-! the answers -/
theorem tr_up {lt : Nat → Nat} (hl : ∀ i, lt i < 8) {lv : Nat} (hlv : lv < 3) (P i : Nat) : tr_l lt lv P i = tr_l lt (lv + 1) (2 * P) i ∧ tr_c lt lv P i = tr_c lt (lv + 1) (2 * P) i + tr_c lt (lv + 1) (2 * P + 1) i := by
  constructor
  · refine cn_ext (fun j _ => ?_)
    skip
    rw [(pf_half _ (hl j) lv hlv).1]
    by_cases h : pf_t (lt j) (lv + 1) < 2 * P
    · rw [decide_eq_true h, decide_eq_true (show pf_t (lt j) (lv + 1) / 2 < P by omega)]
    · rw [decide_eq_false h, decide_eq_false (show ¬ pf_t (lt j) (lv + 1) / 2 < P by omega)]
  · refine cn_split (fun j _ => ?_)
    skip
    rw [(pf_half _ (hl j) lv hlv).1]
    generalize pf_t (lt j) (lv + 1) = x
    by_cases h : x = 2 * P
    · rw [decide_eq_true h, decide_eq_true (show x / 2 = P by omega), decide_eq_false (show ¬ x = 2 * P + 1 by omega)]; rfl
    · by_cases h' : x = 2 * P + 1
      · rw [decide_eq_false h, decide_eq_true (show x / 2 = P by omega), decide_eq_true h']; rfl
      · rw [decide_eq_false h, decide_eq_false (show ¬ x / 2 = P by omega), decide_eq_false h']; rfl
theorem tr_l_nx (lt : Nat → Nat) (lv P i : Nat) : tr_l lt lv (P + 1) i = tr_l lt lv P i + tr_c lt lv P i := cn_split (fun j _ => tr_b _ _)
/-- zeros of a node before i: those of the left half -/
theorem tr_zero {lt : Nat → Nat} (hl : ∀ i, lt i < 8) {lv : Nat} (hlv : lv < 3) (N P i : Nat) : tr_A lt N lv P i + tr_O lt N lv P 0 = tr_O lt N lv P i + tr_A lt N lv P 0 + tr_c lt (lv + 1) (2 * P) i := by
  have h : tr_c lt lv P i = cn_t (fun j => decide (pf_t (lt j) lv = P) && db_t (lt j) lv) i + tr_c lt (lv + 1) (2 * P) i := by
    refine cn_split (fun j _ => ?_)
    skip
    rw [(pf_half _ (hl j) lv hlv).1, (pf_half _ (hl j) lv hlv).2]
    generalize pf_t (lt j) (lv + 1) = x
    by_cases h : x = 2 * P
    · rw [decide_eq_true h, decide_eq_true (show x / 2 = P by omega), decide_eq_false (show ¬ x % 2 = 1 by omega)]; rfl
    · by_cases h' : x = 2 * P + 1
      · rw [decide_eq_false h, decide_eq_true (show x / 2 = P by omega), decide_eq_true (show x % 2 = 1 by omega)]; rfl
      · rw [decide_eq_false h, decide_eq_false (show ¬ x / 2 = P by omega), Bool.false_and]; rfl
  unfold tr_A tr_O
  rw [h, cn_0]
  unfold tr_c
  rw [cn_0]
  omega
theorem tr_le0 {lt : Nat → Nat} {lv : Nat} (N P i : Nat) : tr_A lt N lv P i = tr_A lt N lv P 0 + tr_c lt lv P i := by
  unfold tr_A tr_c
  rw [cn_0]
  rfl
/-- a node's answers: the counts that the walk sees, and the next node -/
theorem tr_step {lt : Nat → Nat} (hl : ∀ i, lt i < 8) {lv N c place : Nat} {f : Nat → Bool} (hlv : lv < 3) (hc : c < 8) (hD : tr_D lt N lv f) (hp : place ≤ N) :
    tr_A lt N lv (pf_t c lv) 0 - cn_t f (tr_A lt N lv (pf_t c lv) 0) ≤ tr_A lt N lv (pf_t c lv) place - cn_t f (tr_A lt N lv (pf_t c lv) place) ∧
    tr_A lt N lv (pf_t c lv) place - cn_t f (tr_A lt N lv (pf_t c lv) place) - (tr_A lt N lv (pf_t c lv) 0 - cn_t f (tr_A lt N lv (pf_t c lv) 0)) = tr_c lt (lv + 1) (2 * pf_t c lv) place := by
  have hP := pf_lt c hc lv hlv
  have h1 := hD (pf_t c lv) place hP hp
  have h2 := hD (pf_t c lv) 0 hP (Nat.zero_le N)
  have h3 := tr_zero hl hlv N (pf_t c lv) place
  have h4 := cn_le f (tr_A lt N lv (pf_t c lv) place)
  have h5 := cn_le f (tr_A lt N lv (pf_t c lv) 0)
  rw [h1] at h4 ⊢
  rw [h2] at h5 ⊢
  omega
theorem tr_next {lt : Nat → Nat} (hl : ∀ i, lt i < 8) {lv N c : Nat} (hlv : lv < 3) (hc : c < 8) :
    (db_t c lv = true → pf_t c (lv + 1) = 2 * pf_t c lv + 1) ∧ (db_t c lv = false → pf_t c (lv + 1) = 2 * pf_t c lv) ∧ tr_A lt N (lv + 1) (2 * pf_t c lv) 0 = tr_A lt N lv (pf_t c lv) 0 ∧ tr_A lt N (lv + 1) (2 * pf_t c lv + 1) 0 = tr_A lt N lv (pf_t c lv) 0 + tr_c lt (lv + 1) (2 * pf_t c lv) N ∧ tr_A lt N (lv + 1) (2 * pf_t c lv + 1) N = tr_A lt N lv (pf_t c lv) N := by
  obtain ⟨h1, h2⟩ := pf_half c hc lv hlv
  have h3 := tr_up hl hlv (pf_t c lv) N
  have h4 := tr_A_nx lt N (lv + 1) (2 * pf_t c lv)
  have h5 := tr_le0 (lt := lt) (lv := lv + 1) N (2 * pf_t c lv) N
  have h6 := tr_le0 (lt := lt) (lv := lv) N (pf_t c lv) N
  have h7 := tr_le0 (lt := lt) (lv := lv + 1) N (2 * pf_t c lv + 1) N
  have h8 : tr_A lt N (lv + 1) (2 * pf_t c lv) 0 = tr_A lt N lv (pf_t c lv) 0 := by
    show tr_l lt (lv + 1) (2 * pf_t c lv) N + 0 = tr_l lt lv (pf_t c lv) N + 0
    rw [h3.1]
  refine ⟨fun h => ?_, fun h => ?_, h8, by omega, by omega⟩
  · rw [h2] at h
    have := of_decide_eq_true h
    omega
  · rw [h2] at h
    have := of_decide_eq_false h
    omega
theorem tr_bounds {lt : Nat → Nat} {N : Nat} (lv P : Nat) {i : Nat} (h : i ≤ N) : tr_A lt N lv P 0 ≤ N ∧ tr_A lt N lv P N ≤ N ∧ tr_A lt N lv P i ≤ N ∧ tr_c lt lv P i ≤ i :=
  ⟨tr_A_le lt lv P (Nat.zero_le N), tr_A_le lt lv P (Nat.le_refl N), tr_A_le lt lv P h, cn_le _ _⟩
theorem tr_top {lt : Nat → Nat} (hl : ∀ i, lt i < 8) {c : Nat} (hc : c < 8) (N i : Nat) : tr_A lt N 0 (pf_t c 0) 0 = 0 ∧ tr_A lt N 0 (pf_t c 0) N = N ∧ tr_c lt 0 (pf_t c 0) i = i ∧ tr_l lt 0 (pf_t c 0) i = 0 := by
  have h0 : ∀ x, x < 8 → pf_t x 0 = 0 := by decide +kernel
  have h1 : ∀ k, tr_c lt 0 (pf_t c 0) k = k := fun k => cn_all (fun j _ => decide_eq_true (by rw [h0 _ (hl j), h0 c hc]))
  have h2 : ∀ k, tr_l lt 0 (pf_t c 0) k = 0 := fun k => cn_none (fun j _ => decide_eq_false (by rw [h0 c hc]; omega))
  unfold tr_A
  rw [h1, h1, h1, h2, h2]
  exact ⟨rfl, Nat.zero_add N, rfl, rfl⟩
/-- how often c stands before i -/
def ct_t (lt : Nat → Nat) (c i : Nat) : Nat := cn_t (fun j => decide (lt j = c)) i
def cl_t (lt : Nat → Nat) (c i : Nat) : Nat := cn_t (fun j => decide (lt j < c)) i
theorem tr_end (lt : Nat → Nat) (c i : Nat) : tr_c lt 3 (pf_t c 3) i = ct_t lt c i ∧ tr_l lt 3 (pf_t c 3) i = cl_t lt c i := by
  have h : ∀ x, pf_t x 3 = x := fun x => Nat.div_one x
  unfold tr_c tr_l ct_t cl_t
  simp only [h]
  exact ⟨trivial, trivial⟩
theorem sq_rankInTree {post : Int32 → Prop} {f2 f3 f4 f5 : Int32} {a1 a2 a3 a4 a5 a6 a7 a8 a9 a10 a11 a12 a13 a14 a15 a16 a17 a18 a19 a20 a21 a22 a23 a24 a25 a26 a27 : Nat → Int32} {lt : Nat → Nat} {R : Nat → Nat → Bool} {N c place : Nat} (hl : ∀ i, lt i < 8) (hN : N ≤ 200) (hR : sq_Rows a5 a6 a7 R) (hD : ∀ l, l < 3 → tr_D lt N l (R l)) (hc : c < 8) (hp : place ≤ N)
    (h : post (nI (ct_t lt c place))) : wpX_rankInTree post ((nI N), f2, f3, f4, f5, a1, a2, a3, a4, a5, a6, a7, a8, a9, a10, a11, a12, a13, a14, a15, a16, a17, a18, a19, a20, a21, a22, a23, a24, a25, a26, a27) (nI c) (nI place) := by
  have main : ∀ k l, l + k = 3 → wX_rankInTree_14 post (nI c) (nI N) f2 f3 f4 f5 a1 a2 a3 a4 a5 a6 a7 a8 a9 a10 a11 a12 a13 a14 a15 a16 a17 a18 a19 a20 a21 a22 a23 a24 a25 a26 a27 (k + 1) (nI (tr_A lt N l (pf_t c l) 0)) (nI (tr_A lt N l (pf_t c l) N)) (nI (tr_c lt l (pf_t c l) place)) (nI l) := by
    intro k
    induction k with
    | zero =>
      intro l e
      rw [show l = 3 by omega]
      refine pk_le 3 3 (fun _ => ?_) (fun z => absurd z (by omega))
      rw [(tr_end lt c place).1]
      exact h
    | succ k ih =>
      intro l e
      have hl3 : l < 3 := by omega
      obtain ⟨b1, b2, b3, b4⟩ := tr_bounds (lt := lt) l (pf_t c l) hp
      have e0 := tr_le0 (lt := lt) (lv := l) N (pf_t c l) place
      obtain ⟨s1, s2⟩ := tr_step hl hl3 hc (hD l hl3) (Nat.le_refl N)
      obtain ⟨s3, s4⟩ := tr_step hl hl3 hc (hD l hl3) hp
      obtain ⟨n1, n2, n3, n4, n5⟩ := tr_next (N := N) hl hl3 hc
      have u := (tr_up hl hl3 (pf_t c l) place).2
      have u0 := tr_le0 (lt := lt) (lv := l + 1) N (2 * pf_t c l) N
      refine pk_le 3 l (fun z => absurd z (by omega)) (fun _ => nm_r (sx_0add l) ?_)
      refine sq_zerosBefore hR (by omega) (by omega) (sq_zerosBefore hR (by omega) (by omega) ?_)
      refine nm_r (e' := nI (tr_c lt (l + 1) (2 * pf_t c l) N)) (by rw [pk_sub s1, s2]) ?_
      rw [nI_add, ← e0]
      refine sq_zerosBefore hR (by omega) (by omega) ?_
      refine nm_r (e' := nI (tr_c lt (l + 1) (2 * pf_t c l) place)) (by rw [pk_sub s3, s4]) ?_
      refine sq_digit hc hl3 (sq_digitB (fun hd => ?_) (fun hd => ?_))
      · refine br_f (by decide) (br_f (by decide) (br_f (by decide) (nm_r (nI_1 l) ?_)))
        rw [nI_add, pk_sub (by omega)]
        have g := ih (l + 1) (by omega)
        rw [n1 hd, n4, n5, show tr_c lt (l + 1) (2 * pf_t c l + 1) place = tr_c lt l (pf_t c l) place - tr_c lt (l + 1) (2 * pf_t c l) place by omega] at g
        exact g
      · refine br_t rfl (br_t rfl (br_t rfl (nm_r (nI_add _ _) (nm_r (nI_1 l) ?_))))
        have g := ih (l + 1) (by omega)
        rw [n2 hd, u0, n3] at g
        exact g
  obtain ⟨t1, t2, t3, _⟩ := tr_top hl hc N place
  have g := main 3 0 rfl
  rw [t1, t2, t3] at g
  exact ⟨4, g⟩
theorem sq_belowInTree {post : Int32 → Prop} {f2 f3 f4 f5 : Int32} {a1 a2 a3 a4 a5 a6 a7 a8 a9 a10 a11 a12 a13 a14 a15 a16 a17 a18 a19 a20 a21 a22 a23 a24 a25 a26 a27 : Nat → Int32} {lt : Nat → Nat} {R : Nat → Nat → Bool} {N c place : Nat} (hl : ∀ i, lt i < 8) (hN : N ≤ 200) (hR : sq_Rows a5 a6 a7 R) (hD : ∀ l, l < 3 → tr_D lt N l (R l)) (hc : c < 8) (hp : place ≤ N)
    (h : post (nI (cl_t lt c place))) : wpX_belowInTree post ((nI N), f2, f3, f4, f5, a1, a2, a3, a4, a5, a6, a7, a8, a9, a10, a11, a12, a13, a14, a15, a16, a17, a18, a19, a20, a21, a22, a23, a24, a25, a26, a27) (nI c) (nI place) := by
  have main : ∀ k l, l + k = 3 → wX_belowInTree_17 post (nI c) (nI N) f2 f3 f4 f5 a1 a2 a3 a4 a5 a6 a7 a8 a9 a10 a11 a12 a13 a14 a15 a16 a17 a18 a19 a20 a21 a22 a23 a24 a25 a26 a27 (k + 1) (nI (tr_A lt N l (pf_t c l) 0)) (nI (tr_A lt N l (pf_t c l) N)) (nI (tr_c lt l (pf_t c l) place)) (nI (tr_l lt l (pf_t c l) place)) (nI l) := by
    intro k
    induction k with
    | zero =>
      intro l e
      rw [show l = 3 by omega]
      refine pk_le 3 3 (fun _ => ?_) (fun z => absurd z (by omega))
      rw [(tr_end lt c place).2]
      exact h
    | succ k ih =>
      intro l e
      have hl3 : l < 3 := by omega
      obtain ⟨b1, b2, b3, b4⟩ := tr_bounds (lt := lt) l (pf_t c l) hp
      have e0 := tr_le0 (lt := lt) (lv := l) N (pf_t c l) place
      obtain ⟨s1, s2⟩ := tr_step hl hl3 hc (hD l hl3) (Nat.le_refl N)
      obtain ⟨s3, s4⟩ := tr_step hl hl3 hc (hD l hl3) hp
      obtain ⟨n1, n2, n3, n4, n5⟩ := tr_next (N := N) hl hl3 hc
      obtain ⟨u1, u⟩ := tr_up hl hl3 (pf_t c l) place
      have u0 := tr_le0 (lt := lt) (lv := l + 1) N (2 * pf_t c l) N
      have u2 := tr_l_nx lt (l + 1) (2 * pf_t c l) place
      refine pk_le 3 l (fun z => absurd z (by omega)) (fun _ => nm_r (sx_0add l) ?_)
      refine sq_zerosBefore hR (by omega) (by omega) (sq_zerosBefore hR (by omega) (by omega) ?_)
      refine nm_r (e' := nI (tr_c lt (l + 1) (2 * pf_t c l) N)) (by rw [pk_sub s1, s2]) ?_
      rw [nI_add, ← e0]
      refine sq_zerosBefore hR (by omega) (by omega) ?_
      refine nm_r (e' := nI (tr_c lt (l + 1) (2 * pf_t c l) place)) (by rw [pk_sub s3, s4]) ?_
      refine sq_digit hc hl3 (sq_digitB (fun hd => ?_) (fun hd => ?_))
      · refine br_f (by decide) (nm_r (nI_add _ _) (br_f (by decide) (br_f (by decide) (br_f (by decide) (nm_r (nI_1 l) ?_)))))
        rw [nI_add, pk_sub (by omega)]
        have g := ih (l + 1) (by omega)
        rw [n1 hd, n4, n5, show tr_c lt (l + 1) (2 * pf_t c l + 1) place = tr_c lt l (pf_t c l) place - tr_c lt (l + 1) (2 * pf_t c l) place by omega, u2, ← u1] at g
        exact g
      · refine br_t rfl (nm_r (e' := nI (tr_l lt l (pf_t c l) place)) ?_ (br_t rfl (br_t rfl (br_t rfl (nm_r (nI_add _ _) (nm_r (nI_1 l) ?_))))))
        · exact nI_add _ 0
        · have g := ih (l + 1) (by omega)
          rw [n2 hd, u0, n3, ← u1] at g
          exact g
  obtain ⟨t1, t2, t3, t4⟩ := tr_top hl hc N place
  have g := main 3 0 rfl
  rw [t1, t2, t3, t4] at g
  exact ⟨4, g⟩
end
section
/-! part 4: the matrix of levels -/
def mx_z (N : Nat) (d : Nat → Bool) : Nat := N - cn_t d N
def mx_d (N : Nat) (d : Nat → Bool) (o : Bool) (i : Nat) : Nat := if o then mx_z N d + cn_t d i else i - cn_t d i
def mx_p (N : Nat) (d : Nat → Bool) (j : Nat) : Nat := mx_d N d (d j) j
def mx_L (N l : Nat) (s s' : Nat → Nat) : Prop := (∀ k, s' k < 8) ∧ ∀ j, j < N → s' (mx_p N (fun i => db_t (s i) l) j) = s j
theorem mx_zc (d : Nat → Bool) (i : Nat) : i - cn_t d i = cn_t (fun j => !d j) i := by
  have := cn_not d i
  omega
theorem mx_surj {N : Nat} {d : Nat → Bool} {k : Nat} (hk : k < N) : ∃ j, j < N ∧ mx_p N d j = k := by
  rcases Nat.lt_or_ge k (mx_z N d) with h | h
  · have h2 : k < cn_t (fun j => !d j) N := by rw [← mx_zc]; exact h
    obtain ⟨i, g1, g2, g3⟩ := cn_find h2
    refine ⟨i, g1, ?_⟩
    have g4 : d i = false := by
      cases e : d i with
      | true => rw [e] at g2; exact absurd g2 (by decide)
      | false => rfl
    unfold mx_p mx_d
    rw [g4, mx_zc]
    exact g3
  · have h1 := cn_le d N
    unfold mx_z at h
    have h2 : k - (N - cn_t d N) < cn_t d N := by omega
    obtain ⟨i, g1, g2, g3⟩ := cn_find h2
    refine ⟨i, g1, ?_⟩
    unfold mx_p mx_d mx_z
    rw [g2, g3]
    show N - cn_t d N + (k - (N - cn_t d N)) = k
    omega
theorem mx_dle {N : Nat} (d : Nat → Bool) (o : Bool) {i : Nat} (h : i ≤ N) : mx_d N d o i ≤ N := by
  have h1 := cn_le d N
  have h2 := cn_mono d h
  unfold mx_d mx_z
  cases o with
  | true => show N - cn_t d N + cn_t d i ≤ N; omega
  | false => show i - cn_t d i ≤ N; omega
theorem mx_zlt {N : Nat} {d : Nat → Bool} {i : Nat} (h : i < N) (hd : d i = false) : i - cn_t d i < mx_z N d := by
  unfold mx_z
  rw [mx_zc, mx_zc]
  exact cn_lt (by rw [hd]; rfl) h
theorem mx_olt {N : Nat} {d : Nat → Bool} {i : Nat} (h : i < N) (hd : d i = true) : mx_z N d + cn_t d i < N := by
  have h1 := cn_le d N
  have h2 := cn_lt hd h
  unfold mx_z
  omega
theorem mx_plt {N : Nat} {d : Nat → Bool} {i : Nat} (h : i < N) : mx_p N d i < N := by
  unfold mx_p mx_d
  cases hd : d i with
  | true => exact mx_olt h hd
  | false => show i - cn_t d i < N; omega
theorem mx_inj {N : Nat} {d : Nat → Bool} {j i : Nat} (hj : j < i) (hi : i < N) : mx_p N d j ≠ mx_p N d i := by
  unfold mx_p mx_d
  cases hd : d i with
  | true =>
    cases hd' : d j with
    | true =>
      have := cn_lt hd' hj
      show mx_z N d + cn_t d j ≠ mx_z N d + cn_t d i
      omega
    | false =>
      have := mx_zlt (show j < N by omega) hd'
      show j - cn_t d j ≠ mx_z N d + cn_t d i
      omega
  | false =>
    cases hd' : d j with
    | true =>
      have := mx_zlt hi hd
      show mx_z N d + cn_t d j ≠ i - cn_t d i
      omega
    | false =>
      show j - cn_t d j ≠ i - cn_t d i
      rw [mx_zc, mx_zc]
      have : cn_t (fun j => !d j) j < cn_t (fun j => !d j) i := cn_lt (by rw [hd']; rfl) hj
      omega
theorem mx_dn {N : Nat} {d : Nat → Bool} {o : Bool} {i : Nat} : mx_d N d o (i + 1) = mx_d N d o i + (d i == o).toNat := by
  have := cn_le d i
  unfold mx_d
  cases o with
  | true =>
    show mx_z N d + cn_t d (i + 1) = mx_z N d + cn_t d i + (d i == true).toNat
    rw [cn_s]
    cases hd : d i with
    | true => show mx_z N d + (cn_t d i + 1) = mx_z N d + cn_t d i + 1; omega
    | false => show mx_z N d + (cn_t d i + 0) = mx_z N d + cn_t d i + 0; omega
  | false =>
    show i + 1 - cn_t d (i + 1) = i - cn_t d i + (d i == false).toNat
    rw [cn_s]
    cases hd : d i with
    | true => show i + 1 - (cn_t d i + 1) = i - cn_t d i + 0; omega
    | false => show i + 1 - (cn_t d i + 0) = i - cn_t d i + 1; omega
/-- what goes down from a level, counted -/
theorem mx_A {N l : Nat} {s s' : Nat → Nat} (hL : mx_L N l s s') (o : Bool) (Q : Nat → Bool) : ∀ i, i ≤ N →
    cn_t (fun j => Q (s' j)) (mx_d N (fun i => db_t (s i) l) o i) = cn_t (fun j => Q (s' j)) (mx_d N (fun i => db_t (s i) l) o 0) + cn_t (fun j => (db_t (s j) l == o) && Q (s j)) i := by
  intro i
  induction i with
  | zero => intro _; rfl
  | succ i ih =>
    intro hi
    have h := ih (by omega)
    rw [mx_dn, cn_s _ i]
    cases e : (db_t (s i) l == o) with
    | true =>
      have e2 : db_t (s i) l = o := eq_of_beq e
      have e3 := hL.2 i (by omega)
      unfold mx_p at e3
      try dsimp only at e3
      rw [e2] at e3
      rw [show (true).toNat = 1 from rfl, cn_s, h, e3, Bool.true_and]
      omega
    | false =>
      rw [show (false).toNat = 0 from rfl, Bool.false_and, Nat.add_zero, h]
      rfl
/-- places on their way down by the digits of c -/
def mx_q (S : Nat → Nat → Nat) (N c : Nat) : Nat → Nat → Nat
  | 0 => fun x => x
  | l + 1 => fun x => mx_d N (fun i => db_t (S l i) l) (db_t c l) (mx_q S N c l x)
theorem mx_qle (S : Nat → Nat → Nat) {N : Nat} (c l : Nat) {x : Nat} (h : x ≤ N) : mx_q S N c l x ≤ N := by
  induction l with
  | zero => exact h
  | succ l ih => exact mx_dle _ _ ih
theorem pf_and : ∀ x, x < 8 → ∀ c, c < 8 → ∀ l, l < 3 → (decide (pf_t x l = pf_t c l) && (db_t x l == db_t c l)) = decide (pf_t x (l + 1) = pf_t c (l + 1)) := by decide +kernel
theorem pf_00 : ∀ x, x < 8 → pf_t x 0 = 0 := by decide +kernel
theorem mx_rank {S : Nat → Nat → Nat} {N c : Nat} (hS : ∀ m k, S m k < 8) (hL : ∀ m, m < 3 → mx_L N m (S m) (S (m + 1))) (hc : c < 8) : ∀ l, l ≤ 3 → ∀ (Q : Nat → Bool) (x : Nat), x ≤ N →
    cn_t (fun j => Q (S l j)) (mx_q S N c l x) = cn_t (fun j => Q (S l j)) (mx_q S N c l 0) + cn_t (fun j => decide (pf_t (S 0 j) l = pf_t c l) && Q (S 0 j)) x := by
  intro l
  induction l with
  | zero =>
    intro _ Q x _
    show cn_t (fun j => Q (S 0 j)) x = 0 + _
    rw [Nat.zero_add]
    refine cn_ext (fun j _ => ?_)
    rw [pf_00 _ (hS 0 j), pf_00 c hc, decide_eq_true rfl, Bool.true_and]
  | succ l ih =>
    intro hl Q x hx
    have g1 := mx_A (hL l (by omega)) (db_t c l) Q _ (mx_qle S c l hx)
    have g2 := mx_A (hL l (by omega)) (db_t c l) Q _ (mx_qle S c l (Nat.zero_le N))
    have g3 := ih (by omega) (fun y => (db_t y l == db_t c l) && Q y) x hx
    have g4 : cn_t (fun j => decide (pf_t (S 0 j) l = pf_t c l) && ((db_t (S 0 j) l == db_t c l) && Q (S 0 j))) x = cn_t (fun j => decide (pf_t (S 0 j) (l + 1) = pf_t c (l + 1)) && Q (S 0 j)) x := by
      refine cn_ext (fun j _ => ?_)
      rw [← Bool.and_assoc, pf_and _ (hS 0 j) c hc l (by omega)]
    try dsimp only at g3
    rw [g4] at g3
    show cn_t (fun j => Q (S (l + 1) j)) (mx_d N (fun i => db_t (S l i) l) (db_t c l) (mx_q S N c l x)) = cn_t (fun j => Q (S (l + 1) j)) (mx_d N (fun i => db_t (S l i) l) (db_t c l) (mx_q S N c l 0)) + _
    rw [g1, g2, g3]
    omega
theorem cn_true (k : Nat) : cn_t (fun _ => true) k = k := cn_all (fun _ _ => rfl)
/-- the stretch of the letters that agree with c in l digits -/
theorem mx_len {S : Nat → Nat → Nat} {N c : Nat} (hS : ∀ m k, S m k < 8) (hL : ∀ m, m < 3 → mx_L N m (S m) (S (m + 1))) (hc : c < 8) {l : Nat} (hl : l ≤ 3) {x : Nat} (hx : x ≤ N) :
    mx_q S N c l x = mx_q S N c l 0 + tr_c (S 0) l (pf_t c l) x := by
  have h := mx_rank hS hL hc l hl (fun _ => true) x hx
  rw [cn_true, cn_true] at h
  rw [h]
  congr 1
  exact cn_ext (fun j _ => by rw [Bool.and_true])
theorem mx_zeros {S : Nat → Nat → Nat} {N c : Nat} (hS : ∀ m k, S m k < 8) (hL : ∀ m, m < 3 → mx_L N m (S m) (S (m + 1))) (hc : c < 8) {l : Nat} (hl : l < 3) {x : Nat} (hx : x ≤ N) :
    mx_d N (fun i => db_t (S l i) l) false (mx_q S N c l x) = mx_d N (fun i => db_t (S l i) l) false (mx_q S N c l 0) + tr_c (S 0) (l + 1) (2 * pf_t c l) x := by
  have h := mx_rank hS hL hc l (by omega) (fun y => !db_t y l) x hx
  show mx_q S N c l x - cn_t (fun i => db_t (S l i) l) (mx_q S N c l x) = mx_q S N c l 0 - cn_t (fun i => db_t (S l i) l) (mx_q S N c l 0) + _
  rw [mx_zc, mx_zc]
  try dsimp only at h ⊢
  rw [h]
  congr 1
  refine cn_ext (fun j _ => ?_)
  try dsimp only
  obtain ⟨e1, e2⟩ := pf_half _ (hS 0 j) l hl
  rw [e1, e2]
  generalize pf_t (S 0 j) (l + 1) = y
  by_cases g : y = 2 * pf_t c l
  · rw [decide_eq_true g, decide_eq_true (show y / 2 = pf_t c l by omega), decide_eq_false (show ¬ y % 2 = 1 by omega)]; rfl
  · by_cases g2 : y / 2 = pf_t c l
    · rw [decide_eq_false g, decide_eq_true g2, decide_eq_true (show y % 2 = 1 by omega)]; rfl
    · rw [decide_eq_false g, decide_eq_false g2, Bool.false_and]
theorem mx_keep {S : Nat → Nat → Nat} {N c t : Nat} (hL : ∀ m, m < 3 → mx_L N m (S m) (S (m + 1))) (ht : t < N) (hc : S 0 t = c) : ∀ l, l ≤ 3 → mx_q S N c l t < N ∧ S l (mx_q S N c l t) = c := by
  intro l
  induction l with
  | zero => intro _; exact ⟨ht, hc⟩
  | succ l ih =>
    intro hl
    obtain ⟨g1, g2⟩ := ih (by omega)
    have e : mx_q S N c (l + 1) t = mx_p N (fun i => db_t (S l i) l) (mx_q S N c l t) := by
      show mx_d N _ (db_t c l) _ = mx_d N _ (db_t (S l (mx_q S N c l t)) l) _
      rw [g2]
    rw [e]
    exact ⟨mx_plt g1, by rw [(hL l (by omega)).2 _ g1, g2]⟩
/-- the picture of the matrix -/
def mx_ok (lt : Nat → Nat) (N : Nat) (a8 : Nat → Int32) (R : Nat → Nat → Bool) (S : Nat → Nat → Nat) : Prop :=
  S 0 = lt ∧ (∀ m k, S m k < 8) ∧ (∀ m, m < 3 → mx_L N m (S m) (S (m + 1))) ∧ (∀ m, m < 3 → ∀ j, R (3 + m) j = (decide (j < N) && db_t (S m j) m)) ∧ ∀ m, m < 3 → a8 m = nI (mx_z N (fun i => db_t (S m i) m))
theorem mx_cn {N : Nat} {f d : Nat → Bool} (h : ∀ j, f j = (decide (j < N) && d j)) {i : Nat} (hi : i ≤ N) : cn_t f i = cn_t d i :=
  cn_ext (fun j hj => by rw [h j, decide_eq_true (by omega), Bool.true_and])
/-! packing -/
theorem mx_86 {post : St2 → Prop} {f2 f3 f4 f5 : Int32} {a1 a2 a3 a4 a5 a6 a7 a8 a9 a10 a11 a12 a13 a14 a15 a16 a17 a18 a19 a20 a21 a22 a23 a24 a25 a26 a27 : Nat → Int32} {N : Nat} (hN : N ≤ 200) (h4 : ∀ i, i < N → vp_nar .byte (a4 i) = a4 i)
    (K : ∀ a, (∀ i, i < N → a i = a4 i) → post ((nI N), f2, f3, f4, f5, a1, a2, a, a4, a5, a6, a7, a8, a9, a10, a11, a12, a13, a14, a15, a16, a17, a18, a19, a20, a21, a22, a23, a24, a25, a26, a27)) : ∃ fu, wX_partLevel_86 post (nI N) f2 f3 f4 f5 fu 0 a1 a2 a3 a4 a5 a6 a7 a8 a9 a10 a11 a12 a13 a14 a15 a16 a17 a18 a19 a20 a21 a22 a23 a24 a25 a26 a27 := by
  refine pk_loop (fun n i s => wX_partLevel_86 post (nI N) f2 f3 f4 f5 n (nI i) a1 a2 s a4 a5 a6 a7 a8 a9 a10 a11 a12 a13 a14 a15 a16 a17 a18 a19 a20 a21 a22 a23 a24 a25 a26 a27) (fun i s => ∀ j, j < i → s j = a4 j) N 0 a3 (Nat.zero_le N) (fun j hj => absurd hj (by omega)) ?_ ?_
  · intro n s hs
    exact pk_le N N (fun _ => K s hs) (fun z => absurd z (by omega))
  · intro n i s hi hs hW
    refine pk_le N i (fun z => absurd z (by omega)) (fun _ => ⟨pk_in i 200 (by omega), pk_in i 200 (by omega), nm_e (nm_r (nI_1 i) (hW _ ?_))⟩)
    intro j hj
    rw [nI_clamp (show i < 2 ^ 31 by omega)]
    by_cases e : j = i
    · rw [e, pk_us, h4 i hi]
    · rw [pk_un e, hs j (by omega)]
theorem sq_partLevel {post : St2 → Prop} {f2 f3 f4 f5 : Int32} {a1 a2 a3 a4 a5 a6 a7 a8 a9 a10 a11 a12 a13 a14 a15 a16 a17 a18 a19 a20 a21 a22 a23 a24 a25 a26 a27 : Nat → Int32} {N l : Nat} {s : Nat → Nat} {R0 : Nat → Nat → Bool} (hN : N ≤ 200) (hl : l < 3) (hs8 : ∀ i, s i < 8) (h3 : ∀ i, i < N → a3 i = nI (s i)) (hR : rb_ok a5 R0) (h0 : ∀ j, R0 (3 + l) j = false)
    (K : ∀ b3 b4 b5 s' R, mx_L N l s s' → (∀ i, i < N → b3 i = nI (s' i)) → rb_ok b5 R → (∀ j, R (3 + l) j = (decide (j < N) && db_t (s j) l)) → (∀ r, r ≠ 3 + l → ∀ j, R r j = R0 r j) → post ((nI N), f2, f3, f4, f5, a1, a2, b3, b4, b5, a6, a7, a8, a9, a10, a11, a12, a13, a14, a15, a16, a17, a18, a19, a20, a21, a22, a23, a24, a25, a26, a27)) :
    wpX_partLevel post ((nI N), f2, f3, f4, f5, a1, a2, a3, a4, a5, a6, a7, a8, a9, a10, a11, a12, a13, a14, a15, a16, a17, a18, a19, a20, a21, a22, a23, a24, a25, a26, a27) (nI l) (nI (mx_z N (fun i => db_t (s i) l))) := by
  have hz : mx_z N (fun i => db_t (s i) l) ≤ N := Nat.sub_le _ _
  have L := pk_loop (fun n i st => wX_partLevel_8 post (nI l) n (nI (i - cn_t (fun i => db_t (s i) l) i)) (nI (mx_z N (fun i => db_t (s i) l) + cn_t (fun i => db_t (s i) l) i)) (nI i) (nI N) f2 f3 f4 f5 a1 a2 a3 st.1 st.2 a6 a7 a8 a9 a10 a11 a12 a13 a14 a15 a16 a17 a18 a19 a20 a21 a22 a23 a24 a25 a26 a27)
    (fun i st => (∀ j, j < i → st.1 (mx_p N (fun i => db_t (s i) l) j) = nI (s j)) ∧ ∃ R, rb_ok st.2 R ∧ (∀ j, R (3 + l) j = (decide (j < i) && db_t (s j) l)) ∧ ∀ r, r ≠ 3 + l → ∀ j, R r j = R0 r j) N 0 (a4, a5) (Nat.zero_le N) ⟨fun j hj => absurd hj (by omega), R0, hR, fun j => by rw [h0 j, decide_eq_false (Nat.not_lt_zero j), Bool.false_and], fun r _ j => rfl⟩ ?_ ?_
  · obtain ⟨n, hn⟩ := L
    refine ⟨n, ?_⟩
    rw [cn_0, Nat.sub_zero, Nat.add_zero] at hn
    exact hn
  · intro n st hst
    obtain ⟨b4, b5⟩ := st
    obtain ⟨g1, R, g2, g3, g4⟩ := hst
    try dsimp only at g1 g2
    have val : ∀ k, k < N → ∃ j, j < N ∧ mx_p N (fun i => db_t (s i) l) j = k ∧ b4 k = nI (s j) := by
      intro k hk
      obtain ⟨j, q1, q2⟩ := mx_surj (d := fun i => db_t (s i) l) hk
      exact ⟨j, q1, q2, by rw [← q2]; exact g1 j q1⟩
    refine pk_le N N (fun _ => mx_86 hN (fun i hi => ?_) (fun b3 hb3 => ?_)) (fun z => absurd z (by omega))
    · obtain ⟨j, _, _, e⟩ := val i hi
      show vp_nar .byte (b4 i) = b4 i
      rw [e, sx_nb (by have := hs8 j; omega)]
    · have hb3 : ∀ i, i < N → b3 i = b4 i := hb3
      refine K b3 b4 b5 (fun k => if k < N then (b3 k).toNatClampNeg else 0) R ⟨fun k => ?_, fun j hj => ?_⟩ (fun i hi => ?_) g2 g3 g4
      · show (if k < N then (b3 k).toNatClampNeg else 0) < 8
        by_cases hk : k < N
        · obtain ⟨j, _, _, e⟩ := val k hk
          have := hs8 j
          rw [if_pos hk, hb3 k hk, e, nI_clamp (by omega)]
          exact this
        · rw [if_neg hk]; omega
      · have := hs8 j
        try dsimp only
        rw [if_pos (mx_plt hj), hb3 _ (mx_plt hj), g1 j hj, nI_clamp (by omega)]
      · obtain ⟨j, _, _, e⟩ := val i hi
        have := hs8 j
        show b3 i = nI (if i < N then (b3 i).toNatClampNeg else 0)
        rw [if_pos hi, hb3 i hi, e, nI_clamp (by omega)]
  · intro n i st hi hst hW
    obtain ⟨b4, b5⟩ := st
    obtain ⟨g1, R, g2, g3, g4⟩ := hst
    try dsimp only at g1 g2
    have hci := cn_le (fun i => db_t (s i) l) i
    refine pk_le N i (fun z => absurd z (by omega)) (fun _ => ⟨pk_in i 200 (by omega), ?_⟩)
    try dsimp only
    have ex : a3 (nI i).toNatClampNeg = nI (s i) := by rw [nI_clamp (show i < 2 ^ 31 by omega), h3 i hi]
    rw [ex]
    refine sq_digit (hs8 i) hl (sq_digitB (fun hd => ?_) (fun hd => ?_))
    · have hol := mx_olt (d := fun i => db_t (s i) l) hi hd
      have hmp : mx_p N (fun i => db_t (s i) l) i = mx_z N (fun i => db_t (s i) l) + cn_t (fun i => db_t (s i) l) i := by
        unfold mx_p mx_d
        try dsimp only
        rw [if_pos hd]
      rw [show (3 : Int32) + nI l = nI (3 + l) from nI_add 3 l]
      refine sq_setBit (by omega) (by omega) g2 (fun b hb => ?_)
      try dsimp only
      rw [ex, sx_nb (by have := hs8 i; omega)]
      refine ⟨pk_in i 200 (by omega), vp_in_nI (Nat.lt_of_lt_of_le hol hN) (by omega), nm_e (nm_r (nI_1 _) (nm_r (nI_1 i) ?_))⟩
      rw [nI_clamp (show mx_z N (fun i => db_t (s i) l) + cn_t (fun i => db_t (s i) l) i < 2 ^ 31 by omega), ← hmp]
      have W := hW (upd b4 (mx_p N (fun i => db_t (s i) l) i) (nI (s i)), b) ⟨fun j hj => ?_, _, hb, fun j => ?_, fun r hr j => ?_⟩
      · rw [cn_sT (f := fun i => db_t (s i) l) hd, show i + 1 - (cn_t (fun i => db_t (s i) l) i + 1) = i - cn_t (fun i => db_t (s i) l) i by omega, ← Nat.add_assoc, ← hmp] at W
        exact W
      · try dsimp only
        by_cases e : j = i
        · rw [e, pk_us]
        · rw [pk_un (mx_inj (by omega) hi), g1 j (by omega)]
      · rw [g3 j, decide_eq_true rfl, Bool.true_and]
        by_cases e : j = i
        · rw [e, decide_eq_true rfl, Bool.or_true, decide_eq_true (by omega), hd]; rfl
        · rw [decide_eq_false e, Bool.or_false]
          by_cases e2 : j < i
          · rw [decide_eq_true e2, decide_eq_true (by omega)]
          · rw [decide_eq_false e2, decide_eq_false (by omega)]
      · try dsimp only
        rw [decide_eq_false hr, Bool.false_and, Bool.or_false, g4 r hr j]
    · have hzl := mx_zlt (N := N) (d := fun i => db_t (s i) l) hi hd
      have hmp : mx_p N (fun i => db_t (s i) l) i = i - cn_t (fun i => db_t (s i) l) i := by
        unfold mx_p mx_d
        try dsimp only
        rw [if_neg (by rw [hd]; decide)]
      rw [sx_nb (by have := hs8 i; omega)]
      refine ⟨pk_in i 200 (by omega), vp_in_nI (by omega) (by omega), nm_e (nm_r (nI_1 _) (nm_r (nI_1 i) ?_))⟩
      rw [nI_clamp (show i - cn_t (fun i => db_t (s i) l) i < 2 ^ 31 by omega), ← hmp]
      have W := hW (upd b4 (mx_p N (fun i => db_t (s i) l) i) (nI (s i)), b5) ⟨fun j hj => ?_, R, g2, fun j => ?_, g4⟩
      · rw [cn_sF (f := fun i => db_t (s i) l) hd, show i + 1 - cn_t (fun i => db_t (s i) l) i = i - cn_t (fun i => db_t (s i) l) i + 1 by omega, ← hmp] at W
        exact W
      · try dsimp only
        by_cases e : j = i
        · rw [e, pk_us]
        · rw [pk_un (mx_inj (by omega) hi), g1 j (by omega)]
      · rw [g3 j]
        by_cases e : j = i
        · rw [e, hd, Bool.and_false, Bool.and_false]
        · by_cases e2 : j < i
          · rw [decide_eq_true e2, decide_eq_true (by omega)]
          · rw [decide_eq_false e2, decide_eq_false (by omega)]
theorem mx_39 {post : St2 → Prop} {J : _} {f2 f3 f4 f5 : Int32} {a1 a2 a3 a4 a5 a6 a7 a8 a9 a10 a11 a12 a13 a14 a15 a16 a17 a18 a19 a20 a21 a22 a23 a24 a25 a26 a27 : Nat → Int32} {N l : Nat} {s : Nat → Nat} {R0 : Nat → Nat → Bool} (hN : N ≤ 200) (hl : l < 3) (hs8 : ∀ i, s i < 8) (h3 : ∀ i, i < N → a3 i = nI (s i)) (hR : rb_ok a5 R0) (h0 : ∀ j, R0 (3 + l) j = false)
    (K : ∀ b3 b4 b5 s' R, mx_L N l s s' → (∀ i, i < N → b3 i = nI (s' i)) → rb_ok b5 R → (∀ j, R (3 + l) j = (decide (j < N) && db_t (s j) l)) → (∀ r, r ≠ 3 + l → ∀ j, R r j = R0 r j) → J (nI (l + 1)) (nI N) f2 f3 f4 f5 a1 a2 b3 b4 b5 a6 a7 (upd a8 l (nI (mx_z N (fun i => db_t (s i) l)))) a9 a10 a11 a12 a13 a14 a15 a16 a17 a18 a19 a20 a21 a22 a23 a24 a25 a26 a27) :
    ∃ fu, wX_packMatrix_39 post J (nI l) (nI N) f2 f3 f4 f5 a1 a2 a3 a4 a5 a6 a7 a8 a9 a10 a11 a12 a13 a14 a15 a16 a17 a18 a19 a20 a21 a22 a23 a24 a25 a26 a27 fu 0 0 := by
  have hz : mx_z N (fun i => db_t (s i) l) ≤ N := Nat.sub_le _ _
  refine pk_loop (σ := Unit) (fun n i _ => wX_packMatrix_39 post J (nI l) (nI N) f2 f3 f4 f5 a1 a2 a3 a4 a5 a6 a7 a8 a9 a10 a11 a12 a13 a14 a15 a16 a17 a18 a19 a20 a21 a22 a23 a24 a25 a26 a27 n (nI (i - cn_t (fun i => db_t (s i) l) i)) (nI i)) (fun _ _ => True) N 0 () (Nat.zero_le N) trivial ?_ ?_
  · intro n _ _
    refine pk_le N N (fun _ => ⟨pk_in l 3 hl, ?_⟩) (fun z => absurd z (by omega))
    have e : N - cn_t (fun i => db_t (s i) l) N = mx_z N (fun i => db_t (s i) l) := rfl
    rw [nI_clamp (show l < 2 ^ 31 by omega), e, sx_16 _ (by omega)]
    refine nm_e (sq_partLevel hN hl hs8 h3 hR h0 (fun b3 b4 b5 s' R q1 q2 q3 q4 q5 => ?_))
    exact nm_r (nI_1 l) (K b3 b4 b5 s' R q1 q2 q3 q4 q5)
  · intro n i _ hi _ hW
    have hci := cn_le (fun i => db_t (s i) l) i
    refine pk_le N i (fun z => absurd z (by omega)) (fun _ => ⟨pk_in i 200 (by omega), ?_⟩)
    rw [nI_clamp (show i < 2 ^ 31 by omega), h3 i hi]
    refine sq_digit (hs8 i) hl ?_
    have W := hW () trivial
    try dsimp only at W
    have h2 : dg_t (s i) l < 2 := Nat.mod_lt _ (by omega)
    cases hd : db_t (s i) l with
    | true =>
      have e := (dg_db _ _).mpr hd
      rw [cn_sT (f := fun i => db_t (s i) l) hd, show i + 1 - (cn_t (fun i => db_t (s i) l) i + 1) = i - cn_t (fun i => db_t (s i) l) i by omega] at W
      rw [e]
      exact br_f (by decide) (nm_r (nI_add _ 0) (nm_r (nI_1 i) W))
    | false =>
      have e : dg_t (s i) l = 0 := by
        have : ¬ dg_t (s i) l = 1 := fun z => by rw [(dg_db _ _).mp z] at hd; exact absurd hd (by decide)
        omega
      rw [cn_sF (f := fun i => db_t (s i) l) hd, show i + 1 - cn_t (fun i => db_t (s i) l) i = i - cn_t (fun i => db_t (s i) l) i + 1 by omega] at W
      rw [e]
      exact br_t rfl (nm_r (nI_1 _) (nm_r (nI_1 i) W))
theorem mx_30 {post : St2 → Prop} {f2 f3 f4 f5 : Int32} {a1 a2 a3 a4 a5 a6 a7 a8 a9 a10 a11 a12 a13 a14 a15 a16 a17 a18 a19 a20 a21 a22 a23 a24 a25 a26 a27 : Nat → Int32} {lt : Nat → Nat} {N : Nat} {R0 : Nat → Nat → Bool} (hl : ∀ i, lt i < 8) (hN : N ≤ 200) (h3 : ∀ i, i < N → a3 i = nI (lt i)) (hR : rb_ok a5 R0) (h0 : ∀ r, 3 ≤ r → ∀ j, R0 r j = false)
    (K : ∀ b3 b4 b5 b8 S R, rb_ok b5 R → mx_ok lt N b8 R S → (∀ r, r < 3 ∨ 6 ≤ r → ∀ j, R r j = R0 r j) → post ((nI N), f2, f3, f4, f5, a1, a2, b3, b4, b5, a6, a7, b8, a9, a10, a11, a12, a13, a14, a15, a16, a17, a18, a19, a20, a21, a22, a23, a24, a25, a26, a27)) :
    ∃ fu, wX_packMatrix_30 post fu 0 (nI N) f2 f3 f4 f5 a1 a2 a3 a4 a5 a6 a7 a8 a9 a10 a11 a12 a13 a14 a15 a16 a17 a18 a19 a20 a21 a22 a23 a24 a25 a26 a27 := by
  refine pk_loop (fun n l st => wX_packMatrix_30 post n (nI l) (nI N) f2 f3 f4 f5 a1 a2 st.1 st.2.1 st.2.2.1 a6 a7 st.2.2.2 a9 a10 a11 a12 a13 a14 a15 a16 a17 a18 a19 a20 a21 a22 a23 a24 a25 a26 a27)
    (fun l st => ∃ (S : Nat → Nat → Nat) (R : Nat → Nat → Bool), S 0 = lt ∧ (∀ m k, S m k < 8) ∧ (∀ m, m < l → mx_L N m (S m) (S (m + 1))) ∧ (∀ k, k < N → st.1 k = nI (S l k)) ∧ rb_ok st.2.2.1 R ∧ (∀ m, m < l → ∀ j, R (3 + m) j = (decide (j < N) && db_t (S m j) m)) ∧ (∀ r, r < 3 ∨ 3 + l ≤ r → ∀ j, R r j = R0 r j) ∧ ∀ m, m < l → st.2.2.2 m = nI (mx_z N (fun i => db_t (S m i) m)))
    3 0 (a3, a4, a5, a8) (by omega) ⟨fun _ => lt, R0, rfl, fun _ k => hl k, fun m h => absurd h (by omega), h3, hR, fun m h => absurd h (by omega), fun r _ j => rfl, fun m h => absurd h (by omega)⟩ ?_ ?_
  · intro n st hst
    obtain ⟨b3, b4, b5, b8⟩ := st
    obtain ⟨S, R, g0, g1, g2, g3, g4, g5, g6, g7⟩ := hst
    exact pk_le 3 3 (fun _ => K b3 b4 b5 b8 S R g4 ⟨g0, g1, g2, g5, g7⟩ g6) (fun z => absurd z (by omega))
  · intro n l st hl3 hst hW
    obtain ⟨b3, b4, b5, b8⟩ := st
    obtain ⟨S, R, g0, g1, g2, g3, g4, g5, g6, g7⟩ := hst
    try dsimp only at g3 g4 g7
    refine pk_le 3 l (fun z => absurd z (by omega)) (fun _ => ?_)
    refine mx_39 hN hl3 (g1 l) g3 g4 (fun j => by rw [g6 (3 + l) (by omega) j, h0 _ (by omega) j]) (fun c3 c4 c5 s' R' q1 q2 q3 q4 q5 => ?_)
    have e1 : ∀ m, m ≤ l → (fun m => if m ≤ l then S m else s') m = S m := fun m hm => if_pos hm
    have e2 : (fun m => if m ≤ l then S m else s') (l + 1) = s' := if_neg (by omega)
    refine hW (c3, c4, c5, upd b8 l (nI (mx_z N (fun i => db_t (S l i) l)))) ⟨fun m => if m ≤ l then S m else s', R', ?_, fun m k => ?_, fun m hm => ?_, ?_, q3, fun m hm j => ?_, fun r hr j => ?_, fun m hm => ?_⟩
    · rw [e1 0 (by omega)]; exact g0
    · try dsimp only
      by_cases h : m ≤ l
      · rw [if_pos h]; exact g1 m k
      · rw [if_neg h]; exact q1.1 k
    · by_cases h : m = l
      · rw [h, e1 l (by omega), e2]; exact q1
      · rw [e1 m (by omega), e1 (m + 1) (by omega)]; exact g2 m (by omega)
    · intro k hk
      try dsimp only at e2 ⊢
      rw [e2]; exact q2 k hk
    · try dsimp only
      rw [if_pos (show m ≤ l by omega)]
      by_cases h : m = l
      · rw [h]; exact q4 j
      · rw [q5 (3 + m) (by omega) j]; exact g5 m (by omega) j
    · rw [q5 r (by omega) j, g6 r (by omega) j]
    · try dsimp only
      rw [if_pos (show m ≤ l by omega)]
      by_cases h : m = l
      · rw [h, pk_us]
      · rw [pk_un h]; exact g7 m (by omega)
theorem sq_packMatrix {post : St2 → Prop} {f2 f3 f4 f5 : Int32} {a1 a2 a3 a4 a5 a6 a7 a8 a9 a10 a11 a12 a13 a14 a15 a16 a17 a18 a19 a20 a21 a22 a23 a24 a25 a26 a27 : Nat → Int32} {lt : Nat → Nat} {N : Nat} {R0 : Nat → Nat → Bool} (hl : ∀ i, lt i < 8) (hN : N ≤ 200) (h1 : ∀ i, i < N → a1 i = nI (lt i)) (hR : rb_ok a5 R0) (h0 : ∀ r, 3 ≤ r → ∀ j, R0 r j = false)
    (K : ∀ b3 b4 b5 b8 S R, rb_ok b5 R → mx_ok lt N b8 R S → (∀ r, r < 3 ∨ 6 ≤ r → ∀ j, R r j = R0 r j) → post ((nI N), f2, f3, f4, f5, a1, a2, b3, b4, b5, a6, a7, b8, a9, a10, a11, a12, a13, a14, a15, a16, a17, a18, a19, a20, a21, a22, a23, a24, a25, a26, a27)) :
    wpX_packMatrix post ((nI N), f2, f3, f4, f5, a1, a2, a3, a4, a5, a6, a7, a8, a9, a10, a11, a12, a13, a14, a15, a16, a17, a18, a19, a20, a21, a22, a23, a24, a25, a26, a27) := by
  refine pk_loop (fun n i s => wX_packMatrix_2 post (nI N) f2 f3 f4 f5 n (nI i) a1 a2 s a4 a5 a6 a7 a8 a9 a10 a11 a12 a13 a14 a15 a16 a17 a18 a19 a20 a21 a22 a23 a24 a25 a26 a27) (fun i s => ∀ j, j < i → s j = nI (lt j)) N 0 a3 (Nat.zero_le N) (fun j hj => absurd hj (by omega)) ?_ ?_
  · intro n s hs
    exact pk_le N N (fun _ => mx_30 hl hN hs hR h0 K) (fun z => absurd z (by omega))
  · intro n i s hi hs hW
    refine pk_le N i (fun z => absurd z (by omega)) (fun _ => ⟨pk_in i 200 (by omega), pk_in i 200 (by omega), nm_e (nm_r (nI_1 i) (hW _ ?_))⟩)
    intro j hj
    rw [nI_clamp (show i < 2 ^ 31 by omega), h1 i hi, sx_nb (by have := hl i; omega)]
    by_cases e : j = i
    · rw [e, pk_us]
    · rw [pk_un e, hs j (by omega)]
end
section
/-! part 5: the matrix of levels: answers -/
theorem sq_down {post : Int32 → Prop} {f1 f2 f3 f4 f5 : Int32} {a1 a2 a3 a4 a5 a6 a7 a8 a9 a10 a11 a12 a13 a14 a15 a16 a17 a18 a19 a20 a21 a22 a23 a24 a25 a26 a27 : Nat → Int32} {lt : Nat → Nat} {S : Nat → Nat → Nat} {R : Nat → Nat → Bool} {N l i : Nat} (o : Bool) (hN : N ≤ 200) (hR : sq_Rows a5 a6 a7 R) (hM : mx_ok lt N a8 R S) (hl : l < 3) (hi : i ≤ N)
    (hp : post (nI (mx_d N (fun i => db_t (S l i) l) o i))) : wpX_downInMatrix post (f1, f2, f3, f4, f5, a1, a2, a3, a4, a5, a6, a7, a8, a9, a10, a11, a12, a13, a14, a15, a16, a17, a18, a19, a20, a21, a22, a23, a24, a25, a26, a27) (nI l) (nI i) (nI o.toNat) := by
  obtain ⟨_, _, _, h4, h5⟩ := hM
  unfold wpX_downInMatrix
  rw [show (3 : Int32) + nI l = nI (3 + l) from nI_add 3 l]
  refine sq_onesBefore hR (by omega) (by omega) ?_
  rw [mx_cn (h4 l hl) hi]
  cases o with
  | true =>
    refine br_f (by decide) ⟨pk_in l 3 hl, ?_⟩
    rw [nI_clamp (show l < 2 ^ 31 by omega), h5 l hl, nI_add]
    exact hp
  | false =>
    refine br_t rfl ?_
    rw [pk_sub (cn_le _ _)]
    exact hp
theorem sq_rankInMatrix {post : Int32 → Prop} {f1 f2 f3 f4 f5 : Int32} {a1 a2 a3 a4 a5 a6 a7 a8 a9 a10 a11 a12 a13 a14 a15 a16 a17 a18 a19 a20 a21 a22 a23 a24 a25 a26 a27 : Nat → Int32} {lt : Nat → Nat} {S : Nat → Nat → Nat} {R : Nat → Nat → Bool} {N c place : Nat} (hN : N ≤ 200) (hR : sq_Rows a5 a6 a7 R) (hM : mx_ok lt N a8 R S) (hc : c < 8) (hp : place ≤ N)
    (h : post (nI (ct_t lt c place))) : wpX_rankInMatrix post (f1, f2, f3, f4, f5, a1, a2, a3, a4, a5, a6, a7, a8, a9, a10, a11, a12, a13, a14, a15, a16, a17, a18, a19, a20, a21, a22, a23, a24, a25, a26, a27) (nI c) (nI place) := by
  have hM' := hM
  obtain ⟨m0, m1, m2, _, _⟩ := hM'
  have main : ∀ k l, l + k = 3 → wX_rankInMatrix_8 post (nI c) f1 f2 f3 f4 f5 a1 a2 a3 a4 a5 a6 a7 a8 a9 a10 a11 a12 a13 a14 a15 a16 a17 a18 a19 a20 a21 a22 a23 a24 a25 a26 a27 (k + 1) (nI (mx_q S N c l 0)) (nI (mx_q S N c l place)) (nI l) := by
    intro k
    induction k with
    | zero =>
      intro l e
      rw [show l = 3 by omega]
      refine pk_le 3 3 (fun _ => ?_) (fun z => absurd z (by omega))
      have e1 := mx_len m1 m2 hc (Nat.le_refl 3) hp
      rw [pk_sub (by omega), e1, Nat.add_sub_cancel_left, (tr_end (S 0) c place).1, m0]
      exact h
    | succ k ih =>
      intro l e
      have hl3 : l < 3 := by omega
      refine pk_le 3 l (fun z => absurd z (by omega)) (fun _ => sq_digit hc hl3 (sq_digitB (fun hd => ?_) (fun hd => ?_)))
      · refine sq_down true hN hR hM hl3 (mx_qle S c l (Nat.zero_le N)) (sq_down true hN hR hM hl3 (mx_qle S c l hp) (nm_r (nI_1 l) ?_))
        have g := ih (l + 1) (by omega)
        unfold mx_q at g
        rw [hd] at g
        exact g
      · refine sq_down false hN hR hM hl3 (mx_qle S c l (Nat.zero_le N)) (sq_down false hN hR hM hl3 (mx_qle S c l hp) (nm_r (nI_1 l) ?_))
        have g := ih (l + 1) (by omega)
        unfold mx_q at g
        rw [hd] at g
        exact g
  exact ⟨4, main 3 0 rfl⟩
def mg_t (f : Nat → Bool) (o : Bool) (i : Nat) : Nat := if o then cn_t f i else i - cn_t f i
theorem mg_eq (f : Nat → Bool) (o : Bool) (i : Nat) : mg_t f o i = cn_t (fun j => f j == o) i := by
  cases o with
  | true =>
    show cn_t f i = _
    exact cn_ext (fun j _ => by rw [sy_bt])
  | false =>
    show i - cn_t f i = _
    rw [mx_zc]
    exact cn_ext (fun j _ => by rw [sy_bf])
theorem sq_selectInMatrix {post : Int32 → Prop} {f2 f3 f4 f5 : Int32} {a1 a2 a3 a4 a5 a6 a7 a8 a9 a10 a11 a12 a13 a14 a15 a16 a17 a18 a19 a20 a21 a22 a23 a24 a25 a26 a27 : Nat → Int32} {lt : Nat → Nat} {S : Nat → Nat → Nat} {R : Nat → Nat → Bool} {N c t : Nat} (hN : N ≤ 200) (hR : sq_Rows a5 a6 a7 R) (hM : mx_ok lt N a8 R S) (hc : c < 8) (ht : t < N) (hlt : lt t = c)
    (h : post (nI t)) : wpX_selectInMatrix post ((nI N), f2, f3, f4, f5, a1, a2, a3, a4, a5, a6, a7, a8, a9, a10, a11, a12, a13, a14, a15, a16, a17, a18, a19, a20, a21, a22, a23, a24, a25, a26, a27) (nI c) (nI (ct_t lt c t)) := by
  have hM' := hM
  obtain ⟨m0, m1, m2, m3, m4⟩ := hM'
  have hk := mx_keep (S := S) (c := c) m2 ht (by rw [m0]; exact hlt)
  have hct : ct_t lt c t ≤ t := cn_le _ _
  have step : ∀ l fu, l < 3 → wX_selectInMatrix_51 post (nI c) (nI N) f2 f3 f4 f5 a1 a2 a3 a4 a5 a6 a7 a8 a9 a10 a11 a12 a13 a14 a15 a16 a17 a18 a19 a20 a21 a22 a23 a24 a25 a26 a27 fu (nI (mx_q S N c l t)) (nI l + (-1)) → wX_selectInMatrix_51 post (nI c) (nI N) f2 f3 f4 f5 a1 a2 a3 a4 a5 a6 a7 a8 a9 a10 a11 a12 a13 a14 a15 a16 a17 a18 a19 a20 a21 a22 a23 a24 a25 a26 a27 (fu + 1) (nI (mx_q S N c (l + 1) t)) (nI l) := by
    intro l fu hl W
    obtain ⟨k1, k2⟩ := hk l (by omega)
    have hcn := cn_le (R (3 + l)) (mx_q S N c l t)
    have P : ∀ o, db_t c l = o → wpX_placeOfBit (fun r => ∀ x, x = nI l + (-1) → wX_selectInMatrix_51 post (nI c) (nI N) f2 f3 f4 f5 a1 a2 a3 a4 a5 a6 a7 a8 a9 a10 a11 a12 a13 a14 a15 a16 a17 a18 a19 a20 a21 a22 a23 a24 a25 a26 a27 fu r x) ((nI N), f2, f3, f4, f5, a1, a2, a3, a4, a5, a6, a7, a8, a9, a10, a11, a12, a13, a14, a15, a16, a17, a18, a19, a20, a21, a22, a23, a24, a25, a26, a27) (nI (3 + l)) (nI o.toNat) (nI (mg_t (R (3 + l)) o (mx_q S N c l t))) := by
      intro o ho
      have hb : mg_t (R (3 + l)) o (mx_q S N c l t) ≤ mx_q S N c l t := by rw [mg_eq]; exact cn_le _ _
      refine sq_pob (g := mg_t (R (3 + l)) o) hR (by omega) hN (by omega) (fun e i _ => by rw [e]; rfl) (fun e i _ => by rw [e]; rfl) (Nat.le_of_lt k1) (fun i hi => ?_) (fun i g1 g2 => ?_) (nm_e W)
      · rw [mg_eq, mg_eq]
        exact cn_mono _ hi
      · rw [mg_eq, mg_eq]
        refine cn_lt ?_ g1
        rw [m3 l hl, decide_eq_true k1, Bool.true_and, k2, ho]
        cases o <;> rfl
    have ecn : cn_t (R (3 + l)) (mx_q S N c l t) = cn_t (fun i => db_t (S l i) l) (mx_q S N c l t) := mx_cn (m3 l hl) (by omega)
    refine pk_lt l 0 (fun z => absurd z (by omega)) (fun _ => sq_digit hc hl (sq_digitB (fun hd => ?_) (fun hd => ?_)))
    · refine br_f (by decide) ⟨pk_in l 3 hl, ?_⟩
      unfold wX_selectInMatrix_98 mx_q
      rw [nI_clamp (show l < 2 ^ 31 by omega), m4 l hl, show (3 : Int32) + nI l = nI (3 + l) from nI_add 3 l, hd]
      unfold mx_d
      rw [if_pos rfl, pk_sub (Nat.le_add_right _ _), Nat.add_sub_cancel_left, ← ecn]
      exact P true hd
    · refine br_t rfl ?_
      unfold wX_selectInMatrix_98 mx_q
      rw [show (3 : Int32) + nI l = nI (3 + l) from nI_add 3 l, hd]
      unfold mx_d
      rw [if_neg (by decide), ← ecn]
      exact P false hd
  have up0 : wX_selectInMatrix_51 post (nI c) (nI N) f2 f3 f4 f5 a1 a2 a3 a4 a5 a6 a7 a8 a9 a10 a11 a12 a13 a14 a15 a16 a17 a18 a19 a20 a21 a22 a23 a24 a25 a26 a27 1 (nI (mx_q S N c 0 t)) (nI 0 + (-1)) := br_t (by decide) h
  have up : wX_selectInMatrix_51 post (nI c) (nI N) f2 f3 f4 f5 a1 a2 a3 a4 a5 a6 a7 a8 a9 a10 a11 a12 a13 a14 a15 a16 a17 a18 a19 a20 a21 a22 a23 a24 a25 a26 a27 4 (nI (mx_q S N c 3 t)) (nI 2) := step 2 3 (by omega) (step 1 2 (by omega) (step 0 1 (by omega) up0))
  have down : ∀ k l, l + k = 3 → wX_selectInMatrix_5 post (nI c) (nI (ct_t lt c t)) (nI N) f2 f3 f4 f5 a1 a2 a3 a4 a5 a6 a7 a8 a9 a10 a11 a12 a13 a14 a15 a16 a17 a18 a19 a20 a21 a22 a23 a24 a25 a26 a27 (k + 1) (nI (mx_q S N c l 0)) (nI l) := by
    intro k
    induction k with
    | zero =>
      intro l e
      rw [show l = 3 by omega]
      refine pk_le 3 3 (fun _ => ?_) (fun z => absurd z (by omega))
      have e1 := mx_len m1 m2 hc (Nat.le_refl 3) (show t ≤ N by omega)
      refine nm_r (e' := nI (mx_q S N c 3 t)) ?_ ⟨4, up⟩
      rw [nI_add, e1, (tr_end (S 0) c t).1, m0]
    | succ k ih =>
      intro l e
      have hl3 : l < 3 := by omega
      refine pk_le 3 l (fun z => absurd z (by omega)) (fun _ => sq_digit hc hl3 (sq_digitB (fun hd => ?_) (fun hd => ?_)))
      · refine sq_down true hN hR hM hl3 (mx_qle S c l (Nat.zero_le N)) (nm_r (nI_1 l) ?_)
        have g := ih (l + 1) (by omega)
        unfold mx_q at g
        rw [hd] at g
        exact g
      · refine sq_down false hN hR hM hl3 (mx_qle S c l (Nat.zero_le N)) (nm_r (nI_1 l) ?_)
        have g := ih (l + 1) (by omega)
        unfold mx_q at g
        rw [hd] at g
        exact g
  exact ⟨4, down 3 0 rfl⟩
theorem cn_imp {f g : Nat → Bool} {k : Nat} (h : ∀ j, j < k → f j = true → g j = true) : cn_t f k ≤ cn_t g k := by
  induction k with
  | zero => exact Nat.le_refl 0
  | succ k ih =>
    have h1 := ih (fun j hj => h j (by omega))
    cases hf : f k with
    | true => rw [cn_sT hf, cn_sT (h k (by omega) hf)]; omega
    | false => rw [cn_sF hf, cn_s]; omega
/-- the letter number k in order -/
theorem sq_orderedInMatrix {post : Int32 → Prop} {f1 f2 f3 f4 f5 : Int32} {a1 a2 a3 a4 a5 a6 a7 a8 a9 a10 a11 a12 a13 a14 a15 a16 a17 a18 a19 a20 a21 a22 a23 a24 a25 a26 a27 : Nat → Int32} {lt : Nat → Nat} {S : Nat → Nat → Nat} {R : Nat → Nat → Bool} {N c k : Nat} (hN : N ≤ 200) (hR : sq_Rows a5 a6 a7 R) (hM : mx_ok lt N a8 R S) (hc : c < 8) (h1 : cl_t lt c N ≤ k) (h2 : k < cl_t lt (c + 1) N)
    (h : post (nI c)) : wpX_orderedInMatrix post (f1, f2, f3, f4, f5, a1, a2, a3, a4, a5, a6, a7, a8, a9, a10, a11, a12, a13, a14, a15, a16, a17, a18, a19, a20, a21, a22, a23, a24, a25, a26, a27) 0 (nI N) (nI k) := by
  have hM' := hM
  obtain ⟨m0, m1, m2, m3, m4⟩ := hM'
  have hkN : k < N := Nat.lt_of_lt_of_le h2 (cn_le _ _)
  have main : ∀ j l, l + j = 3 → wX_orderedInMatrix_15 post f1 f2 f3 f4 f5 a1 a2 a3 a4 a5 a6 a7 a8 a9 a10 a11 a12 a13 a14 a15 a16 a17 a18 a19 a20 a21 a22 a23 a24 a25 a26 a27 (j + 1) (nI (pf_t c l)) (nI (mx_q S N c l 0)) (nI (mx_q S N c l N)) (nI (k - tr_l lt l (pf_t c l) N)) (nI l) := by
    intro j
    induction j with
    | zero =>
      intro l e
      rw [show l = 3 by omega]
      refine pk_le 3 3 (fun _ => ?_) (fun z => absurd z (by omega))
      rw [show pf_t c 3 = c from Nat.div_one c]
      exact h
    | succ j ih =>
      intro l e
      have hl3 : l < 3 := by omega
      have q0 := mx_qle S c l (Nat.zero_le N)
      have qN := mx_qle S c l (Nat.le_refl N)
      have ez := mx_zeros m1 m2 hc hl3 (Nat.le_refl N)
      rw [m0] at ez
      have hlt8 : ∀ i, lt i < 8 := by rw [← m0]; exact m1 0
      obtain ⟨n1, n2, _, _, _⟩ := tr_next (N := N) (lt := lt) hlt8 hl3 hc
      have hd0 := mx_dle (fun i => db_t (S l i) l) false q0
      have hdN := mx_dle (fun i => db_t (S l i) l) false qN
      have u1 := (tr_up hlt8 hl3 (pf_t c l) N).1
      have u2 := tr_l_nx lt (l + 1) (2 * pf_t c l) N
      have g := ih (l + 1) (by omega)
      unfold mx_q at g
      refine pk_le 3 l (fun z => absurd z (by omega)) (fun _ => sq_down false hN hR hM hl3 q0 (sq_down false hN hR hM hl3 qN ?_))
      rw [ez, pk_sub (by omega), Nat.add_sub_cancel_left]
      have kP : tr_l lt l (pf_t c l) N ≤ k := by
        refine Nat.le_trans ?_ h1
        refine cn_imp (fun x _ hx => decide_eq_true ?_)
        have hx' := of_decide_eq_true hx
        rcases Nat.lt_or_ge (lt x) c with z | z
        · exact z
        · have : pf_t c l ≤ pf_t (lt x) l := Nat.div_le_div_right z
          omega
      cases hd : db_t c l with
      | true =>
        have k1 : tr_l lt (l + 1) (2 * pf_t c l + 1) N ≤ k := by
          refine Nat.le_trans ?_ h1
          rw [← n1 hd]
          refine cn_imp (fun x _ hx => decide_eq_true ?_)
          have hx' := of_decide_eq_true hx
          rcases Nat.lt_or_ge (lt x) c with z | z
          · exact z
          · have : pf_t c (l + 1) ≤ pf_t (lt x) (l + 1) := Nat.div_le_div_right z
            omega
        rw [n1 hd, hd] at g
        refine sy_lt (fun z => absurd z (by omega)) (fun _ => ?_)
        refine br_f (by decide) (nm_r (e' := nI (k - tr_l lt (l + 1) (2 * pf_t c l + 1) N)) ?_ (br_f (by decide) (nm_r (e' := nI (2 * pf_t c l + 1)) ?_ (br_f (by decide) (sq_down true hN hR hM hl3 q0 (br_f (by decide) (sq_down true hN hR hM hl3 qN (nm_r (nI_1 l) g))))))))
        · rw [pk_sub (by omega), Nat.add_sub_cancel_left, pk_sub (by omega)]
          congr 1
          omega
        · rw [show (2 : Int32) * nI (pf_t c l) = nI (2 * pf_t c l) from pk_mul 2 _, nI_1]
      | false =>
        have k0 : k < tr_l lt (l + 1) (2 * pf_t c l + 1) N := by
          refine Nat.lt_of_lt_of_le h2 (cn_imp (fun x _ hx => decide_eq_true ?_))
          have hx' := of_decide_eq_true hx
          rw [← n2 hd]
          have : pf_t (lt x) (l + 1) ≤ pf_t c (l + 1) := Nat.div_le_div_right (by omega)
          omega
        rw [n2 hd, hd, ez, ← u1] at g
        refine sy_lt (fun _ => ?_) (fun z => absurd z (by omega))
        refine br_t rfl (nm_r (pk_sub (b := 0) (Nat.zero_le _)) (br_t rfl (nm_r (e' := nI (2 * pf_t c l)) ?_ (br_t rfl (br_t rfl (nm_r (nI_1 l) g))))))
        rw [show (2 : Int32) * nI (pf_t c l) = nI (2 * pf_t c l) from pk_mul 2 _]
        exact nI_add _ 0
  have g := main 3 0 rfl
  have t0 : tr_l lt 0 (pf_t c 0) N = 0 := (tr_top (lt := lt) (by rw [← m0]; exact m1 0) hc N N).2.2.2
  rw [t0, pf_00 c hc] at g
  exact ⟨4, g⟩
end
section
/-! part 6: maps and codes -/
def mp_ok (lt : Nat → Nat) (N : Nat) (R : Nat → Nat → Bool) : Prop := ∀ c, c < 8 → ∀ j, R (6 + c) j = (decide (j < N) && decide (lt j = c))
theorem sx_lts (j i : Nat) (b : Bool) (hb : j = i → b = true) : (decide (j < i) && b || decide (j = i)) = (decide (j < i + 1) && b) := by
  by_cases e : j = i
  · rw [decide_eq_true e, Bool.or_true, decide_eq_true (show j < i + 1 by omega), hb e]; rfl
  · rw [decide_eq_false e, Bool.or_false]
    by_cases e2 : j < i
    · rw [decide_eq_true e2, decide_eq_true (show j < i + 1 by omega)]
    · rw [decide_eq_false e2, decide_eq_false (show ¬ j < i + 1 by omega)]
theorem sx_ltn (j i : Nat) (b : Bool) (hb : j = i → b = false) : (decide (j < i) && b) = (decide (j < i + 1) && b) := by
  by_cases e : j = i
  · rw [hb e, Bool.and_false, Bool.and_false]
  · by_cases e2 : j < i
    · rw [decide_eq_true e2, decide_eq_true (show j < i + 1 by omega)]
    · rw [decide_eq_false e2, decide_eq_false (show ¬ j < i + 1 by omega)]
theorem sq_packMaps {post : St2 → Prop} {f2 f3 f4 f5 : Int32} {a1 a2 a3 a4 a5 a6 a7 a8 a9 a10 a11 a12 a13 a14 a15 a16 a17 a18 a19 a20 a21 a22 a23 a24 a25 a26 a27 : Nat → Int32} {lt : Nat → Nat} {N : Nat} {R0 : Nat → Nat → Bool} (hl : ∀ i, lt i < 8) (hN : N ≤ 200) (h1 : ∀ i, i < N → a1 i = nI (lt i)) (hR : rb_ok a5 R0) (h0 : ∀ r, 6 ≤ r → ∀ j, R0 r j = false)
    (K : ∀ b5 R, rb_ok b5 R → mp_ok lt N R → (∀ r, r < 6 ∨ 14 ≤ r → ∀ j, R r j = R0 r j) → post ((nI N), f2, f3, f4, f5, a1, a2, a3, a4, b5, a6, a7, a8, a9, a10, a11, a12, a13, a14, a15, a16, a17, a18, a19, a20, a21, a22, a23, a24, a25, a26, a27)) :
    wpX_packMaps post ((nI N), f2, f3, f4, f5, a1, a2, a3, a4, a5, a6, a7, a8, a9, a10, a11, a12, a13, a14, a15, a16, a17, a18, a19, a20, a21, a22, a23, a24, a25, a26, a27) := by
  refine pk_loop (fun n i s => wX_packMaps_2 post n (nI i) (nI N) f2 f3 f4 f5 a1 a2 a3 a4 s a6 a7 a8 a9 a10 a11 a12 a13 a14 a15 a16 a17 a18 a19 a20 a21 a22 a23 a24 a25 a26 a27)
    (fun i s => ∃ R, rb_ok s R ∧ (∀ c, c < 8 → ∀ j, R (6 + c) j = (decide (j < i) && decide (lt j = c))) ∧ ∀ r, r < 6 ∨ 14 ≤ r → ∀ j, R r j = R0 r j) N 0 a5 (Nat.zero_le N) ⟨R0, hR, fun c _ j => by rw [h0 _ (by omega), decide_eq_false (Nat.not_lt_zero j), Bool.false_and], fun r _ j => rfl⟩ ?_ ?_
  · intro n s hs
    obtain ⟨R, g1, g2, g3⟩ := hs
    exact pk_le N N (fun _ => K s R g1 g2 g3) (fun z => absurd z (by omega))
  · intro n i s hi hs hW
    obtain ⟨R, g1, g2, g3⟩ := hs
    have h8 := hl i
    refine pk_le N i (fun z => absurd z (by omega)) (fun _ => ⟨pk_in i 200 (by omega), ?_⟩)
    rw [nI_clamp (show i < 2 ^ 31 by omega), h1 i hi, show (6 : Int32) + nI (lt i) = nI (6 + lt i) from nI_add 6 _]
    refine sq_setBit (by omega) (by omega) g1 (fun b hb => ?_)
    refine nm_r (nI_1 i) (hW b ⟨_, hb, fun c hc j => ?_, fun r hr j => ?_⟩)
    · try dsimp only
      rw [g2 c hc j]
      by_cases e : lt i = c
      · rw [decide_eq_true (show 6 + c = 6 + lt i by omega), Bool.true_and]
        exact sx_lts j i _ (fun z => decide_eq_true (by rw [z]; exact e))
      · rw [decide_eq_false (show ¬ 6 + c = 6 + lt i by omega), Bool.false_and, Bool.or_false]
        exact sx_ltn j i _ (fun z => decide_eq_false (by rw [z]; exact e))
    · try dsimp only
      rw [decide_eq_false (show ¬ r = 6 + lt i by omega), Bool.false_and, Bool.or_false, g3 r hr j]
/-! rarest -/
theorem ra_some {post : Int32 → Prop} {f1 f2 f3 f5 : Int32} {a1 a2 a3 a4 a5 a6 a7 a8 a9 a10 a11 a12 a13 a14 a15 a16 a17 a18 a19 a20 a21 a22 a23 a24 a25 a26 a27 : Nat → Int32} {m t : Nat} {w jn : Nat → Nat} (hm : m ≤ 8) (hw : ∀ x, x < 8 + m → a24 x = nI (w x) ∧ w x < 2 ^ 15) (hj : ∀ x, x < 8 + m → a25 x = nI (jn x) ∧ jn x < 2)
    (ht : t < 8 + m) (ht0 : jn t = 0) (htw : 0 < w t) (h1 : ∀ x, x < t → jn x = 0 → 0 < w x → w t < w x) (h2 : ∀ x, t < x → x < 8 + m → jn x = 0 → 0 < w x → w t ≤ w x)
    (hp : post (nI t)) : wpX_rarest post (f1, f2, f3, (nI m), f5, a1, a2, a3, a4, a5, a6, a7, a8, a9, a10, a11, a12, a13, a14, a15, a16, a17, a18, a19, a20, a21, a22, a23, a24, a25, a26, a27) := by
  refine pk_loop (fun n x b => wX_rarest_4 post f1 f2 f3 (nI m) f5 a1 a2 a3 a4 a5 a6 a7 a8 a9 a10 a11 a12 a13 a14 a15 a16 a17 a18 a19 a20 a21 a22 a23 a24 a25 a26 a27 n b (nI x))
    (fun x b => (x ≤ t ∧ (b = -1 ∨ ∃ y, y < x ∧ b = nI y ∧ jn y = 0 ∧ 0 < w y)) ∨ (t < x ∧ b = nI t)) (8 + m) 0 (-1) (Nat.zero_le _) (Or.inl ⟨Nat.zero_le t, Or.inl rfl⟩) ?_ ?_
  · intro n b hb
    rcases hb with hb | hb
    · exact absurd hb.1 (by omega)
    · refine br_t ?_ ?_
      · rw [show (8 : Int32) + nI m = nI (8 + m) from nI_add 8 m]
        exact nI_le (Nat.le_refl _) (by omega)
      · rw [hb.2]; exact hp
  · intro n x b hx hb hW
    obtain ⟨w1, w2⟩ := hw x hx
    obtain ⟨j1, j2⟩ := hj x hx
    refine br_f ?_ ⟨pk_in x 16 (by omega), ?_⟩
    · rw [show (8 : Int32) + nI m = nI (8 + m) from nI_add 8 m]
      exact nI_ge hx (by omega)
    · rw [nI_clamp (show x < 2 ^ 31 by omega), j1, w1]
      have skip : ¬ (jn x = 0 ∧ 0 < w x) → wX_rarest_4 post f1 f2 f3 (nI m) f5 a1 a2 a3 a4 a5 a6 a7 a8 a9 a10 a11 a12 a13 a14 a15 a16 a17 a18 a19 a20 a21 a22 a23 a24 a25 a26 a27 n b (nI (x + 1)) := by
        intro hf
        refine hW b ?_
        rcases hb with ⟨q1, q2⟩ | ⟨q1, q2⟩
        · have hne : x ≠ t := fun z => hf (by rw [z]; exact ⟨ht0, htw⟩)
          refine Or.inl ⟨by omega, ?_⟩
          rcases q2 with q2 | ⟨y, y1, y2⟩
          · exact Or.inl q2
          · exact Or.inr ⟨y, by omega, y2⟩
        · exact Or.inr ⟨by omega, q2⟩
      refine pk_eq (jn x) 0 (fun e0 => ⟨pk_in x 16 (by omega), ?_⟩) (fun e0 => br_t rfl (nm_r (nI_1 x) (skip (fun z => e0 z.1))))
      refine pk_le (w x) 0 (fun e1 => br_t rfl (nm_r (nI_1 x) (skip (fun z => absurd z.2 (by omega))))) (fun e1 => ?_)
      have take : x ≤ t → wX_rarest_4 post f1 f2 f3 (nI m) f5 a1 a2 a3 a4 a5 a6 a7 a8 a9 a10 a11 a12 a13 a14 a15 a16 a17 a18 a19 a20 a21 a22 a23 a24 a25 a26 a27 n (nI x) (nI (x + 1)) := by
        intro hxt
        refine hW (nI x) ?_
        by_cases e : x = t
        · exact Or.inr ⟨by omega, by rw [e]⟩
        · exact Or.inl ⟨by omega, Or.inr ⟨x, by omega, rfl, e0, e1⟩⟩
      refine br_f (by decide) ?_
      rcases hb with ⟨q1, q2⟩ | ⟨q1, q2⟩
      · rcases q2 with q2 | ⟨y, y1, y2, y3, y4⟩
        · rw [q2]
          exact br_t (by decide) (nm_r (nI_1 x) (take q1))
        · obtain ⟨w3, w4⟩ := hw y (by omega)
          have hlt := h1 y (by omega) y3 y4
          rw [y2, nI_clamp (show y < 2 ^ 31 by omega), w3, nI_clamp (show x < 2 ^ 31 by omega), w1]
          refine br_f (nI_pos (by omega)) ⟨pk_in x 16 (by omega), pk_in y 16 (by omega), ?_⟩
          refine pk_le (w y) (w x) (fun e3 => nm_r (nI_1 x) ?_) (fun e3 => nm_r (nI_1 x) (take q1))
          refine hW (nI y) (Or.inl ⟨?_, Or.inr ⟨y, by omega, rfl, y3, y4⟩⟩)
          rcases Nat.lt_or_ge x t with z | z
          · exact z
          · have hxt : x = t := by omega
            rw [hxt] at e3
            omega
      · obtain ⟨w3, w4⟩ := hw t ht
        have hle := h2 x q1 hx e0 e1
        rw [q2, nI_clamp (show t < 2 ^ 31 by omega), w3, nI_clamp (show x < 2 ^ 31 by omega), w1]
        refine br_f (nI_pos (by omega)) ⟨pk_in x 16 (by omega), pk_in t 16 (by omega), ?_⟩
        exact pk_le (w t) (w x) (fun e3 => nm_r (nI_1 x) (hW (nI t) (Or.inr ⟨by omega, rfl⟩))) (fun e3 => absurd hle (by omega))
theorem ra_none {post : Int32 → Prop} {f1 f2 f3 f5 : Int32} {a1 a2 a3 a4 a5 a6 a7 a8 a9 a10 a11 a12 a13 a14 a15 a16 a17 a18 a19 a20 a21 a22 a23 a24 a25 a26 a27 : Nat → Int32} {m : Nat} {w jn : Nat → Nat} (hm : m ≤ 8) (hw : ∀ x, x < 8 + m → a24 x = nI (w x) ∧ w x < 2 ^ 15) (hj : ∀ x, x < 8 + m → a25 x = nI (jn x) ∧ jn x < 2)
    (h : ∀ x, x < 8 + m → jn x = 0 → w x = 0) (hp : post (-1)) : wpX_rarest post (f1, f2, f3, (nI m), f5, a1, a2, a3, a4, a5, a6, a7, a8, a9, a10, a11, a12, a13, a14, a15, a16, a17, a18, a19, a20, a21, a22, a23, a24, a25, a26, a27) := by
  refine pk_loop (σ := Unit) (fun n x _ => wX_rarest_4 post f1 f2 f3 (nI m) f5 a1 a2 a3 a4 a5 a6 a7 a8 a9 a10 a11 a12 a13 a14 a15 a16 a17 a18 a19 a20 a21 a22 a23 a24 a25 a26 a27 n (-1) (nI x)) (fun _ _ => True) (8 + m) 0 () (Nat.zero_le _) trivial ?_ ?_
  · intro n _ _
    refine br_t ?_ hp
    rw [show (8 : Int32) + nI m = nI (8 + m) from nI_add 8 m]
    exact nI_le (Nat.le_refl _) (by omega)
  · intro n x _ hx _ hW
    obtain ⟨w1, w2⟩ := hw x hx
    obtain ⟨j1, j2⟩ := hj x hx
    refine br_f ?_ ⟨pk_in x 16 (by omega), ?_⟩
    · rw [show (8 : Int32) + nI m = nI (8 + m) from nI_add 8 m]
      exact nI_ge hx (by omega)
    · rw [nI_clamp (show x < 2 ^ 31 by omega), j1, w1]
      refine pk_eq (jn x) 0 (fun e0 => ⟨pk_in x 16 (by omega), ?_⟩) (fun e0 => br_t rfl (nm_r (nI_1 x) (hW () trivial)))
      exact pk_le (w x) 0 (fun e1 => br_t rfl (nm_r (nI_1 x) (hW () trivial))) (fun e1 => absurd (h x hx e0) (by omega))
end
section
/-! part 7: codes of two letters u, v: one node -/
def cd_A (a26 a27 : Nat → Int32) (u v : Nat) : Prop := a26 u = nI 1 ∧ a26 v = nI 1 ∧ a26 8 = nI 0 ∧ a27 u = nI 0 ∧ a27 v = nI 1 ∧ a27 8 = nI 0
theorem sq_nameCodes {post : St2 → Prop} {f1 f2 f3 f5 : Int32} {a1 a2 a3 a4 a5 a6 a7 a8 a9 a10 a11 a12 a13 a14 a15 a16 a17 a18 a19 a20 a21 a22 a23 a24 a25 a26 a27 : Nat → Int32} {u v : Nat} (hu : u < 8) (hv : v < 8) (huv : u ≠ v) (h22 : a22 0 = nI u) (h23 : a23 0 = nI v) (h26 : a26 8 = nI 0) (h27 : a27 8 = nI 0)
    (K : ∀ b26 b27, cd_A b26 b27 u v → post (f1, f2, f3, (nI 1), f5, a1, a2, a3, a4, a5, a6, a7, a8, a9, a10, a11, a12, a13, a14, a15, a16, a17, a18, a19, a20, a21, a22, a23, a24, a25, b26, b27)) : wpX_nameCodes post (f1, f2, f3, (nI 1), f5, a1, a2, a3, a4, a5, a6, a7, a8, a9, a10, a11, a12, a13, a14, a15, a16, a17, a18, a19, a20, a21, a22, a23, a24, a25, a26, a27) := by
  refine nm_r (show nI 1 - 1 = nI 0 by decide) ⟨2, ?_⟩
  refine br_f (by decide) ⟨pk_in 8 16 (by omega), nm_r (e' := nI 0) h26 ⟨pk_in 8 16 (by omega), nm_r (e' := nI 0) h27 ⟨pk_in 0 8 (by omega), ?_⟩⟩⟩
  rw [show (nI 0).toNatClampNeg = 0 from rfl, h22, h23, nI_clamp (show u < 2 ^ 31 by omega), nI_clamp (show v < 2 ^ 31 by omega), show (nI 0 + 1).toInt8.toInt32 = nI 1 by decide, show (nI 0).toInt8.toInt32 = nI 0 by decide, show (nI 0 ||| ((1 : Int32) <<< (nI 0 &&& 31))).toInt8.toInt32 = nI 1 by decide]
  refine ⟨pk_in u 16 (by omega), nm_e ⟨pk_in 0 8 (by omega), pk_in u 16 (by omega), nm_e ⟨pk_in 0 8 (by omega), pk_in v 16 (by omega), nm_e ⟨pk_in 0 8 (by omega), pk_in v 16 (by omega), nm_e (nm_e (br_t (by decide) (K _ _ ⟨?_, ?_, ?_, ?_, ?_, ?_⟩)))⟩⟩⟩⟩
  · rw [pk_un huv, pk_us]
  · rw [pk_us]
  · rw [pk_un (by omega), pk_un (by omega), h26]
  · rw [pk_un huv, pk_us]
  · rw [pk_us]
  · rw [pk_un (by omega), pk_un (by omega), h27]
theorem sq_packNode {post : St2 → Prop} {f2 f3 f4 f5 : Int32} {a1 a2 a3 a4 a5 a6 a7 a8 a9 a10 a11 a12 a13 a14 a15 a16 a17 a18 a19 a20 a21 a22 a23 a24 a25 a26 a27 : Nat → Int32} {lt : Nat → Nat} {N u v : Nat} {R0 : Nat → Nat → Bool} (hN : N ≤ 200) (hu : u < 8) (hv : v < 8) (huv : u ≠ v) (h1 : ∀ i, i < N → a1 i = nI (lt i)) (hlt : ∀ i, i < N → lt i = u ∨ lt i = v) (hA : cd_A a26 a27 u v) (hR : rb_ok a5 R0) (h0 : ∀ j, R0 14 j = false)
    (K : ∀ b5 R, rb_ok b5 R → (∀ j, R 14 j = (decide (j < N) && decide (lt j = v))) → (∀ r, r ≠ 14 → ∀ j, R r j = R0 r j) → post ((nI N), f2, f3, f4, f5, a1, a2, a3, a4, b5, a6, a7, a8, a9, a10, a11, a12, a13, a14, a15, a16, a17, a18, a19, a20, a21, a22, a23, a24, a25, a26, a27)) : wpX_packNode post ((nI N), f2, f3, f4, f5, a1, a2, a3, a4, a5, a6, a7, a8, a9, a10, a11, a12, a13, a14, a15, a16, a17, a18, a19, a20, a21, a22, a23, a24, a25, a26, a27) (nI 0) := by
  obtain ⟨p1, p2, p3, p4, p5, p6⟩ := hA
  refine ⟨pk_in 8 16 (by omega), nm_r (e' := nI 0) p3 ⟨pk_in 8 16 (by omega), nm_r (e' := nI 0) p6 ?_⟩⟩
  refine pk_loop (fun n i s => wX_packNode_26 post (nI 0) (nI 0) (nI 0) n (nI i) (nI i) (nI N) f2 f3 f4 f5 a1 a2 a3 a4 s a6 a7 a8 a9 a10 a11 a12 a13 a14 a15 a16 a17 a18 a19 a20 a21 a22 a23 a24 a25 a26 a27)
    (fun i s => ∃ R, rb_ok s R ∧ (∀ j, R 14 j = (decide (j < i) && decide (lt j = v))) ∧ ∀ r, r ≠ 14 → ∀ j, R r j = R0 r j) N 0 a5 (Nat.zero_le N) ⟨R0, hR, fun j => by rw [h0 j, decide_eq_false (Nat.not_lt_zero j), Bool.false_and], fun r _ j => rfl⟩ ?_ ?_
  · intro n s hs
    obtain ⟨R, g1, g2, g3⟩ := hs
    exact pk_le N N (fun _ => K s R g1 g2 g3) (fun z => absurd z (by omega))
  · intro n i s hi hs hW
    obtain ⟨R, g1, g2, g3⟩ := hs
    refine pk_le N i (fun z => absurd z (by omega)) (fun _ => ⟨pk_in i 200 (by omega), ?_⟩)
    rw [nI_clamp (show i < 2 ^ 31 by omega), h1 i hi]
    rcases hlt i hi with e | e
    · rw [e]
      refine nm_e ⟨pk_in u 16 (by omega), ?_⟩
      rw [nI_clamp (show u < 2 ^ 31 by omega), p1, p4]
      refine br_f (by decide) ⟨pk_in u 16 (by omega), br_t (by decide) (br_f (by decide) ⟨pk_in u 16 (by omega), ?_⟩)⟩
      rw [nI_clamp (show u < 2 ^ 31 by omega), p4]
      refine br_t (by decide) (nm_r (nI_1 i) (nm_r (nI_1 i) (hW s ⟨R, g1, fun j => ?_, g3⟩)))
      rw [g2 j]
      exact sx_ltn j i _ (fun z => decide_eq_false (by rw [z, e]; exact huv))
    · rw [e]
      refine nm_e ⟨pk_in v 16 (by omega), ?_⟩
      rw [nI_clamp (show v < 2 ^ 31 by omega), p2, p5]
      refine br_f (by decide) ⟨pk_in v 16 (by omega), br_t (by decide) (br_f (by decide) ⟨pk_in v 16 (by omega), ?_⟩)⟩
      rw [nI_clamp (show v < 2 ^ 31 by omega), p5]
      refine br_f (by decide) ?_
      rw [show (14 : Int32) + nI 0 = nI 14 by decide]
      refine sq_setBit (by omega) (by omega) g1 (fun b hb => ?_)
      refine nm_r (nI_1 i) (nm_r (nI_1 i) (hW b ⟨_, hb, fun j => ?_, fun r hr j => ?_⟩))
      · try dsimp only
        rw [g2 j, decide_eq_true rfl, Bool.true_and]
        exact sx_lts j i _ (fun z => decide_eq_true (by rw [z, e]))
      · try dsimp only
        rw [decide_eq_false hr, Bool.false_and, Bool.or_false, g3 r hr j]
theorem cd_204 {post : St2 → Prop} {f2 f3 f5 : Int32} {a1 a2 a3 a4 a5 a6 a7 a8 a9 a10 a11 a12 a13 a14 a15 a16 a17 a18 a19 a20 a21 a22 a23 a24 a25 a26 a27 : Nat → Int32} {lt : Nat → Nat} {N u v : Nat} {R0 : Nat → Nat → Bool} (hN : N ≤ 200) (hu : u < 8) (hv : v < 8) (huv : u ≠ v) (h1 : ∀ i, i < N → a1 i = nI (lt i)) (hlt : ∀ i, i < N → lt i = u ∨ lt i = v) (hA : cd_A a26 a27 u v) (hR : rb_ok a5 R0) (h0 : ∀ j, R0 14 j = false)
    (K : ∀ b5 R, rb_ok b5 R → (∀ j, R 14 j = (decide (j < N) && decide (lt j = v))) → (∀ r, r ≠ 14 → ∀ j, R r j = R0 r j) → post ((nI N), f2, f3, (nI 1), f5, a1, a2, a3, a4, b5, a6, a7, a8, a9, a10, a11, a12, a13, a14, a15, a16, a17, a18, a19, a20, a21, a22, a23, a24, a25, a26, a27)) : ∃ fu, wX_packCodes_204 post fu 0 (nI N) f2 f3 (nI 1) f5 a1 a2 a3 a4 a5 a6 a7 a8 a9 a10 a11 a12 a13 a14 a15 a16 a17 a18 a19 a20 a21 a22 a23 a24 a25 a26 a27 := by
  refine ⟨2, ?_⟩
  refine br_f (by decide) (sq_packNode hN hu hv huv h1 hlt hA hR h0 (fun b5 R q1 q2 q3 => ?_))
  exact nm_r (e' := nI 1) (by decide) (br_t (by decide) (K b5 R q1 q2 q3))
theorem cd_103 {post : St2 → Prop} {J : _} {f1 f2 f3 : Int32} {a1 a2 a3 a4 a5 a6 a7 a8 a9 a10 a11 a12 a13 a14 a15 a16 a17 a18 a19 a20 a21 a22 a23 a24 a25 a26 a27 : Nat → Int32} {u v cu cv : Nat} (hu : u < 8) (hv : v < 8) (hcu : cu ≤ 200) (hcv : cv ≤ 200) (h24u : a24 u = nI cu) (h24v : a24 v = nI cv)
    (K : J (nI 1) (nI 1) (nI (cu + cv)) a1 a2 a3 a4 a5 a6 a7 a8 a9 a10 a11 a12 a13 a14 a15 a16 a17 a18 a19 a20 a21 (upd a22 0 (nI u)) (upd a23 0 (nI v)) (upd a24 8 (nI (cu + cv))) (upd a25 v 1) a26 a27) :
    wX_packCodes_103 post J (nI u) (nI v) 1 f1 f2 f3 0 0 a1 a2 a3 a4 a5 a6 a7 a8 a9 a10 a11 a12 a13 a14 a15 a16 a17 a18 a19 a20 a21 a22 a23 a24 a25 a26 a27 := by
  unfold wX_packCodes_103
  rw [nI_clamp (show u < 2 ^ 31 by omega), nI_clamp (show v < 2 ^ 31 by omega), h24u, h24v, nI_add, sx_16 _ (by omega), sx_8 u (by omega), sx_8 v (by omega)]
  refine br_f (by decide) ⟨pk_in v 16 (by omega), nm_e ⟨pk_in 0 8 (by omega), nm_e ⟨pk_in 0 8 (by omega), nm_e ⟨pk_in u 16 (by omega), pk_in v 16 (by omega), pk_in 8 16 (by omega), nm_e ⟨pk_in u 16 (by omega), pk_in v 16 (by omega), ?_⟩⟩⟩⟩⟩
  refine nm_r (e' := nI (cu + cv)) ?_ (nm_r (e' := nI 1) (by decide) K)
  rw [show ((8 : Int32) + 0).toNatClampNeg = 8 by decide, pk_un (by omega), pk_un (by omega), h24u, h24v, nI_add]
  exact sx_0add _
/-- what the codes show of the state: two letters, one node -/
def cd_w (lt : Nat → Nat) (N x : Nat) : Nat := if x < 8 then ct_t lt x N else 0
theorem cd_69 {post : St2 → Prop} {f2 f3 : Int32} {a1 a2 a3 a4 a5 a6 a7 a8 a9 a10 a11 a12 a13 a14 a15 a16 a17 a18 a19 a20 a21 a22 a23 a24 a25 a26 a27 : Nat → Int32} {lt : Nat → Nat} {N u v : Nat} {R0 : Nat → Nat → Bool} (hN : N ≤ 200) (hu : u < 8) (hv : v < 8) (huv : u ≠ v) (h1 : ∀ i, i < N → a1 i = nI (lt i)) (hlt : ∀ i, i < N → lt i = u ∨ lt i = v) (hR : rb_ok a5 R0) (h0 : ∀ j, R0 14 j = false)
    (hcu : 0 < ct_t lt u N) (hcv : 0 < ct_t lt v N) (hsum : ct_t lt u N + ct_t lt v N = N) (hoth : ∀ x, x < 8 → x ≠ u → x ≠ v → ct_t lt x N = 0) (hmin : u < v → ct_t lt u N ≤ ct_t lt v N) (hmin2 : v < u → ct_t lt u N < ct_t lt v N)
    (h24 : ∀ x, x < 16 → a24 x = nI (cd_w lt N x)) (h25 : ∀ x, x < 16 → a25 x = nI 0) (h26 : ∀ x, x < 16 → a26 x = nI 0) (h27 : ∀ x, x < 16 → a27 x = nI 0)
    (K : ∀ b5 b22 b23 b24 b25 b26 b27 R, rb_ok b5 R → cd_A b26 b27 u v → (∀ j, R 14 j = (decide (j < N) && decide (lt j = v))) → (∀ r, r ≠ 14 → ∀ j, R r j = R0 r j) → post ((nI N), f2, f3, (nI 1), (nI N), a1, a2, a3, a4, b5, a6, a7, a8, a9, a10, a11, a12, a13, a14, a15, a16, a17, a18, a19, a20, a21, b22, b23, b24, b25, b26, b27)) :
    ∃ fu, wX_packCodes_69 post (nI N) f2 f3 fu 1 0 0 a1 a2 a3 a4 a5 a6 a7 a8 a9 a10 a11 a12 a13 a14 a15 a16 a17 a18 a19 a20 a21 a22 a23 a24 a25 a26 a27 := by
  have wu : cd_w lt N u = ct_t lt u N := if_pos hu
  have wv : cd_w lt N v = ct_t lt v N := if_pos hv
  have wo : ∀ x, x ≠ u → x ≠ v → cd_w lt N x = 0 := by
    intro x e1 e2
    unfold cd_w
    by_cases e : x < 8
    · rw [if_pos e, hoth x e e1 e2]
    · rw [if_neg e]
  have wle : ∀ x, cd_w lt N x ≤ N := by
    intro x
    unfold cd_w
    by_cases e : x < 8
    · rw [if_pos e]; exact cn_le _ _
    · rw [if_neg e]; exact Nat.zero_le N
  have hwb : ∀ x, x < 8 + 0 → a24 x = nI (cd_w lt N x) ∧ cd_w lt N x < 2 ^ 15 := fun x hx => ⟨h24 x (by omega), by have := wle x; omega⟩
  refine ⟨3, ?_⟩
  refine br_f (by decide) ?_
  -- the first: u
  refine ra_some (m := 0) (t := u) (w := cd_w lt N) (jn := fun _ => 0) (by omega) hwb (fun x hx => ⟨h25 x (by omega), by omega⟩) (by omega) rfl (by rw [wu]; exact hcu) (fun x hx _ hw => ?_) (fun x hx _ _ hw => ?_) ?_
  · by_cases e : x = v
    · rw [e, wu, wv]; exact hmin2 (by omega)
    · exact absurd hw (by rw [wo x (by omega) e]; omega)
  · by_cases e : x = v
    · rw [e, wu, wv]; exact hmin (by omega)
    · exact absurd hw (by rw [wo x (by omega) e]; omega)
  refine br_f (nI_pos (by omega)) ⟨pk_in u 16 (by omega), ?_⟩
  rw [nI_clamp (show u < 2 ^ 31 by omega)]
  refine nm_e ?_
  -- the second: v
  refine ra_some (m := 0) (t := v) (w := cd_w lt N) (jn := fun x => if x = u then 1 else 0) (by omega) hwb (fun x hx => ?_) (by omega) (if_neg (fun z => huv z.symm)) (by rw [wv]; exact hcv) (fun x hx hj hw => ?_) (fun x hx _ hj hw => ?_) ?_
  · by_cases e : x = u
    · rw [e, pk_us, if_pos rfl]; exact ⟨rfl, by omega⟩
    · rw [pk_un e, if_neg e]; exact ⟨h25 x (by omega), by omega⟩
  · try dsimp only at hj
    by_cases e : x = u
    · rw [if_pos e] at hj; exact absurd hj (by omega)
    · exact absurd hw (by rw [wo x e (by omega)]; omega)
  · try dsimp only at hj
    by_cases e : x = u
    · rw [if_pos e] at hj; exact absurd hj (by omega)
    · exact absurd hw (by rw [wo x e (by omega)]; omega)
  refine br_f (nI_pos (by omega)) (cd_103 hu hv (show ct_t lt u N ≤ 200 by omega) (show ct_t lt v N ≤ 200 by omega) (by rw [h24 u (by omega), wu]) (by rw [h24 v (by omega), wv]) ?_)
  rw [hsum]
  -- the second round: the node 8, then none
  have hw2 : ∀ x, x < 8 + 1 → upd a24 8 (nI N) x = nI (if x = 8 then N else cd_w lt N x) ∧ (if x = 8 then N else cd_w lt N x) < 2 ^ 15 := by
    intro x hx
    by_cases e : x = 8
    · rw [e, pk_us, if_pos rfl]; exact ⟨rfl, by omega⟩
    · rw [pk_un e, if_neg e]; exact ⟨h24 x (by omega), by have := wle x; omega⟩
  refine br_f (by decide) ?_
  refine ra_some (m := 1) (t := 8) (w := fun x => if x = 8 then N else cd_w lt N x) (jn := fun x => if x = u ∨ x = v then 1 else 0) (by omega) hw2 (fun x hx => ?_) (by omega) (if_neg (by omega)) (by rw [if_pos rfl]; omega) (fun x hx hj hw => ?_) (fun x hx hx2 _ _ => absurd hx2 (by omega)) ?_
  · by_cases e : x = v
    · rw [e, pk_us, if_pos (Or.inr rfl)]; exact ⟨rfl, by omega⟩
    · rw [pk_un e]
      by_cases e2 : x = u
      · rw [e2, pk_us, if_pos (Or.inl rfl)]; exact ⟨rfl, by omega⟩
      · rw [pk_un e2, if_neg (by omega)]; exact ⟨h25 x (by omega), by omega⟩
  · try dsimp only at hj hw
    by_cases e : x = u ∨ x = v
    · rw [if_pos e] at hj; exact absurd hj (by omega)
    · rw [if_neg (by omega), wo x (by omega) (by omega)] at hw; exact absurd hw (by omega)
  refine br_f (by decide) ⟨pk_in 8 16 (by omega), ?_⟩
  rw [show (nI 8).toNatClampNeg = 8 by decide]
  refine nm_e ?_
  refine ra_none (m := 1) (w := fun x => if x = 8 then N else cd_w lt N x) (jn := fun x => if x = 8 ∨ x = u ∨ x = v then 1 else 0) (by omega) hw2 (fun x hx => ?_) (fun x hx hj => ?_) ?_
  · by_cases e0 : x = 8
    · rw [e0, pk_us, if_pos (Or.inl rfl)]; exact ⟨rfl, by omega⟩
    · rw [pk_un e0]
      by_cases e : x = v
      · rw [e, pk_us, if_pos (Or.inr (Or.inr rfl))]; exact ⟨rfl, by omega⟩
      · rw [pk_un e]
        by_cases e2 : x = u
        · rw [e2, pk_us, if_pos (Or.inr (Or.inl rfl))]; exact ⟨rfl, by omega⟩
        · rw [pk_un e2, if_neg (by omega)]; exact ⟨h25 x (by omega), by omega⟩
  · try dsimp only at hj ⊢
    by_cases e : x = 8 ∨ x = u ∨ x = v
    · rw [if_pos e] at hj; exact absurd hj (by omega)
    · rw [if_neg (by omega), wo x (by omega) (by omega)]
  refine br_t (by decide) (br_t rfl ?_)
  -- the third: names
  refine br_t rfl ?_
  refine sq_nameCodes hu hv huv (by rw [pk_us]) (by rw [pk_us]) (h26 8 (by omega)) (h27 8 (by omega)) (fun b26 b27 hA => ?_)
  refine cd_204 hN hu hv huv h1 hlt hA hR h0 (fun b5 R q1 q2 q3 => ?_)
  exact K b5 _ _ _ _ b26 b27 R q1 hA q2 q3
theorem sq_packCodes {post : St2 → Prop} {f2 f3 f4 f5 : Int32} {a1 a2 a3 a4 a5 a6 a7 a8 a9 a10 a11 a12 a13 a14 a15 a16 a17 a18 a19 a20 a21 a22 a23 a24 a25 a26 a27 : Nat → Int32} {lt : Nat → Nat} {N u v : Nat} {R0 : Nat → Nat → Bool} (hN : N ≤ 200) (hu : u < 8) (hv : v < 8) (huv : u ≠ v) (h1 : ∀ i, i < N → a1 i = nI (lt i)) (h2 : ∀ c, c < 8 → a2 c = nI (ct_t lt c N)) (hlt : ∀ i, i < N → lt i = u ∨ lt i = v) (hR : rb_ok a5 R0) (h0 : ∀ j, R0 14 j = false)
    (hcu : 0 < ct_t lt u N) (hcv : 0 < ct_t lt v N) (hsum : ct_t lt u N + ct_t lt v N = N) (hoth : ∀ x, x < 8 → x ≠ u → x ≠ v → ct_t lt x N = 0) (hmin : u < v → ct_t lt u N ≤ ct_t lt v N) (hmin2 : v < u → ct_t lt u N < ct_t lt v N)
    (K : ∀ b5 b22 b23 b24 b25 b26 b27 R, rb_ok b5 R → cd_A b26 b27 u v → (∀ j, R 14 j = (decide (j < N) && decide (lt j = v))) → (∀ r, r ≠ 14 → ∀ j, R r j = R0 r j) → post ((nI N), f2, f3, (nI 1), (nI N), a1, a2, a3, a4, b5, a6, a7, a8, a9, a10, a11, a12, a13, a14, a15, a16, a17, a18, a19, a20, a21, b22, b23, b24, b25, b26, b27)) :
    wpX_packCodes post ((nI N), f2, f3, f4, f5, a1, a2, a3, a4, a5, a6, a7, a8, a9, a10, a11, a12, a13, a14, a15, a16, a17, a18, a19, a20, a21, a22, a23, a24, a25, a26, a27) := by
  have wle : ∀ x, cd_w lt N x ≤ N := by
    intro x
    unfold cd_w
    by_cases e : x < 8
    · rw [if_pos e]; exact cn_le _ _
    · rw [if_neg e]; exact Nat.zero_le N
  refine pk_loop (fun n i s => wX_packCodes_12 post (nI N) f2 f3 0 0 n (nI i) a1 a2 a3 a4 a5 a6 a7 a8 a9 a10 a11 a12 a13 a14 a15 a16 a17 a18 a19 a20 a21 a22 a23 s.1 s.2.1 s.2.2.1 s.2.2.2)
    (fun i s => (∀ x, x < i → s.1 x = nI (cd_w lt N x)) ∧ (∀ x, x < i → s.2.1 x = nI 0) ∧ (∀ x, x < i → s.2.2.1 x = nI 0) ∧ ∀ x, x < i → s.2.2.2 x = nI 0) 16 0 (a24, a25, a26, a27) (by omega) ⟨fun x h => absurd h (by omega), fun x h => absurd h (by omega), fun x h => absurd h (by omega), fun x h => absurd h (by omega)⟩ ?_ ?_
  · intro n s hs
    obtain ⟨b24, b25, b26, b27⟩ := s
    obtain ⟨g1, g2, g3, g4⟩ := hs
    exact pk_le 16 16 (fun _ => cd_69 hN hu hv huv h1 hlt hR h0 hcu hcv hsum hoth hmin hmin2 g1 g2 g3 g4 K) (fun z => absurd z (by omega))
  · intro n i s hi hs hW
    obtain ⟨b24, b25, b26, b27⟩ := s
    obtain ⟨g1, g2, g3, g4⟩ := hs
    try dsimp only at g1 g2 g3 g4
    have up : ∀ (f : Nat → Int32) (y : Int32) (g : Nat → Int32), y = g i → (∀ x, x < i → f x = g x) → ∀ x, x < i + 1 → upd f i y x = g x := by
      intro f y g hy hf x hx
      by_cases e : x = i
      · rw [e, pk_us, hy]
      · rw [pk_un e, hf x (by omega)]
    have hw := wle i
    have fin : wX_packCodes_39 post (wX_packCodes_12 post (nI N) f2 f3 0 0 n) (nI i) (nI (cd_w lt N i)) (nI i) (nI N) f2 f3 0 0 a1 a2 a3 a4 a5 a6 a7 a8 a9 a10 a11 a12 a13 a14 a15 a16 a17 a18 a19 a20 a21 a22 a23 b24 b25 b26 b27 := by
      unfold wX_packCodes_39
      rw [nI_clamp (show i < 2 ^ 31 by omega), sx_ns (by omega)]
      refine ⟨pk_in i 16 hi, nm_e ⟨pk_in i 16 hi, nm_e ⟨pk_in i 16 hi, nm_e ⟨pk_in i 16 hi, nm_e (nm_r (nI_1 i) (hW (_, _, _, _) ⟨?_, ?_, ?_, ?_⟩))⟩⟩⟩⟩
      · exact up b24 _ (fun x => nI (cd_w lt N x)) rfl g1
      · exact up b25 _ (fun x => nI 0) rfl g2
      · exact up b26 _ (fun x => nI 0) rfl g3
      · exact up b27 _ (fun x => nI 0) rfl g4
    refine pk_le 16 i (fun z => absurd z (by omega)) (fun _ => pk_le 8 i (fun e => ?_) (fun e => ⟨pk_in i 8 e, ?_⟩))
    · rw [show cd_w lt N i = 0 from if_neg (by omega)] at fin
      exact fin
    · rw [show cd_w lt N i = ct_t lt i N from if_pos e, ← h2 i e] at fin
      try dsimp only
      rw [nI_clamp (show i < 2 ^ 31 by omega)]
      exact fin
/-- what the answers need of the codes -/
def cd_ok (lt : Nat → Nat) (N : Nat) (a26 a27 : Nat → Int32) (R : Nat → Nat → Bool) : Prop := ∃ u v, u < 8 ∧ v < 8 ∧ u ≠ v ∧ (∀ i, i < N → lt i = u ∨ lt i = v) ∧ cd_A a26 a27 u v ∧ ∀ j, R 14 j = (decide (j < N) && decide (lt j = v))
theorem sq_rankInCodes {post : Int32 → Prop} {f1 f2 f3 f5 : Int32} {a1 a2 a3 a4 a5 a6 a7 a8 a9 a10 a11 a12 a13 a14 a15 a16 a17 a18 a19 a20 a21 a22 a23 a24 a25 a26 a27 : Nat → Int32} {lt : Nat → Nat} {R : Nat → Nat → Bool} {N c place : Nat} (hN : N ≤ 200) (h2 : ∀ c, c < 8 → a2 c = nI (ct_t lt c N)) (hR : sq_Rows a5 a6 a7 R) (hC : cd_ok lt N a26 a27 R) (hc : c < 8) (hp : place ≤ N)
    (h : post (nI (ct_t lt c place))) : wpX_rankInCodes post (f1, f2, f3, (nI 1), f5, a1, a2, a3, a4, a5, a6, a7, a8, a9, a10, a11, a12, a13, a14, a15, a16, a17, a18, a19, a20, a21, a22, a23, a24, a25, a26, a27) (nI c) (nI place) := by
  obtain ⟨u, v, hu, hv, huv, hlt, ⟨p1, p2, p3, p4, p5, p6⟩, h14⟩ := hC
  have hcN : ct_t lt c N ≤ N := cn_le _ _
  unfold wpX_rankInCodes
  try dsimp only
  rw [nI_clamp (show c < 2 ^ 31 by omega), h2 c hc]
  refine ⟨pk_in c 8 hc, sy_eq (b := 0) (fun e => ?_) (fun e => ?_)⟩
  · have : ct_t lt c place ≤ ct_t lt c N := cn_mono _ hp
    rw [show ct_t lt c place = 0 by omega] at h
    exact h
  · have h14c : cn_t (R 14) place = ct_t lt v place := mx_cn h14 hp
    have hcv := cn_le (R 14) place
    have hcuv : c = u ∨ c = v := by
      obtain ⟨i, i1, i2, _⟩ := cn_find (f := fun j => decide (lt j = c)) (k := 0) (n := N) (show 0 < ct_t lt c N by omega)
      have i3 : lt i = c := of_decide_eq_true i2
      rcases hlt i i1 with z | z
      · exact Or.inl (by omega)
      · exact Or.inr (by omega)
    refine nm_r (e' := nI 0) (by decide) ⟨2, ⟨pk_in c 16 (by omega), ?_⟩⟩
    rw [nI_clamp (show c < 2 ^ 31 by omega)]
    rcases hcuv with e1 | e1
    · have eu : place - cn_t (R 14) place = ct_t lt c place := by
        have := cn_split (f := fun _ => true) (g := fun j => decide (lt j = v)) (h := fun j => decide (lt j = c)) (k := place) (fun j hj => by
          rcases hlt j (by omega) with z | z
          · try dsimp only
            rw [z, decide_eq_false huv, e1, decide_eq_true rfl]; rfl
          · try dsimp only
            rw [z, decide_eq_true rfl, e1, decide_eq_false (fun q => huv q.symm)]; rfl)
        rw [cn_true] at this
        rw [h14c]
        unfold ct_t
        omega
      rw [e1, p1, p4]
      refine br_f (by decide) ⟨pk_in u 16 (by omega), br_t (by decide) ?_⟩
      unfold wX_rankInCodes_54
      rw [show (14 : Int32) + nI 0 = nI 14 by decide]
      refine sq_onesBefore hR (by omega) (by omega) ?_
      refine br_t rfl (br_t rfl ⟨pk_in 0 8 (by omega), nm_e (nm_r (e' := nI 1) (by decide) ⟨pk_in u 16 (by omega), ?_⟩)⟩)
      rw [nI_clamp (show u < 2 ^ 31 by omega), p1, pk_sub hcv, eu]
      exact br_t (by decide) h
    · rw [e1, p2, p5]
      refine br_f (by decide) ⟨pk_in v 16 (by omega), br_f (by decide) ?_⟩
      unfold wX_rankInCodes_54
      rw [show (14 : Int32) + nI 0 = nI 14 by decide]
      refine sq_onesBefore hR (by omega) (by omega) ?_
      refine br_f (by decide) (br_f (by decide) ⟨pk_in 0 8 (by omega), nm_e (nm_r (e' := nI 1) (by decide) ⟨pk_in v 16 (by omega), ?_⟩)⟩)
      rw [nI_clamp (show v < 2 ^ 31 by omega), p2, h14c, ← e1]
      exact br_t (by decide) h
end
section
/-! part 8: low and high parts -/
theorem cl_nx (lt : Nat → Nat) (c i : Nat) : cl_t lt (c + 1) i = cl_t lt c i + ct_t lt c i := cn_split (fun j _ => tr_b _ _)
theorem cl_mono (lt : Nat → Nat) {c c' : Nat} (h : c ≤ c') (i : Nat) : cl_t lt c i ≤ cl_t lt c' i := cn_imp (fun j _ hj => decide_eq_true (by have := of_decide_eq_true hj; omega))
/-- high parts: a one for every c at i / D + rank -/
def hp_I (lt : Nat → Nat) (c D i : Nat) (f : Nat → Bool) : Prop := (∀ i', i' ≤ i → cn_t f (i' / D + ct_t lt c i') = ct_t lt c i') ∧ (∀ h, i / D + ct_t lt c i ≤ h → f h = false) ∧ ∀ i', i' < i → lt i' = c → f (i' / D + ct_t lt c i') = true
theorem hp_mono (lt : Nat → Nat) (c D : Nat) {i j : Nat} (h : i ≤ j) : i / D + ct_t lt c i ≤ j / D + ct_t lt c j := Nat.add_le_add (Nat.div_le_div_right h) (cn_mono _ h)
theorem hp_0 (lt : Nat → Nat) (c D : Nat) {f : Nat → Bool} (h : ∀ j, f j = false) : hp_I lt c D 0 f := by
  refine ⟨fun i' hi => ?_, fun j _ => h j, fun i' hi => absurd hi (by omega)⟩
  rw [show i' = 0 by omega, Nat.zero_div]
  exact cn_none (fun j _ => h j)
theorem hp_skip {lt : Nat → Nat} {c D i : Nat} {f : Nat → Bool} (h : hp_I lt c D i f) (e : lt i ≠ c) : hp_I lt c D (i + 1) f := by
  obtain ⟨h1, h2, h3⟩ := h
  have hc : ct_t lt c (i + 1) = ct_t lt c i := cn_sF (decide_eq_false e)
  have hm := hp_mono lt c D (show i ≤ i + 1 by omega)
  refine ⟨fun i' hi => ?_, fun j hj => h2 j (by omega), fun i' hi he => ?_⟩
  · by_cases e2 : i' = i + 1
    · rw [e2, cn_F hm (fun j q1 _ => h2 j q1), h1 i (Nat.le_refl i), hc]
    · exact h1 i' (by omega)
  · by_cases e2 : i' = i
    · rw [e2] at he; exact absurd he e
    · exact h3 i' (by omega) he
theorem hp_put {lt : Nat → Nat} {c D i : Nat} {f g : Nat → Bool} (h : hp_I lt c D i f) (e : lt i = c) (hg : ∀ j, g j = (f j || decide (j = i / D + ct_t lt c i))) : hp_I lt c D (i + 1) g := by
  obtain ⟨h1, h2, h3⟩ := h
  have hc : ct_t lt c (i + 1) = ct_t lt c i + 1 := cn_sT (decide_eq_true e)
  have hm : i / D + ct_t lt c i + 1 ≤ (i + 1) / D + ct_t lt c (i + 1) := by
    have : i / D ≤ (i + 1) / D := Nat.div_le_div_right (by omega)
    omega
  have hgf : ∀ j, i / D + ct_t lt c i + 1 ≤ j → g j = false := fun j hj => by rw [hg j, h2 j (by omega), decide_eq_false (by omega)]; rfl
  refine ⟨fun i' hi => ?_, fun j hj => hgf j (by omega), fun i' hi he => ?_⟩
  · by_cases e2 : i' = i + 1
    · rw [e2, cn_F hm (fun j q1 _ => hgf j q1), cn_set1 hg, h1 i (Nat.le_refl i), hc]
    · rw [cn_set hg (hp_mono lt c D (show i' ≤ i by omega)), h1 i' (by omega)]
  · rw [hg]
    by_cases e2 : i' = i
    · rw [e2, decide_eq_true rfl, Bool.or_true]
    · rw [h3 i' (by omega) he, Bool.true_or]
def hb_ok (a : Nat → Int32) (H : Nat → Nat → Bool) : Prop := ∀ c h, c < 8 → h < 416 → bt (a (c * 13 + h / 32)) (h % 32) = H c h
theorem sq_setHigh {post : St2 → Prop} {f1 f2 f3 f4 f5 : Int32} {a1 a2 a3 a4 a5 a6 a7 a8 a9 a10 a11 a12 a13 a14 a15 a16 a17 a18 a19 a20 a21 a22 a23 a24 a25 a26 a27 : Nat → Int32} {R : Nat → Nat → Bool} {row i : Nat} (hr : row < 8) (hi : i < 416) (h : hb_ok a12 R)
    (hp : ∀ a, hb_ok a (fun r j => R r j || (decide (r = row) && decide (j = i))) → post (f1, f2, f3, f4, f5, a1, a2, a3, a4, a5, a6, a7, a8, a9, a10, a11, a, a13, a14, a15, a16, a17, a18, a19, a20, a21, a22, a23, a24, a25, a26, a27)) : wpX_setHigh post (f1, f2, f3, f4, f5, a1, a2, a3, a4, a5, a6, a7, a8, a9, a10, a11, a12, a13, a14, a15, a16, a17, a18, a19, a20, a21, a22, a23, a24, a25, a26, a27) (nI row) (nI i) := by
  unfold wpX_setHigh
  try dsimp only
  rw [sx_w13 row i (by omega), sx_and31 i (by omega)]
  refine ⟨pk_in (row * 13 + i / 32) 104 (by omega), pk_in (row * 13 + i / 32) 104 (by omega), nm_e (hp _ ?_)⟩
  intro r j hr' hj
  try dsimp only
  rw [nI_clamp (show row * 13 + i / 32 < 2 ^ 31 by omega)]
  by_cases e : r * 13 + j / 32 = row * 13 + i / 32
  · have e1 : r = row := by omega
    have e2 : j / 32 = i / 32 := by omega
    have e3 := h r j hr' hj
    rw [e, pk_us, b_or, sx_one (i % 32) (by omega) (j % 32) (by omega), ← e, e3, decide_eq_true e1, Bool.true_and]
    by_cases g : j = i
    · rw [decide_eq_true g, decide_eq_true (by omega)]
    · rw [decide_eq_false g, decide_eq_false (by omega)]
  · rw [pk_un e, h r j hr' hj]
    have : (decide (r = row) && decide (j = i)) = false := by
      by_cases g : r = row
      · rw [decide_eq_false (fun (z : j = i) => e (by rw [g, z])), Bool.and_false]
      · rw [decide_eq_false g, Bool.false_and]
    rw [this, Bool.or_false]
theorem sx_hb (x : Int32) (k : Nat) (hk : k < 32) : (x.toUInt32 >>> ((nI k).toUInt32 &&& Int32.toUInt32 31)).toInt32 &&& 1 = nI (bt x k).toNat := by
  obtain ⟨v, h1, h2, h3⟩ := sx_mask ((x.toUInt32 >>> ((nI k).toUInt32 &&& Int32.toUInt32 31)).toInt32) (m := 1) 1 (by decide)
  rw [h2]
  have h4 := h3 0
  rw [b_ushr k hk, decide_eq_true (by omega), Bool.true_and, Nat.add_zero] at h4
  rw [← h4]
  have h5 : v = 0 ∨ v = 1 := by omega
  rcases h5 with z | z <;> rw [z] <;> rfl
theorem sq_highAt {post : Int32 → Prop} {f1 f2 f3 f4 f5 : Int32} {a1 a2 a3 a4 a5 a6 a7 a8 a9 a10 a11 a12 a13 a14 a15 a16 a17 a18 a19 a20 a21 a22 a23 a24 a25 a26 a27 : Nat → Int32} {H : Nat → Nat → Bool} {c h : Nat} (hH : hb_ok a12 H) (hc : c < 8) (hh : h < 416) (hp : post (nI (H c h).toNat)) : wpX_highAt post (f1, f2, f3, f4, f5, a1, a2, a3, a4, a5, a6, a7, a8, a9, a10, a11, a12, a13, a14, a15, a16, a17, a18, a19, a20, a21, a22, a23, a24, a25, a26, a27) (nI c) (nI h) := by
  unfold wpX_highAt
  try dsimp only
  rw [sx_w13 c h (by omega), sx_and31 h (by omega), nI_clamp (show c * 13 + h / 32 < 2 ^ 31 by omega), sx_hb _ (h % 32) (by omega), hH c h hc hh]
  refine ⟨vp_in_nI (by omega) (by omega), ?_⟩
  cases e : H c h with
  | true => rw [e] at hp; exact br_f (by decide) hp
  | false => rw [e] at hp; exact br_t rfl hp
/-- one letter's part -/
def pt_c (lt : Nat → Nat) (N : Nat) (a9 a10 a11 : Nat → Int32) (H : Nat → Nat → Bool) (c : Nat) : Prop := ∃ w, w < 8 ∧ a9 c = nI w ∧ a10 c = nI (cl_t lt c N) ∧ hp_I lt c (2 ^ w) N (H c) ∧ ∀ i, i < N → lt i = c → a11 (cl_t lt c N + ct_t lt c i) = nI (i % 2 ^ w)
theorem pt_84 {post : St2 → Prop} {J : _} {f2 f3 f4 f5 : Int32} {a1 a2 a3 a4 a5 a6 a7 a8 a9 a10 a11 a12 a13 a14 a15 a16 a17 a18 a19 a20 a21 a22 a23 a24 a25 a26 a27 : Nat → Int32} {lt : Nat → Nat} {N c w : Nat} {H0 : Nat → Nat → Bool} (hN : N ≤ 200) (hc : c < 8) (hw : w < 8) (h1 : ∀ i, i < N → a1 i = nI (lt i)) (hl : ∀ i, lt i < 8) (h10 : a10 c = nI (cl_t lt c N)) (hH : hb_ok a12 H0) (h0 : ∀ j, H0 c j = false)
    (K : ∀ b11 b12 H, (∀ j, j < cl_t lt c N → b11 j = a11 j) → (∀ i, i < N → lt i = c → b11 (cl_t lt c N + ct_t lt c i) = nI (i % 2 ^ w)) → hb_ok b12 H → hp_I lt c (2 ^ w) N (H c) → (∀ r, r ≠ c → ∀ j, H r j = H0 r j) → J (nI (cl_t lt (c + 1) N)) (nI (c + 1)) (nI N) f2 f3 f4 f5 a1 a2 a3 a4 a5 a6 a7 a8 a9 a10 b11 b12 a13 a14 a15 a16 a17 a18 a19 a20 a21 a22 a23 a24 a25 a26 a27) :
    ∃ fu, wX_packParts_84 post J (nI c) (nI w) fu (nI (cl_t lt c N)) 0 (nI N) f2 f3 f4 f5 a1 a2 a3 a4 a5 a6 a7 a8 a9 a10 a11 a12 a13 a14 a15 a16 a17 a18 a19 a20 a21 a22 a23 a24 a25 a26 a27 := by
  have L := pk_loop (fun n i s => wX_packParts_84 post J (nI c) (nI w) n (nI (cl_t lt c N + ct_t lt c i)) (nI i) (nI N) f2 f3 f4 f5 a1 a2 a3 a4 a5 a6 a7 a8 a9 a10 s.1 s.2 a13 a14 a15 a16 a17 a18 a19 a20 a21 a22 a23 a24 a25 a26 a27)
    (fun i s => (∀ j, j < cl_t lt c N → s.1 j = a11 j) ∧ (∀ i', i' < i → lt i' = c → s.1 (cl_t lt c N + ct_t lt c i') = nI (i' % 2 ^ w)) ∧ ∃ H, hb_ok s.2 H ∧ hp_I lt c (2 ^ w) i (H c) ∧ ∀ r, r ≠ c → ∀ j, H r j = H0 r j) N 0 (a11, a12) (Nat.zero_le N)
    ⟨fun j _ => rfl, fun i' hi => absurd hi (by omega), H0, hH, hp_0 lt c _ h0, fun r _ j => rfl⟩ ?_ ?_
  · obtain ⟨n, hn⟩ := L
    exact ⟨n, hn⟩
  · intro n s hs
    obtain ⟨b11, b12⟩ := s
    obtain ⟨g1, g2, H, g3, g4, g5⟩ := hs
    rw [← cl_nx]
    exact pk_le N N (fun _ => nm_r (nI_1 c) (K b11 b12 H g1 g2 g3 g4 g5)) (fun z => absurd z (by omega))
  · intro n i s hi hs hW
    obtain ⟨b11, b12⟩ := s
    obtain ⟨g1, g2, H, g3, g4, g5⟩ := hs
    try dsimp only at g1 g2 g3
    have hli := hl i
    refine pk_le N i (fun z => absurd z (by omega)) (fun _ => ⟨pk_in i 200 (by omega), ?_⟩)
    try dsimp only
    rw [nI_clamp (show i < 2 ^ 31 by omega), h1 i hi]
    refine pk_eq (lt i) c (fun e => ?_) (fun e => ?_)
    · have hs1 : ct_t lt c (i + 1) = ct_t lt c i + 1 := cn_sT (decide_eq_true e)
      have hb1 : ct_t lt c (i + 1) ≤ ct_t lt c N := cn_mono _ hi
      have hb2 : cl_t lt (c + 1) N ≤ N := cn_le _ _
      rw [cl_nx] at hb2
      have hdv : i / 2 ^ w ≤ i := Nat.div_le_self _ _
      have hdv0 : 0 ≤ i / 2 ^ w := Nat.zero_le _
      have hmd : i % 2 ^ w ≤ i := Nat.mod_le _ _
      rw [nI_clamp (show cl_t lt c N + ct_t lt c i < 2 ^ 31 by omega), nI_clamp (show c < 2 ^ 31 by omega), h10, pk_andN (show i < 2 ^ 32 by omega) w (sx_m1 w hw), sx_16 _ (by omega), pk_shrN (show i < 2 ^ 31 by omega) _ w (s_l w (by omega)), nI_add, pk_sub (by omega), show i / 2 ^ w + (cl_t lt c N + ct_t lt c i) - cl_t lt c N = i / 2 ^ w + ct_t lt c i by omega]
      refine ⟨vp_in_nI (by omega) (by omega), nm_e ⟨pk_in c 9 (by omega), sq_setHigh hc (by omega) g3 (fun b hb => ?_)⟩⟩
      have W := hW (upd b11 (cl_t lt c N + ct_t lt c i) (nI (i % 2 ^ w)), b) ⟨fun j hj => ?_, fun i' hi' he => ?_, _, hb, hp_put g4 e (fun j => ?_), fun r hr j => ?_⟩
      · refine nm_r (nI_1 _) (nm_r (nI_1 i) ?_)
        rw [hs1, ← Nat.add_assoc] at W
        exact W
      · try dsimp only
        rw [pk_un (by omega), g1 j hj]
      · try dsimp only
        by_cases e2 : i' = i
        · rw [e2, pk_us]
        · have : ct_t lt c i' < ct_t lt c i := cn_lt (decide_eq_true he) (by omega)
          rw [pk_un (by omega), g2 i' (by omega) he]
      · try dsimp only
        rw [decide_eq_true rfl, Bool.true_and]
      · try dsimp only
        rw [decide_eq_false hr, Bool.false_and, Bool.or_false, g5 r hr j]
    · have hs1 : ct_t lt c (i + 1) = ct_t lt c i := cn_sF (decide_eq_false e)
      have W := hW (b11, b12) ⟨g1, fun i' hi' he => ?_, H, g3, hp_skip g4 e, g5⟩
      · rw [hs1] at W
        exact nm_r (nI_1 i) W
      · by_cases e2 : i' = i
        · rw [e2] at he; exact absurd he e
        · exact g2 i' (by omega) he
theorem pt_41 {post : St2 → Prop} {J : _} {f2 f3 f4 f5 : Int32} {a1 a2 a3 a4 a5 a6 a7 a8 a9 a10 a11 a12 a13 a14 a15 a16 a17 a18 a19 a20 a21 a22 a23 a24 a25 a26 a27 : Nat → Int32} {lt : Nat → Nat} {N c : Nat} {x1 : Int32} (hN : N ≤ 200) (hc : c < 8) (h2 : a2 c = nI (ct_t lt c N))
    (K : ∀ w, w < 8 → wX_packParts_73 post J x1 (nI c) (nI w) (nI N) f2 f3 f4 f5 a1 a2 a3 a4 a5 a6 a7 a8 a9 a10 a11 a12 a13 a14 a15 a16 a17 a18 a19 a20 a21 a22 a23 a24 a25 a26 a27) : ∃ fu, wX_packParts_41 post J x1 (nI c) (nI N) f2 f3 f4 f5 a1 a2 a3 a4 a5 a6 a7 a8 a9 a10 a11 a12 a13 a14 a15 a16 a17 a18 a19 a20 a21 a22 a23 a24 a25 a26 a27 fu 0 := by
  have hcN : ct_t lt c N ≤ N := cn_le _ _
  have main : ∀ k w, w + k = 7 → wX_packParts_41 post J x1 (nI c) (nI N) f2 f3 f4 f5 a1 a2 a3 a4 a5 a6 a7 a8 a9 a10 a11 a12 a13 a14 a15 a16 a17 a18 a19 a20 a21 a22 a23 a24 a25 a26 a27 (k + 1) (nI w) := by
    intro k
    induction k with
    | zero =>
      intro w e
      refine ⟨pk_in c 8 hc, ?_⟩
      rw [nI_clamp (show c < 2 ^ 31 by omega), h2]
      refine sy_le (b := 0) (fun _ => K w (by omega)) (fun z => ⟨pk_in c 8 hc, ?_⟩)
      rw [show w = 7 by omega, nI_1, pk_shlN _ 8 (s_l 8 (by omega)) (by omega)]
      exact sy_lt (fun _ => K 7 (by omega)) (fun z2 => absurd z2 (by omega))
    | succ k ih =>
      intro w e
      refine ⟨pk_in c 8 hc, ?_⟩
      rw [nI_clamp (show c < 2 ^ 31 by omega), h2]
      refine sy_le (b := 0) (fun _ => K w (by omega)) (fun z => ⟨pk_in c 8 hc, ?_⟩)
      have hp : ct_t lt c N * 2 ^ (w + 1) ≤ 200 * 2 ^ 7 := Nat.mul_le_mul (by omega) (Nat.pow_le_pow_right (by omega) (by omega))
      rw [nI_1, pk_shlN _ (w + 1) (s_l (w + 1) (by omega)) (by omega)]
      exact sy_lt (fun _ => K w (by omega)) (fun z2 => nm_e (ih (w + 1) (by omega))) (hb := by omega)
  exact ⟨8, main 7 0 rfl⟩
theorem sq_packParts {post : St2 → Prop} {f2 f3 f4 f5 : Int32} {a1 a2 a3 a4 a5 a6 a7 a8 a9 a10 a11 a12 a13 a14 a15 a16 a17 a18 a19 a20 a21 a22 a23 a24 a25 a26 a27 : Nat → Int32} {lt : Nat → Nat} {N : Nat} (hN : N ≤ 200) (hl : ∀ i, lt i < 8) (h1 : ∀ i, i < N → a1 i = nI (lt i)) (h2 : ∀ c, c < 8 → a2 c = nI (ct_t lt c N))
    (K : ∀ b9 b10 b11 b12 H, hb_ok b12 H → (∀ c, c < 8 → pt_c lt N b9 b10 b11 H c) → post ((nI N), f2, f3, f4, f5, a1, a2, a3, a4, a5, a6, a7, a8, b9, b10, b11, b12, a13, a14, a15, a16, a17, a18, a19, a20, a21, a22, a23, a24, a25, a26, a27)) :
    wpX_packParts post ((nI N), f2, f3, f4, f5, a1, a2, a3, a4, a5, a6, a7, a8, a9, a10, a11, a12, a13, a14, a15, a16, a17, a18, a19, a20, a21, a22, a23, a24, a25, a26, a27) := by
  refine pk_loop (fun n i s => wX_packParts_2 post (nI N) f2 f3 f4 f5 n (nI i) a1 a2 a3 a4 a5 a6 a7 a8 a9 a10 a11 s a13 a14 a15 a16 a17 a18 a19 a20 a21 a22 a23 a24 a25 a26 a27) (fun i s => ∀ j, j < i → s j = 0) 104 0 a12 (by omega) (fun j hj => absurd hj (by omega)) ?_ ?_
  · intro n s hs
    refine pk_le 104 104 (fun _ => ?_) (fun z => absurd z (by omega))
    have L := pk_loop (fun n c st => wX_packParts_25 post n (nI (cl_t lt c N)) (nI c) (nI N) f2 f3 f4 f5 a1 a2 a3 a4 a5 a6 a7 a8 st.1 st.2.1 st.2.2.1 st.2.2.2 a13 a14 a15 a16 a17 a18 a19 a20 a21 a22 a23 a24 a25 a26 a27)
      (fun c st => ∃ H, hb_ok st.2.2.2 H ∧ (∀ r, c ≤ r → ∀ j, H r j = false) ∧ ∀ c', c' < c → pt_c lt N st.1 st.2.1 st.2.2.1 H c') 8 0 (a9, a10, a11, s) (by omega)
      ⟨fun _ _ => false, fun c h hc hh => by show bt (s (c * 13 + h / 32)) (h % 32) = false; rw [hs _ (by omega), b_0], fun r _ j => rfl, fun c' h => absurd h (by omega)⟩ ?_ ?_
    · obtain ⟨m, hm⟩ := L
      have e : cl_t lt 0 N = 0 := cn_none (fun j _ => decide_eq_false (Nat.not_lt_zero _))
      rw [e] at hm
      exact ⟨m, hm⟩
    · intro n st hst
      obtain ⟨b9, b10, b11, b12⟩ := st
      obtain ⟨H, g1, g2, g3⟩ := hst
      refine pk_le 8 8 (fun _ => nm_e (K b9 _ b11 b12 H g1 (fun c hc => ?_))) (fun z => absurd z (by omega))
      obtain ⟨w, q1, q2, q3, q4, q5⟩ := g3 c hc
      exact ⟨w, q1, q2, by rw [pk_un (by omega)]; exact q3, q4, q5⟩
    · intro n c st hc hst hW
      obtain ⟨b9, b10, b11, b12⟩ := st
      obtain ⟨H, g1, g2, g3⟩ := hst
      have hcl : cl_t lt c N ≤ N := cn_le _ _
      refine pk_le 8 c (fun z => absurd z (by omega)) (fun _ => ⟨pk_in c 9 (by omega), ?_⟩)
      try dsimp only
      rw [nI_clamp (show c < 2 ^ 31 by omega), sx_16 _ (by omega)]
      refine nm_e (pt_41 (lt := lt) hN hc (h2 c hc) (fun w hw => ⟨pk_in c 8 hc, ?_⟩))
      rw [nI_clamp (show c < 2 ^ 31 by omega), sx_8 w (by omega)]
      refine nm_e (pt_84 hN hc hw h1 hl (by rw [pk_us]) g1 (g2 c (Nat.le_refl c)) (fun d11 d12 H' q1 q2 q3 q4 q5 => ?_))
      refine hW (upd b9 c (nI w), upd b10 c (nI (cl_t lt c N)), d11, d12) ⟨H', q3, fun r hr j => by rw [q5 r (by omega) j, g2 r (by omega) j], fun c' hc' => ?_⟩
      by_cases e : c' = c
      · rw [e]
        exact ⟨w, hw, by try dsimp only; rw [pk_us], by try dsimp only; rw [pk_us], q4, q2⟩
      · obtain ⟨w', r1, r2, r3, r4, r5⟩ := g3 c' (by omega)
        refine ⟨w', r1, by try dsimp only; rw [pk_un e]; exact r2, by try dsimp only; rw [pk_un e]; exact r3, ?_, fun i hi he => ?_⟩
        · rw [show H' c' = H c' from funext (fun j => q5 c' e j)]
          exact r4
        · try dsimp only
          have z1 : cl_t lt (c' + 1) N ≤ cl_t lt c N := cl_mono lt (by omega) N
          have z2 : ct_t lt c' i < ct_t lt c' N := cn_lt (decide_eq_true he) hi
          rw [cl_nx] at z1
          rw [q1 _ (by omega)]
          exact r5 i hi he
  · intro n i s hi hs hW
    refine pk_le 104 i (fun z => absurd z (by omega)) (fun _ => ⟨pk_in i 104 hi, nm_e (nm_r (nI_1 i) (hW _ ?_))⟩)
    intro j hj
    rw [nI_clamp (show i < 2 ^ 31 by omega)]
    by_cases e : j = i
    · rw [e, pk_us]
    · rw [pk_un e, hs j (by omega)]
/-! answers -/
theorem sx_join (t w : Nat) : t / 2 ^ w * 2 ^ w ||| t % 2 ^ w = t := by
  rw [Nat.mul_comm, ← Nat.two_pow_add_eq_or_of_lt (Nat.mod_lt _ (Nat.two_pow_pos w)), Nat.div_add_mod]
theorem sq_selectInParts {post : Int32 → Prop} {f1 f2 f3 f4 f5 : Int32} {a1 a2 a3 a4 a5 a6 a7 a8 a9 a10 a11 a12 a13 a14 a15 a16 a17 a18 a19 a20 a21 a22 a23 a24 a25 a26 a27 : Nat → Int32} {lt : Nat → Nat} {N c t : Nat} {H : Nat → Nat → Bool} (hN : N ≤ 200) (hH : hb_ok a12 H) (hP : pt_c lt N a9 a10 a11 H c) (hc : c < 8) (ht : t < N) (he : lt t = c)
    (hp : post (nI t)) : wpX_selectInParts post (f1, f2, f3, f4, f5, a1, a2, a3, a4, a5, a6, a7, a8, a9, a10, a11, a12, a13, a14, a15, a16, a17, a18, a19, a20, a21, a22, a23, a24, a25, a26, a27) (nI c) (nI (ct_t lt c t)) := by
  obtain ⟨w, w1, w2, w3, ⟨w4, _, w6⟩, w7⟩ := hP
  have hk : ct_t lt c t ≤ t := cn_le _ _
  have hd : t / 2 ^ w ≤ t := Nat.div_le_self _ _
  have hd0 : 0 ≤ t / 2 ^ w := Nat.zero_le _
  have hA := w4 t (by omega)
  have hB := w6 t ht he
  have hcl : cl_t lt c N + ct_t lt c t < N := by
    have z2 : ct_t lt c t < ct_t lt c N := cn_lt (decide_eq_true he) ht
    have hb2 : cl_t lt (c + 1) N ≤ N := cn_le _ _
    rw [cl_nx] at hb2
    omega
  have main : ∀ j x, x + j = t / 2 ^ w + ct_t lt c t → wX_selectInParts_8 post (nI c) (nI (ct_t lt c t)) f1 f2 f3 f4 f5 a1 a2 a3 a4 a5 a6 a7 a8 a9 a10 a11 a12 a13 a14 a15 a16 a17 a18 a19 a20 a21 a22 a23 a24 a25 a26 a27 (j + 2) (nI x) (nI (cn_t (H c) x)) (nI 1) := by
    intro j
    induction j with
    | zero =>
      intro x e
      refine br_f (by decide) (sq_highAt hH hc (by omega) ?_)
      rw [show x = t / 2 ^ w + ct_t lt c t by omega, hB, hA]
      refine br_f (by decide) (br_t rfl (br_f (by decide) (nm_e (br_t rfl (nm_r (nI_add _ 0) ?_)))))
      refine br_t rfl ⟨pk_in c 8 hc, pk_in c 9 (by omega), ?_⟩
      rw [nI_clamp (show c < 2 ^ 31 by omega), w2, w3, nI_add, nI_clamp (show cl_t lt c N + ct_t lt c t < 2 ^ 31 by omega), w7 t ht he]
      refine ⟨vp_in_nI (by omega) (by omega), ?_⟩
      have hle : t / 2 ^ w * 2 ^ w ≤ t := Nat.div_mul_le_self _ _
      rw [Nat.add_zero, pk_sub (by omega), show t / 2 ^ w + ct_t lt c t - ct_t lt c t = t / 2 ^ w by omega, pk_shlN _ w (s_l w (by omega)) (by omega), nx_or, sx_join]
      exact hp
    | succ j ih =>
      intro x e
      refine br_f (by decide) (sq_highAt hH hc (by omega) ?_)
      have W := ih (x + 1) (by omega)
      have hcx := cn_le (H c) x
      cases hx : H c x with
      | true =>
        have hlt : cn_t (H c) x < cn_t (H c) (t / 2 ^ w + ct_t lt c t) := cn_lt hx (by omega)
        rw [hA] at hlt
        rw [cn_sT hx] at W
        refine br_f (by decide) (sy_eq (fun z => absurd z (by omega)) (fun _ => ?_))
        exact br_f (by decide) (nm_r (nI_1 _) (br_f (by decide) (nm_r (nI_1 x) W)))
      | false =>
        rw [cn_sF hx] at W
        refine br_t rfl (br_t rfl (nm_r (nI_add _ 0) (br_f (by decide) (nm_r (nI_1 x) W))))
  exact ⟨_, main _ 0 (Nat.zero_add _)⟩
theorem sq_rankInParts {post : Int32 → Prop} {f1 f2 f3 f4 f5 : Int32} {a1 a2 a3 a4 a5 a6 a7 a8 a9 a10 a11 a12 a13 a14 a15 a16 a17 a18 a19 a20 a21 a22 a23 a24 a25 a26 a27 : Nat → Int32} {lt : Nat → Nat} {N c place : Nat} {H : Nat → Nat → Bool} (hN : N ≤ 200) (h2 : ∀ c, c < 8 → a2 c = nI (ct_t lt c N)) (hH : hb_ok a12 H) (hP : ∀ c, c < 8 → pt_c lt N a9 a10 a11 H c) (hc : c < 8) (hpl : place ≤ N)
    (hp : post (nI (ct_t lt c place))) : wpX_rankInParts post (f1, f2, f3, f4, f5, a1, a2, a3, a4, a5, a6, a7, a8, a9, a10, a11, a12, a13, a14, a15, a16, a17, a18, a19, a20, a21, a22, a23, a24, a25, a26, a27) (nI c) (nI place) := by
  have hcN : ct_t lt c N ≤ N := cn_le _ _
  have main : ∀ fu lo hi, hi - lo < fu → lo ≤ ct_t lt c place → ct_t lt c place ≤ hi → hi ≤ ct_t lt c N → wX_rankInParts_10 post (nI c) (nI place) f1 f2 f3 f4 f5 a1 a2 a3 a4 a5 a6 a7 a8 a9 a10 a11 a12 a13 a14 a15 a16 a17 a18 a19 a20 a21 a22 a23 a24 a25 a26 a27 fu (nI lo) (nI hi) := by
    intro fu
    induction fu with
    | zero => intro lo hi h; exact absurd h (Nat.not_lt_zero _)
    | succ fu ih =>
      intro lo hi hf hlo hhi hN2
      refine pk_le hi lo (fun h => ?_) (fun h => ?_)
      · rw [show lo = ct_t lt c place by omega]
        exact hp
      · refine ⟨by decide, nm_r (sx_half lo hi (by omega)) ?_⟩
        obtain ⟨t, t1, t2, t3⟩ := cn_find (f := fun j => decide (lt j = c)) (k := (lo + hi) / 2) (n := N) (by have : ct_t lt c N = cn_t (fun j => decide (lt j = c)) N := rfl; omega)
        have t4 : lt t = c := of_decide_eq_true t2
        have t5 : ct_t lt c t = (lo + hi) / 2 := t3
        rw [← t5]
        refine sq_selectInParts hN hH (hP c hc) hc t1 t4 ?_
        refine pk_le place t (fun z => ?_) (fun z => ?_)
        · refine br_t rfl (br_t rfl (ih _ _ (by omega) hlo ?_ (by omega)))
          exact cn_mono _ z
        · refine br_f (by decide) (br_f (by decide) ?_)
          rw [nI_1]
          refine ih _ _ (by omega) ?_ hhi hN2
          exact cn_lt (f := fun j => decide (lt j = c)) t2 z
  unfold wpX_rankInParts
  try dsimp only
  rw [nI_clamp (show c < 2 ^ 31 by omega), h2 c hc]
  exact ⟨pk_in c 8 hc, nm_e ⟨_, main _ 0 _ (Nat.lt_succ_self _) (Nat.zero_le _) (cn_mono _ hpl) (Nat.le_refl _)⟩⟩
end
section
/-! part 9: blocks of seven bits -/
def ch_t : Nat → Nat → Nat
  | _, 0 => 1
  | 0, _ + 1 => 0
  | n + 1, k + 1 => ch_t n k + ch_t n (k + 1)
def ch_ok (a16 : Nat → Int32) : Prop := ∀ n k, n < 8 → k < 8 → a16 (n * 8 + k) = nI (ch_t n k)
theorem ch_lt : ∀ n, n < 8 → ∀ k, k < 8 → ch_t n k < 128 := by decide +kernel
def bb_t (f : Nat → Bool) (s : Nat) : Nat → Nat
  | 0 => 0
  | i + 1 => bb_t f s i ||| (if f (s + i) then 2 ^ i else 0)
theorem bb_bit (f : Nat → Bool) (s i j : Nat) : (bb_t f s i).testBit j = (decide (j < i) && f (s + j)) := by
  induction i with
  | zero =>
    rw [decide_eq_false (Nat.not_lt_zero j), Bool.false_and]
    exact Nat.zero_testBit j
  | succ i ih =>
    show (bb_t f s i ||| (if f (s + i) then 2 ^ i else 0)).testBit j = _
    rw [Nat.testBit_or, ih]
    by_cases e : j = i
    · rw [e, decide_eq_false (Nat.lt_irrefl i), decide_eq_true (Nat.lt_succ_self i), Bool.false_and, Bool.false_or, Bool.true_and]
      cases hf : f (s + i) with
      | true => rw [if_pos rfl, Nat.testBit_two_pow_self]
      | false => rw [if_neg (by decide), Nat.zero_testBit]
    · have e2 : (if f (s + i) then 2 ^ i else 0).testBit j = false := by
        cases hf : f (s + i) with
        | true => rw [if_pos rfl, Nat.testBit_two_pow_of_ne (fun z => e z.symm)]
        | false => rw [if_neg (by decide), Nat.zero_testBit]
      rw [e2, Bool.or_false]
      by_cases e3 : j < i
      · rw [decide_eq_true e3, decide_eq_true (show j < i + 1 by omega)]
      · rw [decide_eq_false e3, decide_eq_false (show ¬ j < i + 1 by omega)]
theorem bb_lt (f : Nat → Bool) (s : Nat) : bb_t f s 7 < 128 := by
  refine Nat.lt_pow_two_of_testBit (n := 7) _ (fun i hi => ?_)
  rw [bb_bit, decide_eq_false (by omega), Bool.false_and]
theorem sx_1i : ∀ i, i < 8 → (1 : Int32) <<< (nI i &&& 31) = nI (2 ^ i) := by decide +kernel
theorem sx_or0 (n : Nat) : nI n ||| 0 = nI n := by
  rw [← nI_0, nx_or, Nat.or_zero]
/-- the map of letter c -/
def lc_t (lt : Nat → Nat) (N c j : Nat) : Bool := decide (j < N) && decide (lt j = c)
theorem sq_blockBits {post : Int32 → Prop} {f2 f3 f4 f5 : Int32} {a1 a2 a3 a4 a5 a6 a7 a8 a9 a10 a11 a12 a13 a14 a15 a16 a17 a18 a19 a20 a21 a22 a23 a24 a25 a26 a27 : Nat → Int32} {lt : Nat → Nat} {N c b : Nat} (hN : N ≤ 200) (h1 : ∀ i, i < N → a1 i = nI (lt i)) (hl : ∀ i, lt i < 8) (hc : c < 8) (hb : b < 30)
    (hp : post (nI (bb_t (lc_t lt N c) (7 * b) 7))) : wpX_blockBits post ((nI N), f2, f3, f4, f5, a1, a2, a3, a4, a5, a6, a7, a8, a9, a10, a11, a12, a13, a14, a15, a16, a17, a18, a19, a20, a21, a22, a23, a24, a25, a26, a27) (nI c) (nI b) := by
  refine pk_loop (σ := Unit) (fun n i _ => wX_blockBits_5 post (nI c) (nI b) (nI N) f2 f3 f4 f5 a1 a2 a3 a4 a5 a6 a7 a8 a9 a10 a11 a12 a13 a14 a15 a16 a17 a18 a19 a20 a21 a22 a23 a24 a25 a26 a27 n (nI (bb_t (lc_t lt N c) (7 * b) i)) (nI i)) (fun _ _ => True) 7 0 () (by omega) trivial ?_ ?_
  · intro n _ _
    exact pk_le 7 7 (fun _ => hp) (fun z => absurd z (by omega))
  · intro n i _ hi _ hW
    have W := hW () trivial
    try dsimp only at W
    unfold bb_t at W
    refine pk_le 7 i (fun z => absurd z (by omega)) (fun _ => ?_)
    refine nm_r (e' := nI (7 * b + i)) ?_ ?_
    · rw [sx_ma b 7 i 7 rfl, Nat.mul_comm]
    · refine pk_le N (7 * b + i) (fun z => ?_) (fun z => ⟨vp_in_nI (by omega) (by omega), ?_⟩)
      · have e : lc_t lt N c (7 * b + i) = false := by unfold lc_t; rw [decide_eq_false (by omega), Bool.false_and]
        rw [e, if_neg (by decide), Nat.or_zero] at W
        exact nm_r (sx_or0 _) (nm_r (nI_1 i) W)
      · have h8 := hl (7 * b + i)
        rw [nI_clamp (show 7 * b + i < 2 ^ 31 by omega), h1 _ z]
        refine pk_eq (lt (7 * b + i)) c (fun q => ?_) (fun q => ?_)
        · have e : lc_t lt N c (7 * b + i) = true := by unfold lc_t; rw [decide_eq_true z, decide_eq_true q]; rfl
          rw [e, if_pos rfl] at W
          refine nm_r ?_ (nm_r (nI_1 i) W)
          rw [sx_1i i (by omega), nx_or]
        · have e : lc_t lt N c (7 * b + i) = false := by unfold lc_t; rw [decide_eq_false q, Bool.and_false]
          rw [e, if_neg (by decide), Nat.or_zero] at W
          exact nm_r (sx_or0 _) (nm_r (nI_1 i) W)
/-- the number of a block among those with as many ones, and back -/
def nb_t (m : Nat) : Nat → Nat → Nat → Nat
  | 0, _, num => num
  | k + 1, left, num => if left = 0 then num else if m.testBit (6 - k) then nb_t m k (left - 1) (num + (if k < left then 0 else ch_t k left)) else nb_t m k left num
def bo_t : Nat → Nat → Nat → Nat → Nat
  | 0, _, _, bits => bits
  | k + 1, left, rank, bits => if left = 0 then bits else if rank < (if k < left then 0 else ch_t k left) then bo_t k left rank bits else bo_t k (left - 1) (rank - (if k < left then 0 else ch_t k left)) (bits ||| 2 ^ (6 - k))
theorem nb_ok : ∀ m, m < 128 → nb_t m 7 (pp_t m) 0 < 128 ∧ bo_t 7 (pp_t m) (nb_t m 7 (pp_t m) 0) 0 = m ∧ pp_t m < 8 := by decide +kernel
theorem sx_tb : ∀ m, m < 128 → ∀ i, i < 8 → (nI m >>> (nI i &&& 31)) &&& 1 = nI (m.testBit i).toNat := by decide +kernel
theorem sq_numberOf {post : Int32 → Prop} {f1 f2 f3 f4 f5 : Int32} {a1 a2 a3 a4 a5 a6 a7 a8 a9 a10 a11 a12 a13 a14 a15 a16 a17 a18 a19 a20 a21 a22 a23 a24 a25 a26 a27 : Nat → Int32} {m left : Nat} (hm : m < 128) (hl : left < 8) (hc : ch_ok a16) (hp : post (nI (nb_t m 7 left 0))) : wpX_numberOf post (f1, f2, f3, f4, f5, a1, a2, a3, a4, a5, a6, a7, a8, a9, a10, a11, a12, a13, a14, a15, a16, a17, a18, a19, a20, a21, a22, a23, a24, a25, a26, a27) (nI m) (nI left) := by
  have main : ∀ k i left num, i + k = 7 → left < 8 → post (nI (nb_t m k left num)) → wX_numberOf_8 post (nI m) f1 f2 f3 f4 f5 a1 a2 a3 a4 a5 a6 a7 a8 a9 a10 a11 a12 a13 a14 a15 a16 a17 a18 a19 a20 a21 a22 a23 a24 a25 a26 a27 (k + 1) (nI num) (nI left) (nI i) := by
    intro k
    induction k with
    | zero =>
      intro i left num e _ hp
      rw [show i = 7 by omega]
      exact pk_le 7 7 (fun _ => hp) (fun z => absurd z (by omega))
    | succ k ih =>
      intro i left num e hl hp
      unfold nb_t at hp
      refine pk_le 7 i (fun z => absurd z (by omega)) (fun _ => pk_le left 0 (fun z => ?_) (fun z => ?_))
      · rw [if_pos (show left = 0 by omega)] at hp
        exact hp
      · rw [if_neg (show ¬ left = 0 by omega), show 6 - k = i by omega] at hp
        refine nm_r (e' := nI k) ?_ ?_
        · rw [show (6 : Int32) - nI i = nI (6 - i) from pk_sub (a := 6) (by omega), show 6 - i = k by omega]
        · rw [sx_tb m hm i (by omega)]
          cases hb : m.testBit i with
          | false =>
            rw [hb, if_neg (by decide)] at hp
            exact br_t rfl (nm_r (nI_1 i) (ih (i + 1) left num (by omega) hl hp))
          | true =>
            rw [hb, if_pos rfl] at hp
            refine br_f (by decide) (pk_lt k left (fun q => ?_) (fun q => ?_))
            · rw [if_pos q] at hp
              refine nm_r (nI_add _ 0) (nm_r (sb_m1 (by omega)) (nm_r (nI_1 i) (ih (i + 1) _ _ (by omega) (by omega) hp)))
            · rw [if_neg (show ¬ k < left by omega)] at hp
              rw [sx_ma k 8 left 8 rfl, nI_clamp (show k * 8 + left < 2 ^ 31 by omega), hc k left (by omega) hl]
              exact ⟨vp_in_nI (by omega) (by omega), nm_r (nI_add _ _) (nm_r (sb_m1 (by omega)) (nm_r (nI_1 i) (ih (i + 1) _ _ (by omega) (by omega) hp)))⟩
  exact ⟨8, main 7 0 left 0 rfl hl hp⟩
theorem sq_bitsOf {post : Int32 → Prop} {f1 f2 f3 f4 f5 : Int32} {a1 a2 a3 a4 a5 a6 a7 a8 a9 a10 a11 a12 a13 a14 a15 a16 a17 a18 a19 a20 a21 a22 a23 a24 a25 a26 a27 : Nat → Int32} {num left : Nat} (hn : num < 128) (hl : left < 8) (hc : ch_ok a16) (hp : post (nI (bo_t 7 left num 0))) : wpX_bitsOf post (f1, f2, f3, f4, f5, a1, a2, a3, a4, a5, a6, a7, a8, a9, a10, a11, a12, a13, a14, a15, a16, a17, a18, a19, a20, a21, a22, a23, a24, a25, a26, a27) (nI num) (nI left) := by
  have main : ∀ k i left rank bits, i + k = 7 → left < 8 → rank < 128 → post (nI (bo_t k left rank bits)) → wX_bitsOf_11 post f1 f2 f3 f4 f5 a1 a2 a3 a4 a5 a6 a7 a8 a9 a10 a11 a12 a13 a14 a15 a16 a17 a18 a19 a20 a21 a22 a23 a24 a25 a26 a27 (k + 1) (nI bits) (nI left) (nI rank) (nI i) := by
    intro k
    induction k with
    | zero =>
      intro i left rank bits e _ _ hp
      rw [show i = 7 by omega]
      exact pk_le 7 7 (fun _ => hp) (fun z => absurd z (by omega))
    | succ k ih =>
      intro i left rank bits e hl hr hp
      unfold bo_t at hp
      refine pk_le 7 i (fun z => absurd z (by omega)) (fun _ => pk_le left 0 (fun z => ?_) (fun z => ?_))
      · rw [if_pos (show left = 0 by omega)] at hp
        exact hp
      · rw [if_neg (show ¬ left = 0 by omega), show 6 - k = i by omega] at hp
        have J : ∀ wo, wo < 128 → post (nI (if rank < wo then bo_t k left rank bits else bo_t k (left - 1) (rank - wo) (bits ||| 2 ^ i))) → wX_bitsOf_54 post (wX_bitsOf_11 post f1 f2 f3 f4 f5 a1 a2 a3 a4 a5 a6 a7 a8 a9 a10 a11 a12 a13 a14 a15 a16 a17 a18 a19 a20 a21 a22 a23 a24 a25 a26 a27 (k + 1)) (nI bits) (nI left) (nI rank) (nI i) (nI wo) f1 f2 f3 f4 f5 a1 a2 a3 a4 a5 a6 a7 a8 a9 a10 a11 a12 a13 a14 a15 a16 a17 a18 a19 a20 a21 a22 a23 a24 a25 a26 a27 := by
          intro wo hwo hp
          refine pk_lt rank wo (fun q => ?_) (fun q => ?_)
          · rw [if_pos q] at hp
            exact nm_r (nI_1 i) (ih (i + 1) _ _ _ (by omega) hl hr hp)
          · rw [if_neg (show ¬ rank < wo by omega)] at hp
            refine nm_r (pk_sub q) (nm_r (e' := nI (bits ||| 2 ^ i)) ?_ (nm_r (sb_m1 (by omega)) (nm_r (nI_1 i) (ih (i + 1) _ _ _ (by omega) (by omega) (by omega) hp))))
            rw [sx_1i i (by omega), nx_or]
        refine nm_r (e' := nI k) ?_ ?_
        · rw [show (6 : Int32) - nI i = nI (6 - i) from pk_sub (a := 6) (by omega), show 6 - i = k by omega]
        · refine pk_lt k left (fun q => ?_) (fun q => ?_)
          · rw [if_pos q] at hp
            exact J 0 (by omega) hp
          · rw [if_neg (show ¬ k < left by omega)] at hp
            rw [sx_ma k 8 left 8 rfl, nI_clamp (show k * 8 + left < 2 ^ 31 by omega), hc k left (by omega) hl]
            exact ⟨vp_in_nI (by omega) (by omega), J _ (ch_lt k (by omega) left hl) hp⟩
  exact ⟨8, main 7 0 left num 0 rfl hl hn hp⟩
/-- one block of one letter -/
def bk_t (lt : Nat → Nat) (N c b : Nat) : Nat := bb_t (lc_t lt N c) (7 * b) 7
theorem bk_pp (lt : Nat → Nat) (N c b : Nat) : pp_t (bk_t lt N c b) = cn_t (fun j => lc_t lt N c (7 * b + j)) 7 := by
  show cn_t (fun j => (bb_t (lc_t lt N c) (7 * b) 7).testBit j) (7 + 1) = _
  rw [cn_sF (by rw [bb_bit]; rfl)]
  exact cn_ext (fun j hj => by rw [bb_bit, decide_eq_true hj, Bool.true_and])
def bk_c (lt : Nat → Nat) (N : Nat) (a13 a14 a15 : Nat → Int32) (c k : Nat) : Prop := ∀ b, b < k → a13 (c * 30 + b) = nI (pp_t (bk_t lt N c b)) ∧ a14 (c * 30 + b) = nI (nb_t (bk_t lt N c b) 7 (pp_t (bk_t lt N c b)) 0) ∧ a15 (c * 31 + b) = nI (cn_t (lc_t lt N c) (7 * b))
theorem bk_12 {post : St2 → Prop} {J : _} {f2 f3 f4 f5 : Int32} {a1 a2 a3 a4 a5 a6 a7 a8 a9 a10 a11 a12 a13 a14 a15 a16 a17 a18 a19 a20 a21 a22 a23 a24 a25 a26 a27 : Nat → Int32} {lt : Nat → Nat} {N c : Nat} (hN : N ≤ 200) (h1 : ∀ i, i < N → a1 i = nI (lt i)) (hl : ∀ i, lt i < 8) (hc : c < 8) (h16 : ch_ok a16)
    (K : ∀ b13 b14 b15, (∀ j, j < c * 30 → b13 j = a13 j ∧ b14 j = a14 j) → (∀ j, j < c * 31 → b15 j = a15 j) → bk_c lt N b13 b14 b15 c 30 → J (nI (c + 1)) a1 a2 a3 a4 a5 a6 a7 a8 a9 a10 a11 a12 b13 b14 b15 a16 a17 a18 a19 a20 a21 a22 a23 a24 a25 a26 a27) :
    ∃ fu, wX_packBlocks_12 post J (nI c) (nI N) f2 f3 f4 f5 fu 0 0 a1 a2 a3 a4 a5 a6 a7 a8 a9 a10 a11 a12 a13 a14 a15 a16 a17 a18 a19 a20 a21 a22 a23 a24 a25 a26 a27 := by
  have hle : ∀ b, b ≤ 30 → cn_t (lc_t lt N c) (7 * b) ≤ 210 := by
    intro b hb
    have := cn_le (lc_t lt N c) (7 * b)
    omega
  refine pk_loop (fun n b s => wX_packBlocks_12 post J (nI c) (nI N) f2 f3 f4 f5 n (nI (cn_t (lc_t lt N c) (7 * b))) (nI b) a1 a2 a3 a4 a5 a6 a7 a8 a9 a10 a11 a12 s.1 s.2.1 s.2.2 a16 a17 a18 a19 a20 a21 a22 a23 a24 a25 a26 a27)
    (fun b s => (∀ j, j < c * 30 → s.1 j = a13 j ∧ s.2.1 j = a14 j) ∧ (∀ j, j < c * 31 → s.2.2 j = a15 j) ∧ bk_c lt N s.1 s.2.1 s.2.2 c b) 30 0 (a13, a14, a15) (by omega) ⟨fun j _ => ⟨rfl, rfl⟩, fun j _ => rfl, fun b h => absurd h (by omega)⟩ ?_ ?_
  · intro n s hs
    obtain ⟨b13, b14, b15⟩ := s
    obtain ⟨g1, g2, g3⟩ := hs
    try dsimp only at g1 g2 g3
    refine pk_le 30 30 (fun _ => ?_) (fun z => absurd z (by omega))
    try dsimp only
    rw [show nI c * 31 + 30 = nI (c * 31 + 30) from sx_ma c 31 30 31 rfl, nI_clamp (show c * 31 + 30 < 2 ^ 31 by omega)]
    refine ⟨vp_in_nI (by omega) (by omega), nm_e (nm_r (nI_1 c) (K b13 b14 _ g1 (fun j hj => ?_) (fun b hb => ?_)))⟩
    · rw [pk_un (by omega), g2 j hj]
    · rw [pk_un (by omega)]
      exact g3 b hb
  · intro n b s hb hs hW
    obtain ⟨b13, b14, b15⟩ := s
    obtain ⟨g1, g2, g3⟩ := hs
    try dsimp only at g1 g2 g3
    have hm : bk_t lt N c b < 128 := bb_lt _ _
    obtain ⟨m1, _, m3⟩ := nb_ok _ hm
    have hs1 := hle b (by omega)
    refine pk_le 30 b (fun z => absurd z (by omega)) (fun _ => sq_blockBits hN h1 hl hc hb (sq_onesIn _ (show bb_t (lc_t lt N c) (7 * b) 7 < 256 from Nat.lt_trans hm (by omega)) ?_))
    try dsimp only
    rw [sx_ma c 31 b 31 rfl, sx_ma c 30 b 30 rfl, nI_clamp (show c * 31 + b < 2 ^ 31 by omega), nI_clamp (show c * 30 + b < 2 ^ 31 by omega), sx_16 _ (by omega), sx_8 _ (show pp_t (bb_t (lc_t lt N c) (7 * b) 7) < 128 from Nat.lt_trans m3 (by omega))]
    refine ⟨vp_in_nI (by omega) (by omega), nm_e ⟨vp_in_nI (by omega) (by omega), nm_e (sq_numberOf hm m3 h16 ⟨vp_in_nI (by omega) (by omega), ?_⟩)⟩⟩
    have m1' : nb_t (bb_t (lc_t lt N c) (7 * b) 7) 7 (pp_t (bb_t (lc_t lt N c) (7 * b) 7)) 0 < 128 := m1
    rw [sx_8 _ m1']
    have W := hW (upd b13 (c * 30 + b) (nI (pp_t (bk_t lt N c b))), upd b14 (c * 30 + b) (nI (nb_t (bk_t lt N c b) 7 (pp_t (bk_t lt N c b)) 0)), upd b15 (c * 31 + b) (nI (cn_t (lc_t lt N c) (7 * b)))) ⟨fun j hj => ?_, fun j hj => ?_, fun b' hb' => ?_⟩
    · refine nm_e (nm_r ?_ (nm_r (nI_1 b) W))
      show nI _ + nI (pp_t (bk_t lt N c b)) = _
      rw [nI_add, bk_pp, show 7 * (b + 1) = 7 * b + 7 by omega, cn_add]
    · try dsimp only
      rw [pk_un (by omega), pk_un (by omega)]
      exact g1 j hj
    · try dsimp only
      rw [pk_un (by omega)]
      exact g2 j hj
    · try dsimp only
      by_cases e : b' = b
      · rw [e, pk_us, pk_us, pk_us]
        exact ⟨rfl, rfl, rfl⟩
      · rw [pk_un (by omega), pk_un (by omega), pk_un (by omega)]
        exact g3 b' (by omega)
theorem sq_packBlocks {post : St2 → Prop} {f2 f3 f4 f5 : Int32} {a1 a2 a3 a4 a5 a6 a7 a8 a9 a10 a11 a12 a13 a14 a15 a16 a17 a18 a19 a20 a21 a22 a23 a24 a25 a26 a27 : Nat → Int32} {lt : Nat → Nat} {N : Nat} (hN : N ≤ 200) (h1 : ∀ i, i < N → a1 i = nI (lt i)) (hl : ∀ i, lt i < 8) (h16 : ch_ok a16)
    (K : ∀ b13 b14 b15, (∀ c, c < 8 → bk_c lt N b13 b14 b15 c 30) → post ((nI N), f2, f3, f4, f5, a1, a2, a3, a4, a5, a6, a7, a8, a9, a10, a11, a12, b13, b14, b15, a16, a17, a18, a19, a20, a21, a22, a23, a24, a25, a26, a27)) :
    wpX_packBlocks post ((nI N), f2, f3, f4, f5, a1, a2, a3, a4, a5, a6, a7, a8, a9, a10, a11, a12, a13, a14, a15, a16, a17, a18, a19, a20, a21, a22, a23, a24, a25, a26, a27) := by
  refine pk_loop (fun n c s => wX_packBlocks_2 post (nI N) f2 f3 f4 f5 n (nI c) a1 a2 a3 a4 a5 a6 a7 a8 a9 a10 a11 a12 s.1 s.2.1 s.2.2 a16 a17 a18 a19 a20 a21 a22 a23 a24 a25 a26 a27)
    (fun c s => ∀ c', c' < c → bk_c lt N s.1 s.2.1 s.2.2 c' 30) 8 0 (a13, a14, a15) (by omega) (fun c' h => absurd h (by omega)) ?_ ?_
  · intro n s hs
    obtain ⟨b13, b14, b15⟩ := s
    exact pk_le 8 8 (fun _ => K b13 b14 b15 hs) (fun z => absurd z (by omega))
  · intro n c s hc hs hW
    obtain ⟨b13, b14, b15⟩ := s
    try dsimp only at hs
    refine pk_le 8 c (fun z => absurd z (by omega)) (fun _ => bk_12 hN h1 hl hc h16 (fun d13 d14 d15 q1 q2 q3 => hW (d13, d14, d15) (fun c' hc' => ?_)))
    try dsimp only
    by_cases e : c' = c
    · rw [e]; exact q3
    · intro b hb
      obtain ⟨r1, r2, r3⟩ := hs c' (by omega) b hb
      refine ⟨?_, ?_, ?_⟩
      · rw [(q1 _ (by omega)).1]; exact r1
      · rw [(q1 _ (by omega)).2]; exact r2
      · rw [q2 _ (by omega)]; exact r3
theorem sq_rankInBlocks {post : Int32 → Prop} {f1 f2 f3 f4 f5 : Int32} {a1 a2 a3 a4 a5 a6 a7 a8 a9 a10 a11 a12 a13 a14 a15 a16 a17 a18 a19 a20 a21 a22 a23 a24 a25 a26 a27 : Nat → Int32} {lt : Nat → Nat} {N c place : Nat} (hN : N ≤ 200) (h16 : ch_ok a16) (hB : ∀ c, c < 8 → bk_c lt N a13 a14 a15 c 30) (hc : c < 8) (hpl : place ≤ N)
    (hp : post (nI (ct_t lt c place))) : wpX_rankInBlocks post (f1, f2, f3, f4, f5, a1, a2, a3, a4, a5, a6, a7, a8, a9, a10, a11, a12, a13, a14, a15, a16, a17, a18, a19, a20, a21, a22, a23, a24, a25, a26, a27) (nI c) (nI place) := by
  obtain ⟨r1, r2, r3⟩ := hB c hc (place / 7) (by omega)
  have hm : bk_t lt N c (place / 7) < 128 := bb_lt _ _
  obtain ⟨m1, m2, m3⟩ := nb_ok _ hm
  refine ⟨by decide, nm_r (pk_div (d := 7) (show place < 2 ^ 31 by omega) (by omega) (by omega)) ⟨by decide, nm_r (pk_rem (d := 7) (show place < 2 ^ 31 by omega) (by omega) (by omega)) ?_⟩⟩
  rw [sx_ma c 30 (place / 7) 30 rfl, sx_ma c 31 (place / 7) 31 rfl, nI_clamp (show c * 30 + place / 7 < 2 ^ 31 by omega), nI_clamp (show c * 31 + place / 7 < 2 ^ 31 by omega), r1, r2, r3]
  refine ⟨vp_in_nI (by omega) (by omega), vp_in_nI (by omega) (by omega), sq_bitsOf m1 m3 h16 ⟨vp_in_nI (by omega) (by omega), ?_⟩⟩
  rw [m2, pk_andN (show bk_t lt N c (place / 7) < 2 ^ 32 by omega) (place % 7) (sx_m1 _ (by omega))]
  have hmod : bk_t lt N c (place / 7) % 2 ^ (place % 7) ≤ bk_t lt N c (place / 7) := Nat.mod_le _ _
  refine sq_onesIn _ (by omega) ?_
  have e1 : pp_t (bk_t lt N c (place / 7) % 2 ^ (place % 7)) = cn_t (fun j => lc_t lt N c (7 * (place / 7) + j)) (place % 7) := by
    have e2 : pp_t (bk_t lt N c (place / 7) % 2 ^ (place % 7)) = cn_t (fun j => (bk_t lt N c (place / 7) % 2 ^ (place % 7)).testBit j) (place % 7) :=
      cn_F (by omega) (fun j q _ => by rw [Nat.testBit_mod_two_pow, decide_eq_false (by omega), Bool.false_and])
    rw [e2]
    refine cn_ext (fun j hj => ?_)
    rw [Nat.testBit_mod_two_pow, decide_eq_true hj, Bool.true_and]
    unfold bk_t
    rw [bb_bit, decide_eq_true (by omega), Bool.true_and]
  rw [e1, nI_add, ← cn_add, show 7 * (place / 7) + place % 7 = place by omega, mx_cn (N := N) (f := lc_t lt N c) (d := fun j => decide (lt j = c)) (fun j => rfl) hpl]
  exact hp
end
section
/-! part 10: the law's list a^p b^q a^r, and its three runs -/
def ab_t (a b p q j : Nat) : Nat := if j < p then a else if j < p + q then b else a
theorem ab_lo {a b p q j : Nat} (h : j < p) : ab_t a b p q j = a := if_pos h
theorem ab_mi {a b p q j : Nat} (h : p ≤ j) (h2 : j < p + q) : ab_t a b p q j = b := by
  unfold ab_t
  rw [if_neg (by omega), if_pos h2]
theorem ab_hi {a b p q j : Nat} (h : p + q ≤ j) : ab_t a b p q j = a := by
  unfold ab_t
  rw [if_neg (by omega), if_neg (by omega)]
theorem ab_or (a b p q j : Nat) : ab_t a b p q j = a ∨ ab_t a b p q j = b := by
  unfold ab_t
  by_cases h : j < p
  · rw [if_pos h]; exact Or.inl rfl
  · rw [if_neg h]
    by_cases h2 : j < p + q
    · rw [if_pos h2]; exact Or.inr rfl
    · rw [if_neg h2]; exact Or.inl rfl
/-- how often a and b stand before i -/
def na_t (p q i : Nat) : Nat := min i p + (i - (p + q))
def nb2_t (p q i : Nat) : Nat := min (i - p) q
theorem ab_ct {a b p q : Nat} (hab : a ≠ b) (c i : Nat) : (c = a → ct_t (ab_t a b p q) c i = na_t p q i) ∧ (c = b → ct_t (ab_t a b p q) c i = nb2_t p q i) ∧ (c ≠ a → c ≠ b → ct_t (ab_t a b p q) c i = 0) := by
  refine ⟨fun h => ?_, fun h => ?_, fun h h' => ?_⟩
  · rw [h]
    induction i with
    | zero => show 0 = _; unfold na_t; omega
    | succ i ih =>
      show ct_t (ab_t a b p q) a i + (decide (ab_t a b p q i = a)).toNat = _
      rw [ih]
      unfold na_t
      by_cases h1 : i < p
      · rw [ab_lo h1, decide_eq_true rfl]; show _ + 1 = _; omega
      · by_cases h2 : i < p + q
        · rw [ab_mi (by omega) h2, decide_eq_false (fun z => hab z.symm)]; show _ + 0 = _; omega
        · rw [ab_hi (by omega), decide_eq_true rfl]; show _ + 1 = _; omega
  · rw [h]
    induction i with
    | zero => show 0 = _; unfold nb2_t; omega
    | succ i ih =>
      show ct_t (ab_t a b p q) b i + (decide (ab_t a b p q i = b)).toNat = _
      rw [ih]
      unfold nb2_t
      by_cases h1 : i < p
      · rw [ab_lo h1, decide_eq_false hab]; show _ + 0 = _; omega
      · by_cases h2 : i < p + q
        · rw [ab_mi (by omega) h2, decide_eq_true rfl]; show _ + 1 = _; omega
        · rw [ab_hi (by omega), decide_eq_false hab]; show _ + 0 = _; omega
  · refine cn_none (fun j _ => decide_eq_false ?_)
    rcases ab_or a b p q j with z | z
    · rw [z]; exact fun y => h y.symm
    · rw [z]; exact fun y => h' y.symm
/-- the three runs -/
def ru_ok (a b p q N : Nat) (a17 a18 a19 a20 a21 : Nat → Int32) : Prop := a17 0 = nI 0 ∧ a17 1 = nI p ∧ a17 2 = nI (p + q) ∧ a17 3 = nI N ∧ a18 0 = nI a ∧ a18 1 = nI b ∧ a18 2 = nI a ∧ a19 0 = nI 0 ∧ a19 1 = nI 0 ∧ a19 2 = nI p ∧ a21 a = nI 2
theorem ru_142 {post : St2 → Prop} {J : _} {f2 f4 f5 : Int32} {a1 a2 a3 a4 a5 a6 a7 a8 a9 a10 a11 a12 a13 a14 a15 a16 a17 a18 a19 a20 a21 a22 a23 a24 a25 a26 a27 : Nat → Int32} {N c i rc z : Nat} (hN : N ≤ 200) (hc : c < 8) (hrc : rc < 100) (hz : z ≤ 200)
    (K : J (nI (i + 1)) (nI (rc + 1)) a1 a2 a3 a4 a5 a6 a7 a8 a9 a10 a11 a12 a13 a14 a15 a16 (upd a17 (rc + 1) (nI N)) a18 (upd a19 rc (nI z)) a20 (upd a21 c (nI rc)) a22 a23 a24 a25 a26 a27) :
    wX_packRuns_142 post J (nI i) (nI c) (nI z) (nI rc) (nI N) f2 (nI rc) f4 f5 a1 a2 a3 a4 a5 a6 a7 a8 a9 a10 a11 a12 a13 a14 a15 a16 a17 a18 a19 a20 a21 a22 a23 a24 a25 a26 a27 := by
  unfold wX_packRuns_142
  rw [nI_clamp (show rc < 2 ^ 31 by omega), nI_clamp (show c < 2 ^ 31 by omega), sx_16 z (by omega), sx_16 rc (by omega), sx_16 N (by omega)]
  refine ⟨pk_in rc 200 (by omega), nm_e ⟨pk_in c 8 hc, nm_e (nm_r (nI_1 rc) ?_)⟩⟩
  rw [nI_clamp (show rc + 1 < 2 ^ 31 by omega)]
  exact ⟨vp_in_nI (by omega) (by omega), nm_e (nm_r (nI_1 i) K)⟩
theorem ru_new {post : St2 → Prop} {J : _} {f2 f4 f5 : Int32} {a1 a2 a3 a4 a5 a6 a7 a8 a9 a10 a11 a12 a13 a14 a15 a16 a17 a18 a19 a20 a21 a22 a23 a24 a25 a26 a27 : Nat → Int32} {N c i rc : Nat} (hN : N ≤ 200) (hc : c < 8) (hrc : rc < 100) (hi : i < N) (h1 : a1 i = nI c) (h21 : a21 c = -1)
    (K : J (nI (i + 1)) (nI (rc + 1)) a1 a2 a3 a4 a5 a6 a7 a8 a9 a10 a11 a12 a13 a14 a15 a16 (upd (upd a17 rc (nI i)) (rc + 1) (nI N)) (upd a18 rc (nI c)) (upd a19 rc (nI 0)) (upd a20 rc (-1)) (upd a21 c (nI rc)) a22 a23 a24 a25 a26 a27) :
    wX_packRuns_57 post J (nI i) (nI N) f2 (nI rc) f4 f5 a1 a2 a3 a4 a5 a6 a7 a8 a9 a10 a11 a12 a13 a14 a15 a16 a17 a18 a19 a20 a21 a22 a23 a24 a25 a26 a27 := by
  unfold wX_packRuns_57
  rw [nI_clamp (show i < 2 ^ 31 by omega), h1]
  refine ⟨pk_in i 200 (by omega), nm_e ⟨pk_in c 8 hc, ?_⟩⟩
  rw [nI_clamp (show c < 2 ^ 31 by omega), h21]
  refine nm_e ?_
  rw [nI_clamp (show rc < 2 ^ 31 by omega), sx_16 i (by omega), sx_8 c (by omega), show (-1 : Int32).toInt16.toInt32 = -1 by decide]
  exact ⟨pk_in rc 201 (by omega), nm_e ⟨pk_in rc 200 (by omega), nm_e ⟨pk_in rc 200 (by omega), nm_e (br_f (by decide) (ru_142 (z := 0) hN hc hrc (by omega) K))⟩⟩⟩
theorem ru_same {post : St2 → Prop} {J : _} {f2 f4 f5 : Int32} {a1 a2 a3 a4 a5 a6 a7 a8 a9 a10 a11 a12 a13 a14 a15 a16 a17 a18 a19 a20 a21 a22 a23 a24 a25 a26 a27 : Nat → Int32} {N c i rc s bs e st : Nat} (hN : N ≤ 200) (hc : c < 8) (hrc : rc < 100) (hi : i < N) (h1 : a1 i = nI c) (h21 : a21 c = nI s) (hs : s + 1 < rc) (h19 : a19 s = nI bs) (h17 : a17 s = nI st) (h17' : a17 (s + 1) = nI e) (hse : st ≤ bs + e) (hbe : bs + e ≤ 200)
    (K : J (nI (i + 1)) (nI (rc + 1)) a1 a2 a3 a4 a5 a6 a7 a8 a9 a10 a11 a12 a13 a14 a15 a16 (upd (upd a17 rc (nI i)) (rc + 1) (nI N)) (upd a18 rc (nI c)) (upd a19 rc (nI (bs + e - st))) (upd a20 rc (nI s)) (upd a21 c (nI rc)) a22 a23 a24 a25 a26 a27) :
    wX_packRuns_57 post J (nI i) (nI N) f2 (nI rc) f4 f5 a1 a2 a3 a4 a5 a6 a7 a8 a9 a10 a11 a12 a13 a14 a15 a16 a17 a18 a19 a20 a21 a22 a23 a24 a25 a26 a27 := by
  unfold wX_packRuns_57
  rw [nI_clamp (show i < 2 ^ 31 by omega), h1]
  refine ⟨pk_in i 200 (by omega), nm_e ⟨pk_in c 8 hc, ?_⟩⟩
  rw [nI_clamp (show c < 2 ^ 31 by omega), h21]
  refine nm_e ?_
  rw [nI_clamp (show rc < 2 ^ 31 by omega), sx_16 i (by omega), sx_8 c (by omega), sx_16 s (by omega), nI_1, nI_clamp (show s < 2 ^ 31 by omega), nI_clamp (show s + 1 < 2 ^ 31 by omega)]
  refine ⟨pk_in rc 201 (by omega), nm_e ⟨pk_in rc 200 (by omega), nm_e ⟨pk_in rc 200 (by omega), nm_e (br_t (nI_pos' (by omega)) ⟨pk_in s 200 (by omega), vp_in_nI (by omega) (by omega), pk_in s 201 (by omega), ?_⟩)⟩⟩⟩
  rw [pk_un (show s + 1 ≠ rc by omega), pk_un (show s ≠ rc by omega), h19, h17, h17', nI_add, pk_sub hse]
  exact ru_142 hN hc hrc (by omega) K
theorem ru_skip {post : St2 → Prop} {f2 f3 f4 f5 : Int32} {a1 a2 a3 a4 a5 a6 a7 a8 a9 a10 a11 a12 a13 a14 a15 a16 a17 a18 a19 a20 a21 a22 a23 a24 a25 a26 a27 : Nat → Int32} {lt : Nat → Nat} {N : Nat} (hN : N ≤ 200) (hl : ∀ i, lt i < 8) (h1 : ∀ i, i < N → a1 i = nI (lt i)) (m : Nat) : ∀ k i, i + k ≤ N → (∀ j, i ≤ j → j < i + k → 0 < j ∧ lt j = lt (j - 1)) →
    wX_packRuns_28 post (nI N) f2 f4 f5 m (nI (i + k)) f3 a1 a2 a3 a4 a5 a6 a7 a8 a9 a10 a11 a12 a13 a14 a15 a16 a17 a18 a19 a20 a21 a22 a23 a24 a25 a26 a27 → wX_packRuns_28 post (nI N) f2 f4 f5 (m + k) (nI i) f3 a1 a2 a3 a4 a5 a6 a7 a8 a9 a10 a11 a12 a13 a14 a15 a16 a17 a18 a19 a20 a21 a22 a23 a24 a25 a26 a27 := by
  intro k
  induction k with
  | zero => intro i _ _ h; exact h
  | succ k ih =>
    intro i hk hj h
    obtain ⟨j1, j2⟩ := hj i (by omega) (by omega)
    have W := ih (i + 1) (by omega) (fun j q1 q2 => hj j (by omega) (by omega)) (by rw [show i + 1 + k = i + (k + 1) by omega]; exact h)
    refine pk_le N i (fun z => absurd z (by omega)) (fun _ => pk_eq i 0 (fun z => absurd z (by omega)) (fun _ => ?_))
    rw [sx_sub1 j1, nI_clamp (show i < 2 ^ 31 by omega), nI_clamp (show i - 1 < 2 ^ 31 by omega), h1 i (by omega), h1 (i - 1) (by omega), j2]
    exact ⟨pk_in i 200 (by omega), vp_in_nI (by omega) (by omega), br_t rfl (nm_r (nI_1 i) W)⟩
theorem ru_go {post : St2 → Prop} {f2 f3 f4 f5 : Int32} {a1 a2 a3 a4 a5 a6 a7 a8 a9 a10 a11 a12 a13 a14 a15 a16 a17 a18 a19 a20 a21 a22 a23 a24 a25 a26 a27 : Nat → Int32} {lt : Nat → Nat} {N i n : Nat} (hN : N ≤ 200) (hl : ∀ i, lt i < 8) (h1 : ∀ i, i < N → a1 i = nI (lt i)) (hi : i < N) (h : i = 0 ∨ lt i ≠ lt (i - 1))
    (W : wX_packRuns_57 post (wX_packRuns_28 post (nI N) f2 f4 f5 n) (nI i) (nI N) f2 f3 f4 f5 a1 a2 a3 a4 a5 a6 a7 a8 a9 a10 a11 a12 a13 a14 a15 a16 a17 a18 a19 a20 a21 a22 a23 a24 a25 a26 a27) : wX_packRuns_28 post (nI N) f2 f4 f5 (n + 1) (nI i) f3 a1 a2 a3 a4 a5 a6 a7 a8 a9 a10 a11 a12 a13 a14 a15 a16 a17 a18 a19 a20 a21 a22 a23 a24 a25 a26 a27 := by
  refine pk_le N i (fun z => absurd z (by omega)) (fun _ => pk_eq i 0 (fun z => W) (fun z => ?_))
  have h2 : lt i ≠ lt (i - 1) := by
    rcases h with q | q
    · exact absurd q z
    · exact q
  have l1 := hl i
  have l2 := hl (i - 1)
  rw [sx_sub1 (by omega), nI_clamp (show i < 2 ^ 31 by omega), nI_clamp (show i - 1 < 2 ^ 31 by omega), h1 i hi, h1 (i - 1) (by omega)]
  exact ⟨pk_in i 200 (by omega), vp_in_nI (by omega) (by omega), sy_eq (fun q => absurd q h2) (fun _ => W)⟩
theorem sq_packRuns {post : St2 → Prop} {f2 f3 f4 f5 : Int32} {a1 a2 a3 a4 a5 a6 a7 a8 a9 a10 a11 a12 a13 a14 a15 a16 a17 a18 a19 a20 a21 a22 a23 a24 a25 a26 a27 : Nat → Int32} {a b p q r : Nat} (ha : a < 8) (hb : b < 8) (hab : a ≠ b) (hp : 0 < p) (hq : 0 < q) (hr : 0 < r) (hN : p + q + r ≤ 200) (h1 : ∀ i, i < p + q + r → a1 i = nI (ab_t a b p q i))
    (K : ∀ b17 b18 b19 b20 b21, ru_ok a b p q (p + q + r) b17 b18 b19 b20 b21 → post ((nI (p + q + r)), f2, (nI 3), f4, f5, a1, a2, a3, a4, a5, a6, a7, a8, a9, a10, a11, a12, a13, a14, a15, a16, b17, b18, b19, b20, b21, a22, a23, a24, a25, a26, a27)) :
    wpX_packRuns post ((nI (p + q + r)), f2, f3, f4, f5, a1, a2, a3, a4, a5, a6, a7, a8, a9, a10, a11, a12, a13, a14, a15, a16, a17, a18, a19, a20, a21, a22, a23, a24, a25, a26, a27) := by
  have hl : ∀ i, ab_t a b p q i < 8 := by
    intro i
    rcases ab_or a b p q i with z | z <;> rw [z] <;> assumption
  refine pk_loop (fun n i s => wX_packRuns_7 post (nI (p + q + r)) f2 0 f4 f5 n (nI i) a1 a2 a3 a4 a5 a6 a7 a8 a9 a10 a11 a12 a13 a14 a15 a16 a17 a18 a19 a20 s a22 a23 a24 a25 a26 a27) (fun i s => ∀ j, j < i → s j = -1) 8 0 a21 (by omega) (fun j hj => absurd hj (by omega)) ?_ ?_
  · intro n s hs
    refine pk_le 8 8 (fun _ => ⟨(((0 + 1 + (r - 1)) + 1 + (q - 1)) + 1 + (p - 1)) + 1, ?_⟩) (fun z => absurd z (by omega))
    refine ru_go (i := 0) hN hl h1 (by omega) (Or.inl rfl) (ru_new (rc := 0) (c := a) hN ha (by omega) (by omega) (by rw [h1 0 (by omega), ab_lo hp]) (hs a ha) ?_)
    refine ru_skip hN hl h1 _ (p - 1) 1 (by omega) (fun j j1 j2 => ⟨by omega, by rw [ab_lo (by omega), ab_lo (by omega)]⟩) ?_
    rw [show 0 + 1 + (p - 1) = p by omega]
    refine ru_go (i := p) hN hl h1 (by omega) (Or.inr (by rw [ab_mi (Nat.le_refl p) (by omega), ab_lo (by omega)]; exact fun z => hab z.symm)) (ru_new (rc := 1) (c := b) hN hb (by omega) (by omega) (by rw [h1 p (by omega), ab_mi (Nat.le_refl p) (by omega)]) (by rw [pk_un (fun z => hab z.symm)]; exact hs b hb) ?_)
    refine ru_skip hN hl h1 _ (q - 1) (p + 1) (by omega) (fun j j1 j2 => ⟨by omega, by rw [ab_mi (by omega) (by omega), ab_mi (by omega) (by omega)]⟩) ?_
    rw [show p + 1 + (q - 1) = p + q by omega]
    refine ru_go (i := p + q) hN hl h1 (by omega) (Or.inr (by rw [ab_hi (Nat.le_refl _), ab_mi (by omega) (by omega)]; exact hab)) (ru_same (rc := 2) (c := a) (s := 0) (bs := 0) (e := p) (st := 0) hN ha (by omega) (by omega) (by rw [h1 _ (by omega), ab_hi (Nat.le_refl _)]) (by rw [pk_un hab, pk_us]) (by omega) (by rw [pk_un (by omega), pk_us]) (by rw [pk_un (by omega), pk_un (by omega), pk_un (by omega), pk_us]) (by rw [pk_un (by omega), pk_us]) (by omega) (by omega) ?_)
    refine ru_skip hN hl h1 _ (r - 1) (p + q + 1) (by omega) (fun j j1 j2 => ⟨by omega, by rw [ab_hi (by omega), ab_hi (by omega)]⟩) ?_
    rw [show p + q + 1 + (r - 1) = p + q + r by omega]
    refine sy_le (fun _ => K _ _ _ _ _ ⟨?_, ?_, ?_, ?_, ?_, ?_, ?_, ?_, ?_, ?_, ?_⟩) (fun z => absurd z (by omega))
    all_goals simp [upd]
  · intro n i s hi hs hW
    refine pk_le 8 i (fun z => absurd z (by omega)) (fun _ => ⟨pk_in i 8 hi, nm_e (nm_r (nI_1 i) (hW _ ?_))⟩)
    intro j hj
    rw [nI_clamp (show i < 2 ^ 31 by omega)]
    by_cases e : j = i
    · rw [e, pk_us]
    · rw [pk_un e, hs j (by omega)]
/-! answers -/
theorem sq_runBefore {post : Int32 → Prop} {f1 f2 f4 f5 : Int32} {a1 a2 a3 a4 a5 a6 a7 a8 a9 a10 a11 a12 a13 a14 a15 a16 a17 a18 a19 a20 a21 a22 a23 a24 a25 a26 a27 : Nat → Int32} {st : Nat → Nat} {place t : Nat} (h17 : ∀ k, k < 3 → a17 k = nI (st k) ∧ st k ≤ 200) (hpl : place ≤ 200) (ht : t ≤ 3) (hlo : ∀ k, k < t → st k < place) (hhi : ∀ k, t ≤ k → k < 3 → place ≤ st k)
    (hp : post (nI t - 1)) : wpX_runBeforePlace post (f1, f2, (nI 3), f4, f5, a1, a2, a3, a4, a5, a6, a7, a8, a9, a10, a11, a12, a13, a14, a15, a16, a17, a18, a19, a20, a21, a22, a23, a24, a25, a26, a27) (nI place) := by
  have main : ∀ fu lo hi, hi - lo < fu → lo ≤ t → t ≤ hi → hi ≤ 3 → wX_runBeforePlace_7 post (nI place) f1 f2 (nI 3) f4 f5 a1 a2 a3 a4 a5 a6 a7 a8 a9 a10 a11 a12 a13 a14 a15 a16 a17 a18 a19 a20 a21 a22 a23 a24 a25 a26 a27 fu (nI lo) (nI hi) := by
    intro fu
    induction fu with
    | zero => intro lo hi h; exact absurd h (Nat.not_lt_zero _)
    | succ fu ih =>
      intro lo hi hf h1 h2 h3
      refine pk_le hi lo (fun h => ?_) (fun h => ?_)
      · rw [show lo = t by omega]
        exact hp
      · refine ⟨by decide, nm_r (sx_half lo hi (by omega)) ⟨vp_in_nI (by omega) (by omega), ?_⟩⟩
        obtain ⟨e1, e2⟩ := h17 ((lo + hi) / 2) (by omega)
        rw [nI_clamp (show (lo + hi) / 2 < 2 ^ 31 by omega), e1]
        refine sy_le (fun z => ?_) (fun z => ?_)
        · refine br_t rfl (br_t rfl (ih _ _ (by omega) h1 ?_ (by omega)))
          rcases Nat.lt_or_ge ((lo + hi) / 2) t with y | y
          · have := hlo _ y
            omega
          · exact y
        · refine br_f (by decide) (br_f (by decide) ?_)
          rw [nI_1]
          refine ih _ _ (by omega) ?_ h2 h3
          rcases Nat.lt_or_ge ((lo + hi) / 2) t with y | y
          · exact y
          · have := hhi _ y (by omega)
            omega
  exact ⟨4, main 4 0 3 (by omega) (Nat.zero_le t) ht (Nat.le_refl 3)⟩
def rv_t (L st bf : Nat → Nat) (c place : Nat) : Nat → Nat
  | 0 => 0
  | k + 1 => if L k = c then bf k + min place (st (k + 1)) - st k else rv_t L st bf c place k
theorem sq_rankInRuns {post : Int32 → Prop} {f1 f2 f4 f5 : Int32} {a1 a2 a3 a4 a5 a6 a7 a8 a9 a10 a11 a12 a13 a14 a15 a16 a17 a18 a19 a20 a21 a22 a23 a24 a25 a26 a27 : Nat → Int32} {a b p q N c place : Nat} (ha : a < 8) (hb : b < 8) (hab : a ≠ b) (hN : N ≤ 200) (hpq : p + q ≤ N) (hU : ru_ok a b p q N a17 a18 a19 a20 a21) (hc : c < 8) (hpl : place ≤ N)
    (hp : post (nI (ct_t (ab_t a b p q) c place))) : wpX_rankInRuns post (f1, f2, (nI 3), f4, f5, a1, a2, a3, a4, a5, a6, a7, a8, a9, a10, a11, a12, a13, a14, a15, a16, a17, a18, a19, a20, a21, a22, a23, a24, a25, a26, a27) (nI c) (nI place) := by
  obtain ⟨u1, u2, u3, u4, u5, u6, u7, u8, u9, u10, u11⟩ := hU
  have dn : ∀ (k : Nat) (L st bf : Nat → Nat), (∀ j, j < k → a18 j = nI (L j) ∧ L j < 8 ∧ a19 j = nI (bf j) ∧ bf j ≤ 200 ∧ a17 j = nI (st j) ∧ st j ≤ 200 ∧ st j ≤ bf j + min place (st (j + 1)) ∧ a17 (j + 1) = nI (st (j + 1)) ∧ st (j + 1) ≤ 200) → k ≤ 3 → post (nI (rv_t L st bf c place k)) → wX_rankInRuns_6 post (nI c) (nI place) f1 f2 (nI 3) f4 f5 a1 a2 a3 a4 a5 a6 a7 a8 a9 a10 a11 a12 a13 a14 a15 a16 a17 a18 a19 a20 a21 a22 a23 a24 a25 a26 a27 (k + 1) (nI k - 1) := by
    intro k L st bf
    induction k with
    | zero =>
      intro _ _ hp
      exact br_t (by decide) (br_f (by decide) hp)
    | succ k ih =>
      intro hk hk3 hp
      obtain ⟨k1, k2, k3, k4, k5, k6, k7, k8, k9⟩ := hk k (by omega)
      unfold rv_t at hp
      rw [nI_pred]
      refine br_f (nI_pos (by omega)) ⟨pk_in k 200 (by omega), ?_⟩
      rw [nI_clamp (show k < 2 ^ 31 by omega), k1]
      refine pk_eq (L k) c (fun e => ?_) (fun e => ?_)
      · rw [if_pos e] at hp
        refine br_t (nI_pos' (by omega)) ?_
        rw [nI_1, nI_clamp (show k + 1 < 2 ^ 31 by omega), k8]
        refine ⟨vp_in_nI (by omega) (by omega), sy_le (fun z => ⟨pk_in k 200 (by omega), pk_in k 201 (by omega), ?_⟩) (fun z => ⟨vp_in_nI (by omega) (by omega), pk_in k 200 (by omega), pk_in k 201 (by omega), ?_⟩)⟩
        · rw [nI_clamp (show k < 2 ^ 31 by omega), k3, k5, nI_add, pk_sub (by omega)]
          rw [show min place (st (k + 1)) = place by omega] at hp
          exact hp
        · rw [nI_clamp (show k < 2 ^ 31 by omega), k3, k5, nI_add, pk_sub (by omega)]
          rw [show min place (st (k + 1)) = st (k + 1) by omega] at hp
          exact hp
      · rw [if_neg e] at hp
        refine nm_r (e' := nI k - 1) ?_ (ih (fun j hj => hk j (by omega)) (by omega) hp)
        grind
  have ca := ab_ct (p := p) (q := q) hab c place
  have fin : ∀ t, t ≤ 3 → (∀ k, k < t → (fun k => if k = 0 then 0 else if k = 1 then p else if k = 2 then p + q else N) k < place) → (∀ k, t ≤ k → k < 3 → place ≤ (fun k => if k = 0 then 0 else if k = 1 then p else if k = 2 then p + q else N) k) → wpX_rankInRuns post (f1, f2, (nI 3), f4, f5, a1, a2, a3, a4, a5, a6, a7, a8, a9, a10, a11, a12, a13, a14, a15, a16, a17, a18, a19, a20, a21, a22, a23, a24, a25, a26, a27) (nI c) (nI place) := by
    intro t ht h1 h2
    refine sq_runBefore (st := fun k => if k = 0 then 0 else if k = 1 then p else if k = 2 then p + q else N) (t := t) (fun k hk => ?_) (by omega) ht h1 h2 ⟨t + 1, dn t (fun k => if k = 1 then b else a) (fun k => if k = 0 then 0 else if k = 1 then p else if k = 2 then p + q else N) (fun k => if k = 2 then p else 0) (fun j hj => ?_) ht ?_⟩
    · have : k = 0 ∨ k = 1 ∨ k = 2 := by omega
      rcases this with z | z | z <;> subst z <;> simp [u1, u2, u3] <;> omega
    · have h3 := h1 j hj
      have : j = 0 ∨ j = 1 ∨ j = 2 := by omega
      rcases this with z | z | z <;> subst z <;> simp [u1, u2, u3, u4, u5, u6, u7, u8, u9, u10] at h3 ⊢ <;> omega
    · have hv : rv_t (fun k => if k = 1 then b else a) (fun k => if k = 0 then 0 else if k = 1 then p else if k = 2 then p + q else N) (fun k => if k = 2 then p else 0) c place t = ct_t (ab_t a b p q) c place := by
        have : t = 0 ∨ t = 1 ∨ t = 2 ∨ t = 3 := by omega
        have g0 := h1 0
        have g1 := h1 1
        have g2 := h1 2
        have k0 := h2 0
        have k1 := h2 1
        have k2 := h2 2
        unfold na_t nb2_t at ca
        rcases this with z | z | z | z <;> subst z <;> simp [rv_t] at g0 g1 g2 k0 k1 k2 ⊢
        · by_cases ea : c = a
          · rw [ca.1 ea]; omega
          · by_cases eb : c = b
            · rw [ca.2.1 eb]; omega
            · rw [ca.2.2 ea eb]
        · by_cases ea : c = a
          · rw [ca.1 ea, if_pos ea.symm]; omega
          · rw [if_neg (fun z => ea z.symm)]
            by_cases eb : c = b
            · rw [ca.2.1 eb]; omega
            · rw [ca.2.2 ea eb]
        · by_cases eb : c = b
          · rw [ca.2.1 eb, if_pos eb.symm]; omega
          · rw [if_neg (fun z => eb z.symm)]
            by_cases ea : c = a
            · rw [ca.1 ea, if_pos ea.symm]; omega
            · rw [if_neg (fun z => ea z.symm), ca.2.2 ea eb]
        · by_cases ea : c = a
          · rw [ca.1 ea, if_pos ea.symm]; omega
          · rw [if_neg (fun z => ea z.symm)]
            by_cases eb : c = b
            · rw [ca.2.1 eb, if_pos eb.symm]; omega
            · rw [if_neg (fun z => eb z.symm), if_neg (fun z => ea z.symm), ca.2.2 ea eb]
      rw [hv]
      exact hp
  rcases Nat.lt_or_ge 0 place with z0 | z0
  · rcases Nat.lt_or_ge p place with z1 | z1
    · rcases Nat.lt_or_ge (p + q) place with z2 | z2
      · refine fin 3 (by omega) (fun k hk => ?_) (fun k hk hk2 => absurd hk2 (by omega))
        have : k = 0 ∨ k = 1 ∨ k = 2 := by omega
        rcases this with y | y | y <;> subst y <;> simp <;> omega
      · refine fin 2 (by omega) (fun k hk => ?_) (fun k hk hk2 => ?_)
        · have : k = 0 ∨ k = 1 := by omega
          rcases this with y | y <;> subst y <;> simp <;> omega
        · rw [show k = 2 by omega]; simp; omega
    · refine fin 1 (by omega) (fun k hk => ?_) (fun k hk hk2 => ?_)
      · rw [show k = 0 by omega]; simp; omega
      · have : k = 1 ∨ k = 2 := by omega
        rcases this with y | y <;> subst y <;> simp <;> omega
  · refine fin 0 (by omega) (fun k hk => absurd hk (by omega)) (fun k hk hk2 => ?_)
    try dsimp only
    omega
theorem sq_selectInRuns {post : Int32 → Prop} {f1 f2 f3 f4 f5 : Int32} {a1 a2 a3 a4 a5 a6 a7 a8 a9 a10 a11 a12 a13 a14 a15 a16 a17 a18 a19 a20 a21 a22 a23 a24 a25 a26 a27 : Nat → Int32} {a b p q N : Nat} (ha : a < 8) (hN : N ≤ 200) (hpq : p + q ≤ N) (hU : ru_ok a b p q N a17 a18 a19 a20 a21)
    (hp : post (nI (p + q))) : wpX_selectInRuns post (f1, f2, f3, f4, f5, a1, a2, a3, a4, a5, a6, a7, a8, a9, a10, a11, a12, a13, a14, a15, a16, a17, a18, a19, a20, a21, a22, a23, a24, a25, a26, a27) (nI a) (nI p) := by
  obtain ⟨u1, u2, u3, u4, u5, u6, u7, u8, u9, u10, u11⟩ := hU
  refine ⟨pk_in a 8 ha, nm_r (e' := nI 2) (by rw [nI_clamp (show a < 2 ^ 31 by omega), u11]) ⟨1, ⟨pk_in 2 200 (by omega), ?_⟩⟩⟩
  rw [show (nI 2).toNatClampNeg = 2 by decide, u10]
  refine pk_le p p (fun _ => ⟨pk_in 2 201 (by omega), pk_in 2 200 (by omega), ?_⟩) (fun z => absurd z (by omega))
  rw [u3, nI_add, pk_sub (by omega), show p + q + p - p = p + q by omega]
  exact hp
end
section
/-! part 11: pack -/
/-- the packed state -/
def sq_P (a b p q r : Nat) (a1 a2 a3 a4 a5 a6 a7 a8 a9 a10 a11 a12 a13 a14 a15 a16 a17 a18 a19 a20 a21 a22 a23 a24 a25 a26 a27 : Nat → Int32) : Prop :=
  (∀ i, i < p + q + r → a1 i = nI (ab_t a b p q i)) ∧ (∀ c, c < 8 → a2 c = nI (ct_t (ab_t a b p q) c (p + q + r))) ∧ ch_ok a16 ∧ (∀ c, c < 8 → bk_c (ab_t a b p q) (p + q + r) a13 a14 a15 c 30) ∧ ru_ok a b p q (p + q + r) a17 a18 a19 a20 a21 ∧
  (∃ H, hb_ok a12 H ∧ ∀ c, c < 8 → pt_c (ab_t a b p q) (p + q + r) a9 a10 a11 H c) ∧
  ∃ R S, sq_Rows a5 a6 a7 R ∧ (∀ l, l < 3 → tr_D (ab_t a b p q) (p + q + r) l (R l)) ∧ mx_ok (ab_t a b p q) (p + q + r) a8 R S ∧ mp_ok (ab_t a b p q) (p + q + r) R ∧ cd_ok (ab_t a b p q) (p + q + r) a26 a27 R
theorem ab_8 {a b : Nat} (ha : a < 8) (hb : b < 8) (p q i : Nat) : ab_t a b p q i < 8 := by
  rcases ab_or a b p q i with z | z <;> rw [z] <;> assumption
theorem mx_tr {lt : Nat → Nat} {N : Nat} {a8 : Nat → Int32} {R R' : Nat → Nat → Bool} {S : Nat → Nat → Nat} (h : mx_ok lt N a8 R S) (e : ∀ m, m < 3 → ∀ j, R' (3 + m) j = R (3 + m) j) : mx_ok lt N a8 R' S := by
  obtain ⟨h0, h1, h2, h3, h4⟩ := h
  exact ⟨h0, h1, h2, fun m hm j => by rw [e m hm j]; exact h3 m hm j, h4⟩
theorem pc_101 {post : St2 → Prop} {f2 f3 : Int32} {a1 a2 a3 a4 a5 a6 a7 a8 a9 a10 a11 a12 a13 a14 a15 a16 a17 a18 a19 a20 a21 a22 a23 a24 a25 a26 a27 : Nat → Int32} {a b p q r : Nat} {R : Nat → Nat → Bool} {S : Nat → Nat → Nat} (ha : a < 8) (hb : b < 8) (hab : a ≠ b) (hp : 0 < p) (hq : 0 < q) (hr : 0 < r) (hN : p + q + r ≤ 200) (h1 : ∀ i, i < p + q + r → a1 i = nI (ab_t a b p q i)) (h2 : ∀ c, c < 8 → a2 c = nI (ct_t (ab_t a b p q) c (p + q + r))) (h16 : ch_ok a16)
    (hR : rb_ok a5 R) (hT : ∀ l, l < 3 → tr_D (ab_t a b p q) (p + q + r) l (R l)) (hM : mx_ok (ab_t a b p q) (p + q + r) a8 R S) (hMp : mp_ok (ab_t a b p q) (p + q + r) R) (hC : cd_ok (ab_t a b p q) (p + q + r) a26 a27 R)
    (K : ∀ b6 b7 b9 b10 b11 b12 b13 b14 b15 b17 b18 b19 b20 b21, sq_P a b p q r a1 a2 a3 a4 a5 b6 b7 a8 b9 b10 b11 b12 b13 b14 b15 a16 b17 b18 b19 b20 b21 a22 a23 a24 a25 a26 a27 →
      post ((nI (p + q + r)), 1, (nI 3), (nI 1), (nI (p + q + r)), a1, a2, a3, a4, a5, b6, b7, a8, b9, b10, b11, b12, b13, b14, b15, a16, b17, b18, b19, b20, b21, a22, a23, a24, a25, a26, a27)) :
    ∃ fu, wX_pack_101 post fu 0 (nI (p + q + r)) f2 f3 (nI 1) (nI (p + q + r)) a1 a2 a3 a4 a5 a6 a7 a8 a9 a10 a11 a12 a13 a14 a15 a16 a17 a18 a19 a20 a21 a22 a23 a24 a25 a26 a27 := by
  refine pk_loop (fun n row s => wX_pack_101 post n (nI row) (nI (p + q + r)) f2 f3 (nI 1) (nI (p + q + r)) a1 a2 a3 a4 a5 s.1 s.2 a8 a9 a10 a11 a12 a13 a14 a15 a16 a17 a18 a19 a20 a21 a22 a23 a24 a25 a26 a27) (fun row s => ∀ r', r' < row → sm_ok s.1 s.2 (R r') r') 21 0 (a6, a7) (by omega) (fun r' h => absurd h (by omega)) ?_ ?_
  · intro n s hs
    obtain ⟨b6, b7⟩ := s
    refine pk_le 21 21 (fun _ => ?_) (fun z => absurd z (by omega))
    refine sq_packParts hN (ab_8 ha hb p q) h1 h2 (fun b9 b10 b11 b12 H hH hP => ?_)
    refine sq_packBlocks hN h1 (ab_8 ha hb p q) h16 (fun b13 b14 b15 hB => ?_)
    refine sq_packRuns ha hb hab hp hq hr hN h1 (fun b17 b18 b19 b20 b21 hU => ?_)
    exact K b6 b7 b9 b10 b11 b12 b13 b14 b15 b17 b18 b19 b20 b21 ⟨h1, h2, h16, hB, hU, ⟨H, hH, hP⟩, R, S, ⟨hR, hs⟩, hT, hM, hMp, hC⟩
  · intro n row s hrow hs hW
    obtain ⟨b6, b7⟩ := s
    try dsimp only at hs
    refine pk_le 21 row (fun z => absurd z (by omega)) (fun _ => sq_sumRow hrow (fun i hi => hR row i hrow hi) (fun c6 c7 q6 q7 hsm => nm_r (nI_1 row) (hW (c6, c7) (fun r' hr' => ?_))))
    try dsimp only
    by_cases e : r' = row
    · rw [e]; exact hsm
    · obtain ⟨s1, s2⟩ := hs r' (by omega)
      exact ⟨fun w hw => by rw [q6 _ (by omega)]; exact s1 w hw, fun j hj => by rw [q7 _ (by omega)]; exact s2 j hj⟩
theorem ab_N {a b p q r : Nat} (hab : a ≠ b) : ct_t (ab_t a b p q) a (p + q + r) = p + r ∧ ct_t (ab_t a b p q) b (p + q + r) = q ∧ ∀ x, x ≠ a → x ≠ b → ct_t (ab_t a b p q) x (p + q + r) = 0 := by
  refine ⟨?_, ?_, fun x => (ab_ct hab x _).2.2⟩
  · rw [(ab_ct hab a _).1 rfl]; unfold na_t; omega
  · rw [(ab_ct hab b _).2.1 rfl]; unfold nb2_t; omega
theorem pc_53 {post : St2 → Prop} {f2 f3 f4 f5 : Int32} {a1 a2 a3 a4 a5 a6 a7 a8 a9 a10 a11 a12 a13 a14 a15 a16 a17 a18 a19 a20 a21 a22 a23 a24 a25 a26 a27 : Nat → Int32} {a b p q r : Nat} (ha : a < b) (hb : b < 8) (hp : 0 < p) (hq : 0 < q) (hr : 0 < r) (hN : p + q + r ≤ 200) (h1 : ∀ i, i < p + q + r → a1 i = nI (ab_t a b p q i)) (h2 : ∀ c, c < 8 → a2 c = nI (ct_t (ab_t a b p q) c (p + q + r))) (h16 : ch_ok a16) (hR : rb_ok a5 (fun _ _ => false))
    (K : ∀ b3 b4 b5 b6 b7 b8 b9 b10 b11 b12 b13 b14 b15 b17 b18 b19 b20 b21 b22 b23 b24 b25 b26 b27, sq_P a b p q r a1 a2 b3 b4 b5 b6 b7 b8 b9 b10 b11 b12 b13 b14 b15 a16 b17 b18 b19 b20 b21 b22 b23 b24 b25 b26 b27 →
      post ((nI (p + q + r)), 1, (nI 3), (nI 1), (nI (p + q + r)), a1, a2, b3, b4, b5, b6, b7, b8, b9, b10, b11, b12, b13, b14, b15, a16, b17, b18, b19, b20, b21, b22, b23, b24, b25, b26, b27)) (n : Nat) :
    wX_pack_53 post (nI (p + q + r)) f2 f3 f4 f5 (n + 1) (nI (p + q + r)) a1 a2 a3 a4 a5 a6 a7 a8 a9 a10 a11 a12 a13 a14 a15 a16 a17 a18 a19 a20 a21 a22 a23 a24 a25 a26 a27 := by
  have hab : a ≠ b := by omega
  have hl := ab_8 (show a < 8 by omega) hb p q
  obtain ⟨na, nb, no⟩ := ab_N (p := p) (q := q) (r := r) hab
  refine sy_le (fun _ => ?_) (fun z => absurd z (by omega))
  refine sq_packTree hl hN h1 hR (fun _ _ => rfl) (fun b5 R1 t1 t2 t3 => ?_)
  refine sq_packMatrix hl hN h1 t1 t3 (fun b3 b4 c5 b8 S R2 m1 m2 m3 => ?_)
  refine sq_packMaps hl hN h1 m1 (fun rr hrr j => by rw [m3 rr (Or.inr hrr) j]; exact t3 rr (by omega) j) (fun d5 R3 p1 p2 p3 => ?_)
  have fin : ∀ u v, u < 8 → v < 8 → u ≠ v → (∀ i, i < p + q + r → ab_t a b p q i = u ∨ ab_t a b p q i = v) → 0 < ct_t (ab_t a b p q) u (p + q + r) → 0 < ct_t (ab_t a b p q) v (p + q + r) → ct_t (ab_t a b p q) u (p + q + r) + ct_t (ab_t a b p q) v (p + q + r) = p + q + r → (∀ x, x < 8 → x ≠ u → x ≠ v → ct_t (ab_t a b p q) x (p + q + r) = 0) → (u < v → ct_t (ab_t a b p q) u (p + q + r) ≤ ct_t (ab_t a b p q) v (p + q + r)) → (v < u → ct_t (ab_t a b p q) u (p + q + r) < ct_t (ab_t a b p q) v (p + q + r)) →
      wpX_packCodes (fun u => match u with | (f1, f2, f3, f4, f5, a1, a2, a3, a4, a5, a6, a7, a8, a9, a10, a11, a12, a13, a14, a15, a16, a17, a18, a19, a20, a21, a22, a23, a24, a25, a26, a27) => ∃ fu, wX_pack_101 post fu 0 f1 f2 f3 f4 f5 a1 a2 a3 a4 a5 a6 a7 a8 a9 a10 a11 a12 a13 a14 a15 a16 a17 a18 a19 a20 a21 a22 a23 a24 a25 a26 a27) ((nI (p + q + r)), f2, f3, f4, f5, a1, a2, b3, b4, d5, a6, a7, b8, a9, a10, a11, a12, a13, a14, a15, a16, a17, a18, a19, a20, a21, a22, a23, a24, a25, a26, a27) := by
    intro u v hu hv huv hlt hcu hcv hsum hoth hmin hmin2
    refine sq_packCodes hN hu hv huv h1 h2 hlt p1 (fun j => by rw [p3 14 (Or.inr (by omega)) j, m3 14 (Or.inr (by omega)) j]; exact t3 14 (by omega) j) hcu hcv hsum hoth hmin hmin2 (fun e5 b22 b23 b24 b25 b26 b27 R4 c1 c2 c3 c4 => ?_)
    refine pc_101 (by omega) hb hab hp hq hr hN h1 h2 h16 c1 (fun l hl3 => ?_) (mx_tr m2 (fun m hm j => by rw [c4 _ (by omega) j, p3 _ (by omega) j])) (fun c hc j => by rw [c4 _ (by omega) j]; exact p2 c hc j) ⟨u, v, hu, hv, huv, hlt, c2, c3⟩ (fun b6 b7 b9 b10 b11 b12 b13 b14 b15 b17 b18 b19 b20 b21 hP => ?_)
    · rw [show R4 l = R1 l from funext (fun j => by rw [c4 l (by omega) j, p3 l (by omega) j, m3 l (by omega) j])]
      exact t2 l hl3
    · exact K b3 b4 e5 b6 b7 b8 b9 b10 b11 b12 b13 b14 b15 b17 b18 b19 b20 b21 b22 b23 b24 b25 b26 b27 hP
  by_cases hpr : p + r ≤ q
  · exact fin a b (by omega) hb hab (fun i _ => ab_or a b p q i) (by rw [na]; omega) (by rw [nb]; omega) (by rw [na, nb]; omega) (fun x _ e1 e2 => no x e1 e2) (fun _ => by rw [na, nb]; exact hpr) (fun z => absurd z (by omega))
  · exact fin b a hb (by omega) (fun z => hab z.symm) (fun i _ => (ab_or a b p q i).symm) (by rw [nb]; omega) (by rw [na]; omega) (by rw [na, nb]; omega) (fun x _ e1 e2 => no x e2 e1) (fun z => absurd z (by omega)) (fun _ => by rw [na, nb]; omega)
theorem sq_pack {post : St2 → Prop} {f3 f4 f5 : Int32} {a1 a2 a3 a4 a5 a6 a7 a8 a9 a10 a11 a12 a13 a14 a15 a16 a17 a18 a19 a20 a21 a22 a23 a24 a25 a26 a27 : Nat → Int32} {a b p q r : Nat} (ha : a < b) (hb : b < 8) (hp : 0 < p) (hq : 0 < q) (hr : 0 < r) (hN : p + q + r ≤ 200) (h1 : ∀ i, i < p + q + r → a1 i = nI (ab_t a b p q i)) (h16 : ch_ok a16)
    (K : ∀ b2 b3 b4 b5 b6 b7 b8 b9 b10 b11 b12 b13 b14 b15 b17 b18 b19 b20 b21 b22 b23 b24 b25 b26 b27, sq_P a b p q r a1 b2 b3 b4 b5 b6 b7 b8 b9 b10 b11 b12 b13 b14 b15 a16 b17 b18 b19 b20 b21 b22 b23 b24 b25 b26 b27 →
      post ((nI (p + q + r)), 1, (nI 3), (nI 1), (nI (p + q + r)), a1, b2, b3, b4, b5, b6, b7, b8, b9, b10, b11, b12, b13, b14, b15, a16, b17, b18, b19, b20, b21, b22, b23, b24, b25, b26, b27)) :
    wpX_pack post ((nI (p + q + r)), 0, f3, f4, f5, a1, a2, a3, a4, a5, a6, a7, a8, a9, a10, a11, a12, a13, a14, a15, a16, a17, a18, a19, a20, a21, a22, a23, a24, a25, a26, a27) := by
  have hl := ab_8 (show a < 8 by omega) hb p q
  refine br_t rfl ?_
  refine pk_loop (fun n i s => wX_pack_10 post (nI (p + q + r)) 0 f3 f4 f5 n (nI i) a1 a2 a3 a4 s a6 a7 a8 a9 a10 a11 a12 a13 a14 a15 a16 a17 a18 a19 a20 a21 a22 a23 a24 a25 a26 a27) (fun i s => ∀ j, j < i → s j = 0) 147 0 a5 (by omega) (fun j hj => absurd hj (by omega)) ?_ ?_
  · intro n s5 hs5
    refine pk_le 147 147 (fun _ => ?_) (fun z => absurd z (by omega))
    refine pk_loop (fun n i s => wX_pack_32 post (nI (p + q + r)) 0 f3 f4 f5 n (nI i) a1 s a3 a4 s5 a6 a7 a8 a9 a10 a11 a12 a13 a14 a15 a16 a17 a18 a19 a20 a21 a22 a23 a24 a25 a26 a27) (fun i s => ∀ j, j < i → s j = 0) 8 0 a2 (by omega) (fun j hj => absurd hj (by omega)) ?_ ?_
    · intro n s2 hs2
      refine pk_le 8 8 (fun _ => ?_) (fun z => absurd z (by omega))
      refine pk_loop (fun n i s => wX_pack_53 post (nI (p + q + r)) 0 f3 f4 f5 n (nI i) a1 s a3 a4 s5 a6 a7 a8 a9 a10 a11 a12 a13 a14 a15 a16 a17 a18 a19 a20 a21 a22 a23 a24 a25 a26 a27) (fun i s => ∀ c, c < 8 → s c = nI (ct_t (ab_t a b p q) c i)) (p + q + r) 0 s2 (by omega) (fun c hc => hs2 c hc) ?_ ?_
      · intro n s hs
        exact pc_53 ha hb hp hq hr hN h1 hs h16 (fun rr i hrr hi => by rw [hs5 _ (by omega), b_0]) (fun b3 b4 b5 b6 b7 b8 b9 b10 b11 b12 b13 b14 b15 b17 b18 b19 b20 b21 b22 b23 b24 b25 b26 b27 hP => K s b3 b4 b5 b6 b7 b8 b9 b10 b11 b12 b13 b14 b15 b17 b18 b19 b20 b21 b22 b23 b24 b25 b26 b27 hP) n
      · intro n i s hi hs hW
        have h8 := hl i
        have hci : ct_t (ab_t a b p q) (ab_t a b p q i) i ≤ i := cn_le _ _
        refine sy_le (fun z => absurd z (by omega)) (fun _ => ⟨pk_in i 200 (by omega), ?_⟩)
        rw [nI_clamp (show i < 2 ^ 31 by omega), h1 i hi, nI_clamp (show ab_t a b p q i < 2 ^ 31 by omega), hs _ h8, nI_1, sx_16 _ (by omega)]
        refine ⟨vp_in_nI h8 (by omega), vp_in_nI h8 (by omega), nm_e (nm_r (nI_1 i) (hW _ (fun c hc => ?_)))⟩
        by_cases e : c = ab_t a b p q i
        · rw [e, pk_us]
          show _ = nI (cn_t _ i + (decide (ab_t a b p q i = ab_t a b p q i)).toNat)
          rw [decide_eq_true rfl]
          rfl
        · rw [pk_un e, hs c hc]
          show _ = nI (cn_t _ i + (decide (ab_t a b p q i = c)).toNat)
          rw [decide_eq_false (fun z => e z.symm)]
          rfl
    · intro n i s hi hs hW
      refine pk_le 8 i (fun z => absurd z (by omega)) (fun _ => ⟨pk_in i 8 hi, nm_e (nm_r (nI_1 i) (hW _ ?_))⟩)
      intro j hj
      rw [nI_clamp (show i < 2 ^ 31 by omega)]
      by_cases e : j = i
      · rw [e, pk_us]
      · rw [pk_un e, hs j (by omega)]
  · intro n i s hi hs hW
    refine pk_le 147 i (fun z => absurd z (by omega)) (fun _ => ⟨pk_in i 147 hi, nm_e (nm_r (nI_1 i) (hW _ ?_))⟩)
    intro j hj
    rw [nI_clamp (show i < 2 ^ 31 by omega)]
    by_cases e : j = i
    · rw [e, pk_us]
    · rw [pk_un e, hs j (by omega)]
end
section
/-! part 12: the answers of a packed state -/
theorem sq_isEngine {post : Int32 → Prop} {u : St0} {e : Nat} (he : e < 7) (hp : post 1) : wpX_isEngine post u (nI e) :=
  pk_lt e 0 (fun z => absurd z (by omega)) (fun _ => pk_le 7 e (fun z => absurd z (by omega)) (fun _ => hp))
theorem sq_isLetter {post : Int32 → Prop} {u : St0} {c : Nat} (hc : c < 8) (hp : post 1) : wpX_isLetter post u (nI c) :=
  pk_lt c 0 (fun z => absurd z (by omega)) (fun _ => pk_le 8 c (fun z => absurd z (by omega)) (fun _ => hp))
theorem sq_isRange {post : Int32 → Prop} {f2 f3 f4 f5 : Int32} {a1 a2 a3 a4 a5 a6 a7 a8 a9 a10 a11 a12 a13 a14 a15 a16 a17 a18 a19 a20 a21 a22 a23 a24 a25 a26 a27 : Nat → Int32} {N : Nat} (hN : N ≤ 200) (hp : post 1) : wpX_isRange post ((nI N), f2, f3, f4, f5, a1, a2, a3, a4, a5, a6, a7, a8, a9, a10, a11, a12, a13, a14, a15, a16, a17, a18, a19, a20, a21, a22, a23, a24, a25, a26, a27) 0 (nI N) := by
  unfold wpX_isRange
  exact br_f (by decide) (pk_lt N 0 (fun z => absurd z (by omega)) (fun _ => pk_lt N N (fun z => absurd z (by omega)) (fun _ => hp)))
theorem sq_packed {post : St2 → Prop} {f1 f3 f4 f5 : Int32} {a1 a2 a3 a4 a5 a6 a7 a8 a9 a10 a11 a12 a13 a14 a15 a16 a17 a18 a19 a20 a21 a22 a23 a24 a25 a26 a27 : Nat → Int32} (hp : post (f1, 1, f3, f4, f5, a1, a2, a3, a4, a5, a6, a7, a8, a9, a10, a11, a12, a13, a14, a15, a16, a17, a18, a19, a20, a21, a22, a23, a24, a25, a26, a27)) : wpX_pack post (f1, 1, f3, f4, f5, a1, a2, a3, a4, a5, a6, a7, a8, a9, a10, a11, a12, a13, a14, a15, a16, a17, a18, a19, a20, a21, a22, a23, a24, a25, a26, a27) := by
  unfold wpX_pack
  exact br_f (by decide) hp
theorem sq_rankBy {post : Int32 → Prop} {a1 a2 a3 a4 a5 a6 a7 a8 a9 a10 a11 a12 a13 a14 a15 a16 a17 a18 a19 a20 a21 a22 a23 a24 a25 a26 a27 : Nat → Int32} {a b p q r e c i : Nat} (ha : a < b) (hb : b < 8) (hN : p + q + r ≤ 200) (hP : sq_P a b p q r a1 a2 a3 a4 a5 a6 a7 a8 a9 a10 a11 a12 a13 a14 a15 a16 a17 a18 a19 a20 a21 a22 a23 a24 a25 a26 a27) (he : e < 7) (hc : c < 8) (hi : i ≤ p + q + r)
    (hp : post (nI (ct_t (ab_t a b p q) c i))) : wpX_rankBy post ((nI (p + q + r)), 1, (nI 3), (nI 1), (nI (p + q + r)), a1, a2, a3, a4, a5, a6, a7, a8, a9, a10, a11, a12, a13, a14, a15, a16, a17, a18, a19, a20, a21, a22, a23, a24, a25, a26, a27) (nI e) (nI c) (nI i) := by
  obtain ⟨h1, h2, h16, hB, hU, ⟨H, hH, hPt⟩, R, S, hR, hT, hM, hMp, hC⟩ := hP
  have hl := ab_8 (show a < 8 by omega) hb p q
  unfold wpX_rankBy
  refine pk_lt e 0 (fun z => absurd z (by omega)) (fun _ => pk_lt 5 e (fun _ => ?_) (fun _ => pk_eq e 0 (fun _ => ?_) (fun _ => pk_eq e 1 (fun _ => ?_) (fun _ => pk_eq e 2 (fun _ => ?_) (fun _ => pk_eq e 3 (fun _ => ?_) (fun _ => pk_eq e 4 (fun _ => ?_) (fun _ => pk_eq e 5 (fun _ => ?_) (fun _ => trivial))))))))
  · exact sq_rankInCodes hN h2 hR hC hc hi hp
  · exact sq_rankInTree hl hN hR hT hc hi hp
  · exact sq_rankInMatrix hN hR hM hc hi hp
  · rw [show (6 : Int32) + nI c = nI (6 + c) from nI_add 6 c]
    refine sq_onesBefore hR (by omega) (by omega) ?_
    rw [mx_cn (hMp c hc) hi]
    exact hp
  · exact sq_rankInParts hN h2 hH hPt hc hi hp
  · exact sq_rankInBlocks hN h16 hB hc hi hp
  · exact sq_rankInRuns (show a < 8 by omega) hb (by omega) hN (by omega) hU hc hi hp
theorem sq_inRange {post : Int32 → Prop} {a1 a2 a3 a4 a5 a6 a7 a8 a9 a10 a11 a12 a13 a14 a15 a16 a17 a18 a19 a20 a21 a22 a23 a24 a25 a26 a27 : Nat → Int32} {a b p q r e c : Nat} (ha : a < b) (hb : b < 8) (hN : p + q + r ≤ 200) (hP : sq_P a b p q r a1 a2 a3 a4 a5 a6 a7 a8 a9 a10 a11 a12 a13 a14 a15 a16 a17 a18 a19 a20 a21 a22 a23 a24 a25 a26 a27) (he : e < 7) (hc : c < 8)
    (hp : post (nI (ct_t (ab_t a b p q) c (p + q + r)))) : wpX_inRange post ((nI (p + q + r)), 1, (nI 3), (nI 1), (nI (p + q + r)), a1, a2, a3, a4, a5, a6, a7, a8, a9, a10, a11, a12, a13, a14, a15, a16, a17, a18, a19, a20, a21, a22, a23, a24, a25, a26, a27) (nI e) (nI c) 0 (nI (p + q + r)) := by
  unfold wpX_inRange
  refine sq_rankBy (i := 0) ha hb hN hP he hc (Nat.zero_le _) (sq_rankBy ha hb hN hP he hc (Nat.le_refl _) ?_)
  rw [show ct_t (ab_t a b p q) c 0 = 0 from rfl, pk_sub (Nat.zero_le _)]
  exact hp
theorem sq_belowBy {post : Int32 → Prop} {a1 a2 a3 a4 a5 a6 a7 a8 a9 a10 a11 a12 a13 a14 a15 a16 a17 a18 a19 a20 a21 a22 a23 a24 a25 a26 a27 : Nat → Int32} {a b p q r e L : Nat} (ha : a < b) (hb : b < 8) (hN : p + q + r ≤ 200) (hP : sq_P a b p q r a1 a2 a3 a4 a5 a6 a7 a8 a9 a10 a11 a12 a13 a14 a15 a16 a17 a18 a19 a20 a21 a22 a23 a24 a25 a26 a27) (he : e < 7) (hL : L < 8)
    (hp : post (nI (cl_t (ab_t a b p q) L (p + q + r)))) : wpX_belowBy post ((nI (p + q + r)), 1, (nI 3), (nI 1), (nI (p + q + r)), a1, a2, a3, a4, a5, a6, a7, a8, a9, a10, a11, a12, a13, a14, a15, a16, a17, a18, a19, a20, a21, a22, a23, a24, a25, a26, a27) (nI e) 0 (nI (p + q + r)) (nI L) := by
  have hP' := hP
  obtain ⟨h1, h2, h16, hB, hU, _, R, S, hR, hT, hM, hMp, hC⟩ := hP'
  have hl := ab_8 (show a < 8 by omega) hb p q
  unfold wpX_belowBy
  refine pk_eq L 8 (fun z => absurd z (by omega)) (fun _ => pk_eq e 0 (fun _ => ?_) (fun _ => ?_))
  · refine sq_belowInTree (place := 0) hl hN hR hT hL (Nat.zero_le _) (sq_belowInTree hl hN hR hT hL (Nat.le_refl _) ?_)
    rw [show cl_t (ab_t a b p q) L 0 = 0 from rfl, pk_sub (Nat.zero_le _)]
    exact hp
  · have e0 : cl_t (ab_t a b p q) 0 (p + q + r) = 0 := cn_none (fun j _ => decide_eq_false (Nat.not_lt_zero _))
    have G := pk_loop (σ := Unit) (fun n c _ => wX_belowBy_41 post (nI e) 0 (nI (p + q + r)) (nI L) (nI (p + q + r)) 1 (nI 3) (nI 1) (nI (p + q + r)) a1 a2 a3 a4 a5 a6 a7 a8 a9 a10 a11 a12 a13 a14 a15 a16 a17 a18 a19 a20 a21 a22 a23 a24 a25 a26 a27 n (nI (cl_t (ab_t a b p q) c (p + q + r))) (nI c)) (fun _ _ => True) L 0 () (Nat.zero_le L) trivial ?_ ?_
    · obtain ⟨n, hn⟩ := G
      rw [e0] at hn
      exact ⟨n, hn⟩
    · intro n _ _
      exact pk_le L L (fun _ => hp) (fun z => absurd z (by omega))
    · intro n c _ hc _ hW
      refine pk_le L c (fun z => absurd z (by omega)) (fun _ => sq_inRange ha hb hN hP he (by omega) (nm_r ?_ (nm_r (nI_1 c) (hW () trivial))))
      rw [nI_add, cl_nx]
/-- the place of the a number p -/
theorem sq_selectByRanks {post : Int32 → Prop} {a1 a2 a3 a4 a5 a6 a7 a8 a9 a10 a11 a12 a13 a14 a15 a16 a17 a18 a19 a20 a21 a22 a23 a24 a25 a26 a27 : Nat → Int32} {a b p q r e : Nat} (ha : a < b) (hb : b < 8) (hr : 0 < r) (hN : p + q + r ≤ 200) (hP : sq_P a b p q r a1 a2 a3 a4 a5 a6 a7 a8 a9 a10 a11 a12 a13 a14 a15 a16 a17 a18 a19 a20 a21 a22 a23 a24 a25 a26 a27) (he : e < 7)
    (hp : post (nI (p + q))) : wpX_selectByRanks post ((nI (p + q + r)), 1, (nI 3), (nI 1), (nI (p + q + r)), a1, a2, a3, a4, a5, a6, a7, a8, a9, a10, a11, a12, a13, a14, a15, a16, a17, a18, a19, a20, a21, a22, a23, a24, a25, a26, a27) (nI e) (nI a) (nI p) := by
  have hct : ∀ i, ct_t (ab_t a b p q) a i = na_t p q i := fun i => (ab_ct (by omega) a i).1 rfl
  have main : ∀ fu lo hi, hi - lo < fu → lo ≤ p + q → p + q ≤ hi → hi ≤ p + q + r → wX_selectByRanks_9 post (nI e) (nI a) (nI p) (nI (p + q + r)) 1 (nI 3) (nI 1) (nI (p + q + r)) a1 a2 a3 a4 a5 a6 a7 a8 a9 a10 a11 a12 a13 a14 a15 a16 a17 a18 a19 a20 a21 a22 a23 a24 a25 a26 a27 fu (nI lo) (nI hi) := by
    intro fu
    induction fu with
    | zero => intro lo hi h; exact absurd h (Nat.not_lt_zero _)
    | succ fu ih =>
      intro lo hi hf h1 h2 h3
      refine pk_le hi lo (fun h => ?_) (fun h => ?_)
      · rw [show lo = p + q by omega]
        exact hp
      · refine ⟨by decide, nm_r (sx_half lo hi (by omega)) ?_⟩
        rw [nI_1]
        refine sq_rankBy ha hb hN hP he (by omega) (by omega) ?_
        rw [hct]
        unfold na_t
        refine sy_lt (fun z => ?_) (fun z => ?_)
        · exact br_t rfl (br_t rfl (ih _ _ (by omega) h1 (by omega) (by omega)))
        · refine br_f (by decide) (br_f (by decide) ?_)
          rw [nI_1]
          exact ih _ _ (by omega) (by omega) h2 h3
  exact ⟨p + q + r + 1, main _ 0 _ (by omega) (by omega) (by omega) (Nat.le_refl _)⟩
theorem sq_select {post : Int32 → St2 → Prop} {a1 a2 a3 a4 a5 a6 a7 a8 a9 a10 a11 a12 a13 a14 a15 a16 a17 a18 a19 a20 a21 a22 a23 a24 a25 a26 a27 : Nat → Int32} {a b p q r e : Nat} (ha : a < b) (hb : b < 8) (hr : 0 < r) (hN : p + q + r ≤ 200) (hP : sq_P a b p q r a1 a2 a3 a4 a5 a6 a7 a8 a9 a10 a11 a12 a13 a14 a15 a16 a17 a18 a19 a20 a21 a22 a23 a24 a25 a26 a27) (he : e < 7)
    (hp : post (nI (p + q)) ((nI (p + q + r)), 1, (nI 3), (nI 1), (nI (p + q + r)), a1, a2, a3, a4, a5, a6, a7, a8, a9, a10, a11, a12, a13, a14, a15, a16, a17, a18, a19, a20, a21, a22, a23, a24, a25, a26, a27)) : wpX_select post ((nI (p + q + r)), 1, (nI 3), (nI 1), (nI (p + q + r)), a1, a2, a3, a4, a5, a6, a7, a8, a9, a10, a11, a12, a13, a14, a15, a16, a17, a18, a19, a20, a21, a22, a23, a24, a25, a26, a27) (nI e) (nI a) (nI p) := by
  have hP' := hP
  obtain ⟨h1, h2, h16, hB, hU, ⟨H, hH, hPt⟩, R, S, hR, hT, hM, hMp, hC⟩ := hP'
  have hct : ∀ i, ct_t (ab_t a b p q) a i = na_t p q i := fun i => (ab_ct (by omega) a i).1 rfl
  have hk : ct_t (ab_t a b p q) a (p + q) = p := by rw [hct]; unfold na_t; omega
  have hlt : ab_t a b p q (p + q) = a := ab_hi (Nat.le_refl _)
  unfold wpX_select
  refine sq_packed (sq_isEngine he (br_f (by decide) (sq_isLetter (show a < 8 by omega) (br_f (by decide) (br_f (nI_pos (by omega)) ⟨pk_in a 8 (by omega), ?_⟩)))))
  rw [nI_clamp (show a < 2 ^ 31 by omega), h2 a (by omega), (ab_N (show a ≠ b by omega)).1]
  refine pk_lt p (p + r) (fun _ => ?_) (fun z => absurd z (by omega))
  refine pk_eq e 1 (fun _ => ?_) (fun _ => pk_eq e 2 (fun _ => ?_) (fun _ => pk_eq e 3 (fun _ => ?_) (fun _ => pk_eq e 5 (fun _ => ?_) (fun _ => ?_))))
  · have g := sq_selectInMatrix (post := fun r_1 => post r_1 ((nI (p + q + r)), 1, (nI 3), (nI 1), (nI (p + q + r)), a1, a2, a3, a4, a5, a6, a7, a8, a9, a10, a11, a12, a13, a14, a15, a16, a17, a18, a19, a20, a21, a22, a23, a24, a25, a26, a27)) (f2 := 1) (f3 := nI 3) (f4 := nI 1) (f5 := nI (p + q + r)) (a1 := a1) (a2 := a2) (a3 := a3) (a4 := a4) (a9 := a9) (a10 := a10) (a11 := a11) (a12 := a12) (a13 := a13) (a14 := a14) (a15 := a15) (a16 := a16) (a17 := a17) (a18 := a18) (a19 := a19) (a20 := a20) (a21 := a21) (a22 := a22) (a23 := a23) (a24 := a24) (a25 := a25) (a26 := a26) (a27 := a27) hN hR hM (show a < 8 by omega) (show p + q < p + q + r by omega) hlt hp
    rw [hk] at g
    exact g
  · rw [show (6 : Int32) + nI a = nI (6 + a) from nI_add 6 a]
    refine sq_pob (o := true) (g := na_t p q) (t := p + q) hR (by omega) hN (by omega) (fun _ i hi => ?_) (fun z => absurd z (by decide)) (by omega) (fun i hi => ?_) (fun i g1 g2 => ?_) hp
    · rw [mx_cn (hMp a (by omega)) hi]
      exact (hct i).symm
    · unfold na_t; omega
    · unfold na_t; omega
  · have g := sq_selectInParts (post := fun r_1 => post r_1 ((nI (p + q + r)), 1, (nI 3), (nI 1), (nI (p + q + r)), a1, a2, a3, a4, a5, a6, a7, a8, a9, a10, a11, a12, a13, a14, a15, a16, a17, a18, a19, a20, a21, a22, a23, a24, a25, a26, a27)) (f1 := nI (p + q + r)) (f2 := 1) (f3 := nI 3) (f4 := nI 1) (f5 := nI (p + q + r)) (a1 := a1) (a2 := a2) (a3 := a3) (a4 := a4) (a5 := a5) (a6 := a6) (a7 := a7) (a8 := a8) (a13 := a13) (a14 := a14) (a15 := a15) (a16 := a16) (a17 := a17) (a18 := a18) (a19 := a19) (a20 := a20) (a21 := a21) (a22 := a22) (a23 := a23) (a24 := a24) (a25 := a25) (a26 := a26) (a27 := a27) hN hH (hPt a (by omega)) (show a < 8 by omega) (show p + q < p + q + r by omega) hlt hp
    rw [hk] at g
    exact g
  · exact sq_selectInRuns (show a < 8 by omega) hN (by omega) hU hp
  · exact sq_selectByRanks ha hb hr hN hP he hp
theorem ab_cl {a b p q r : Nat} (ha : a < b) : cl_t (ab_t a b p q) b (p + q + r) = p + r ∧ cl_t (ab_t a b p q) (b + 1) (p + q + r) = p + q + r := by
  have h1 : cl_t (ab_t a b p q) b (p + q + r) = ct_t (ab_t a b p q) a (p + q + r) := by
    refine cn_ext (fun j _ => ?_)
    rcases ab_or a b p q j with z | z
    · rw [z, decide_eq_true ha, decide_eq_true rfl]
    · rw [z, decide_eq_false (Nat.lt_irrefl b), decide_eq_false (show ¬ b = a by omega)]
  obtain ⟨n1, n2, _⟩ := ab_N (p := p) (q := q) (r := r) (show a ≠ b by omega)
  refine ⟨by rw [h1, n1], ?_⟩
  rw [cl_nx, h1, n1, n2]
  omega
theorem sq_below {post : Int32 → St2 → Prop} {a1 a2 a3 a4 a5 a6 a7 a8 a9 a10 a11 a12 a13 a14 a15 a16 a17 a18 a19 a20 a21 a22 a23 a24 a25 a26 a27 : Nat → Int32} {a b p q r e : Nat} (ha : a < b) (hb : b < 8) (hN : p + q + r ≤ 200) (hP : sq_P a b p q r a1 a2 a3 a4 a5 a6 a7 a8 a9 a10 a11 a12 a13 a14 a15 a16 a17 a18 a19 a20 a21 a22 a23 a24 a25 a26 a27) (he : e < 7)
    (hp : post (nI (p + r)) ((nI (p + q + r)), 1, (nI 3), (nI 1), (nI (p + q + r)), a1, a2, a3, a4, a5, a6, a7, a8, a9, a10, a11, a12, a13, a14, a15, a16, a17, a18, a19, a20, a21, a22, a23, a24, a25, a26, a27)) : wpX_below post ((nI (p + q + r)), 1, (nI 3), (nI 1), (nI (p + q + r)), a1, a2, a3, a4, a5, a6, a7, a8, a9, a10, a11, a12, a13, a14, a15, a16, a17, a18, a19, a20, a21, a22, a23, a24, a25, a26, a27) (nI e) 0 (nI (p + q + r)) (nI b) := by
  unfold wpX_below
  refine sq_isEngine he (br_f (by decide) (sq_isRange hN (br_f (by decide) (br_f (nI_pos (by omega)) (pk_le b 8 (fun _ => sq_packed (sq_belowBy ha hb hN hP he hb ?_)) (fun z => absurd z (by omega)))))))
  rw [(ab_cl ha).1]
  exact hp
theorem sq_ordered {post : Int32 → St2 → Prop} {a1 a2 a3 a4 a5 a6 a7 a8 a9 a10 a11 a12 a13 a14 a15 a16 a17 a18 a19 a20 a21 a22 a23 a24 a25 a26 a27 : Nat → Int32} {a b p q r e : Nat} (ha : a < b) (hb : b < 8) (hq : 0 < q) (hN : p + q + r ≤ 200) (hP : sq_P a b p q r a1 a2 a3 a4 a5 a6 a7 a8 a9 a10 a11 a12 a13 a14 a15 a16 a17 a18 a19 a20 a21 a22 a23 a24 a25 a26 a27) (he : e < 7)
    (hp : post (nI b) ((nI (p + q + r)), 1, (nI 3), (nI 1), (nI (p + q + r)), a1, a2, a3, a4, a5, a6, a7, a8, a9, a10, a11, a12, a13, a14, a15, a16, a17, a18, a19, a20, a21, a22, a23, a24, a25, a26, a27)) : wpX_ordered post ((nI (p + q + r)), 1, (nI 3), (nI 1), (nI (p + q + r)), a1, a2, a3, a4, a5, a6, a7, a8, a9, a10, a11, a12, a13, a14, a15, a16, a17, a18, a19, a20, a21, a22, a23, a24, a25, a26, a27) (nI e) 0 (nI (p + q + r)) (nI (p + r)) := by
  have hP' := hP
  obtain ⟨h1, h2, h16, hB, hU, _, R, S, hR, hT, hM, hMp, hC⟩ := hP'
  obtain ⟨c1, c2⟩ := ab_cl (p := p) (q := q) (r := r) ha
  have main : ∀ j x, x + j = b → wX_ordered_52 post (nI e) 0 (nI (p + q + r)) (nI (p + r)) (nI (p + q + r)) 1 (nI 3) (nI 1) (nI (p + q + r)) a1 a2 a3 a4 a5 a6 a7 a8 a9 a10 a11 a12 a13 a14 a15 a16 a17 a18 a19 a20 a21 a22 a23 a24 a25 a26 a27 (j + 1) (nI x) := by
    intro j
    induction j with
    | zero =>
      intro x hx
      refine pk_le 7 x (fun _ => ?_) (fun z => ?_)
      · rw [show x = b by omega]
        exact hp
      · rw [nI_1]
        refine sq_belowBy ha hb hN hP he (by omega) ?_
        rw [show x = b by omega, c2]
        exact pk_lt (p + r) (p + q + r) (fun _ => hp) (fun z2 => absurd z2 (by omega))
    | succ j ih =>
      intro x hx
      refine pk_le 7 x (fun z => absurd z (by omega)) (fun _ => ?_)
      rw [nI_1]
      have hle : cl_t (ab_t a b p q) (x + 1) (p + q + r) ≤ p + r := by
        rw [← c1]
        exact cl_mono _ (by omega) _
      exact sq_belowBy ha hb hN hP he (by omega) (sy_lt (fun z => absurd z (by omega)) (fun _ => nm_e (ih (x + 1) (by omega))))
  unfold wpX_ordered
  refine sq_isEngine he (br_f (by decide) (sq_isRange hN (br_f (by decide) (br_f (nI_pos (by omega)) ?_))))
  refine pk_lt (p + r) (p + q + r) (fun _ => sq_packed (pk_eq e 1 (fun _ => ?_) (fun _ => ⟨b + 1, main b 0 (by omega)⟩))) (fun z => absurd z (by omega)) (hy := pk_sub (b := 0) (Nat.zero_le _))
  exact sq_orderedInMatrix hN hR hM hb (by rw [c1]; exact Nat.le_refl _) (by rw [c2]; omega) hp
def bq_t (a b p q r c : Nat) : Nat := if c ≤ a then 0 else if c ≤ b then a else if p + r < q then b else a
def cq_t (a b p q r c : Nat) : Nat := if c ≤ a then 0 else if c ≤ b then p + r else if p + r < q then q else p + r
theorem sq_most {post : Int32 → St2 → Prop} {a1 a2 a3 a4 a5 a6 a7 a8 a9 a10 a11 a12 a13 a14 a15 a16 a17 a18 a19 a20 a21 a22 a23 a24 a25 a26 a27 : Nat → Int32} {a b p q r e : Nat} (ha : a < b) (hb : b < 8) (hp0 : 0 < p) (hN : p + q + r ≤ 200) (hP : sq_P a b p q r a1 a2 a3 a4 a5 a6 a7 a8 a9 a10 a11 a12 a13 a14 a15 a16 a17 a18 a19 a20 a21 a22 a23 a24 a25 a26 a27) (he : e < 7)
    (hp : post (nI (if p + r < q then b else a)) ((nI (p + q + r)), 1, (nI 3), (nI 1), (nI (p + q + r)), a1, a2, a3, a4, a5, a6, a7, a8, a9, a10, a11, a12, a13, a14, a15, a16, a17, a18, a19, a20, a21, a22, a23, a24, a25, a26, a27)) : wpX_most post ((nI (p + q + r)), 1, (nI 3), (nI 1), (nI (p + q + r)), a1, a2, a3, a4, a5, a6, a7, a8, a9, a10, a11, a12, a13, a14, a15, a16, a17, a18, a19, a20, a21, a22, a23, a24, a25, a26, a27) (nI e) 0 (nI (p + q + r)) := by
  obtain ⟨n1, n2, n3⟩ := ab_N (p := p) (q := q) (r := r) (show a ≠ b by omega)
  have G := pk_loop (σ := Unit) (fun n c _ => wX_most_36 post (nI e) 0 (nI (p + q + r)) (nI (p + q + r)) 1 (nI 3) (nI 1) (nI (p + q + r)) a1 a2 a3 a4 a5 a6 a7 a8 a9 a10 a11 a12 a13 a14 a15 a16 a17 a18 a19 a20 a21 a22 a23 a24 a25 a26 a27 n (nI (bq_t a b p q r c)) (nI (cq_t a b p q r c)) (nI c)) (fun _ _ => True) 8 0 () (by omega) trivial ?_ ?_
  · unfold wpX_most
    refine sq_isEngine he (br_f (by decide) (sq_isRange hN (br_f (by decide) (pk_eq 0 (p + q + r) (fun z => absurd z (by omega)) (fun _ => sq_packed ?_)))))
    exact G
  · intro n _ _
    refine pk_le 8 8 (fun _ => ?_) (fun z => absurd z (by omega))
    rw [show bq_t a b p q r 8 = if p + r < q then b else a by unfold bq_t; rw [if_neg (by omega), if_neg (by omega)]]
    exact hp
  · intro n c _ hc _ hW
    have W := hW () trivial
    try dsimp only at W
    have hcq : cq_t a b p q r c ≤ 200 := by
      unfold cq_t
      repeat' split
      all_goals omega
    refine pk_le 8 c (fun z => absurd z (by omega)) (fun _ => sq_inRange ha hb hN hP he (by omega) ?_)
    have hown : ct_t (ab_t a b p q) c (p + q + r) ≤ p + q + r := cn_le _ _
    have val : (c = a ∧ ct_t (ab_t a b p q) c (p + q + r) = p + r) ∨ (c = b ∧ ct_t (ab_t a b p q) c (p + q + r) = q) ∨ (c ≠ a ∧ c ≠ b ∧ ct_t (ab_t a b p q) c (p + q + r) = 0) := by
      by_cases ea : c = a
      · exact Or.inl ⟨ea, by rw [ea]; exact n1⟩
      · by_cases eb : c = b
        · exact Or.inr (Or.inl ⟨eb, by rw [eb]; exact n2⟩)
        · exact Or.inr (Or.inr ⟨ea, eb, n3 c ea eb⟩)
    have new : cq_t a b p q r c < ct_t (ab_t a b p q) c (p + q + r) → bq_t a b p q r (c + 1) = c ∧ cq_t a b p q r (c + 1) = ct_t (ab_t a b p q) c (p + q + r) := by
      revert val
      generalize ct_t (ab_t a b p q) c (p + q + r) = own
      intro val
      unfold bq_t cq_t
      repeat' split
      all_goals omega
    have old : ct_t (ab_t a b p q) c (p + q + r) ≤ cq_t a b p q r c → bq_t a b p q r (c + 1) = bq_t a b p q r c ∧ cq_t a b p q r (c + 1) = cq_t a b p q r c := by
      revert val
      generalize ct_t (ab_t a b p q) c (p + q + r) = own
      intro val
      unfold bq_t cq_t
      repeat' split
      all_goals omega
    refine sy_le (fun z => ?_) (fun z => ?_)
    · rw [(old z).1, (old z).2] at W
      exact br_t (nI_le z (by omega)) (nm_r (nI_1 c) W)
    · rw [(new z).1, (new z).2] at W
      exact br_f (nI_ge z (by omega)) (nm_r (nI_1 c) W)
theorem sq_runs {post : Int32 → St2 → Prop} {a1 a2 a3 a4 a5 a6 a7 a8 a9 a10 a11 a12 a13 a14 a15 a16 a17 a18 a19 a20 a21 a22 a23 a24 a25 a26 a27 : Nat → Int32} {p q r : Nat} (hp : post (nI 3) ((nI (p + q + r)), 1, (nI 3), (nI 1), (nI (p + q + r)), a1, a2, a3, a4, a5, a6, a7, a8, a9, a10, a11, a12, a13, a14, a15, a16, a17, a18, a19, a20, a21, a22, a23, a24, a25, a26, a27)) : wpX_runs post ((nI (p + q + r)), 1, (nI 3), (nI 1), (nI (p + q + r)), a1, a2, a3, a4, a5, a6, a7, a8, a9, a10, a11, a12, a13, a14, a15, a16, a17, a18, a19, a20, a21, a22, a23, a24, a25, a26, a27) := by
  unfold wpX_runs
  exact sq_packed hp
theorem sq_bits {post : Int32 → St2 → Prop} {a1 a2 a3 a4 a5 a6 a7 a8 a9 a10 a11 a12 a13 a14 a15 a16 a17 a18 a19 a20 a21 a22 a23 a24 a25 a26 a27 : Nat → Int32} {p q r : Nat} (hp : post (nI (p + q + r)) ((nI (p + q + r)), 1, (nI 3), (nI 1), (nI (p + q + r)), a1, a2, a3, a4, a5, a6, a7, a8, a9, a10, a11, a12, a13, a14, a15, a16, a17, a18, a19, a20, a21, a22, a23, a24, a25, a26, a27)) : wpX_bits post ((nI (p + q + r)), 1, (nI 3), (nI 1), (nI (p + q + r)), a1, a2, a3, a4, a5, a6, a7, a8, a9, a10, a11, a12, a13, a14, a15, a16, a17, a18, a19, a20, a21, a22, a23, a24, a25, a26, a27) := by
  unfold wpX_bits
  exact sq_packed (br_f (by decide) hp)
theorem sq_rank {post : Int32 → St2 → Prop} {f3 f4 f5 : Int32} {a1 a2 a3 a4 a5 a6 a7 a8 a9 a10 a11 a12 a13 a14 a15 a16 a17 a18 a19 a20 a21 a22 a23 a24 a25 a26 a27 : Nat → Int32} {a b p q r e : Nat} (ha : a < b) (hb : b < 8) (hp : 0 < p) (hq : 0 < q) (hr : 0 < r) (hN : p + q + r ≤ 200) (h1 : ∀ i, i < p + q + r → a1 i = nI (ab_t a b p q i)) (h16 : ch_ok a16) (he : e < 7)
    (K : ∀ b2 b3 b4 b5 b6 b7 b8 b9 b10 b11 b12 b13 b14 b15 b17 b18 b19 b20 b21 b22 b23 b24 b25 b26 b27, sq_P a b p q r a1 b2 b3 b4 b5 b6 b7 b8 b9 b10 b11 b12 b13 b14 b15 a16 b17 b18 b19 b20 b21 b22 b23 b24 b25 b26 b27 →
      post (nI p) ((nI (p + q + r)), 1, (nI 3), (nI 1), (nI (p + q + r)), a1, b2, b3, b4, b5, b6, b7, b8, b9, b10, b11, b12, b13, b14, b15, a16, b17, b18, b19, b20, b21, b22, b23, b24, b25, b26, b27)) :
    wpX_rank post ((nI (p + q + r)), 0, f3, f4, f5, a1, a2, a3, a4, a5, a6, a7, a8, a9, a10, a11, a12, a13, a14, a15, a16, a17, a18, a19, a20, a21, a22, a23, a24, a25, a26, a27) (nI e) (nI a) (nI (p + q)) := by
  unfold wpX_rank
  refine sq_isEngine he (br_f (by decide) (sq_isLetter (show a < 8 by omega) (br_f (by decide) (br_f (nI_pos (by omega)) (pk_le (p + q) (p + q + r) (fun _ => ?_) (fun z => absurd z (by omega)))))))
  refine sq_pack ha hb hp hq hr hN h1 h16 (fun b2 b3 b4 b5 b6 b7 b8 b9 b10 b11 b12 b13 b14 b15 b17 b18 b19 b20 b21 b22 b23 b24 b25 b26 b27 hP => ?_)
  refine sq_rankBy ha hb hN hP he (by omega) (by omega) ?_
  rw [show ct_t (ab_t a b p q) a (p + q) = p by rw [(ab_ct (by omega) a _).1 rfl]; unfold na_t; omega]
  exact K b2 b3 b4 b5 b6 b7 b8 b9 b10 b11 b12 b13 b14 b15 b17 b18 b19 b20 b21 b22 b23 b24 b25 b26 b27 hP
end
section
/-! part 13: the making of an object, append -/
theorem ch_0 : ∀ n, n < 8 → ∀ k, k < 8 → n < k → ch_t n k = 0 := by decide +kernel
theorem ch_s (n k : Nat) (hn : 0 < n) (hk : 0 < k) : ch_t n k = ch_t (n - 1) (k - 1) + ch_t (n - 1) k := by
  obtain ⟨m, rfl⟩ : ∃ m, n = m + 1 := ⟨n - 1, by omega⟩
  obtain ⟨l, rfl⟩ : ∃ l, k = l + 1 := ⟨k - 1, by omega⟩
  rfl
theorem ch_1 (n : Nat) : ch_t n 0 = 1 := by cases n <;> rfl
/-- the rows below i are done, and of row i the places below k -/
def ch_I (a : Nat → Int32) (i k : Nat) : Prop := ∀ n m, n < 8 → m < 8 → a (n * 8 + m) = nI (if n < i ∨ (n = i ∧ m < k) then ch_t n m else 0)
theorem ch_put {a : Nat → Int32} {i k : Nat} (h : ch_I a i k) (hk : k < 8) {x : Int32} (hx : x = nI (ch_t i k)) : ch_I (upd a (i * 8 + k) x) i (k + 1) := by
  intro n m hn hm
  by_cases e : n = i ∧ m = k
  · rw [e.1, e.2, pk_us, hx, if_pos (Or.inr ⟨rfl, by omega⟩)]
  · rw [pk_un (by omega), h n m hn hm]
    by_cases g : n < i ∨ (n = i ∧ m < k)
    · rw [if_pos g, if_pos (by omega)]
    · rw [if_neg g, if_neg (by omega)]
theorem in_253 {post : St2 → Prop} {mc ms kc ks : Nat} {J : _} {f1 f2 f3 f4 f5 : Int32} {a1 a2 a3 a4 a5 a6 a7 a8 a9 a10 a11 a12 a13 a14 a15 a16 a17 a18 a19 a20 a21 a22 a23 a24 a25 a26 a27 : Nat → Int32} {i : Nat} (hi : i < 8) (h : ch_I a16 i 1)
    (K : ∀ a, ch_I a (i + 1) 0 → J (nI (i + 1)) a1 a2 a3 a4 a5 a6 a7 a8 a9 a10 a11 a12 a13 a14 a15 a a17 a18 a19 a20 a21 a22 a23 a24 a25 a26 a27) : ∃ fu, wX_init_253 post mc ms J (nI i) kc ks f1 f2 f3 f4 f5 fu 1 a1 a2 a3 a4 a5 a6 a7 a8 a9 a10 a11 a12 a13 a14 a15 a16 a17 a18 a19 a20 a21 a22 a23 a24 a25 a26 a27 := by
  refine pk_loop (fun n k s => wX_init_253 post mc ms J (nI i) kc ks f1 f2 f3 f4 f5 n (nI k) a1 a2 a3 a4 a5 a6 a7 a8 a9 a10 a11 a12 a13 a14 a15 s a17 a18 a19 a20 a21 a22 a23 a24 a25 a26 a27) (fun k s => 1 ≤ k ∧ ch_I s i k) (i + 1) 1 a16 (by omega) ⟨Nat.le_refl 1, h⟩ ?_ ?_
  · intro n s hs0
    obtain ⟨_, hs⟩ := hs0
    refine pk_lt i (i + 1) (fun _ => nm_r (nI_1 i) (K s (fun m k hm hk => ?_))) (fun z => absurd z (by omega))
    rw [hs m k hm hk]
    by_cases g : m < i ∨ (m = i ∧ k < i + 1)
    · rw [if_pos g, if_pos (by omega)]
    · rw [if_neg g]
      by_cases g2 : m < i + 1 ∨ (m = i + 1 ∧ k < 0)
      · rw [if_pos g2, ch_0 m hm k hk (by omega)]
      · rw [if_neg g2]
  · intro n k s hk hs0 hW
    obtain ⟨hk0, hs⟩ := hs0
    refine pk_lt i k (fun z => absurd z (by omega)) (fun _ => ?_)
    have e1 : (nI i - 1) * 8 + nI k = nI ((i - 1) * 8 + k) := by rw [sx_sub1 (by omega), sx_ma (i - 1) 8 k 8 rfl]
    have e2 : nI i * 8 + nI k = nI (i * 8 + k) := sx_ma i 8 k 8 rfl
    rw [e1, e2, sx_sub1 (show 0 < (i - 1) * 8 + k by omega), nI_clamp (show (i - 1) * 8 + k < 2 ^ 31 by omega), nI_clamp (show (i - 1) * 8 + k - 1 < 2 ^ 31 by omega), nI_clamp (show i * 8 + k < 2 ^ 31 by omega)]
    refine ⟨vp_in_nI (by omega) (by omega), vp_in_nI (by omega) (by omega), vp_in_nI (by omega) (by omega), nm_e (nm_r (nI_1 k) (hW _ ⟨by omega, ch_put hs (by omega) ?_⟩))⟩
    have v1 := hs (i - 1) (k - 1) (by omega) (by omega)
    have v2 := hs (i - 1) k (by omega) (by omega)
    rw [if_pos (by omega)] at v1 v2
    rw [show (i - 1) * 8 + (k - 1) = (i - 1) * 8 + k - 1 by omega] at v1
    have hc := ch_lt i hi k (by omega)
    rw [v1, v2, nI_add, ← ch_s i k (by omega) (by omega), sx_8 _ hc]
theorem in_235 {post : St2 → Prop} {mc ms kc ks : Nat} {f1 f2 f3 f4 f5 : Int32} {a1 a2 a3 a4 a5 a6 a7 a8 a9 a10 a11 a12 a13 a14 a15 a16 a17 a18 a19 a20 a21 a22 a23 a24 a25 a26 a27 : Nat → Int32} (h : ch_I a16 0 0) (K : ∀ a, ch_ok a → post (f1, f2, f3, f4, f5, a1, a2, a3, a4, a5, a6, a7, a8, a9, a10, a11, a12, a13, a14, a15, a, a17, a18, a19, a20, a21, a22, a23, a24, a25, a26, a27)) : ∃ fu, wX_init_235 post mc ms kc ks f1 f2 f3 f4 f5 fu 0 a1 a2 a3 a4 a5 a6 a7 a8 a9 a10 a11 a12 a13 a14 a15 a16 a17 a18 a19 a20 a21 a22 a23 a24 a25 a26 a27 := by
  refine pk_loop (fun n i s => wX_init_235 post mc ms kc ks f1 f2 f3 f4 f5 n (nI i) a1 a2 a3 a4 a5 a6 a7 a8 a9 a10 a11 a12 a13 a14 a15 s a17 a18 a19 a20 a21 a22 a23 a24 a25 a26 a27) (fun i s => ch_I s i 0) 8 0 a16 (by omega) h ?_ ?_
  · intro n s hs
    refine pk_le 8 8 (fun _ => K s (fun m k hm hk => ?_)) (fun z => absurd z (by omega))
    rw [hs m k hm hk, if_pos (Or.inl hm)]
  · intro n i s hi hs hW
    refine pk_le 8 i (fun z => absurd z (by omega)) (fun _ => ?_)
    rw [show nI i * 8 = nI (i * 8 + 0) from pk_mul i 8, nI_clamp (show i * 8 + 0 < 2 ^ 31 by omega)]
    exact ⟨vp_in_nI (by omega) (by omega), nm_e (in_253 hi (ch_put hs (by omega) (by rw [ch_1]; rfl)) (fun a ha => hW a ha))⟩
theorem sq_init {post : St2 → Prop} {f1 f2 f3 f4 f5 : Int32} (K : ∀ a, ch_ok a → post (f1, f2, f3, f4, f5, (fun _ => 0), (fun _ => 0), (fun _ => 0), (fun _ => 0), (fun _ => 0), (fun _ => 0), (fun _ => 0), (fun _ => 0), (fun _ => 0), (fun _ => 0), (fun _ => 0), (fun _ => 0), (fun _ => 0), (fun _ => 0), (fun _ => 0), a, (fun _ => 0), (fun _ => 0), (fun _ => 0), (fun _ => 0), (fun _ => 0), (fun _ => 0), (fun _ => 0), (fun _ => 0), (fun _ => 0), (fun _ => 0), (fun _ => 0))) : wpX_init post 27 3516 (f1, f2, f3, f4, f5) := by
  refine ⟨by omega, by omega, by omega, by omega, by omega, by omega, by omega, by omega, by omega, by omega, by omega, by omega, by omega, by omega, by omega, by omega, by omega, by omega, by omega, by omega, by omega, by omega, by omega, by omega, by omega, by omega, by omega, by omega, by omega, by omega, by omega, by omega, by omega, by omega, by omega, by omega, by omega, by omega, by omega, by omega, by omega, by omega, by omega, by omega, by omega, by omega, by omega, by omega, by omega, by omega, by omega, by omega, by omega, by omega, ?_⟩
  refine in_235 (fun n m _ _ => ?_) (fun a ha => K a ha)
  rw [if_neg (by omega)]
  rfl
theorem sq_append {post : Int32 → St2 → Prop} {f2 f3 f4 f5 : Int32} {a1 a2 a3 a4 a5 a6 a7 a8 a9 a10 a11 a12 a13 a14 a15 a16 a17 a18 a19 a20 a21 a22 a23 a24 a25 a26 a27 : Nat → Int32} {n0 m c : Nat} (hc : c < 8) (hm : 1 ≤ m) (hn : n0 + m ≤ 200)
    (K : ∀ b1, (∀ j, j < n0 → b1 j = a1 j) → (∀ j, n0 ≤ j → j < n0 + m → b1 j = nI c) → post (nI (n0 + m)) ((nI (n0 + m)), 0, f3, f4, f5, b1, a2, a3, a4, a5, a6, a7, a8, a9, a10, a11, a12, a13, a14, a15, a16, a17, a18, a19, a20, a21, a22, a23, a24, a25, a26, a27)) :
    wpX_append post ((nI n0), f2, f3, f4, f5, a1, a2, a3, a4, a5, a6, a7, a8, a9, a10, a11, a12, a13, a14, a15, a16, a17, a18, a19, a20, a21, a22, a23, a24, a25, a26, a27) (nI c) (nI m) := by
  unfold wpX_append
  refine sq_isLetter hc (br_f (by decide) (pk_lt m 1 (fun z => absurd z (by omega)) (fun _ => pk_le m 200 (fun _ => ?_) (fun z => absurd z (by omega)))))
  rw [nI_add]
  refine pk_le (n0 + m) 200 (fun _ => ?_) (fun z => absurd z (by omega))
  refine pk_loop (fun n i s => wX_append_38 post (nI c) (nI m) f2 f3 f4 f5 n (nI i) (nI (n0 + i)) s a2 a3 a4 a5 a6 a7 a8 a9 a10 a11 a12 a13 a14 a15 a16 a17 a18 a19 a20 a21 a22 a23 a24 a25 a26 a27) (fun i s => (∀ j, j < n0 → s j = a1 j) ∧ ∀ j, n0 ≤ j → j < n0 + i → s j = nI c) m 0 a1 (by omega) ⟨fun j _ => rfl, fun j h1 h2 => absurd h2 (by omega)⟩ ?_ ?_
  · intro n s hs
    exact pk_le m m (fun _ => K s hs.1 hs.2) (fun z => absurd z (by omega))
  · intro n i s hi hs hW
    refine pk_le m i (fun z => absurd z (by omega)) (fun _ => ?_)
    rw [nI_clamp (show n0 + i < 2 ^ 31 by omega), sx_8 c (by omega)]
    refine ⟨vp_in_nI (by omega) (by omega), nm_e (nm_r (nI_1 _) (nm_r (nI_1 i) (hW _ ⟨fun j hj => ?_, fun j h1 h2 => ?_⟩)))⟩
    · rw [pk_un (by omega), hs.1 j hj]
    · by_cases e : j = n0 + i
      · rw [e, pk_us]
      · rw [pk_un e, hs.2 j h1 (by omega)]
end
section
/-! part 14: the law -/
theorem la_rem (x : Int32) (d : Nat) (D : Int32) (hD : D = nI d) (h0 : 0 < d) (hd : d < 1000) : ∃ k, k < d ∧ (x &&& 65535) - (x &&& 65535) / D * D = nI k := by
  obtain ⟨k, hk, e⟩ := pk_andE x (m := 65535) 16 (by decide)
  refine ⟨k % d, Nat.mod_lt _ h0, ?_⟩
  rw [e, hD]
  exact pk_rem (by omega) h0 (by omega)
theorem la_end {post : Int32 → St0 → Prop} {mc ms kc ks : Nat} {n m z : Nat} (hmz : m = z) (hp : post 1 ()) : wL_lawOf_262 post mc ms (nI n) (nI 3) (nI n) (nI z) (nI m) kc ks := by
  rw [hmz]
  exact br_t rfl (br_t rfl (br_t rfl hp))
theorem la_of {post : Int32 → St0 → Prop} {u : St0} (p0 p1 p2 p3 p4 p5 : Int32) (hp : post 1 ()) : wpL_lawOf post 28 3548 u p0 p1 p2 p3 p4 p5 := by
  unfold wpL_lawOf
  refine ⟨by omega, by omega, 27, 3516, by omega, by omega, sq_init (fun a16 h16 => ?_)⟩
  obtain ⟨a, ha, ea⟩ := la_rem p0 7 7 rfl (by omega) (by omega)
  have e7 : (7 : Int32) - nI a = nI (7 - a) := pk_sub (a := 7) (by omega)
  obtain ⟨b', hb', eb⟩ := la_rem p1 (7 - a) (nI (7 - a)) rfl (by omega) (by omega)
  obtain ⟨p', hp', ep⟩ := la_rem p2 20 20 rfl (by omega) (by omega)
  obtain ⟨q', hq', eq⟩ := la_rem p3 20 20 rfl (by omega) (by omega)
  obtain ⟨r', hr', er⟩ := la_rem p4 20 20 rfl (by omega) (by omega)
  obtain ⟨e, he, ee⟩ := la_rem p5 7 7 rfl (by omega) (by omega)
  obtain ⟨b, rfl⟩ : ∃ b, b = a + 1 + b' := ⟨_, rfl⟩
  obtain ⟨p, hpd⟩ : ∃ p, p = 1 + p' := ⟨_, rfl⟩
  obtain ⟨q, hqd⟩ : ∃ q, q = 1 + q' := ⟨_, rfl⟩
  obtain ⟨r, hrd⟩ : ∃ r, r = 1 + r' := ⟨_, rfl⟩
  have hab : a < a + 1 + b' := by omega
  have hb8 : a + 1 + b' < 8 := by omega
  have hN : p + q + r ≤ 200 := by omega
  refine ⟨by decide, nm_r ea ⟨by rw [e7]; exact nI_ne0 (by omega) (by omega), nm_r (e' := nI (a + 1 + b')) ?_ ⟨by decide, nm_r (e' := nI p) ?_ ⟨by decide, nm_r (e' := nI q) ?_ ⟨by decide, nm_r (e' := nI r) ?_ ⟨by decide, nm_r ee ?_⟩⟩⟩⟩⟩⟩
  · rw [e7, eb, nI_1, nI_add]
  · rw [ep, hpd]; exact nI_add 1 p'
  · rw [eq, hqd]; exact nI_add 1 q'
  · rw [er, hrd]; exact nI_add 1 r'
  rw [nI_add p q, nI_add (p + q) r, nI_add p r]
  refine sq_append (n0 := 0) (show a < 8 by omega) (by omega) (by omega) (fun b1 x1 x2 => ?_)
  rw [Nat.zero_add] at x2 ⊢
  refine sq_append hb8 (by omega) (by omega) (fun c1 y1 y2 => ?_)
  refine sq_append (show a < 8 by omega) (by omega) hN (fun d1 z1 z2 => ?_)
  have h1 : ∀ i, i < p + q + r → d1 i = nI (ab_t a (a + 1 + b') p q i) := by
    intro i hi
    rcases Nat.lt_or_ge i (p + q) with g | g
    · rw [z1 i g]
      rcases Nat.lt_or_ge i p with g2 | g2
      · rw [y1 i g2, x2 i (Nat.zero_le i) g2, ab_lo g2]
      · rw [y2 i g2 g, ab_mi g2 g]
    · rw [z2 i g hi, ab_hi g]
  refine sq_rank hab hb8 (by omega) (by omega) (by omega) hN h1 h16 he (fun b2 b3 b4 b5 b6 b7 b8 b9 b10 b11 b12 b13 b14 b15 b17 b18 b19 b20 b21 b22 b23 b24 b25 b26 b27 hP => ?_)
  refine sq_select hab hb8 (by omega) hN hP he ?_
  refine sq_below hab hb8 hN hP he ?_
  refine sq_ordered hab hb8 (by omega) hN hP he ?_
  refine sq_most hab hb8 (by omega) hN hP he ?_
  refine sq_runs ?_
  refine sq_bits ?_
  refine br_t rfl (br_t rfl (br_t rfl (br_t rfl (br_t rfl (sy_le (fun g => ?_) (fun g => ?_))))))
  · exact la_end (if_neg (by omega)) hp
  · exact la_end (if_pos g) hp
theorem la_cell {post : Int32 → Prop} {L : Nat} {xs : Nat → Int32} {u : St0} (k : Nat) (hk : k < 6) (hL : L ≤ 6) (h : ∀ v, post v) : wpL_cellAt post L xs u (nI k) :=
  pk_le L k (fun _ => h 0) (fun z => ⟨vp_in_nI z (by omega), h _⟩)
theorem i_vc (xs : Nat → Int32) (L : Nat) (hL : L ≤ 6) : wpL_law (fun r => r = 1) L xs := by
  unfold wpL_law
  refine la_cell 0 (by omega) hL (fun v0 => ?_)
  refine la_cell 1 (by omega) hL (fun v1 => ?_)
  refine la_cell 2 (by omega) hL (fun v2 => ?_)
  refine la_cell 3 (by omega) hL (fun v3 => ?_)
  refine la_cell 4 (by omega) hL (fun v4 => ?_)
  refine la_cell 5 (by omega) hL (fun v5 => ?_)
  exact ⟨28, 3548, by omega, by omega, la_of v0 v1 v2 v3 v4 v5 rfl⟩
end
