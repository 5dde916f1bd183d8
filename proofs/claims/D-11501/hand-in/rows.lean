section
/-! part 01: bits of an Int32 (rows of kit/laws/BITS.to-paste, renamed gb_), the tables of places, sets as numbers below 32 -/
def gb_t (x : Int32) (i : Nat) : Bool := x.toBitVec.getLsbD i
theorem gb_ext {x y : Int32} (h : ∀ i, i < 32 → gb_t x i = gb_t y i) : x = y := Int32.toBitVec_inj.mp (BitVec.eq_of_getLsbD_eq (fun i hi => h i hi))
theorem gb_tor (x y : Int32) (i : Nat) : gb_t (x ||| y) i = (gb_t x i || gb_t y i) := by unfold gb_t; rw [Int32.toBitVec_or, BitVec.getLsbD_or]
theorem gb_tand (x y : Int32) (i : Nat) : gb_t (x &&& y) i = (gb_t x i && gb_t y i) := by unfold gb_t; rw [Int32.toBitVec_and, BitVec.getLsbD_and]
theorem gb_txor (x y : Int32) (i : Nat) : gb_t (x ^^^ y) i = (gb_t x i ^^ gb_t y i) := by unfold gb_t; rw [Int32.toBitVec_xor, BitVec.getLsbD_xor]
theorem gb_tbig {x : Int32} {i : Nat} (h : 32 ≤ i) : gb_t x i = false := BitVec.getLsbD_of_ge _ _ h
theorem gb_tm1 : ∀ i, i < 32 → gb_t (-1) i = true := by decide +kernel
theorem gb_t0 (i : Nat) : gb_t 0 i = false := BitVec.getLsbD_zero
theorem gb_t1 : ∀ i, i < 32 → gb_t 1 i = decide (i = 0) := by decide +kernel
theorem gb_sl : ∀ n, n < 32 → ((nI n &&& 31).toBitVec.smod 32).toNat = n := by decide +kernel
theorem gb_su : ∀ n, n < 32 → (((nI n).toUInt32 &&& Int32.toUInt32 31).toBitVec % 32).toNat = n := by decide +kernel
theorem gb_tshl (n : Nat) (hn : n < 32) (x : Int32) {i : Nat} (hi : i < 32) : gb_t (x <<< (nI n &&& 31)) i = (decide (n ≤ i) && gb_t x (i - n)) := by
  unfold gb_t
  rw [Int32.toBitVec_shiftLeft]
  show (x.toBitVec <<< ((nI n &&& 31).toBitVec.smod 32).toNat).getLsbD i = _
  rw [gb_sl n hn, BitVec.getLsbD_shiftLeft]
  rcases Nat.lt_or_ge i n with h | h
  · simp [h, Nat.not_le.mpr h]
  · simp [hi, h, Nat.not_lt.mpr h]
theorem gb_tushr (n : Nat) (hn : n < 32) (x : Int32) (i : Nat) : gb_t ((x.toUInt32 >>> ((nI n).toUInt32 &&& Int32.toUInt32 31)).toInt32) i = gb_t x (n + i) := by
  show (x.toUInt32 >>> ((nI n).toUInt32 &&& Int32.toUInt32 31)).toBitVec.getLsbD i = x.toUInt32.toBitVec.getLsbD (n + i)
  rw [UInt32.toBitVec_shiftRight]
  show (x.toUInt32.toBitVec >>> (((nI n).toUInt32 &&& Int32.toUInt32 31).toBitVec % 32).toNat).getLsbD i = _
  rw [gb_su n hn, BitVec.getLsbD_ushiftRight]
theorem gb_tsshr (n : Nat) (hn : n < 32) (x : Int32) {i : Nat} (hi : i < 32) : gb_t (x >>> (nI n &&& 31)) i = if n + i < 32 then gb_t x (n + i) else gb_t x 31 := by
  unfold gb_t
  rw [Int32.toBitVec_shiftRight]
  show (x.toBitVec.sshiftRight ((nI n &&& 31).toBitVec.smod 32).toNat).getLsbD i = _
  rw [gb_sl n hn, BitVec.getLsbD_sshiftRight, BitVec.msb_eq_getLsbD_last]
  simp [hi]
/-- a Bool as an int -/
def gb_bi (b : Bool) : Int32 := if b = true then 1 else 0
theorem gb_bi_t (b : Bool) {i : Nat} (hi : i < 32) : gb_t (gb_bi b) i = (b && decide (i = 0)) := by
  cases b
  · show gb_t 0 i = _
    rw [gb_t0]; rfl
  · show gb_t 1 i = _
    rw [gb_t1 i hi]; rfl
theorem gb_bi1 (b : Bool) : gb_bi b = 1 ↔ b = true := by cases b <;> decide
theorem gb_bi0 (b : Bool) : gb_bi b = 0 ↔ b = false := by cases b <;> decide
theorem gb_bi_inj {a b : Bool} : gb_bi a = gb_bi b ↔ a = b := by cases a <;> cases b <;> decide
theorem gb_bi_and (a b : Bool) : gb_bi a &&& gb_bi b = gb_bi (a && b) := by cases a <;> cases b <;> decide
theorem gb_bi_x1 (a : Bool) : gb_bi a ^^^ 1 = gb_bi (a ^^ true) := by cases a <;> decide
/-- one bit of x, unsigned shift -/
theorem gb_ub {k : Nat} (hk : k < 32) (x : Int32) : ((x.toUInt32 >>> ((nI k).toUInt32 &&& Int32.toUInt32 31)).toInt32) &&& 1 = gb_bi (gb_t x k) := by
  apply gb_ext
  intro i hi
  rw [gb_tand, gb_tushr k hk, gb_t1 i hi, gb_bi_t _ hi]
  by_cases e : i = 0
  · subst e; simp
  · simp [e]
theorem gb_ub1 {k : Nat} (hk : k < 32) (x : Int32) : ((x.toUInt32 >>> ((nI k).toUInt32 &&& Int32.toUInt32 31)).toInt32) &&& 1 = 1 ↔ gb_t x k = true := by
  rw [gb_ub hk, gb_bi1]
theorem gb_ub0 {k : Nat} (hk : k < 32) (x : Int32) : ((x.toUInt32 >>> ((nI k).toUInt32 &&& Int32.toUInt32 31)).toInt32) &&& 1 = 0 ↔ gb_t x k = false := by
  rw [gb_ub hk, gb_bi0]
/-- one bit of x, signed shift -/
theorem gb_sb {k : Nat} (hk : k < 32) (x : Int32) : (x >>> (nI k &&& 31)) &&& 1 = gb_bi (gb_t x k) := by
  apply gb_ext
  intro i hi
  rw [gb_tand, gb_tsshr k hk x hi, gb_t1 i hi, gb_bi_t _ hi]
  by_cases e : i = 0
  · subst e; simp [hk]
  · simp [e]
theorem gb_sb1 {k : Nat} (hk : k < 32) (x : Int32) : (x >>> (nI k &&& 31)) &&& 1 = 1 ↔ gb_t x k = true := by
  rw [gb_sb hk, gb_bi1]
theorem gb_sb0 {k : Nat} (hk : k < 32) (x : Int32) : (x >>> (nI k &&& 31)) &&& 1 = 0 ↔ gb_t x k = false := by
  rw [gb_sb hk, gb_bi0]
/-- the int with the bit k alone -/
def gb_e (k : Nat) : Int32 := (1 : Int32) <<< (nI k &&& 31)
theorem gb_te {k : Nat} (hk : k < 32) (i : Nat) : gb_t (gb_e k) i = decide (i = k) := by
  rcases Nat.lt_or_ge i 32 with hi | hi
  · unfold gb_e
    rw [gb_tshl k hk _ hi, gb_t1 (i - k) (by omega)]
    by_cases h : i = k
    · subst h; simp
    · rw [decide_eq_false h]
      by_cases g : k ≤ i
      · rw [decide_eq_true g, decide_eq_false (by omega)]; rfl
      · rw [decide_eq_false g]; rfl
  · rw [gb_tbig hi, decide_eq_false (by omega)]
theorem gb_tsb {k : Nat} (hk : k < 32) (b : Bool) {i : Nat} (hi : i < 32) : gb_t (gb_bi b <<< (nI k &&& 31)) i = (b && decide (i = k)) := by
  cases b
  · show gb_t (0 <<< (nI k &&& 31)) i = _
    rw [gb_tshl k hk _ hi, gb_t0]; simp
  · exact (gb_te hk i).trans (by simp)
/-- xor laws, as terms -/
theorem gb_x0 (x : Int32) : x ^^^ 0 = x := gb_ext (fun i _ => by rw [gb_txor, gb_t0]; simp)
theorem gb_0x (x : Int32) : 0 ^^^ x = x := gb_ext (fun i _ => by rw [gb_txor, gb_t0]; simp)
theorem gb_xx (x : Int32) : x ^^^ x = 0 := gb_ext (fun i _ => by rw [gb_txor, gb_t0]; simp)
/-! sets of variables as numbers -/
def gb_sub (a b : Nat) : Bool := (a &&& b) == a
def gb_mi (a b : Nat) : Nat := a ^^^ (a &&& b)
theorem gb_sub_iff {a b : Nat} : gb_sub a b = true ↔ ∀ k, a.testBit k = true → b.testBit k = true := by
  unfold gb_sub
  rw [beq_iff_eq]
  constructor
  · intro h k hk
    have := congrArg (fun x => x.testBit k) h
    simp only [Nat.testBit_and, hk, Bool.true_and] at this
    exact this
  · intro h
    apply Nat.eq_of_testBit_eq
    intro k
    rw [Nat.testBit_and]
    have := h k
    cases ha : a.testBit k
    · rfl
    · rw [this ha]; rfl
theorem gb_mi_t (a b k : Nat) : (gb_mi a b).testBit k = (a.testBit k && !b.testBit k) := by
  unfold gb_mi
  rw [Nat.testBit_xor, Nat.testBit_and]
  cases a.testBit k <;> cases b.testBit k <;> rfl
theorem gb_sub_or (a b z : Nat) : gb_sub (a ||| b) z = (gb_sub a z && gb_sub b z) := by
  rw [Bool.eq_iff_iff, Bool.and_eq_true, gb_sub_iff, gb_sub_iff, gb_sub_iff]
  constructor
  · intro h
    exact ⟨fun k hk => h k (by rw [Nat.testBit_or, hk]; rfl), fun k hk => h k (by rw [Nat.testBit_or, hk]; simp)⟩
  · rintro ⟨h1, h2⟩ k hk
    rw [Nat.testBit_or, Bool.or_eq_true] at hk
    exact hk.elim (h1 k) (h2 k)
theorem gb_sub_refl (a : Nat) : gb_sub a a = true := gb_sub_iff.mpr (fun _ h => h)
theorem gb_sub_trans {a b c : Nat} (h : gb_sub a b = true) (g : gb_sub b c = true) : gb_sub a c = true := gb_sub_iff.mpr (fun k hk => gb_sub_iff.mp g k (gb_sub_iff.mp h k hk))
theorem gb_sub_orr (a b : Nat) : gb_sub b (a ||| b) = true := gb_sub_iff.mpr (fun k hk => by rw [Nat.testBit_or, hk]; simp)
theorem gb_sub_le {a b : Nat} (h : gb_sub a b = true) : a ≤ b := by
  have e : (a &&& b) = a := beq_iff_eq.mp h
  rw [← e]
  exact Nat.and_le_right
theorem gb_or32 {a b : Nat} (ha : a < 32) (hb : b < 32) : a ||| b < 32 := Nat.or_lt_two_pow (n := 5) ha hb
theorem gb_mi32 {a b : Nat} (ha : a < 32) : gb_mi a b < 32 := Nat.xor_lt_two_pow (n := 5) ha (Nat.lt_of_le_of_lt Nat.and_le_left ha)
theorem gb_dis {a b : Nat} (h : a &&& b = 0) (k : Nat) : (a.testBit k && b.testBit k) = false := by
  rw [← Nat.testBit_and, h, Nat.zero_testBit]
theorem gb_mi_or {a b : Nat} (h : gb_sub b a = true) : b ||| gb_mi a b = a := by
  apply Nat.eq_of_testBit_eq
  intro k
  rw [Nat.testBit_or, gb_mi_t]
  have := gb_sub_iff.mp h k
  cases hb : b.testBit k
  · simp
  · rw [this hb]; simp
theorem gb_mi_dis (a b : Nat) : gb_mi a b &&& b = 0 := by
  apply Nat.eq_of_testBit_eq
  intro k
  rw [Nat.testBit_and, gb_mi_t, Nat.zero_testBit]
  cases a.testBit k <;> cases b.testBit k <;> rfl
/-- ints that hold sets -/
theorem gb_iand {a b : Nat} : nI a &&& nI b = nI (a &&& b) := by
  apply Int32.toBitVec_inj.1
  show BitVec.ofNat 32 a &&& BitVec.ofNat 32 b = BitVec.ofNat 32 (a &&& b)
  apply BitVec.eq_of_getLsbD_eq
  intro i hi
  simp [hi]
theorem gb_ior {a b : Nat} : nI a ||| nI b = nI (a ||| b) := by
  apply Int32.toBitVec_inj.1
  show BitVec.ofNat 32 a ||| BitVec.ofNat 32 b = BitVec.ofNat 32 (a ||| b)
  apply BitVec.eq_of_getLsbD_eq
  intro i hi
  simp [hi]
theorem gb_imi {a b : Nat} : nI a &&& (nI b ^^^ (-1)) = nI (gb_mi a b) := by
  apply gb_ext
  intro i hi
  rw [gb_tand, gb_txor, gb_tm1 i hi]
  show ((BitVec.ofNat 32 a).getLsbD i && ((BitVec.ofNat 32 b).getLsbD i ^^ true)) = (BitVec.ofNat 32 (gb_mi a b)).getLsbD i
  rw [BitVec.getLsbD_ofNat, BitVec.getLsbD_ofNat, BitVec.getLsbD_ofNat, gb_mi_t, decide_eq_true hi]
  simp
theorem gb_mi0 {a b : Nat} : gb_mi a b = 0 ↔ gb_sub a b = true := by
  rw [gb_sub_iff]
  constructor
  · intro h k hk
    have := gb_mi_t a b k
    rw [h, Nat.zero_testBit, hk] at this
    revert this
    cases b.testBit k <;> simp
  · intro h
    apply Nat.eq_of_testBit_eq
    intro k
    rw [gb_mi_t, Nat.zero_testBit]
    have := h k
    revert this
    cases a.testBit k <;> cases b.testBit k <;> simp
theorem gb_imi0 {a b : Nat} (ha : a < 32) : nI a &&& (nI b ^^^ (-1)) = 0 ↔ gb_sub a b = true := by
  rw [gb_imi, ← nI_0, nI_eq (Nat.lt_trans (gb_mi32 ha) (by decide)) (by decide), gb_mi0]
theorem gb_it {a k : Nat} (hk : k < 32) : gb_t (nI a) k = a.testBit k := by
  show (BitVec.ofNat 32 a).getLsbD k = _
  rw [BitVec.getLsbD_ofNat, decide_eq_true hk, Bool.true_and]
/-! the tables -/
def gb_M (i : Nat) : Nat := [0,1,2,4,8,16,3,5,6,9,10,12,17,18,20,24,7,11,13,14,19,21,22,25,26,28,15,23,27,29,30,31].getD i 0
def gb_P (m : Nat) : Nat := [0,1,2,6,3,7,8,16,4,9,10,17,11,18,19,26,5,12,13,20,14,21,22,27,15,23,24,28,25,29,30,31].getD m 0
def gb_w (m : Nat) : Nat := 32 * (m % 2 + m / 2 % 2 + m / 4 % 2 + m / 8 % 2 + m / 16 % 2) + m
theorem gb_MP : ∀ m, m < 32 → gb_M (gb_P m) = m := by decide +kernel
theorem gb_PM : ∀ i, i < 32 → gb_P (gb_M i) = i := by decide +kernel
theorem gb_M32 : ∀ i, i < 32 → gb_M i < 32 := by decide +kernel
theorem gb_P32 : ∀ m, m < 32 → gb_P m < 32 := by decide +kernel
theorem gb_Pw : ∀ a, a < 32 → ∀ b, b < 32 → (gb_P a < gb_P b ↔ gb_w a < gb_w b) := by decide +kernel
theorem gb_w_or : ∀ a, a < 32 → ∀ b, b < 32 → gb_w (a ||| b) + gb_w (a &&& b) = gb_w a + gb_w b := by decide +kernel
theorem gb_w_big : ∀ a, a < 32 → gb_w a < 200 := by decide +kernel
theorem gb_w_pos {a : Nat} (h : a ≠ 0) : 0 < gb_w a := by unfold gb_w; omega
theorem gb_w_0 : gb_w 0 = 0 := by decide
theorem gb_w_le {a b : Nat} (ha : a < 32) (hb : b < 32) : gb_w (a ||| b) ≤ gb_w a + gb_w b := by
  have := gb_w_or a ha b hb; omega
theorem gb_w_dis {a b : Nat} (ha : a < 32) (hb : b < 32) (h : a &&& b = 0) : gb_w (a ||| b) = gb_w a + gb_w b := by
  have := gb_w_or a ha b hb; rw [h, gb_w_0] at this; omega
theorem gb_wM {i j : Nat} (hi : i < 32) (hj : j < 32) : gb_w (gb_M i) < gb_w (gb_M j) ↔ i < j := by
  rw [← gb_Pw _ (gb_M32 i hi) _ (gb_M32 j hj), gb_PM i hi, gb_PM j hj]
theorem gb_wP {a b : Nat} (ha : a < 32) (hb : b < 32) : gb_P a < gb_P b ↔ gb_w a < gb_w b := gb_Pw a ha b hb
theorem gb_var : ∀ f, f < 32 → ∀ l, l < 32 → f &&& l ≠ 0 → ∃ v, v < 5 ∧ gb_sub (2 ^ v) f = true ∧ gb_sub (2 ^ v) l = true := by decide +kernel
theorem gb_pw5 : ∀ v, v < 5 → 2 ^ v < 32 ∧ (1 : Int32) <<< (nI v &&& 31) = nI (2 ^ v) := by decide +kernel
theorem gb_sub_pw {v l : Nat} (h : gb_sub (2 ^ v) l = true) : l.testBit v = true := gb_sub_iff.mp h v (by rw [Nat.testBit_two_pow_self])
end
section
/-! part 02: sums mod 2, values at a point, a polynomial times a monomial, products -/
def gb_vs (c : Nat → Bool) : Nat → Bool
  | 0 => false
  | n + 1 => gb_vs c n ^^ c n
theorem gb_vs_congr {a b : Nat → Bool} : ∀ {n : Nat}, (∀ i, i < n → a i = b i) → gb_vs a n = gb_vs b n
  | 0, _ => rfl
  | n + 1, h => by
    show (gb_vs a n ^^ a n) = (gb_vs b n ^^ b n)
    rw [gb_vs_congr (fun i hi => h i (by omega)), h n (by omega)]
theorem gb_vs_xor (a b : Nat → Bool) : ∀ n, gb_vs (fun i => a i ^^ b i) n = (gb_vs a n ^^ gb_vs b n)
  | 0 => rfl
  | n + 1 => by
    show (gb_vs (fun i => a i ^^ b i) n ^^ (a n ^^ b n)) = ((gb_vs a n ^^ a n) ^^ (gb_vs b n ^^ b n))
    rw [gb_vs_xor a b n]
    cases gb_vs a n <;> cases gb_vs b n <;> cases a n <;> cases b n <;> rfl
theorem gb_vs_and (a : Nat → Bool) (t : Bool) : ∀ n, gb_vs (fun i => a i && t) n = (gb_vs a n && t)
  | 0 => rfl
  | n + 1 => by
    show (gb_vs (fun i => a i && t) n ^^ (a n && t)) = ((gb_vs a n ^^ a n) && t)
    rw [gb_vs_and a t n]
    cases gb_vs a n <;> cases a n <;> cases t <;> rfl
theorem gb_vs_zero {c : Nat → Bool} : ∀ {n : Nat}, (∀ i, i < n → c i = false) → gb_vs c n = false
  | 0, _ => rfl
  | n + 1, h => by
    show (gb_vs c n ^^ c n) = false
    rw [gb_vs_zero (fun i hi => h i (by omega)), h n (by omega)]; rfl
theorem gb_vs_one {c : Nat → Bool} {k : Nat} : ∀ {n : Nat}, k < n → (∀ i, i < n → i ≠ k → c i = false) → gb_vs c n = c k
  | 0, h, _ => absurd h (by omega)
  | n + 1, h, g => by
    show (gb_vs c n ^^ c n) = c k
    by_cases e : k = n
    · subst e
      rw [gb_vs_zero (fun i hi => g i (by omega) (by omega))]
      simp
    · rw [gb_vs_one (k := k) (by omega) (fun i hi hk => g i (by omega) hk), g n (by omega) (fun z => e z.symm)]
      simp
/-- the value of a polynomial in order at the point z; of a polynomial as given -/
def gb_val (x : Int32) (z : Nat) : Bool := gb_vs (fun i => gb_t x i && gb_sub (gb_M i) z) 32
def gb_va (p : Int32) (z : Nat) : Bool := gb_vs (fun m => gb_t p m && gb_sub m z) 32
theorem gb_val_xor (x y : Int32) (z : Nat) : gb_val (x ^^^ y) z = (gb_val x z ^^ gb_val y z) := by
  unfold gb_val
  rw [← gb_vs_xor]
  refine gb_vs_congr (fun i _ => ?_)
  rw [gb_txor]
  cases gb_t x i <;> cases gb_t y i <;> cases gb_sub (gb_M i) z <;> rfl
theorem gb_va_xor (x y : Int32) (z : Nat) : gb_va (x ^^^ y) z = (gb_va x z ^^ gb_va y z) := by
  unfold gb_va
  rw [← gb_vs_xor]
  refine gb_vs_congr (fun i _ => ?_)
  rw [gb_txor]
  cases gb_t x i <;> cases gb_t y i <;> cases gb_sub i z <;> rfl
theorem gb_val_0 (z : Nat) : gb_val 0 z = false := gb_vs_zero (fun i _ => by rw [gb_t0]; rfl)
theorem gb_va_0 (z : Nat) : gb_va 0 z = false := gb_vs_zero (fun i _ => by rw [gb_t0]; rfl)
theorem gb_val_e {m : Nat} (hm : m < 32) (z : Nat) : gb_val (gb_e (gb_P m)) z = gb_sub m z := by
  unfold gb_val
  rw [gb_vs_one (gb_P32 m hm) (fun i _ hk => by rw [gb_te (gb_P32 m hm), decide_eq_false hk]; rfl), gb_te (gb_P32 m hm), gb_MP m hm]
  simp
theorem gb_va_e {m : Nat} (hm : m < 32) (z : Nat) : gb_va (gb_e m) z = gb_sub m z := by
  unfold gb_va
  rw [gb_vs_one hm (fun i _ hk => by rw [gb_te hm, decide_eq_false hk]; rfl), gb_te hm]
  simp
theorem gb_val_zero {x : Int32} (h : ∀ z, z < 32 → gb_val x z = false) : x = 0 := by
  have key : ∀ m, m < 32 → gb_t x (gb_P m) = false := by
    intro m
    induction m using Nat.strongRecOn with
    | ind m ih =>
      intro hm
      have hz := h m hm
      unfold gb_val at hz
      rw [gb_vs_one (gb_P32 m hm) ?_] at hz
      · rw [gb_MP m hm, gb_sub_refl, Bool.and_true] at hz
        exact hz
      · intro i hi hk
        cases hs : gb_sub (gb_M i) m
        · simp
        · have hle := gb_sub_le hs
          have hne : gb_M i ≠ m := fun e => hk (by rw [← e, gb_PM i hi])
          have := ih (gb_M i) (by omega) (by omega)
          rw [gb_PM i hi] at this
          rw [this]; rfl
  apply gb_ext
  intro i hi
  rw [gb_t0, ← gb_PM i hi]
  exact key _ (gb_M32 i hi)
theorem gb_val_inj {x y : Int32} (h : ∀ z, z < 32 → gb_val x z = gb_val y z) : x = y := by
  have e : x ^^^ y = 0 := gb_val_zero (fun z hz => by rw [gb_val_xor, h z hz]; simp)
  apply gb_ext
  intro i _
  have := congrArg (fun q => gb_t q i) e
  simp only [gb_txor, gb_t0] at this
  revert this
  cases gb_t x i <;> cases gb_t y i <;> simp
/-- a polynomial times a monomial -/
def gb_tmN (x : Int32) (f : Nat) : Nat → Int32
  | 0 => 0
  | n + 1 => if gb_t x n = true then gb_tmN x f n ^^^ gb_e (gb_P (gb_M n ||| f)) else gb_tmN x f n
def gb_tm (x : Int32) (f : Nat) : Int32 := gb_tmN x f 32
theorem gb_val_tmN (x : Int32) {f : Nat} (hf : f < 32) (z : Nat) : ∀ n, n ≤ 32 → gb_val (gb_tmN x f n) z = (gb_vs (fun i => gb_t x i && gb_sub (gb_M i) z) n && gb_sub f z)
  | 0, _ => gb_val_0 z
  | n + 1, h => by
    have ih := gb_val_tmN x hf z n (by omega)
    show gb_val (if gb_t x n = true then gb_tmN x f n ^^^ gb_e (gb_P (gb_M n ||| f)) else gb_tmN x f n) z = ((gb_vs (fun i => gb_t x i && gb_sub (gb_M i) z) n ^^ (gb_t x n && gb_sub (gb_M n) z)) && gb_sub f z)
    cases hx : gb_t x n
    · rw [if_neg (by simp), ih]; simp
    · rw [if_pos rfl, gb_val_xor, ih, gb_val_e (gb_or32 (gb_M32 n (by omega)) hf), gb_sub_or]
      cases gb_vs (fun i => gb_t x i && gb_sub (gb_M i) z) n <;> cases gb_sub (gb_M n) z <;> cases gb_sub f z <;> rfl
theorem gb_val_tm (x : Int32) {f : Nat} (hf : f < 32) (z : Nat) : gb_val (gb_tm x f) z = (gb_val x z && gb_sub f z) := gb_val_tmN x hf z 32 (Nat.le_refl 32)
theorem gb_tm_xor (x y : Int32) {f : Nat} (hf : f < 32) : gb_tm (x ^^^ y) f = gb_tm x f ^^^ gb_tm y f :=
  gb_val_inj (fun z _ => by
    rw [gb_val_xor, gb_val_tm _ hf, gb_val_tm _ hf, gb_val_tm _ hf, gb_val_xor]
    cases gb_val x z <;> cases gb_val y z <;> cases gb_sub f z <;> rfl)
theorem gb_tm_tm (x : Int32) {f g : Nat} (hf : f < 32) (hg : g < 32) : gb_tm (gb_tm x f) g = gb_tm x (f ||| g) :=
  gb_val_inj (fun z _ => by
    rw [gb_val_tm _ hg, gb_val_tm _ hf, gb_val_tm _ (gb_or32 hf hg), gb_sub_or, Bool.and_assoc])
theorem gb_tm_0 {f : Nat} (hf : f < 32) : gb_tm 0 f = 0 :=
  gb_val_zero (fun z _ => by rw [gb_val_tm _ hf, gb_val_0]; rfl)
theorem gb_sub_0 (z : Nat) : gb_sub 0 z = true := gb_sub_iff.mpr (fun k hk => by rw [Nat.zero_testBit] at hk; cases hk)
theorem gb_tm_id (x : Int32) : gb_tm x 0 = x :=
  gb_val_inj (fun z _ => by rw [gb_val_tm _ (by decide), gb_sub_0, Bool.and_true])
theorem gb_tm_e {m f : Nat} (hm : m < 32) (hf : f < 32) : gb_tm (gb_e (gb_P m)) f = gb_e (gb_P (m ||| f)) :=
  gb_val_inj (fun z _ => by rw [gb_val_tm _ hf, gb_val_e hm, gb_val_e (gb_or32 hm hf), gb_sub_or])
/-- products -/
def gb_muN (x y : Int32) : Nat → Int32
  | 0 => 0
  | n + 1 => if gb_t x n = true then gb_muN x y n ^^^ gb_tm y (gb_M n) else gb_muN x y n
def gb_mu (x y : Int32) : Int32 := gb_muN x y 32
theorem gb_val_muN (x y : Int32) (z : Nat) : ∀ n, n ≤ 32 → gb_val (gb_muN x y n) z = (gb_vs (fun i => gb_t x i && gb_sub (gb_M i) z) n && gb_val y z)
  | 0, _ => gb_val_0 z
  | n + 1, h => by
    have ih := gb_val_muN x y z n (by omega)
    show gb_val (if gb_t x n = true then gb_muN x y n ^^^ gb_tm y (gb_M n) else gb_muN x y n) z = ((gb_vs (fun i => gb_t x i && gb_sub (gb_M i) z) n ^^ (gb_t x n && gb_sub (gb_M n) z)) && gb_val y z)
    cases hx : gb_t x n
    · rw [if_neg (by simp), ih]; simp
    · rw [if_pos rfl, gb_val_xor, ih, gb_val_tm _ (gb_M32 n (by omega))]
      cases gb_vs (fun i => gb_t x i && gb_sub (gb_M i) z) n <;> cases gb_sub (gb_M n) z <;> cases gb_val y z <;> rfl
theorem gb_val_mu (x y : Int32) (z : Nat) : gb_val (gb_mu x y) z = (gb_val x z && gb_val y z) := gb_val_muN x y z 32 (Nat.le_refl 32)
/-- what is closed under sums and under monomials is closed under products -/
theorem gb_mu_in {Q : Int32 → Prop} (h0 : Q 0) (hx : ∀ a b, Q a → Q b → Q (a ^^^ b)) {y : Int32} (hy : ∀ f, f < 32 → Q (gb_tm y f)) (x : Int32) : ∀ n, n ≤ 32 → Q (gb_muN x y n)
  | 0, _ => h0
  | n + 1, h => by
    have ih := gb_mu_in h0 hx hy x n (by omega)
    show Q (if gb_t x n = true then gb_muN x y n ^^^ gb_tm y (gb_M n) else gb_muN x y n)
    cases gb_t x n
    · rw [if_neg (by simp)]; exact ih
    · rw [if_pos rfl]; exact hx _ _ ih (hy _ (gb_M32 n (by omega)))
/-- inOrder and outOfOrder, as sums -/
def gb_inN (p : Int32) : Nat → Int32
  | 0 => 0
  | n + 1 => gb_inN p n ||| (gb_bi (gb_t p n) <<< (nI (gb_P n) &&& 31))
def gb_outN (x : Int32) : Nat → Int32
  | 0 => 0
  | n + 1 => gb_outN x n ||| (gb_bi (gb_t x n) <<< (nI (gb_M n) &&& 31))
def gb_in (p : Int32) : Int32 := gb_inN p 32
def gb_out (x : Int32) : Int32 := gb_outN x 32
theorem gb_inN_t (p : Int32) : ∀ n, n ≤ 32 → ∀ j, j < 32 → gb_t (gb_inN p n) j = (gb_t p (gb_M j) && decide (gb_M j < n))
  | 0, _, j, hj => by
    show gb_t 0 j = _
    rw [gb_t0]; simp
  | n + 1, h, j, hj => by
    show gb_t (gb_inN p n ||| (gb_bi (gb_t p n) <<< (nI (gb_P n) &&& 31))) j = _
    rw [gb_tor, gb_inN_t p n (by omega) j hj, gb_tsb (gb_P32 n (by omega)) _ hj]
    by_cases e : gb_M j = n
    · have e2 : j = gb_P n := by rw [← e, gb_PM j hj]
      rw [decide_eq_true e2, e]
      simp
    · have e2 : ¬ j = gb_P n := fun z => e (by rw [z, gb_MP n (by omega)])
      rw [decide_eq_false e2, Bool.and_false, Bool.or_false]
      by_cases g : gb_M j < n
      · rw [decide_eq_true g, decide_eq_true (by omega)]
      · rw [decide_eq_false g, decide_eq_false (by omega)]
theorem gb_in_t (p : Int32) {j : Nat} (hj : j < 32) : gb_t (gb_in p) j = gb_t p (gb_M j) := by
  unfold gb_in
  rw [gb_inN_t p 32 (Nat.le_refl 32) j hj, decide_eq_true (gb_M32 j hj), Bool.and_true]
theorem gb_outN_t (x : Int32) : ∀ n, n ≤ 32 → ∀ j, j < 32 → gb_t (gb_outN x n) j = (gb_t x (gb_P j) && decide (gb_P j < n))
  | 0, _, j, hj => by
    show gb_t 0 j = _
    rw [gb_t0]; simp
  | n + 1, h, j, hj => by
    show gb_t (gb_outN x n ||| (gb_bi (gb_t x n) <<< (nI (gb_M n) &&& 31))) j = _
    rw [gb_tor, gb_outN_t x n (by omega) j hj, gb_tsb (gb_M32 n (by omega)) _ hj]
    by_cases e : gb_P j = n
    · have e2 : j = gb_M n := by rw [← e, gb_MP j hj]
      rw [decide_eq_true e2, e]
      simp
    · have e2 : ¬ j = gb_M n := fun z => e (by rw [z, gb_PM n (by omega)])
      rw [decide_eq_false e2, Bool.and_false, Bool.or_false]
      by_cases g : gb_P j < n
      · rw [decide_eq_true g, decide_eq_true (by omega)]
      · rw [decide_eq_false g, decide_eq_false (by omega)]
theorem gb_out_t (x : Int32) {j : Nat} (hj : j < 32) : gb_t (gb_out x) j = gb_t x (gb_P j) := by
  unfold gb_out
  rw [gb_outN_t x 32 (Nat.le_refl 32) j hj, decide_eq_true (gb_P32 j hj), Bool.and_true]
theorem gb_out_in (p : Int32) : gb_out (gb_in p) = p := gb_ext (fun i hi => by rw [gb_out_t _ hi, gb_in_t _ (gb_P32 i hi), gb_MP i hi])
theorem gb_in_out (x : Int32) : gb_in (gb_out x) = x := gb_ext (fun i hi => by rw [gb_in_t _ hi, gb_out_t _ (gb_M32 i hi), gb_PM i hi])
theorem gb_out_0 {x : Int32} : gb_out x = 0 ↔ x = 0 := by
  constructor
  · intro h
    rw [← gb_in_out x, h]
    exact gb_ext (fun i hi => by rw [gb_in_t _ hi, gb_t0, gb_t0])
  · intro h
    rw [h]
    exact gb_ext (fun i hi => by rw [gb_out_t _ hi, gb_t0, gb_t0])
theorem gb_in_xor (x y : Int32) : gb_in (x ^^^ y) = gb_in x ^^^ gb_in y := gb_ext (fun i hi => by rw [gb_in_t _ hi, gb_txor, gb_txor, gb_in_t _ hi, gb_in_t _ hi])
theorem gb_in_e {m : Nat} (hm : m < 32) : gb_in (gb_e m) = gb_e (gb_P m) := gb_ext (fun i hi => by
  rw [gb_in_t _ hi, gb_te hm, gb_te (gb_P32 m hm)]
  by_cases e : gb_M i = m
  · rw [decide_eq_true e, decide_eq_true (by rw [← e, gb_PM i hi])]
  · rw [decide_eq_false e, decide_eq_false (fun z => e (by rw [z, gb_MP m hm]))])
/-- the low part of x below the place m (of the given order), a finite sum of single bits -/
def gb_lo (p : Int32) : Nat → Int32
  | 0 => 0
  | n + 1 => if gb_t p n = true then gb_lo p n ^^^ gb_e n else gb_lo p n
theorem gb_lo_t (p : Int32) : ∀ n, n ≤ 32 → ∀ j, gb_t (gb_lo p n) j = (gb_t p j && decide (j < n))
  | 0, _, j => by
    show gb_t 0 j = _
    rw [gb_t0]; simp
  | n + 1, h, j => by
    have ih := gb_lo_t p n (by omega) j
    show gb_t (if gb_t p n = true then gb_lo p n ^^^ gb_e n else gb_lo p n) j = _
    by_cases e : j = n
    · subst e
      cases hp : gb_t p j
      · rw [if_neg (by simp), ih, hp]; rfl
      · rw [if_pos rfl, gb_txor, ih, gb_te (by omega)]; simp
    · have e2 : decide (j < n + 1) = decide (j < n) := by
        by_cases g : j < n
        · rw [decide_eq_true g, decide_eq_true (by omega)]
        · rw [decide_eq_false g, decide_eq_false (by omega)]
      rw [e2]
      cases hp : gb_t p n
      · rw [if_neg (by simp), ih]
      · rw [if_pos rfl, gb_txor, ih, gb_te (by omega), decide_eq_false e]; simp
theorem gb_lo_all (p : Int32) : gb_lo p 32 = p := gb_ext (fun j hj => by rw [gb_lo_t p 32 (Nat.le_refl 32), decide_eq_true hj, Bool.and_true])
theorem gb_val_lo (p : Int32) (z : Nat) : ∀ n, n ≤ 32 → gb_val (gb_in (gb_lo p n)) z = gb_va (gb_lo p n) z
  | 0, _ => by
    show gb_val (gb_in 0) z = gb_va 0 z
    rw [gb_va_0, show gb_in 0 = 0 from gb_ext (fun i hi => by rw [gb_in_t _ hi, gb_t0, gb_t0]), gb_val_0]
  | n + 1, h => by
    have ih := gb_val_lo p z n (by omega)
    show gb_val (gb_in (if gb_t p n = true then gb_lo p n ^^^ gb_e n else gb_lo p n)) z = gb_va (if gb_t p n = true then gb_lo p n ^^^ gb_e n else gb_lo p n) z
    cases gb_t p n
    · rw [if_neg (by simp)]; exact ih
    · rw [if_pos rfl, gb_in_xor, gb_val_xor, gb_va_xor, ih, gb_in_e (by omega), gb_val_e (by omega), gb_va_e (by omega)]
theorem gb_val_in (p : Int32) (z : Nat) : gb_val (gb_in p) z = gb_va p z := by
  have := gb_val_lo p z 32 (Nat.le_refl 32)
  rw [gb_lo_all] at this
  exact this
theorem gb_va_out (x : Int32) (z : Nat) : gb_va (gb_out x) z = gb_val x z := by
  rw [← gb_val_in, gb_in_out]
end
section
/-! part 03: leading places, reduction by a list, Buchberger's criterion over the Boolean ring -/
/-- p is the highest place of x -/
def gb_top (x : Int32) (p : Nat) : Prop := p < 32 ∧ gb_t x p = true ∧ ∀ j, p < j → gb_t x j = false
/-- every monomial of x weighs less than s -/
def gb_lt (x : Int32) (s : Nat) : Prop := ∀ j, j < 32 → gb_t x j = true → gb_w (gb_M j) < s
theorem gb_top_ne {x : Int32} {p : Nat} (h : gb_top x p) : x ≠ 0 := fun e => by
  have := h.2.1
  rw [e, gb_t0] at this
  cases this
theorem gb_top_uniq {x : Int32} {p q : Nat} (h : gb_top x p) (g : gb_top x q) : p = q := by
  rcases Nat.lt_trichotomy p q with z | z | z
  · have := h.2.2 q z; rw [g.2.1] at this; cases this
  · exact z
  · have := g.2.2 p z; rw [h.2.1] at this; cases this
theorem gb_top_ex {x : Int32} (h : x ≠ 0) : ∃ p, gb_top x p := by
  have key : ∀ n, n ≤ 32 → (∀ j, n ≤ j → gb_t x j = false) → ∃ p, gb_top x p := by
    intro n
    induction n with
    | zero => intro _ g; exact absurd (gb_ext (fun i _ => by rw [g i (by omega), gb_t0])) h
    | succ n ih =>
      intro hn g
      cases e : gb_t x n
      · refine ih (by omega) (fun j hj => ?_)
        by_cases z : j = n
        · rw [z, e]
        · exact g j (by omega)
      · exact ⟨n, by omega, e, fun j hj => g j (by omega)⟩
  exact key 32 (Nat.le_refl 32) (fun j hj => gb_tbig hj)
theorem gb_top_e {k : Nat} (hk : k < 32) : gb_top (gb_e k) k := ⟨hk, by rw [gb_te hk]; simp, fun j hj => by rw [gb_te hk, decide_eq_false (by omega)]⟩
theorem gb_lt_0 (s : Nat) : gb_lt 0 s := fun j _ h => by rw [gb_t0] at h; cases h
theorem gb_lt_mono {x : Int32} {s t : Nat} (h : gb_lt x s) (g : s ≤ t) : gb_lt x t := fun j hj ht => Nat.lt_of_lt_of_le (h j hj ht) g
theorem gb_lt_xor {x y : Int32} {s : Nat} (h : gb_lt x s) (g : gb_lt y s) : gb_lt (x ^^^ y) s := fun j hj ht => by
  rw [gb_txor] at ht
  cases e : gb_t x j
  · rw [e] at ht
    exact g j hj (by simpa using ht)
  · exact h j hj e
theorem gb_lt_big (x : Int32) : gb_lt x 200 := fun j hj _ => gb_w_big _ (gb_M32 j hj)
theorem gb_lt_e {m s : Nat} (hm : m < 32) (h : gb_w m < s) : gb_lt (gb_e (gb_P m)) s := fun j hj ht => by
  rw [gb_te (gb_P32 m hm)] at ht
  have := of_decide_eq_true ht
  rw [this, gb_MP m hm]; exact h
theorem gb_lt_tmN {x : Int32} {s f : Nat} (h : gb_lt x s) (hf : f < 32) : ∀ n, n ≤ 32 → gb_lt (gb_tmN x f n) (s + gb_w f)
  | 0, _ => gb_lt_0 _
  | n + 1, hn => by
    have ih := gb_lt_tmN h hf n (by omega)
    show gb_lt (if gb_t x n = true then gb_tmN x f n ^^^ gb_e (gb_P (gb_M n ||| f)) else gb_tmN x f n) (s + gb_w f)
    cases e : gb_t x n
    · rw [if_neg (by simp)]; exact ih
    · rw [if_pos rfl]
      have h1 := h n (by omega) e
      have h2 := gb_w_le (gb_M32 n (by omega)) hf
      exact gb_lt_xor ih (gb_lt_e (gb_or32 (gb_M32 n (by omega)) hf) (by omega))
theorem gb_lt_tm {x : Int32} {s f : Nat} (h : gb_lt x s) (hf : f < 32) : gb_lt (gb_tm x f) (s + gb_w f) := gb_lt_tmN h hf 32 (Nat.le_refl 32)
/-- a polynomial is its leading monomial and a rest that weighs less -/
theorem gb_top_dec {x : Int32} {l : Nat} (hl : l < 32) (h : gb_top x (gb_P l)) : gb_lt (x ^^^ gb_e (gb_P l)) (gb_w l) := fun j hj ht => by
  rw [gb_txor, gb_te (gb_P32 l hl)] at ht
  rcases Nat.lt_trichotomy j (gb_P l) with z | z | z
  · have := (gb_wM hj (gb_P32 l hl)).mpr z
    rw [gb_MP l hl] at this; exact this
  · rw [z, h.2.1] at ht; simp at ht
  · rw [h.2.2 j z, decide_eq_false (by omega)] at ht; cases ht
theorem gb_top_com {y : Int32} {l : Nat} (hl : l < 32) (h : gb_lt y (gb_w l)) : gb_top (y ^^^ gb_e (gb_P l)) (gb_P l) := by
  have hP := gb_P32 l hl
  have low : ∀ j, gb_P l ≤ j → gb_t y j = false := fun j hj => by
    rcases Nat.lt_or_ge j 32 with z | z
    · cases e : gb_t y j
      · rfl
      · have h1 := h j z e
        rw [← gb_MP l hl, gb_wM z hP] at h1
        omega
    · exact gb_tbig z
  refine ⟨hP, ?_, fun j hj => ?_⟩
  · rw [gb_txor, low _ (Nat.le_refl _), gb_te hP]; simp
  · rw [gb_txor, low j (by omega), gb_te hP, decide_eq_false (by omega)]; rfl
theorem gb_xx2 (x y : Int32) : (x ^^^ y) ^^^ y = x := gb_ext (fun i _ => by
  rw [gb_txor, gb_txor]
  cases gb_t x i <;> cases gb_t y i <;> rfl)
theorem gb_top_tm {x : Int32} {l f : Nat} (hl : l < 32) (hf : f < 32) (h : gb_top x (gb_P l)) (hd : f &&& l = 0) : gb_top (gb_tm x f) (gb_P (l ||| f)) := by
  have e : x = (x ^^^ gb_e (gb_P l)) ^^^ gb_e (gb_P l) := (gb_xx2 x _).symm
  rw [e, gb_tm_xor _ _ hf, gb_tm_e hl hf]
  refine gb_top_com (gb_or32 hl hf) ?_
  rw [gb_w_dis hl hf (by rw [Nat.and_comm]; exact hd)]
  exact gb_lt_tm (gb_top_dec hl h) hf
/-- the first index below n where q holds, or n -/
def gb_fi (q : Nat → Bool) : Nat → Nat
  | 0 => 0
  | n + 1 => if gb_fi q n < n then gb_fi q n else if q n = true then n else n + 1
theorem gb_fi_p (q : Nat → Bool) : ∀ n, gb_fi q n ≤ n ∧ (∀ i, i < gb_fi q n → q i = false) ∧ (gb_fi q n < n → q (gb_fi q n) = true)
  | 0 => ⟨Nat.le_refl 0, fun i hi => absurd hi (by show ¬ i < 0; omega), fun h => absurd h (by show ¬ 0 < 0; omega)⟩
  | n + 1 => by
    obtain ⟨h1, h2, h3⟩ := gb_fi_p q n
    show (if gb_fi q n < n then gb_fi q n else if q n = true then n else n + 1) ≤ n + 1 ∧ (∀ i, i < (if gb_fi q n < n then gb_fi q n else if q n = true then n else n + 1) → q i = false) ∧ ((if gb_fi q n < n then gb_fi q n else if q n = true then n else n + 1) < n + 1 → q (if gb_fi q n < n then gb_fi q n else if q n = true then n else n + 1) = true)
    by_cases c : gb_fi q n < n
    · rw [if_pos c]
      exact ⟨by omega, h2, fun _ => h3 c⟩
    · rw [if_neg c]
      have e : gb_fi q n = n := by omega
      rw [e] at h2
      by_cases d : q n = true
      · rw [if_pos d]
        exact ⟨by omega, h2, fun _ => d⟩
      · rw [if_neg d]
        refine ⟨by omega, fun i hi => ?_, fun h => absurd h (by omega)⟩
        by_cases ei : i = n
        · rw [ei]; exact Bool.eq_false_iff.mpr d
        · exact h2 i (by omega)
theorem gb_fi_lt {q : Nat → Bool} {n i : Nat} (hi : i < n) (h : q i = true) : gb_fi q n < n := by
  obtain ⟨_, h2, _⟩ := gb_fi_p q n
  rcases Nat.lt_or_ge (gb_fi q n) n with z | z
  · exact z
  · have := h2 i (by omega); rw [h] at this; cases this
/-- which entry reduces the place p -/
def gb_ix (l : Nat → Nat) (n p : Nat) : Nat := gb_fi (fun i => gb_sub (l i) (gb_M p)) n
def gb_st (g : Nat → Int32) (l : Nat → Nat) (n p : Nat) (x : Int32) : Int32 :=
  if gb_t x p = true ∧ gb_ix l n p < n then x ^^^ gb_tm (g (gb_ix l n p)) (gb_mi (gb_M p) (l (gb_ix l n p))) else x
def gb_rd (g : Nat → Int32) (l : Nat → Nat) (n : Nat) : Nat → Int32 → Int32
  | 0, x => x
  | p + 1, x => gb_rd g l n p (gb_st g l n p x)
def gb_red (g : Nat → Int32) (l : Nat → Nat) (n : Nat) (x : Int32) : Int32 := gb_rd g l n 32 x
/-- a list of polynomials with their leading monomials -/
def gb_L (g : Nat → Int32) (l : Nat → Nat) (n : Nat) : Prop := ∀ i, i < n → l i < 32 ∧ gb_top (g i) (gb_P (l i))
/-- some lead divides m -/
def gb_led (l : Nat → Nat) (n m : Nat) : Prop := ∃ i, i < n ∧ gb_sub (l i) m = true
theorem gb_ix_led {l : Nat → Nat} {n p : Nat} : gb_ix l n p < n ↔ gb_led l n (gb_M p) :=
  ⟨fun h => ⟨_, h, (gb_fi_p (fun i => gb_sub (l i) (gb_M p)) n).2.2 h⟩, fun ⟨_, hi, h⟩ => gb_fi_lt hi h⟩
theorem gb_ix_sub {l : Nat → Nat} {n p : Nat} (h : gb_ix l n p < n) : gb_sub (l (gb_ix l n p)) (gb_M p) = true := (gb_fi_p (fun i => gb_sub (l i) (gb_M p)) n).2.2 h
section
variable {g : Nat → Int32} {l : Nat → Nat} {n : Nat}
/-- the multiple that reduces the place p has p as its highest place -/
theorem gb_b_top (hL : gb_L g l n) {p : Nat} (hp : p < 32) (h : gb_ix l n p < n) : gb_top (gb_tm (g (gb_ix l n p)) (gb_mi (gb_M p) (l (gb_ix l n p)))) p := by
  obtain ⟨h1, h2⟩ := hL _ h
  have := gb_top_tm h1 (gb_mi32 (gb_M32 p hp)) h2 (gb_mi_dis _ _)
  rw [gb_mi_or (gb_ix_sub h), gb_PM p hp] at this
  exact this
theorem gb_st_off {p : Nat} {x : Int32} (h : gb_t x p = false) : gb_st g l n p x = x := by
  unfold gb_st
  rw [if_neg (fun z => by rw [h] at z; cases z.1)]
theorem gb_st_on {p : Nat} {x : Int32} (h : gb_t x p = true) (hi : gb_ix l n p < n) : gb_st g l n p x = x ^^^ gb_tm (g (gb_ix l n p)) (gb_mi (gb_M p) (l (gb_ix l n p))) := by
  unfold gb_st
  rw [if_pos ⟨h, hi⟩]
theorem gb_st_no {p : Nat} {x : Int32} (hi : ¬ gb_ix l n p < n) : gb_st g l n p x = x := by
  unfold gb_st
  rw [if_neg (fun z => hi z.2)]
theorem gb_x4 (x y b : Int32) : (x ^^^ b) ^^^ (y ^^^ b) = x ^^^ y := gb_ext (fun i _ => by
  rw [gb_txor, gb_txor, gb_txor, gb_txor]
  cases gb_t x i <;> cases gb_t y i <;> cases gb_t b i <;> rfl)
theorem gb_x3 (x y b : Int32) : (x ^^^ b) ^^^ y = (x ^^^ y) ^^^ b := gb_ext (fun i _ => by
  rw [gb_txor, gb_txor, gb_txor, gb_txor]
  cases gb_t x i <;> cases gb_t y i <;> cases gb_t b i <;> rfl)
theorem gb_xA (x y b : Int32) : (x ^^^ y) ^^^ b = x ^^^ (y ^^^ b) := gb_ext (fun i _ => by
  rw [gb_txor, gb_txor, gb_txor, gb_txor]
  cases gb_t x i <;> cases gb_t y i <;> cases gb_t b i <;> rfl)
theorem gb_xC (x y : Int32) : x ^^^ y = y ^^^ x := gb_ext (fun i _ => by
  rw [gb_txor, gb_txor]
  cases gb_t x i <;> cases gb_t y i <;> rfl)
theorem gb_st_xor (p : Nat) (x y : Int32) : gb_st g l n p (x ^^^ y) = gb_st g l n p x ^^^ gb_st g l n p y := by
  by_cases hi : gb_ix l n p < n
  · cases hx : gb_t x p <;> cases hy : gb_t y p
    · rw [gb_st_off hx, gb_st_off hy, gb_st_off (by rw [gb_txor, hx, hy]; rfl)]
    · rw [gb_st_off hx, gb_st_on hy hi, gb_st_on (by rw [gb_txor, hx, hy]; rfl) hi, gb_xA]
    · rw [gb_st_on hx hi, gb_st_off hy, gb_st_on (by rw [gb_txor, hx, hy]; rfl) hi, gb_x3]
    · rw [gb_st_on hx hi, gb_st_on hy hi, gb_st_off (by rw [gb_txor, hx, hy]; rfl), gb_x4]
  · rw [gb_st_no hi, gb_st_no hi, gb_st_no hi]
theorem gb_rd_xor : ∀ (p : Nat) (x y : Int32), gb_rd g l n p (x ^^^ y) = gb_rd g l n p x ^^^ gb_rd g l n p y
  | 0, _, _ => rfl
  | p + 1, x, y => by
    show gb_rd g l n p (gb_st g l n p (x ^^^ y)) = gb_rd g l n p (gb_st g l n p x) ^^^ gb_rd g l n p (gb_st g l n p y)
    rw [gb_st_xor, gb_rd_xor p]
theorem gb_red_xor (x y : Int32) : gb_red g l n (x ^^^ y) = gb_red g l n x ^^^ gb_red g l n y := gb_rd_xor 32 x y
theorem gb_rd_0 : ∀ p, gb_rd g l n p 0 = 0
  | 0 => rfl
  | p + 1 => by
    show gb_rd g l n p (gb_st g l n p 0) = 0
    rw [gb_st_off (gb_t0 p), gb_rd_0 p]
theorem gb_red_0 : gb_red g l n 0 = 0 := gb_rd_0 32
/-- places above the highest one of x change nothing -/
theorem gb_rd_hi {x : Int32} {p : Nat} (h : ∀ j, p ≤ j → gb_t x j = false) : ∀ k, gb_rd g l n (p + k) x = gb_rd g l n p x
  | 0 => rfl
  | k + 1 => by
    show gb_rd g l n (p + k) (gb_st g l n (p + k) x) = gb_rd g l n p x
    rw [gb_st_off (h (p + k) (by omega)), gb_rd_hi h k]
theorem gb_red_hi {x : Int32} {p : Nat} (hp : p ≤ 32) (h : ∀ j, p ≤ j → gb_t x j = false) : gb_red g l n x = gb_rd g l n p x := by
  have := gb_rd_hi (g := g) (l := l) (n := n) h (32 - p)
  rw [show p + (32 - p) = 32 by omega] at this
  exact this
/-- the multiples that reduce are reduced to 0 -/
theorem gb_red_b (hL : gb_L g l n) {p : Nat} (hp : p < 32) (h : gb_ix l n p < n) : gb_red g l n (gb_tm (g (gb_ix l n p)) (gb_mi (gb_M p) (l (gb_ix l n p)))) = 0 := by
  have ht := gb_b_top hL hp h
  rw [gb_red_hi (p := p + 1) (by omega) (fun j hj => ht.2.2 j (by omega))]
  show gb_rd g l n p (gb_st g l n p _) = 0
  rw [gb_st_on ht.2.1 h, gb_xx, gb_rd_0]
/-- steps at places below p keep the places from p on -/
theorem gb_st_keep (hL : gb_L g l n) {p j : Nat} (hp : p < 32) (hj : p < j) (x : Int32) : gb_t (gb_st g l n p x) j = gb_t x j := by
  by_cases hi : gb_ix l n p < n
  · cases hx : gb_t x p
    · rw [gb_st_off hx]
    · rw [gb_st_on hx hi, gb_txor, (gb_b_top hL hp hi).2.2 j hj]; simp
  · rw [gb_st_no hi]
theorem gb_rd_keep (hL : gb_L g l n) : ∀ (p : Nat), p ≤ 32 → ∀ (x : Int32) (j : Nat), p ≤ j → gb_t (gb_rd g l n p x) j = gb_t x j
  | 0, _, _, _, _ => rfl
  | p + 1, hp, x, j, hj => by
    show gb_t (gb_rd g l n p (gb_st g l n p x)) j = _
    rw [gb_rd_keep hL p (by omega) _ j (by omega), gb_st_keep hL (by omega) (by omega)]
/-- after the reduction no monomial is divided by a lead -/
theorem gb_st_led (hL : gb_L g l n) {p : Nat} (hp : p < 32) (hi : gb_ix l n p < n) (x : Int32) : gb_t (gb_st g l n p x) p = false := by
  cases hx : gb_t x p
  · rw [gb_st_off hx, hx]
  · rw [gb_st_on hx hi, gb_txor, hx, (gb_b_top hL hp hi).2.1]; rfl
theorem gb_rd_led (hL : gb_L g l n) : ∀ (k : Nat), k ≤ 32 → ∀ (x : Int32) (p : Nat), p < k → gb_ix l n p < n → gb_t (gb_rd g l n k x) p = false
  | 0, _, _, _, hp, _ => absurd hp (by omega)
  | k + 1, hk, x, p, hp, hi => by
    show gb_t (gb_rd g l n k (gb_st g l n k x)) p = false
    by_cases e : p = k
    · rw [e] at hi ⊢
      rw [gb_rd_keep hL k (by omega) _ k (Nat.le_refl k), gb_st_led hL (by omega) hi]
    · exact gb_rd_led hL k (by omega) _ p (by omega) hi
theorem gb_red_led (hL : gb_L g l n) (x : Int32) {p : Nat} (hp : p < 32) (h : gb_led l n (gb_M p)) : gb_t (gb_red g l n x) p = false := gb_rd_led hL 32 (Nat.le_refl 32) x p hp (gb_ix_led.mpr h)
/-- what reduces to 0 has a led highest monomial -/
theorem gb_red_top (hL : gb_L g l n) {x : Int32} {p : Nat} (hx : gb_top x p) (h : gb_red g l n x = 0) : gb_led l n (gb_M p) := by
  apply gb_ix_led.mp
  rcases Nat.lt_or_ge (gb_ix l n p) n with z | z
  · exact z
  · rw [gb_red_hi (p := p + 1) (by have := hx.1; omega) (fun j hj => hx.2.2 j (by omega))] at h
    have h2 : gb_rd g l n p (gb_st g l n p x) = 0 := h
    rw [gb_st_no (by omega)] at h2
    have := gb_rd_keep hL p (by have := hx.1; omega) x p (Nat.le_refl p)
    rw [h2, gb_t0, hx.2.1] at this
    cases this
/-- the weight bound is kept, and what is taken off lies in whatever holds the small multiples -/
theorem gb_rd_rep (hL : gb_L g l n) {Q : Int32 → Prop} (h0 : Q 0) (hx : ∀ a b, Q a → Q b → Q (a ^^^ b)) {s : Nat}
    (hb : ∀ i, i < n → ∀ f, f < 32 → f &&& l i = 0 → gb_w f + gb_w (l i) < s → Q (gb_tm (g i) f)) :
    ∀ (p : Nat), p ≤ 32 → ∀ x, gb_lt x s → gb_lt (gb_rd g l n p x) s ∧ Q (gb_rd g l n p x ^^^ x)
  | 0, _, x, h => ⟨h, by show Q (x ^^^ x); rw [gb_xx]; exact h0⟩
  | p + 1, hp, x, h => by
    show gb_lt (gb_rd g l n p (gb_st g l n p x)) s ∧ Q (gb_rd g l n p (gb_st g l n p x) ^^^ x)
    cases e : gb_t x p
    · rw [gb_st_off e]
      exact gb_rd_rep hL h0 hx hb p (by omega) x h
    · by_cases hi : gb_ix l n p < n
      · rw [gb_st_on e hi]
        obtain ⟨l1, l2⟩ := hL _ hi
        have ht := gb_b_top hL (show p < 32 by omega) hi
        have hw := h p (by omega) e
        have hM := gb_M32 p (by omega)
        have hsum : gb_w (gb_mi (gb_M p) (l (gb_ix l n p))) + gb_w (l (gb_ix l n p)) = gb_w (gb_M p) := by
          have := gb_w_dis (gb_mi32 (b := l (gb_ix l n p)) hM) l1 (gb_mi_dis _ _)
          rw [Nat.or_comm, gb_mi_or (gb_ix_sub hi)] at this
          omega
        have hq := hb _ hi _ (gb_mi32 hM) (gb_mi_dis (gb_M p) (l (gb_ix l n p))) (by omega)
        have hlt : gb_lt (gb_tm (g (gb_ix l n p)) (gb_mi (gb_M p) (l (gb_ix l n p)))) s := fun j hj hjt => by
          rcases Nat.lt_or_ge p j with z | z
          · rw [ht.2.2 j z] at hjt; cases hjt
          · by_cases ej : j = p
            · rw [ej]; exact hw
            · have := (gb_wM hj (show p < 32 by omega)).mpr (by omega); omega
        obtain ⟨r1, r2⟩ := gb_rd_rep hL h0 hx hb p (by omega) _ (gb_lt_xor h hlt)
        refine ⟨r1, ?_⟩
        have := hx _ _ r2 hq
        rw [← gb_xA, gb_xx2] at this
        exact this
      · rw [gb_st_no hi]
        exact gb_rd_rep hL h0 hx hb p (by omega) x h
theorem gb_red_rep (hL : gb_L g l n) {Q : Int32 → Prop} (h0 : Q 0) (hx : ∀ a b, Q a → Q b → Q (a ^^^ b)) {s : Nat}
    (hb : ∀ i, i < n → ∀ f, f < 32 → f &&& l i = 0 → gb_w f + gb_w (l i) < s → Q (gb_tm (g i) f)) {x : Int32} (h : gb_lt x s) :
    gb_lt (gb_red g l n x) s ∧ Q (gb_red g l n x ^^^ x) := gb_rd_rep hL h0 hx hb 32 (Nat.le_refl 32) x h
theorem gb_red_rep0 (hL : gb_L g l n) {Q : Int32 → Prop} (h0 : Q 0) (hx : ∀ a b, Q a → Q b → Q (a ^^^ b)) {s : Nat}
    (hb : ∀ i, i < n → ∀ f, f < 32 → f &&& l i = 0 → gb_w f + gb_w (l i) < s → Q (gb_tm (g i) f)) {x : Int32} (h : gb_lt x s) (hr : gb_red g l n x = 0) : Q x := by
  have := (gb_red_rep hL h0 hx hb h).2
  rw [hr, gb_0x] at this
  exact this
theorem gb_Q (hL : gb_L g l n) {h : Nat} (hh : h < 32) : gb_red g l n (gb_tm 0 h) = 0 ∧ ∀ a b, gb_red g l n (gb_tm a h) = 0 → gb_red g l n (gb_tm b h) = 0 → gb_red g l n (gb_tm (a ^^^ b) h) = 0 :=
  ⟨by rw [gb_tm_0 hh, gb_red_0], fun a b ha hb => by rw [gb_tm_xor _ _ hh, gb_red_xor, ha, hb, gb_xx]⟩
/-! sets for the pairs -/
theorem gb_set1 {f l2 k : Nat} (hd : f &&& k = 0) (hs : gb_sub l2 (k ||| f) = true) : gb_mi (k ||| l2) k ||| gb_mi (k ||| f) (k ||| l2) = f := by
  apply Nat.eq_of_testBit_eq
  intro j
  have h1 := gb_dis hd j
  have h2 := gb_sub_iff.mp hs j
  rw [Nat.testBit_or] at h2
  rw [Nat.testBit_or, gb_mi_t, gb_mi_t, Nat.testBit_or, Nat.testBit_or]
  revert h1 h2
  cases f.testBit j <;> cases k.testBit j <;> cases l2.testBit j <;> simp
theorem gb_set2 {f l2 k : Nat} (hs : gb_sub l2 (k ||| f) = true) : gb_mi (k ||| l2) l2 ||| gb_mi (k ||| f) (k ||| l2) = gb_mi (k ||| f) l2 := by
  apply Nat.eq_of_testBit_eq
  intro j
  have h2 := gb_sub_iff.mp hs j
  rw [Nat.testBit_or] at h2
  rw [Nat.testBit_or, gb_mi_t, gb_mi_t, gb_mi_t, Nat.testBit_or, Nat.testBit_or]
  revert h2
  cases f.testBit j <;> cases k.testBit j <;> cases l2.testBit j <;> simp
theorem gb_set3 {f l2 k : Nat} (hs : gb_sub l2 (k ||| f) = true) : (k ||| l2) ||| gb_mi (k ||| f) (k ||| l2) = k ||| f := by
  apply gb_mi_or
  rw [gb_sub_or, hs, gb_sub_iff.mpr (fun j hj => by rw [Nat.testBit_or, hj]; rfl)]
  rfl
theorem gb_set4 {f k : Nat} (hd : f &&& k = 0) : gb_mi (k ||| f) k = f := by
  apply Nat.eq_of_testBit_eq
  intro j
  have h1 := gb_dis hd j
  rw [gb_mi_t, Nat.testBit_or]
  revert h1
  cases f.testBit j <;> cases k.testBit j <;> simp
/-- the pair of two entries -/
def gb_sp (g : Nat → Int32) (l : Nat → Nat) (i j : Nat) : Int32 := gb_tm (g i) (gb_mi (l i ||| l j) (l i)) ^^^ gb_tm (g j) (gb_mi (l i ||| l j) (l j))
theorem gb_sp_comm (i j : Nat) : gb_sp g l i j = gb_sp g l j i := by
  unfold gb_sp
  rw [gb_xC, Nat.or_comm]
/-- leading monomials cancel in a pair -/
theorem gb_half {x : Int32} {k m : Nat} (hk : k < 32) (hm : m < 32) (hs : gb_sub k m = true) (h : gb_top x (gb_P k)) : gb_lt (gb_tm x (gb_mi m k) ^^^ gb_e (gb_P m)) (gb_w m) := by
  have hf : gb_mi m k < 32 := gb_mi32 hm
  have e1 : gb_e (gb_P m) = gb_tm (gb_e (gb_P k)) (gb_mi m k) := by rw [gb_tm_e hk hf, gb_mi_or hs]
  rw [e1, ← gb_tm_xor _ _ hf]
  have := gb_lt_tm (gb_top_dec hk h) hf
  rw [← gb_w_dis hk hf (by rw [Nat.and_comm]; exact gb_mi_dis _ _), gb_mi_or hs] at this
  exact this
theorem gb_sp_lt (hL : gb_L g l n) {i j : Nat} (hi : i < n) (hj : j < n) : gb_lt (gb_sp g l i j) (gb_w (l i ||| l j)) := by
  obtain ⟨a1, a2⟩ := hL i hi
  obtain ⟨b1, b2⟩ := hL j hj
  have hm := gb_or32 a1 b1
  have h1 := gb_half a1 hm (gb_sub_iff.mpr (fun k hk => by rw [Nat.testBit_or, hk]; rfl)) a2
  have h2 := gb_half b1 hm (gb_sub_orr _ _) b2
  have := gb_lt_xor h1 h2
  rw [gb_x4] at this
  exact this
theorem gb_vp_lt {x : Int32} {k e : Nat} (hk : k < 32) (he : e < 32) (h0 : e ≠ 0) (hs : gb_sub e k = true) (h : gb_top x (gb_P k)) : gb_lt (gb_tm x e) (gb_w k + gb_w e) := by
  have e1 : x = (x ^^^ gb_e (gb_P k)) ^^^ gb_e (gb_P k) := (gb_xx2 x _).symm
  rw [e1, gb_tm_xor _ _ he, gb_tm_e hk he]
  refine gb_lt_xor (gb_lt_tm (gb_top_dec hk h) he) (gb_lt_e (gb_or32 hk he) ?_)
  have h1 : k ||| e = k := by
    apply Nat.eq_of_testBit_eq
    intro j
    have := gb_sub_iff.mp hs j
    rw [Nat.testBit_or]
    revert this
    cases k.testBit j <;> cases e.testBit j <;> simp
  rw [h1]
  have := gb_w_pos h0
  omega
/-- BUCHBERGER: if the products with variables of the leads and the pairs reduce to 0, all multiples do -/
theorem gb_buch (hL : gb_L g l n) (hV : ∀ i, i < n → ∀ v, v < 5 → gb_sub (2 ^ v) (l i) = true → gb_red g l n (gb_tm (g i) (2 ^ v)) = 0)
    (hS : ∀ i, i < n → ∀ j, j < i → gb_red g l n (gb_sp g l i j) = 0) : ∀ s i f, i < n → f < 32 → gb_w f + gb_w (l i) = s → gb_red g l n (gb_tm (g i) f) = 0 := by
  intro s
  induction s using Nat.strongRecOn with
  | ind s ih =>
    intro i f hi hf hs
    obtain ⟨l1, l2⟩ := hL i hi
    by_cases hd : f &&& l i = 0
    · have hm := gb_or32 l1 hf
      have hp := gb_P32 _ hm
      have hix : gb_ix l n (gb_P (l i ||| f)) < n := gb_ix_led.mpr ⟨i, hi, by rw [gb_MP _ hm]; exact gb_sub_iff.mpr (fun k hk => by rw [Nat.testBit_or, hk]; rfl)⟩
      have hsub := gb_ix_sub hix
      have hb := gb_red_b hL hp hix
      rw [gb_MP _ hm] at hsub hb
      generalize gb_ix l n (gb_P (l i ||| f)) = j at hix hsub hb
      by_cases e : j = i
      · rw [e, gb_set4 hd] at hb
        exact hb
      · have hS' : gb_red g l n (gb_sp g l i j) = 0 := by
          rcases Nat.lt_or_ge j i with z | z
          · exact hS i hi j z
          · rw [gb_sp_comm]; exact hS j hix i (by omega)
        obtain ⟨b1, b2⟩ := hL j hix
        have hbo := gb_or32 l1 b1
        have hh : gb_mi (l i ||| f) (l i ||| l j) < 32 := gb_mi32 hm
        have key : gb_red g l n (gb_tm (gb_sp g l i j) (gb_mi (l i ||| f) (l i ||| l j))) = 0 := by
          refine gb_red_rep0 hL (Q := fun y => gb_red g l n (gb_tm y (gb_mi (l i ||| f) (l i ||| l j))) = 0) (gb_Q hL hh).1 (gb_Q hL hh).2 (s := gb_w (l i ||| l j)) ?_ (gb_sp_lt hL hi hix) hS'
          intro i' hi' f' hf' _ hw
          show gb_red g l n (gb_tm (gb_tm (g i') f') _) = 0
          rw [gb_tm_tm _ hf' hh]
          refine ih _ ?_ i' _ hi' (gb_or32 hf' hh) rfl
          have w1 := gb_w_le hf' hh
          have w2 := gb_w_dis hbo hh (by rw [Nat.and_comm]; exact gb_mi_dis _ _)
          rw [gb_set3 hsub] at w2
          have w3 := gb_w_dis l1 hf (by rw [Nat.and_comm]; exact hd)
          omega
        unfold gb_sp at key
        rw [gb_tm_xor _ _ hh, gb_tm_tm _ (gb_mi32 hbo) hh, gb_tm_tm _ (gb_mi32 hbo) hh, gb_set1 hd hsub, gb_set2 hsub, gb_red_xor, hb, gb_x0] at key
        exact key
    · obtain ⟨v, v5, vf, vl⟩ := gb_var f hf (l i) l1 hd
      have he := (gb_pw5 v v5).1
      have he0 : 2 ^ v ≠ 0 := Nat.pos_iff_ne_zero.mp (Nat.two_pow_pos v)
      have hf' : gb_mi f (2 ^ v) < 32 := gb_mi32 hf
      have ef : gb_tm (g i) f = gb_tm (gb_tm (g i) (2 ^ v)) (gb_mi f (2 ^ v)) := by rw [gb_tm_tm _ he hf', gb_mi_or vf]
      rw [ef]
      refine gb_red_rep0 hL (Q := fun y => gb_red g l n (gb_tm y (gb_mi f (2 ^ v))) = 0) (gb_Q hL hf').1 (gb_Q hL hf').2 (s := gb_w (l i) + gb_w (2 ^ v)) ?_ (gb_vp_lt l1 he he0 vl l2) (hV i hi v v5 vl)
      intro i' hi' f2 hf2 _ hw
      show gb_red g l n (gb_tm (gb_tm (g i') f2) _) = 0
      rw [gb_tm_tm _ hf2 hf']
      refine ih _ ?_ i' _ hi' (gb_or32 hf2 hf') rfl
      have w1 := gb_w_le hf2 hf'
      have w2 := gb_w_dis he hf' (by rw [Nat.and_comm]; exact gb_mi_dis _ _)
      rw [gb_mi_or vf] at w2
      omega
end
end
section
/-! part 04: ideals by their zeros, bases, and the count of the free monomials -/
/-- the highest place, as the program finds it -/
def gb_hiN (x : Int32) : Nat → Nat
  | 0 => 0
  | p + 1 => if gb_t x (p + 1) = true then p + 1 else gb_hiN x p
def gb_hi (x : Int32) : Nat := gb_hiN x 31
theorem gb_hiN_top {x : Int32} {p : Nat} (h : gb_top x p) : ∀ k, p ≤ k → gb_hiN x k = p
  | 0, hk => by show 0 = p; omega
  | k + 1, hk => by
    show (if gb_t x (k + 1) = true then k + 1 else gb_hiN x k) = p
    by_cases e : p = k + 1
    · rw [← e, if_pos h.2.1]
    · rw [if_neg (by rw [h.2.2 (k + 1) (by omega)]; simp), gb_hiN_top h k (by omega)]
theorem gb_hi_top {x : Int32} {p : Nat} (h : gb_top x p) : gb_hi x = p := gb_hiN_top h 31 (by have := h.1; omega)
theorem gb_top_hi {x : Int32} (h : x ≠ 0) : gb_top x (gb_hi x) := by
  obtain ⟨p, hp⟩ := gb_top_ex h
  rw [gb_hi_top hp]; exact hp
theorem gb_hiN_le (x : Int32) : ∀ k, gb_hiN x k ≤ k
  | 0 => Nat.le_refl 0
  | k + 1 => by
    show (if gb_t x (k + 1) = true then k + 1 else gb_hiN x k) ≤ k + 1
    have := gb_hiN_le x k
    split <;> omega
theorem gb_hi32 (x : Int32) : gb_hi x < 32 := by have := gb_hiN_le x 31; unfold gb_hi; omega
/-- the leading monomial of the entry i -/
def gb_ld (g : Nat → Int32) (i : Nat) : Nat := gb_M (gb_hi (g i))
theorem gb_ld32 (g : Nat → Int32) (i : Nat) : gb_ld g i < 32 := gb_M32 _ (gb_hi32 _)
theorem gb_ld_P (g : Nat → Int32) (i : Nat) : gb_P (gb_ld g i) = gb_hi (g i) := gb_PM _ (gb_hi32 _)
theorem gb_ld_L {g : Nat → Int32} {n : Nat} (h : ∀ i, i < n → g i ≠ 0) : gb_L g (gb_ld g) n := fun i hi => ⟨gb_ld32 g i, by rw [gb_ld_P]; exact gb_top_hi (h i hi)⟩
/-- reduction by the list g -/
def gb_R (g : Nat → Int32) (n : Nat) (x : Int32) : Int32 := gb_red g (gb_ld g) n x
/-- what the list generates -/
def gb_gen (g : Nat → Int32) (n : Nat) (x : Int32) : Prop := ∀ Q : Int32 → Prop, Q 0 → (∀ a b, Q a → Q b → Q (a ^^^ b)) → (∀ i, i < n → ∀ f, f < 32 → Q (gb_tm (g i) f)) → Q x
theorem gb_gen_mono {g g' : Nat → Int32} {n n' : Nat} {x : Int32} (h : ∀ i, i < n → g' i = g i) (hn : n ≤ n') (hx : gb_gen g n x) : gb_gen g' n' x :=
  fun Q h0 ha hb => hx Q h0 ha (fun i hi f hf => by rw [← h i hi]; exact hb i (by omega) f hf)
theorem gb_gen_xor {g : Nat → Int32} {n : Nat} {x y : Int32} (hx : gb_gen g n x) (hy : gb_gen g n y) : gb_gen g n (x ^^^ y) :=
  fun Q h0 ha hb => ha _ _ (hx Q h0 ha hb) (hy Q h0 ha hb)
theorem gb_gen_at {g : Nat → Int32} {n i : Nat} (hi : i < n) : gb_gen g n (g i) :=
  fun Q h0 ha hb => by have := hb i hi 0 (by decide); rw [gb_tm_id] at this; exact this
theorem gb_gen_R {g : Nat → Int32} {n : Nat} (h : ∀ i, i < n → g i ≠ 0) (x : Int32) : gb_gen g n (gb_R g n x ^^^ x) :=
  fun Q h0 ha hb => (gb_red_rep (gb_ld_L h) h0 ha (s := 200) (fun i hi f hf _ _ => hb i hi f hf) (gb_lt_big x)).2
/-- x vanishes where zs holds -/
def gb_van (zs : Nat → Bool) (x : Int32) : Prop := ∀ z, z < 32 → zs z = true → gb_val x z = false
theorem gb_van_0 (zs : Nat → Bool) : gb_van zs 0 := fun z _ _ => gb_val_0 z
theorem gb_van_xor {zs : Nat → Bool} {x y : Int32} (hx : gb_van zs x) (hy : gb_van zs y) : gb_van zs (x ^^^ y) := fun z hz h => by
  rw [gb_val_xor, hx z hz h, hy z hz h]; rfl
theorem gb_van_tm {zs : Nat → Bool} {x : Int32} (hx : gb_van zs x) {f : Nat} (hf : f < 32) : gb_van zs (gb_tm x f) := fun z hz h => by
  rw [gb_val_tm _ hf, hx z hz h]; rfl
theorem gb_van_gen {zs : Nat → Bool} {g : Nat → Int32} {n : Nat} {x : Int32} (h : ∀ i, i < n → gb_van zs (g i)) (hx : gb_gen g n x) : gb_van zs x :=
  hx (gb_van zs) (gb_van_0 zs) (fun _ _ => gb_van_xor) (fun i hi f hf => gb_van_tm (h i hi) hf)
theorem gb_van_R {zs : Nat → Bool} {g : Nat → Int32} {n : Nat} (h0 : ∀ i, i < n → g i ≠ 0) (h : ∀ i, i < n → gb_van zs (g i)) (x : Int32) {z : Nat} (hz : z < 32) (hs : zs z = true) : gb_val (gb_R g n x) z = gb_val x z := by
  have := gb_van_gen h (gb_gen_R h0 x) z hz hs
  rw [gb_val_xor] at this
  revert this
  cases gb_val (gb_R g n x) z <;> cases gb_val x z <;> simp
theorem gb_van_R' {zs : Nat → Bool} {g : Nat → Int32} {n : Nat} (h0 : ∀ i, i < n → g i ≠ 0) (h : ∀ i, i < n → gb_van zs (g i)) {x : Int32} (hx : gb_van zs x) : gb_van zs (gb_R g n x) := fun z hz hs => by
  rw [gb_van_R h0 h x hz hs]; exact hx z hz hs
/-- all that vanishes at the common zeros of the q reduces to 0 -/
theorem gb_all {g : Nat → Int32} {n : Nat} (h0 : ∀ i, i < n → g i ≠ 0) (hB : ∀ i f, i < n → f < 32 → gb_R g n (gb_tm (g i) f) = 0)
    {q : Nat → Int32} {c : Nat} (hq : ∀ j, j < c → gb_gen g n (q j)) {x : Int32} (hx : ∀ z, z < 32 → (∀ j, j < c → gb_val (q j) z = false) → gb_val x z = false) : gb_R g n x = 0 := by
  have hL := gb_ld_L h0
  have k0 : gb_R g n 0 = 0 := gb_red_0
  have kx : ∀ a b, gb_R g n a = 0 → gb_R g n b = 0 → gb_R g n (a ^^^ b) = 0 := fun a b ha hb => by
    show gb_red g (gb_ld g) n (a ^^^ b) = 0
    rw [gb_red_xor]
    show gb_R g n a ^^^ gb_R g n b = 0
    rw [ha, hb, gb_xx]
  have kt : ∀ y, gb_R g n y = 0 → ∀ f, f < 32 → gb_R g n (gb_tm y f) = 0 := fun y hy f hf =>
    gb_red_rep0 hL (Q := fun y => gb_red g (gb_ld g) n (gb_tm y f) = 0) (gb_Q hL hf).1 (gb_Q hL hf).2 (s := 200) (fun i hi f' hf' _ _ => by
      show gb_red g (gb_ld g) n (gb_tm (gb_tm (g i) f') f) = 0
      rw [gb_tm_tm _ hf' hf]
      exact hB i _ hi (gb_or32 hf' hf)) (gb_lt_big y) hy
  have kg : ∀ y, gb_gen g n y → gb_R g n y = 0 := fun y hy => hy (fun y => gb_R g n y = 0) k0 kx (fun i hi f hf => hB i f hi hf)
  have km : ∀ a y, gb_R g n y = 0 → gb_R g n (gb_mu a y) = 0 := fun a y hy => gb_mu_in (Q := fun y => gb_R g n y = 0) k0 kx (kt y hy) a 32 (Nat.le_refl 32)
  have ke : ∀ d, d ≤ c → ∃ e, gb_R g n e = 0 ∧ ∀ z, gb_val e z = false → ∀ j, j < d → gb_val (q j) z = false := by
    intro d
    induction d with
    | zero => exact fun _ => ⟨0, k0, fun z _ j hj => absurd hj (by omega)⟩
    | succ d ih =>
      intro hd
      obtain ⟨e, he, hz⟩ := ih (by omega)
      have hqd := kg _ (hq d (by omega))
      refine ⟨(e ^^^ q d) ^^^ gb_mu e (q d), kx _ _ (kx _ _ he hqd) (km e _ hqd), fun z hv j hj => ?_⟩
      rw [gb_val_xor, gb_val_xor, gb_val_mu] at hv
      have h1 : gb_val e z = false ∧ gb_val (q d) z = false := by
        revert hv
        cases gb_val e z <;> cases gb_val (q d) z <;> simp
      by_cases ej : j = d
      · rw [ej]; exact h1.2
      · exact hz z h1.1 j (by omega)
  obtain ⟨e, he, hz⟩ := ke c (Nat.le_refl c)
  have hxe : gb_mu x e = x := gb_val_inj (fun z hz32 => by
    rw [gb_val_mu]
    cases hv : gb_val e z
    · rw [hx z hz32 (hz z hv)]; rfl
    · simp)
  rw [← hxe]
  exact km x e he
/-! counting -/
def gb_cn (q : Nat → Bool) : Nat → Nat
  | 0 => 0
  | n + 1 => gb_cn q n + (if q n = true then 1 else 0)
theorem gb_cn_congr {a b : Nat → Bool} : ∀ {n : Nat}, (∀ i, i < n → a i = b i) → gb_cn a n = gb_cn b n
  | 0, _ => rfl
  | n + 1, h => by
    show gb_cn a n + (if a n = true then 1 else 0) = gb_cn b n + (if b n = true then 1 else 0)
    rw [gb_cn_congr (fun i hi => h i (by omega)), h n (by omega)]
theorem gb_cn_le (q : Nat → Bool) : ∀ n, gb_cn q n ≤ n
  | 0 => Nat.le_refl 0
  | n + 1 => by
    show gb_cn q n + (if q n = true then 1 else 0) ≤ n + 1
    have := gb_cn_le q n
    split <;> omega
theorem gb_cn_mono {a b : Nat → Bool} : ∀ {n : Nat}, (∀ i, i < n → a i = true → b i = true) → gb_cn a n ≤ gb_cn b n
  | 0, _ => Nat.le_refl 0
  | n + 1, h => by
    show gb_cn a n + (if a n = true then 1 else 0) ≤ gb_cn b n + (if b n = true then 1 else 0)
    have h1 := gb_cn_mono (n := n) (fun i hi => h i (by omega))
    have h2 := h n (by omega)
    by_cases c : a n = true
    · rw [if_pos c, if_pos (h2 c)]; omega
    · rw [if_neg c]; omega
theorem gb_cn_lt {a b : Nat → Bool} {k : Nat} (ha : a k = false) (hb : b k = true) : ∀ {n : Nat}, k < n → (∀ i, i < n → a i = true → b i = true) → gb_cn a n + 1 ≤ gb_cn b n
  | 0, hk, _ => absurd hk (by omega)
  | n + 1, hk, h => by
    show gb_cn a n + (if a n = true then 1 else 0) + 1 ≤ gb_cn b n + (if b n = true then 1 else 0)
    have h2 := h n (by omega)
    by_cases e : k = n
    · have h1 := gb_cn_mono (n := n) (fun i hi => h i (by omega))
      rw [← e, ha, hb, e]
      simp only [Bool.false_eq_true, if_false, if_true]
      omega
    · have h1 := gb_cn_lt ha hb (n := n) (by omega) (fun i hi => h i (by omega))
      by_cases c : a n = true
      · rw [if_pos c, if_pos (h2 c)]; omega
      · rw [if_neg c]; omega
theorem gb_cn_not (q : Nat → Bool) : ∀ n, gb_cn (fun m => !q m) n + gb_cn q n = n
  | 0 => rfl
  | n + 1 => by
    show gb_cn (fun m => !q m) n + (if (!q n) = true then 1 else 0) + (gb_cn q n + (if q n = true then 1 else 0)) = n + 1
    have := gb_cn_not q n
    cases q n <;> simp <;> omega
theorem gb_cn_drop {T : Nat → Bool} {k : Nat} (hT : T k = true) : ∀ {n : Nat}, k < n → gb_cn (fun m => T m && !(m == k)) n + 1 = gb_cn T n
  | 0, hk => absurd hk (by omega)
  | n + 1, hk => by
    show gb_cn (fun m => T m && !(m == k)) n + (if (T n && !(n == k)) = true then 1 else 0) + 1 = gb_cn T n + (if T n = true then 1 else 0)
    by_cases e : k = n
    · rw [← e, hT, show gb_cn (fun m => T m && !(m == k)) k = gb_cn T k from gb_cn_congr (fun i hi => by rw [show (i == k) = false from beq_eq_false_iff_ne.mpr (by omega)]; simp)]
      simp
    · have h1 := gb_cn_drop hT (n := n) (by omega)
      rw [show (n == k) = false from beq_eq_false_iff_ne.mpr (fun z => e z.symm)]
      simp only [Bool.not_false, Bool.and_true]
      omega
theorem gb_cn_true : gb_cn (fun _ => true) 32 = 32 := by decide
/-- the places that are highest in what vanishes at the first k points, against the points -/
theorem gb_dim (zs : Nat → Bool) : ∀ k, k ≤ 32 → ∃ T : Nat → Bool, (∀ m, m < 32 → (T m = true ↔ ∃ x, (∀ z, z < k → zs z = true → gb_val x z = false) ∧ gb_top x (gb_P m))) ∧ gb_cn T 32 + gb_cn zs k = 32 := by
  intro k
  induction k with
  | zero => exact fun _ => ⟨fun _ => true, fun m hm => ⟨fun _ => ⟨gb_e (gb_P m), fun z hz => absurd hz (by omega), gb_top_e (gb_P32 m hm)⟩, fun _ => rfl⟩, by rw [gb_cn_true]; rfl⟩
  | succ k ih =>
    intro hk
    obtain ⟨T, hT, hc⟩ := ih (by omega)
    by_cases hz : zs k = true
    · have ex : ∃ p, ∃ x, ((∀ z, z < k → zs z = true → gb_val x z = false) ∧ gb_val x k = true) ∧ gb_top x p := by
        refine ⟨gb_P k, gb_e (gb_P k), ⟨fun z hzk _ => ?_, ?_⟩, gb_top_e (gb_P32 k (by omega))⟩
        · rw [gb_val_e (by omega)]
          cases e : gb_sub k z
          · rfl
          · have := gb_sub_le e; omega
        · rw [gb_val_e (by omega), gb_sub_refl]
      obtain ⟨p0, ⟨x0, ⟨a1, a2⟩, a3⟩, hmin⟩ := pk_least _ ex
      have hp0 := a3.1
      have eP : gb_P (gb_M p0) = p0 := gb_PM p0 hp0
      have hm0 := gb_M32 p0 hp0
      have hT0 : T (gb_M p0) = true := (hT _ hm0).mpr ⟨x0, a1, by rw [eP]; exact a3⟩
      refine ⟨fun m => T m && !(m == gb_M p0), fun m hm => ?_, ?_⟩
      · show (T m && !(m == gb_M p0)) = true ↔ _
        rw [Bool.and_eq_true, Bool.not_eq_true', beq_eq_false_iff_ne]
        constructor
        · rintro ⟨t1, t2⟩
          obtain ⟨x, x1, x2⟩ := (hT m hm).mp t1
          cases e : gb_val x k
          · refine ⟨x, fun z hzk hs => ?_, x2⟩
            by_cases ez : z = k
            · rw [ez]; exact e
            · exact x1 z (by omega) hs
          · have hge : ¬ gb_P m < p0 := fun h => hmin _ h ⟨x, ⟨x1, e⟩, x2⟩
            have hne : gb_P m ≠ p0 := fun h => t2 (by rw [← h, gb_MP m hm])
            refine ⟨x ^^^ x0, fun z hzk hs => ?_, x2.1, ?_, fun j hj => ?_⟩
            · by_cases ez : z = k
              · rw [ez, gb_val_xor, e, a2]; rfl
              · rw [gb_val_xor, x1 z (by omega) hs, a1 z (by omega) hs]; rfl
            · rw [gb_txor, x2.2.1, a3.2.2 _ (by omega)]; rfl
            · rw [gb_txor, x2.2.2 j hj, a3.2.2 j (by omega)]; rfl
        · rintro ⟨x, x1, x2⟩
          refine ⟨(hT m hm).mpr ⟨x, fun z hzk hs => x1 z (by omega) hs, x2⟩, fun em => ?_⟩
          rw [em, eP] at x2
          have v1 : gb_val (x ^^^ x0) k = true := by rw [gb_val_xor, x1 k (by omega) hz, a2]; rfl
          have ne : x ^^^ x0 ≠ 0 := fun h => by rw [h, gb_val_0] at v1; cases v1
          obtain ⟨p, hp⟩ := gb_top_ex ne
          have hlt : p < p0 := by
            rcases Nat.lt_trichotomy p p0 with z | z | z
            · exact z
            · have := hp.2.1
              rw [z, gb_txor, x2.2.1, a3.2.1] at this; cases this
            · have := hp.2.1
              rw [gb_txor, x2.2.2 p z, a3.2.2 p z] at this; cases this
          exact hmin p hlt ⟨x ^^^ x0, ⟨fun z hzk hs => by rw [gb_val_xor, x1 z (by omega) hs, a1 z hzk hs]; rfl, v1⟩, hp⟩
      · have := gb_cn_drop hT0 hm0
        show gb_cn (fun m => T m && !(m == gb_M p0)) 32 + (gb_cn zs k + (if zs k = true then 1 else 0)) = 32
        rw [if_pos hz]
        omega
    · refine ⟨T, fun m hm => ?_, ?_⟩
      · rw [hT m hm]
        constructor
        · rintro ⟨x, x1, x2⟩
          refine ⟨x, fun z hzk hs => ?_, x2⟩
          by_cases ez : z = k
          · rw [ez] at hs; exact absurd hs hz
          · exact x1 z (by omega) hs
        · rintro ⟨x, x1, x2⟩
          exact ⟨x, fun z hzk hs => x1 z (by omega) hs, x2⟩
      · show gb_cn T 32 + (gb_cn zs k + (if zs k = true then 1 else 0)) = 32
        rw [if_neg hz]
        omega
/-- a basis of what vanishes where zs holds -/
def gb_basis (zs : Nat → Bool) (b : Nat → Int32) (s : Nat) : Prop := (∀ t, t < s → b t ≠ 0 ∧ gb_van zs (b t)) ∧ (∀ x p, gb_van zs x → gb_top x p → gb_led (gb_ld b) s (gb_M p))
theorem gb_led_congr {l l' : Nat → Nat} {n m : Nat} (h : ∀ i, i < n → l' i = l i) (g : gb_led l n m) : gb_led l' n m := by
  obtain ⟨i, hi, hs⟩ := g
  exact ⟨i, hi, by rw [h i hi]; exact hs⟩
theorem gb_basis_congr {zs : Nat → Bool} {b b' : Nat → Int32} {s : Nat} (h : ∀ t, t < s → b' t = b t) (hb : gb_basis zs b s) : gb_basis zs b' s :=
  ⟨fun t ht => by rw [h t ht]; exact hb.1 t ht, fun x p hx hp => gb_led_congr (fun i hi => by unfold gb_ld; rw [h i hi]) (hb.2 x p hx hp)⟩
theorem gb_nf_val {zs : Nat → Bool} {b : Nat → Int32} {s : Nat} (hb : gb_basis zs b s) (x : Int32) {z : Nat} (hz : z < 32) (hs : zs z = true) : gb_val (gb_R b s x) z = gb_val x z :=
  gb_van_R (fun i hi => (hb.1 i hi).1) (fun i hi => (hb.1 i hi).2) x hz hs
theorem gb_nf_0 {zs : Nat → Bool} {b : Nat → Int32} {s : Nat} (hb : gb_basis zs b s) (x : Int32) : gb_R b s x = 0 ↔ gb_van zs x := by
  have h0 : ∀ i, i < s → b i ≠ 0 := fun i hi => (hb.1 i hi).1
  have hv : ∀ i, i < s → gb_van zs (b i) := fun i hi => (hb.1 i hi).2
  constructor
  · intro h z hz hs
    rw [← gb_van_R h0 hv x hz hs, h, gb_val_0]
  · intro h
    have h1 := gb_van_R' h0 hv h
    by_cases e : gb_R b s x = 0
    · exact e
    · obtain ⟨p, hp⟩ := gb_top_ex e
      have := gb_red_led (gb_ld_L h0) x hp.1 (hb.2 _ p h1 hp)
      have h2 : gb_t (gb_R b s x) p = false := this
      rw [hp.2.1] at h2
      cases h2
/-- led, as a Bool -/
def gb_lb (l : Nat → Nat) (n m : Nat) : Bool := decide (gb_fi (fun i => gb_sub (l i) m) n < n)
theorem gb_lb_iff {l : Nat → Nat} {n m : Nat} : gb_lb l n m = true ↔ gb_led l n m := by
  unfold gb_lb
  rw [decide_eq_true_iff]
  exact ⟨fun h => ⟨_, h, (gb_fi_p (fun i => gb_sub (l i) m) n).2.2 h⟩, fun ⟨_, hi, h⟩ => gb_fi_lt hi h⟩
theorem gb_count {zs : Nat → Bool} {b : Nat → Int32} {s : Nat} (hb : gb_basis zs b s) : gb_cn (fun m => !gb_lb (gb_ld b) s m) 32 = gb_cn zs 32 := by
  obtain ⟨T, hT, hc⟩ := gb_dim zs 32 (Nat.le_refl 32)
  have hL := gb_ld_L (fun i hi => (hb.1 i hi).1)
  have e : gb_cn (fun m => gb_lb (gb_ld b) s m) 32 = gb_cn T 32 := gb_cn_congr (fun m hm => by
    rw [Bool.eq_iff_iff, hT m hm, gb_lb_iff]
    constructor
    · intro h
      have hp := gb_P32 m hm
      have hx : gb_ix (gb_ld b) s (gb_P m) < s := gb_ix_led.mpr (by rw [gb_MP m hm]; exact h)
      exact ⟨_, gb_van_tm (hb.1 _ hx).2 (gb_mi32 (gb_M32 _ hp)), gb_b_top hL hp hx⟩
    · rintro ⟨x, x1, x2⟩
      have := hb.2 x _ x1 x2
      rw [gb_MP m hm] at this
      exact this)
  have := gb_cn_not (fun m => gb_lb (gb_ld b) s m) 32
  have e2 : gb_cn (fun m => !gb_lb (gb_ld b) s m) 32 + gb_cn (fun m => gb_lb (gb_ld b) s m) 32 = 32 := this
  omega
/-! the work list: nonzero entries, their leads stored, no lead divided by an earlier one -/
def gb_inc (g : Nat → Int32) (n : Nat) : Prop := ∀ i, i < n → ∀ j, j < i → gb_sub (gb_ld g j) (gb_ld g i) = false
theorem gb_inc_le {g : Nat → Int32} : ∀ n, gb_inc g n → n ≤ gb_cn (fun m => gb_lb (gb_ld g) n m) 32
  | 0, _ => Nat.zero_le _
  | n + 1, h => by
    have ih := gb_inc_le n (fun i hi j hj => h i (by omega) j hj)
    have := gb_cn_lt (a := fun m => gb_lb (gb_ld g) n m) (b := fun m => gb_lb (gb_ld g) (n + 1) m) (k := gb_ld g n) ?_ ?_ (n := 32) (gb_ld32 g n) ?_
    · omega
    · show gb_lb (gb_ld g) n (gb_ld g n) = false
      rw [Bool.eq_false_iff]
      intro z
      obtain ⟨i, hi, hs⟩ := gb_lb_iff.mp z
      rw [h n (by omega) i hi] at hs
      cases hs
    · show gb_lb (gb_ld g) (n + 1) (gb_ld g n) = true
      exact gb_lb_iff.mpr ⟨n, by omega, gb_sub_refl _⟩
    · intro i _ z
      obtain ⟨j, hj, hs⟩ := gb_lb_iff.mp z
      exact gb_lb_iff.mpr ⟨j, by omega, hs⟩
theorem gb_inc_32 {g : Nat → Int32} {n : Nat} (h : gb_inc g n) : n ≤ 32 := Nat.le_trans (gb_inc_le n h) (gb_cn_le _ 32)
theorem gb_inc_ne {g : Nat → Int32} {n i j : Nat} (h : gb_inc g n) (hi : i < n) (hj : j < n) (e : gb_ld g i = gb_ld g j) : i = j := by
  rcases Nat.lt_trichotomy i j with z | z | z
  · have := h j hj i z; rw [e, gb_sub_refl] at this; cases this
  · exact z
  · have := h i hi j z; rw [e, gb_sub_refl] at this; cases this
/-- the entry i has a lead that no other one divides -/
def gb_lst (g : Nat → Int32) (n i : Nat) : Prop := ∀ j, j < n → j ≠ i → gb_sub (gb_ld g j) (gb_ld g i) = false
theorem gb_lst_ex {g : Nat → Int32} {n : Nat} (h : gb_inc g n) : ∀ k i, i < n → gb_ld g i = k → ∃ j, j < n ∧ gb_lst g n j ∧ gb_sub (gb_ld g j) (gb_ld g i) = true := by
  intro k
  induction k using Nat.strongRecOn with
  | ind k ih =>
    intro i hi hk
    by_cases c : gb_lst g n i
    · exact ⟨i, hi, c, gb_sub_refl _⟩
    · have : ∃ j, j < n ∧ j ≠ i ∧ gb_sub (gb_ld g j) (gb_ld g i) = true := Classical.byContradiction (fun z => c (fun j hj hne => Bool.eq_false_iff.mpr (fun hs => z ⟨j, hj, hne, hs⟩)))
      obtain ⟨j, hj, hne, hs⟩ := this
      have hle := gb_sub_le hs
      have hnl : gb_ld g j ≠ gb_ld g i := fun e => hne (gb_inc_ne h hj hi e)
      obtain ⟨j', a, b, c'⟩ := ih (gb_ld g j) (by omega) j hj rfl
      exact ⟨j', a, b, gb_sub_trans c' hs⟩
/-- what keepLeast keeps is a basis again -/
theorem gb_basis_of {zs : Nat → Bool} {g b : Nat → Int32} {n s : Nat} (h : gb_inc g n)
    (hg : ∀ x p, gb_van zs x → gb_top x p → gb_led (gb_ld g) n (gb_M p))
    (hA : ∀ t, t < s → b t ≠ 0 ∧ gb_van zs (b t)) (hB : ∀ i, i < n → gb_lst g n i → ∃ t, t < s ∧ gb_top (b t) (gb_hi (g i))) : gb_basis zs b s := by
  refine ⟨hA, fun x p hx hp => ?_⟩
  obtain ⟨i, hi, hs⟩ := hg x p hx hp
  obtain ⟨j, hj, hl, hs2⟩ := gb_lst_ex h _ i hi rfl
  obtain ⟨t, ht, htop⟩ := hB j hj hl
  refine ⟨t, ht, ?_⟩
  have e : gb_ld b t = gb_ld g j := by unfold gb_ld; rw [gb_hi_top htop]
  rw [e]
  exact gb_sub_trans hs2 hs
/-- reduceTail -/
theorem gb_tail {zs : Nat → Bool} {g : Nat → Int32} {n i : Nat} (h0 : ∀ i, i < n → g i ≠ 0) (hv : ∀ i, i < n → gb_van zs (g i)) (hi : i < n) :
    gb_top (gb_e (gb_hi (g i)) ||| gb_R g n (g i &&& (gb_e (gb_hi (g i)) ^^^ (-1)))) (gb_hi (g i)) ∧ gb_van zs (gb_e (gb_hi (g i)) ||| gb_R g n (g i &&& (gb_e (gb_hi (g i)) ^^^ (-1)))) := by
  have ht := gb_top_hi (h0 i hi)
  have h32 := gb_hi32 (g i)
  have hl := gb_ld32 g i
  have hP := gb_ld_P g i
  have e1 : g i &&& (gb_e (gb_hi (g i)) ^^^ (-1)) = g i ^^^ gb_e (gb_hi (g i)) := gb_ext (fun j hj => by
    rw [gb_tand, gb_txor, gb_txor, gb_te h32, gb_tm1 j hj]
    by_cases e : j = gb_hi (g i)
    · rw [decide_eq_true e, e, ht.2.1]; rfl
    · rw [decide_eq_false e]; simp)
  rw [e1]
  have hlt : gb_lt (g i ^^^ gb_e (gb_hi (g i))) (gb_w (gb_ld g i)) := by
    have := gb_top_dec hl (by rw [hP]; exact ht)
    rw [hP] at this
    exact this
  have hlt2 : gb_lt (gb_R g n (g i ^^^ gb_e (gb_hi (g i)))) (gb_w (gb_ld g i)) :=
    (gb_red_rep (gb_ld_L h0) (Q := fun _ => True) trivial (fun _ _ _ _ => trivial) (fun _ _ _ _ _ _ => trivial) hlt).1
  have htop := gb_top_com hl hlt2
  rw [hP] at htop
  have e2 : gb_e (gb_hi (g i)) ||| gb_R g n (g i ^^^ gb_e (gb_hi (g i))) = gb_R g n (g i ^^^ gb_e (gb_hi (g i))) ^^^ gb_e (gb_hi (g i)) := gb_ext (fun j hj => by
    rw [gb_tor, gb_txor, gb_te h32]
    by_cases e : j = gb_hi (g i)
    · have h1 := htop.2.1
      rw [gb_txor, gb_te h32, decide_eq_true rfl] at h1
      rw [decide_eq_true e, e]
      revert h1
      cases gb_t (gb_R g n (g i ^^^ gb_e (gb_hi (g i)))) (gb_hi (g i)) <;> simp
    · rw [decide_eq_false e]; simp)
  rw [e2]
  refine ⟨htop, fun z hz hs => ?_⟩
  rw [gb_val_xor, gb_van_R h0 hv _ hz hs, ← gb_val_xor, gb_xx2]
  exact hv i hi z hz hs
end
section
/-! part 05: the walks of the small methods -/
def gb_T (a3 a4 : Nat → Int32) : Prop := (∀ m, m < 32 → a3 m = nI (gb_P m)) ∧ (∀ i, i < 32 → a4 i = nI (gb_M i))
/-! ones and arrange -/
def gb_pop (m : Nat) : Nat → Nat
  | 0 => 0
  | n + 1 => gb_pop m n + m / 2 ^ n % 2
theorem gb_one_bit : ∀ m, m < 32 → ∀ i, i < 5 → (nI m >>> (nI i &&& 31)) &&& 1 = nI (m / 2 ^ i % 2) := by decide +kernel
theorem gb_w_ones {post : Int32 → Prop} {m : Nat} (hm : m < 32) (H : post (nI (gb_pop m 5))) : wpX_ones post () (nI m) :=
  pk_loop (fun n i s => wX_ones_4 post (nI m) n s (nI i)) (fun i s => s = nI (gb_pop m i)) 5 0 0 (by omega) rfl
    (fun n s (h : s = nI (gb_pop m 5)) => pk_le 5 5 (fun _ => by rw [h]; exact H) (fun z => absurd z (by omega)))
    (fun n i s hi (h : s = nI (gb_pop m i)) hw => pk_le 5 i (fun z => absurd z (by omega)) (fun _ => nm_r (by rw [h, gb_one_bit m hm i hi, nI_add]; rfl) (nm_r (nI_1 i) (hw _ rfl))))
/-- how many monomials are placed ahead of (degree d, number m) -/
def gb_nx (d m : Nat) : Nat := gb_cn (fun j => decide (gb_pop j 5 < d) || (gb_pop j 5 == d && decide (j < m))) 32
theorem gb_nx_hit : ∀ d, d < 6 → ∀ m, m < 32 → gb_pop m 5 = d → gb_nx d m = gb_P m ∧ gb_nx d (m + 1) = gb_nx d m + 1 ∧ gb_M (gb_nx d m) = m := by decide +kernel
theorem gb_nx_miss : ∀ d, d < 6 → ∀ m, m < 32 → gb_pop m 5 ≠ d → gb_nx d (m + 1) = gb_nx d m := by decide +kernel
theorem gb_nx_next : ∀ d, d < 6 → gb_nx d 32 = gb_nx (d + 1) 0 := by decide +kernel
theorem gb_nx_0 : gb_nx 0 0 = 0 ∧ gb_nx 6 0 = 32 := by decide +kernel
theorem gb_pop6 : ∀ m, m < 32 → gb_pop m 5 < 6 := by decide +kernel
theorem gb_pop6' : ∀ m, m < 32 → gb_pop m 5 < 2 ^ 31 := by decide +kernel
def gb_AI (d m : Nat) (a3 a4 : Nat → Int32) : Prop := (∀ j, j < 32 → (gb_pop j 5 < d ∨ (gb_pop j 5 = d ∧ j < m)) → a3 j = nI (gb_P j)) ∧ (∀ i, i < gb_nx d m → a4 i = nI (gb_M i))
section
variable {k0 ws : Int32} {a1 a2 a3 a4 a5 a6 a7 a8 a9 : Nat → Int32}
theorem gb_w_arr11 {post : St2 → Prop} {J4 : Int32 → Int32 → (Nat → Int32) → (Nat → Int32) → (Nat → Int32) → (Nat → Int32) → (Nat → Int32) → (Nat → Int32) → (Nat → Int32) → (Nat → Int32) → (Nat → Int32) → Prop} {d : Nat} (hd : d < 6) (h0 : gb_AI d 0 a3 a4)
    (H : ∀ b3 b4, gb_AI (d + 1) 0 b3 b4 → J4 (nI (gb_nx (d + 1) 0)) (nI (d + 1)) a1 a2 b3 b4 a5 a6 a7 a8 a9) :
    ∃ n, wX_arrange_11 post J4 (nI d) 0 ws n (nI (gb_nx d 0)) 0 a1 a2 a3 a4 a5 a6 a7 a8 a9 := by
  refine pk_loop (σ := (Nat → Int32) × (Nat → Int32)) (fun n i s => wX_arrange_11 post J4 (nI d) 0 ws n (nI (gb_nx d i)) (nI i) a1 a2 s.1 s.2 a5 a6 a7 a8 a9) (fun i s => gb_AI d i s.1 s.2) 32 0 (a3, a4) (by omega) h0 ?_ ?_
  · rintro n ⟨b3, b4⟩ ⟨g1, g2⟩
    refine pk_le 32 32 (fun _ => nm_r (nI_1 d) ?_) (fun z => absurd z (by omega))
    show J4 (nI (gb_nx d 32)) (nI (d + 1)) a1 a2 b3 b4 a5 a6 a7 a8 a9
    rw [gb_nx_next d hd]
    refine H b3 b4 ⟨fun j hj h => g1 j hj ?_, fun i hi => g2 i ?_⟩
    · rcases h with h | h
      · by_cases e : gb_pop j 5 = d
        · exact Or.inr ⟨e, hj⟩
        · exact Or.inl (by omega)
      · exact absurd h.2 (by omega)
    · rw [gb_nx_next d hd]; exact hi
  · rintro n i ⟨b3, b4⟩ hi ⟨g1, g2⟩ hw
    refine pk_le 32 i (fun z => absurd z (by omega)) (fun _ => ?_)
    refine br_f (by decide) (gb_w_ones hi ?_)
    refine pk_eq (gb_pop i 5) d (fun e => ?_) (fun e => nm_r (nI_1 i) ?_) (ha := gb_pop6' i hi)
    · obtain ⟨e1, e2, e3⟩ := gb_nx_hit d hd i hi e
      have hP := gb_P32 i hi
      have t := hw (upd b3 i (nI (gb_nx d i)), upd b4 (gb_nx d i) (nI i)) ⟨fun j hj h => ?_, fun j hj => ?_⟩
      · refine ⟨pk_in i 32 hi, nm_r (by rw [nI_clamp (by omega)]) ⟨pk_in (gb_nx d i) 32 (by omega), nm_r (by rw [nI_clamp (by omega)]) (nm_r (nI_1 _) (nm_r (nI_1 i) ?_))⟩⟩
        rw [← e2]
        exact t
      · show upd b3 i (nI (gb_nx d i)) j = nI (gb_P j)
        by_cases ej : j = i
        · rw [ej, pk_us, e1]
        · rw [pk_un ej]
          exact g1 j hj (by omega)
      · show upd b4 (gb_nx d i) (nI i) j = nI (gb_M j)
        by_cases ej : j = gb_nx d i
        · rw [ej, pk_us, e3]
        · rw [pk_un ej]
          exact g2 j (by omega)
    · have t := hw (b3, b4) ⟨fun j hj h => g1 j hj (by
        rcases h with h | h
        · exact Or.inl h
        · by_cases ej : j = i
          · rw [ej] at h; exact absurd h.1 e
          · exact Or.inr ⟨h.1, by omega⟩), fun j hj => g2 j (by rw [gb_nx_miss d hd i hi e] at hj; exact hj)⟩
      have t2 : wX_arrange_11 post J4 (nI d) 0 ws n (nI (gb_nx d (i + 1))) (nI (i + 1)) a1 a2 b3 b4 a5 a6 a7 a8 a9 := t
      rw [gb_nx_miss d hd i hi e] at t2
      exact t2
theorem gb_w_arr {post : St2 → Prop} (H : ∀ b3 b4, gb_T b3 b4 → post (0, ws, a1, a2, b3, b4, a5, a6, a7, a8, a9)) : wpX_arrange post (0, ws, a1, a2, a3, a4, a5, a6, a7, a8, a9) := by
  have main : ∃ n, wX_arrange_4 post 0 ws n (nI (gb_nx 0 0)) (nI 0) a1 a2 a3 a4 a5 a6 a7 a8 a9 := by
    refine pk_loop (σ := (Nat → Int32) × (Nat → Int32)) (fun n i s => wX_arrange_4 post 0 ws n (nI (gb_nx i 0)) (nI i) a1 a2 s.1 s.2 a5 a6 a7 a8 a9) (fun i s => gb_AI i 0 s.1 s.2) 6 0 (a3, a4) (by omega) ⟨fun j hj h => absurd h (by omega), fun i hi => absurd hi (by rw [gb_nx_0.1]; omega)⟩ ?_ ?_
    · rintro n ⟨b3, b4⟩ ⟨g1, g2⟩
      exact pk_lt 5 6 (fun _ => H b3 b4 ⟨fun j hj => g1 j hj (Or.inl (gb_pop6 j hj)), fun i hi => g2 i (by rw [gb_nx_0.2]; exact hi)⟩) (fun z => absurd z (by omega))
    · rintro n i ⟨b3, b4⟩ hi g hw
      exact pk_lt 5 i (fun z => absurd z (by omega)) (fun _ => gb_w_arr11 hi g (fun c3 c4 hc => hw (c3, c4) hc))
  rw [gb_nx_0.1] at main
  exact main
/-! inOrder, outOfOrder, times, product, highest -/
theorem gb_w_in {post : Int32 → Prop} {p : Int32} (T : gb_T a3 a4) (H : post (gb_in p)) : wpX_inOrder post (k0, ws, a1, a2, a3, a4, a5, a6, a7, a8, a9) p :=
  pk_loop (fun n i s => wX_inOrder_4 post p k0 ws a1 a2 a3 a4 a5 a6 a7 a8 a9 n s (nI i)) (fun i s => s = gb_inN p i) 32 0 0 (by omega) rfl
    (fun n s (h : s = gb_inN p 32) => pk_le 32 32 (fun _ => by rw [h]; exact H) (fun z => absurd z (by omega)))
    (fun n i s hi (h : s = gb_inN p i) hw => pk_le 32 i (fun z => absurd z (by omega)) (fun _ => ⟨pk_in i 32 hi, nm_r (by rw [h, gb_ub hi, nI_clamp (by omega), T.1 i hi]; rfl) (nm_r (nI_1 i) (hw _ rfl))⟩))
theorem gb_w_out {post : Int32 → Prop} {p : Int32} (T : gb_T a3 a4) (H : post (gb_out p)) : wpX_outOfOrder post (k0, ws, a1, a2, a3, a4, a5, a6, a7, a8, a9) p :=
  pk_loop (fun n i s => wX_outOfOrder_4 post p k0 ws a1 a2 a3 a4 a5 a6 a7 a8 a9 n s (nI i)) (fun i s => s = gb_outN p i) 32 0 0 (by omega) rfl
    (fun n s (h : s = gb_outN p 32) => pk_le 32 32 (fun _ => by rw [h]; exact H) (fun z => absurd z (by omega)))
    (fun n i s hi (h : s = gb_outN p i) hw => pk_le 32 i (fun z => absurd z (by omega)) (fun _ => ⟨pk_in i 32 hi, nm_r (by rw [h, gb_ub hi, nI_clamp (by omega), T.2 i hi]; rfl) (nm_r (nI_1 i) (hw _ rfl))⟩))
theorem gb_tmN_on {x : Int32} {f n : Nat} (h : gb_t x n = true) : gb_tmN x f (n + 1) = gb_tmN x f n ^^^ gb_e (gb_P (gb_M n ||| f)) := if_pos h
theorem gb_tmN_off {x : Int32} {f n : Nat} (h : ¬ gb_t x n = true) : gb_tmN x f (n + 1) = gb_tmN x f n := if_neg h
theorem gb_muN_on {x y : Int32} {n : Nat} (h : gb_t x n = true) : gb_muN x y (n + 1) = gb_muN x y n ^^^ gb_tm y (gb_M n) := if_pos h
theorem gb_muN_off {x y : Int32} {n : Nat} (h : ¬ gb_t x n = true) : gb_muN x y (n + 1) = gb_muN x y n := if_neg h
theorem gb_w_tm {post : Int32 → Prop} {x : Int32} {f : Nat} (hf : f < 32) (T : gb_T a3 a4) (H : post (gb_tm x f)) : wpX_times post (k0, ws, a1, a2, a3, a4, a5, a6, a7, a8, a9) x (nI f) := by
  refine pk_loop (fun n i s => wX_times_5 post x (nI f) k0 ws a1 a2 a3 a4 a5 a6 a7 a8 a9 n s (nI i)) (fun i s => s = gb_tmN x f i) 32 0 0 (by omega) rfl
    (fun n s (h : s = gb_tmN x f 32) => pk_le 32 32 (fun _ => by rw [h]; exact H) (fun z => absurd z (by omega))) ?_
  intro n i s hi h hw
  have hM := gb_or32 (gb_M32 i hi) hf
  have e4 : a4 (nI i).toNatClampNeg ||| nI f = nI (gb_M i ||| f) := by rw [nI_clamp (by omega), T.2 i hi, gb_ior]
  refine pk_le 32 i (fun z => absurd z (by omega)) (fun _ => ek_if (gb_ub1 hi x) (fun hb => ⟨pk_in i 32 hi, pk_in (gb_M i ||| f) 32 hM e4, nm_r ?_ (nm_r (nI_1 i) (hw _ rfl))⟩) (fun hb => nm_r (nI_1 i) (hw s ?_)))
  · rw [e4, nI_clamp (by omega), T.1 _ hM, gb_tmN_on hb]
    have h' : s = gb_tmN x f i := h
    rw [h']
    rfl
  · show s = gb_tmN x f (i + 1)
    rw [gb_tmN_off hb]
    exact h
theorem gb_w_prod {post : Int32 → Prop} {p q : Int32} (T : gb_T a3 a4) (H : post (gb_out (gb_mu (gb_in p) (gb_in q)))) : wpX_product post (k0, ws, a1, a2, a3, a4, a5, a6, a7, a8, a9) p q := by
  unfold wpX_product
  dsimp only
  refine gb_w_in T (gb_w_in T ?_)
  refine pk_loop (fun n i s => wX_product_19 post (gb_in p) (gb_in q) k0 ws a1 a2 a3 a4 a5 a6 a7 a8 a9 n s (nI i)) (fun i s => s = gb_muN (gb_in p) (gb_in q) i) 32 0 0 (by omega) rfl
    (fun n s (h : s = gb_muN (gb_in p) (gb_in q) 32) => pk_le 32 32 (fun _ => gb_w_out T (by rw [h]; exact H)) (fun z => absurd z (by omega))) ?_
  intro n i s hi h hw
  refine pk_le 32 i (fun z => absurd z (by omega)) (fun _ => ek_if (gb_ub1 hi _) (fun hb => ⟨pk_in i 32 hi, ?_⟩) (fun hb => nm_r (nI_1 i) (hw s ?_)))
  · rw [nI_clamp (by omega), T.2 i hi]
    refine gb_w_tm (gb_M32 i hi) T (nm_r ?_ (nm_r (nI_1 i) (hw _ rfl)))
    rw [gb_muN_on hb]
    have h' : s = gb_muN (gb_in p) (gb_in q) i := h
    rw [h']
  · show s = gb_muN (gb_in p) (gb_in q) (i + 1)
    rw [gb_muN_off hb]
    exact h
theorem gb_w_hi {post : Int32 → Prop} {x : Int32} (H : post (nI (gb_hi x))) : wpX_highest post () x := by
  refine ⟨32, pk_loopD (σ := Unit) (fun n i _ => wX_highest_3 post x n (nI i)) (fun i _ => i < 32 ∧ gb_hiN x i = gb_hi x) ?_ ?_ 31 () ⟨by omega, rfl⟩⟩
  · rintro n _ ⟨_, h⟩
    have h' : 0 = gb_hi x := h
    rw [← h'] at H
    exact pk_le 0 0 (fun _ => H) (fun z => absurd z (by omega))
  · rintro n i _ ⟨hi, h⟩ hw
    refine pk_le (i + 1) 0 (fun z => absurd z (by omega)) (fun _ => ek_if (gb_ub0 hi x) (fun hb => nm_r (pk_m1 i) (hw () ⟨by omega, ?_⟩)) (fun hb => ?_))
    · rw [← h]
      show gb_hiN x i = if gb_t x (i + 1) = true then i + 1 else gb_hiN x i
      rw [if_neg (by rw [hb]; simp)]
    · have h' : (if gb_t x (i + 1) = true then i + 1 else gb_hiN x i) = gb_hi x := h
      rw [if_pos (by revert hb; cases gb_t x (i + 1) <;> simp)] at h'
      rw [h']
      exact H
/-! values -/
theorem gb_w_va {post : Int32 → Prop} {p : Int32} {z : Nat} (H : post (gb_bi (gb_va p z))) : wpX_valueAt post () p (nI z) := by
  refine pk_loop (σ := Unit) (fun n i _ => wX_valueAt_4 post p (nI z) n (gb_bi (gb_vs (fun m => gb_t p m && gb_sub m z) i)) (nI i)) (fun _ _ => True) 32 0 () (by omega) trivial
    (fun n _ _ => pk_le 32 32 (fun _ => H) (fun z => absurd z (by omega))) ?_
  intro n i _ hi _ hw
  have t : wX_valueAt_4 post p (nI z) n (gb_bi (gb_vs (fun m => gb_t p m && gb_sub m z) i ^^ (gb_t p i && gb_sub i z))) (nI (i + 1)) := hw () trivial
  refine pk_le 32 i (fun z => absurd z (by omega)) (fun _ => ek_if (gb_ub1 hi p) (fun hb => ek_if (gb_imi0 hi) (fun hs => nm_r (gb_bi_x1 _) (nm_r (nI_1 i) ?_)) (fun hs => nm_r (nI_1 i) ?_)) (fun hb => nm_r (nI_1 i) ?_))
  · rw [hb, hs] at t
    exact t
  · rw [hb, Bool.eq_false_iff.mpr hs, Bool.and_false, Bool.xor_false] at t
    exact t
  · rw [Bool.eq_false_iff.mpr hb, Bool.false_and, Bool.xor_false] at t
    exact t
theorem gb_w_value {post : Int32 → Prop} {p : Int32} {z : Nat} (hz : z < 32) (H : post (gb_bi (gb_va p z))) : wpX_value post (k0, ws, a1, a2, a3, a4, a5, a6, a7, a8, a9) p (nI z) :=
  br_f (nI_pos (by omega)) (pk_le 32 z (fun h => absurd h (by omega)) (fun _ => gb_w_va H))
theorem gb_i8 (i j : Nat) : (8 : Int32) * nI i + nI j = nI (8 * i + j) := by
  rw [show (8 : Int32) = nI 8 from rfl, pk_mul, nI_add]
theorem gb_i32 (i j : Nat) : (32 : Int32) * nI i + nI j = nI (32 * i + j) := by
  rw [show (32 : Int32) = nI 32 from rfl, pk_mul, nI_add]
theorem gb_isub {m z : Nat} (hm : m < 32) : nI m &&& nI z = nI m ↔ gb_sub m z = true := by
  rw [gb_iand, nI_eq (Nat.lt_of_le_of_lt Nat.and_le_left (by omega)) (by omega)]
  unfold gb_sub
  rw [beq_iff_eq]
theorem gb_w_lv {post : Int32 → Prop} {p : Int32} {z : Nat} (H : post (gb_bi (gb_va p z))) : wpL_value post () p (nI z) := by
  refine pk_loop (σ := Unit) (fun n i _ => wL_value_4 post p (nI z) n (gb_bi (gb_vs (fun m => gb_t p m && gb_sub m z) (8 * i))) (nI i)) (fun _ _ => True) 4 0 () (by omega) trivial
    (fun n _ _ => pk_le 4 4 (fun _ => H) (fun z => absurd z (by omega))) ?_
  intro n i _ hi _ hw
  have hw' : wL_value_4 post p (nI z) n (gb_bi (gb_vs (fun m => gb_t p m && gb_sub m z) (8 * (i + 1)))) (nI (i + 1)) := hw () trivial
  refine pk_le 4 i (fun z => absurd z (by omega)) (fun _ => ?_)
  refine pk_loop (σ := Unit) (fun n' j _ => wL_value_12 post (wL_value_4 post p (nI z) n) p (nI z) (nI i) n' (gb_bi (gb_vs (fun m => gb_t p m && gb_sub m z) (8 * i + j))) (nI j)) (fun _ _ => True) 8 0 () (by omega) trivial
    (fun n' _ _ => pk_le 8 8 (fun _ => nm_r (nI_1 i) hw') (fun z => absurd z (by omega))) ?_
  intro n' j _ hj _ hw2
  have t : wL_value_12 post (wL_value_4 post p (nI z) n) p (nI z) (nI i) n' (gb_bi (gb_vs (fun m => gb_t p m && gb_sub m z) (8 * i + j) ^^ (gb_t p (8 * i + j) && gb_sub (8 * i + j) z))) (nI (j + 1)) := hw2 () trivial
  have hm : 8 * i + j < 32 := by omega
  refine pk_le 8 j (fun z => absurd z (by omega)) (fun _ => nm_r (gb_i8 i j) (ek_if (gb_sb1 hm p) (fun hb => ek_if (gb_isub hm) (fun hs => nm_r (gb_bi_x1 _) (nm_r (nI_1 j) ?_)) (fun hs => nm_r (nI_1 j) ?_)) (fun hb => nm_r (nI_1 j) ?_)))
  · rw [hb, hs] at t
    exact t
  · rw [hb, Bool.eq_false_iff.mpr hs, Bool.and_false, Bool.xor_false] at t
    exact t
  · rw [Bool.eq_false_iff.mpr hb, Bool.false_and, Bool.xor_false] at t
    exact t
end
end
section
/-! part 06: reduce, reduceTail, enter -/
/-- the stored list: entries not 0, leads stored -/
def gb_K (g h : Nat → Int32) (n : Nat) : Prop := n ≤ 40 ∧ ∀ i, i < n → g i ≠ 0 ∧ h i = nI (gb_ld g i)
theorem gb_K0 {g h : Nat → Int32} {n : Nat} (k : gb_K g h n) : ∀ i, i < n → g i ≠ 0 := fun i hi => (k.2 i hi).1
section
variable {k0 : Int32} {a1 a2 a3 a4 a5 a6 a7 a8 a9 : Nat → Int32}
theorem gb_w_red12 {post : Int32 → Prop} {J5 : Int32 → Int32 → Prop} {n p : Nat} {x : Int32} (T : gb_T a3 a4) (K : gb_K a5 a6 n) (hp : p < 32)
    (H : J5 (gb_st a5 (gb_ld a5) n p x) (nI p + (-1))) : ∃ fu, wX_reduce_12 post J5 (nI p) k0 (nI n) a1 a2 a3 a4 a5 a6 a7 a8 a9 fu x 0 := by
  have hn := K.1
  have hM := gb_M32 p hp
  have e4 : a4 (nI p).toNatClampNeg = nI (gb_M p) := by rw [nI_clamp (by omega), T.2 p hp]
  have e6 : ∀ j, j < n → a6 (nI j).toNatClampNeg = nI (gb_ld a5 j) := fun j hj => by rw [nI_clamp (by omega)]; exact (K.2 j hj).2
  have e5 : ∀ j, j < n → a5 (nI j).toNatClampNeg = a5 j := fun j hj => by rw [nI_clamp (by omega)]
  by_cases hb : gb_t x p = true
  · obtain ⟨f1, f2, f3⟩ := gb_fi_p (fun i => gb_sub (gb_ld a5 i) (gb_M p)) n
    have nosub : ∀ j, j < n → j < gb_ix (gb_ld a5) n p → ¬ (a6 (nI j).toNatClampNeg &&& (a4 (nI p).toNatClampNeg ^^^ (-1))) = 0 := fun j hj hf => by
      rw [e6 j hj, e4, gb_imi0 (gb_ld32 a5 j), Bool.not_eq_true]
      exact f2 j hf
    by_cases hi : gb_ix (gb_ld a5) n p < n
    · rw [gb_st_on hb hi] at H
      have hsub := gb_ix_sub hi
      have htop := gb_b_top (gb_ld_L (gb_K0 K)) hp hi
      generalize gb_ix (gb_ld a5) n p = fi at hi H hsub htop nosub
      refine pk_loop (σ := Unit) (fun fu j _ => wX_reduce_12 post J5 (nI p) k0 (nI n) a1 a2 a3 a4 a5 a6 a7 a8 a9 fu (if j ≤ fi then x else x ^^^ gb_tm (a5 fi) (gb_mi (gb_M p) (gb_ld a5 fi))) (nI j)) (fun _ _ => True) (fi + 1) 0 () (by omega) trivial ?_ ?_ |> fun z => by
        have z' : ∃ fu, wX_reduce_12 post J5 (nI p) k0 (nI n) a1 a2 a3 a4 a5 a6 a7 a8 a9 fu (if 0 ≤ fi then x else x ^^^ gb_tm (a5 fi) (gb_mi (gb_M p) (gb_ld a5 fi))) 0 := z
        rw [if_pos (Nat.zero_le fi)] at z'
        exact z'
      · intro fu _ _
        show wX_reduce_12 post J5 (nI p) k0 (nI n) a1 a2 a3 a4 a5 a6 a7 a8 a9 (fu + 1) (if fi + 1 ≤ fi then x else x ^^^ gb_tm (a5 fi) (gb_mi (gb_M p) (gb_ld a5 fi))) (nI (fi + 1))
        rw [if_neg (by omega)]
        refine pk_le n (fi + 1) (fun _ => nm_e H) (fun _ => br_f ?_ (nm_e H))
        rw [gb_ub1 hp, gb_txor, hb, htop.2.1]
        simp
      · intro fu j _ hj _ hw
        have hw' : wX_reduce_12 post J5 (nI p) k0 (nI n) a1 a2 a3 a4 a5 a6 a7 a8 a9 fu (if j + 1 ≤ fi then x else x ^^^ gb_tm (a5 fi) (gb_mi (gb_M p) (gb_ld a5 fi))) (nI (j + 1)) := hw () trivial
        show wX_reduce_12 post J5 (nI p) k0 (nI n) a1 a2 a3 a4 a5 a6 a7 a8 a9 (fu + 1) (if j ≤ fi then x else x ^^^ gb_tm (a5 fi) (gb_mi (gb_M p) (gb_ld a5 fi))) (nI j)
        rw [if_pos (by omega)]
        refine pk_le n j (fun z => absurd z (by omega)) (fun _ => br_t ((gb_ub1 hp x).mpr hb) ⟨pk_in j 40 (by omega), pk_in p 32 hp, ?_⟩)
        by_cases ej : j = fi
        · rw [ej] at hw' ⊢
          rw [if_neg (by omega)] at hw'
          refine br_t ?_ ⟨pk_in fi 40 (by omega), pk_in p 32 hp, pk_in fi 40 (by omega), ?_⟩
          · rw [e6 fi hi, e4, gb_imi0 (gb_ld32 a5 fi)]; exact hsub
          · rw [e5 fi hi, e6 fi hi, e4, gb_imi]
            exact gb_w_tm (gb_mi32 hM) T (nm_e (nm_r (nI_1 fi) hw'))
        · rw [if_pos (by omega)] at hw'
          exact br_f (nosub j (by omega) (by omega)) (nm_r (nI_1 j) hw')
    · rw [gb_st_no hi] at H
      have fn : gb_ix (gb_ld a5) n p = n := Nat.le_antisymm f1 (by omega)
      exact pk_loop (σ := Unit) (fun fu j _ => wX_reduce_12 post J5 (nI p) k0 (nI n) a1 a2 a3 a4 a5 a6 a7 a8 a9 fu x (nI j)) (fun _ _ => True) n 0 () (by omega) trivial
        (fun fu _ _ => pk_le n n (fun _ => nm_e H) (fun z => absurd z (by omega)))
        (fun fu j _ hj _ hw => pk_le n j (fun z => absurd z (by omega)) (fun _ => br_t ((gb_ub1 hp x).mpr hb) ⟨pk_in j 40 (by omega), pk_in p 32 hp, br_f (nosub j hj (by omega)) (nm_r (nI_1 j) (hw () trivial))⟩))
  · rw [gb_st_off (Bool.eq_false_iff.mpr hb)] at H
    exact ⟨1, pk_le n 0 (fun _ => nm_e H) (fun _ => br_f (fun z => hb ((gb_ub1 hp x).mp z)) (nm_e H))⟩
theorem gb_w_red {post : Int32 → Prop} {n : Nat} {x : Int32} (T : gb_T a3 a4) (K : gb_K a5 a6 n) (H : post (gb_R a5 n x)) : wpX_reduce post (k0, nI n, a1, a2, a3, a4, a5, a6, a7, a8, a9) x := by
  refine ⟨33, pk_loopD (fun fu i s => wX_reduce_5 post k0 (nI n) a1 a2 a3 a4 a5 a6 a7 a8 a9 fu s (nI i + (-1))) (fun i s => i ≤ 32 ∧ gb_rd a5 (gb_ld a5) n i s = gb_R a5 n x) ?_ ?_ 32 x ⟨Nat.le_refl 32, rfl⟩⟩
  · rintro fu s ⟨_, h⟩
    have h' : s = gb_R a5 n x := h
    refine br_t (by decide) ?_
    rw [h']; exact H
  · rintro fu i s ⟨hi, h⟩ hw
    show wX_reduce_5 post k0 (nI n) a1 a2 a3 a4 a5 a6 a7 a8 a9 (fu + 1) s (nI (i + 1) + (-1))
    rw [pk_m1]
    exact br_f (nI_pos (by omega)) (gb_w_red12 T K (by omega) (hw _ ⟨by omega, h⟩))
theorem gb_w_tail {post : Int32 → Prop} {n i : Nat} (T : gb_T a3 a4) (K : gb_K a5 a6 n) (hi : i < n) (H : post (gb_e (gb_hi (a5 i)) ||| gb_R a5 n (a5 i &&& (gb_e (gb_hi (a5 i)) ^^^ (-1))))) : wpX_reduceTail post (k0, nI n, a1, a2, a3, a4, a5, a6, a7, a8, a9) (nI i) := by
  have hn := K.1
  unfold wpX_reduceTail
  dsimp only
  rw [nI_clamp (show i < 2 ^ 31 by omega)]
  exact ⟨pk_in i 40 (by omega), gb_w_hi (nm_e ⟨pk_in i 40 (by omega), gb_w_red T K H⟩)⟩
/-! the work list while an ideal is completed: zs its zeros, q its first c generators (in order) -/
def gb_W (zs : Nat → Bool) (q : Nat → Int32) (c : Nat) (g h : Nat → Int32) (n : Nat) : Prop :=
  (∀ i, i < n → g i ≠ 0 ∧ h i = nI (gb_ld g i)) ∧ (∀ i, i < n → gb_van zs (g i)) ∧ gb_inc g n ∧ (∀ j, j < c → gb_gen g n (q j))
theorem gb_W_32 {zs : Nat → Bool} {q : Nat → Int32} {c : Nat} {g h : Nat → Int32} {n : Nat} (w : gb_W zs q c g h n) : n ≤ 32 := gb_inc_32 w.2.2.1
theorem gb_W_K {zs : Nat → Bool} {q : Nat → Int32} {c : Nat} {g h : Nat → Int32} {n : Nat} (w : gb_W zs q c g h n) : gb_K g h n := ⟨by have := gb_W_32 w; omega, w.1⟩
theorem gb_gen_of0 {g : Nat → Int32} {n : Nat} {x : Int32} (h0 : ∀ i, i < n → g i ≠ 0) (h : gb_R g n x = 0) : gb_gen g n x := by
  have := gb_gen_R h0 x
  rw [h, gb_0x] at this
  exact this
/-- the list with one more entry -/
theorem gb_W_add {zs : Nat → Bool} {q : Nat → Int32} {c : Nat} {g h : Nat → Int32} {n : Nat} {x : Int32} (w : gb_W zs q c g h n) (hx : gb_van zs x) (hr : gb_R g n x ≠ 0) :
    gb_W zs q c (upd g n (gb_R g n x)) (upd h n (nI (gb_M (gb_hi (gb_R g n x))))) (n + 1) ∧ gb_gen (upd g n (gb_R g n x)) (n + 1) x := by
  obtain ⟨w1, w2, w3, w4⟩ := w
  have h0 : ∀ i, i < n → g i ≠ 0 := fun i hi => (w1 i hi).1
  have old : ∀ i, i < n → upd g n (gb_R g n x) i = g i := fun i hi => pk_un (by omega)
  have new : upd g n (gb_R g n x) n = gb_R g n x := pk_us
  have oldl : ∀ i, i < n → gb_ld (upd g n (gb_R g n x)) i = gb_ld g i := fun i hi => by unfold gb_ld; rw [old i hi]
  have newl : gb_ld (upd g n (gb_R g n x)) n = gb_M (gb_hi (gb_R g n x)) := by unfold gb_ld; rw [new]
  have htop := gb_top_hi hr
  refine ⟨⟨fun i hi => ?_, fun i hi => ?_, fun i hi j hj => ?_, fun j hj => gb_gen_mono old (by omega) (w4 j hj)⟩, ?_⟩
  · by_cases e : i = n
    · rw [e, new, newl, pk_us]
      exact ⟨hr, rfl⟩
    · rw [old i (by omega), oldl i (by omega), pk_un e]
      exact w1 i (by omega)
  · by_cases e : i = n
    · rw [e, new]
      exact gb_van_R' h0 w2 hx
    · rw [old i (by omega)]
      exact w2 i (by omega)
  · rw [oldl j (by omega)]
    by_cases e : i = n
    · rw [e, newl, Bool.eq_false_iff]
      intro z
      have := gb_red_led (gb_ld_L h0) x htop.1 ⟨j, by omega, z⟩
      have h2 : gb_t (gb_R g n x) (gb_hi (gb_R g n x)) = false := this
      rw [htop.2.1] at h2
      cases h2
    · rw [oldl i (by omega)]
      exact w3 i (by omega) j hj
  · have g1 : gb_gen (upd g n (gb_R g n x)) (n + 1) (gb_R g n x ^^^ x) := gb_gen_mono old (by omega) (gb_gen_R h0 x)
    have g2 : gb_gen (upd g n (gb_R g n x)) (n + 1) (gb_R g n x) := by
      have := gb_gen_at (g := upd g n (gb_R g n x)) (show n < n + 1 by omega)
      rw [new] at this
      exact this
    have := gb_gen_xor g2 g1
    rw [← gb_xA, gb_xx, gb_0x] at this
    exact this
theorem gb_w_enter {post : Int32 → St2 → Prop} {zs : Nat → Bool} {q : Nat → Int32} {c n : Nat} {x : Int32} (T : gb_T a3 a4) (w : gb_W zs q c a5 a6 n) (hx : gb_van zs x)
    (H0 : gb_R a5 n x = 0 → post 0 (k0, nI n, a1, a2, a3, a4, a5, a6, a7, a8, a9))
    (H1 : ∀ g h, gb_W zs q c g h (n + 1) → gb_gen g (n + 1) x → post 1 (k0, nI (n + 1), a1, a2, a3, a4, g, h, a7, a8, a9)) :
    wpX_enter post (k0, nI n, a1, a2, a3, a4, a5, a6, a7, a8, a9) x := by
  have hn := gb_W_32 w
  unfold wpX_enter
  dsimp only
  refine gb_w_red T (gb_W_K w) (br_c H0 (fun hr => pk_eq n 40 (fun z => absurd z (by omega)) (fun _ => ⟨pk_in n 40 (by omega), nm_r (by rw [nI_clamp (by omega)]) (gb_w_hi ⟨pk_in _ 32 (gb_hi32 _), pk_in n 40 (by omega), nm_r (e' := upd a6 n (nI (gb_M (gb_hi (gb_R a5 n x))))) ?_ (nm_r (nI_1 n) ?_)⟩)⟩)))
  · rw [nI_clamp (show n < 2 ^ 31 by omega), nI_clamp (Nat.lt_trans (gb_hi32 _) (by decide)), T.2 _ (gb_hi32 _)]
  · obtain ⟨b1, b2⟩ := gb_W_add w hx hr
    exact H1 _ _ b1 b2
end
end
section
/-! part 07: tryVariables and tryPairs -/
theorem gb_bitsub {v l : Nat} : gb_sub (2 ^ v) l = true ↔ l.testBit v = true := by
  constructor
  · exact gb_sub_pw
  · intro h
    refine gb_sub_iff.mpr (fun k hk => ?_)
    rw [Nat.testBit_two_pow] at hk
    rw [← of_decide_eq_true hk]
    exact h
theorem gb_n10 : ¬ (1 : Int32) = 0 := by decide
theorem gb_nb0 : narrow .boolean (.int 0) = .int 0 := by rfl
theorem gb_nb1 : narrow .boolean (.int 1) = .int 1 := by rfl
/-- where a round stands: nothing is added and V holds so far, or something was added -/
def gb_F (V : Prop) (x1 : Int32) (n : Nat) (g h : Nat → Int32) (n0 : Nat) (g0 h0 : Nat → Int32) : Prop := (x1 = 0 ∧ n = n0 ∧ g = g0 ∧ h = h0 ∧ V) ∨ (x1 = 1 ∧ n0 < n)
theorem gb_F_mono {V V' : Prop} {x1 : Int32} {n : Nat} {g h : Nat → Int32} {n0 : Nat} {g0 h0 : Nat → Int32} (f : V → V') (k : gb_F V x1 n g h n0 g0 h0) : gb_F V' x1 n g h n0 g0 h0 :=
  k.elim (fun z => Or.inl ⟨z.1, z.2.1, z.2.2.1, z.2.2.2.1, f z.2.2.2.2⟩) Or.inr
/-- the products with variables of the leads, up to (i, v) -/
def gb_Vu (g : Nat → Int32) (n i v : Nat) : Prop := ∀ i', i' < n → ∀ v', v' < 5 → (i' < i ∨ (i' = i ∧ v' < v)) → gb_sub (2 ^ v') (gb_ld g i') = true → gb_R g n (gb_tm (g i') (2 ^ v')) = 0
/-- the pairs, up to (i, j) -/
def gb_Su (g : Nat → Int32) (n i j : Nat) : Prop := ∀ i', i' < n → ∀ j', j' < i' → (i' < i ∨ (i' = i ∧ j' < j)) → gb_R g n (gb_sp g (gb_ld g) i' j') = 0
section
variable {k0 : Int32} {a1 a2 a3 a4 a5 a6 a7 a8 a9 : Nat → Int32}
theorem gb_w_tv {post : Int32 → St2 → Prop} {zs : Nat → Bool} {q : Nat → Int32} {c n : Nat} (T : gb_T a3 a4) (w : gb_W zs q c a5 a6 n)
    (H0 : (∀ i, i < n → ∀ v, v < 5 → gb_sub (2 ^ v) (gb_ld a5 i) = true → gb_R a5 n (gb_tm (a5 i) (2 ^ v)) = 0) → post 0 (k0, nI n, a1, a2, a3, a4, a5, a6, a7, a8, a9))
    (H1 : ∀ n' g h, n < n' → gb_W zs q c g h n' → post 1 (k0, nI n', a1, a2, a3, a4, g, h, a7, a8, a9)) :
    wpX_tryVariables post (k0, nI n, a1, a2, a3, a4, a5, a6, a7, a8, a9) := by
  refine lp5 (fun fu (x1 : Int32) (i m : Nat) (g h : Nat → Int32) => wX_tryVariables_4 post fu x1 (nI i) k0 (nI m) a1 a2 a3 a4 g h a7 a8 a9)
    (fun x1 i m g h => i ≤ m ∧ gb_W zs q c g h m ∧ gb_F (gb_Vu a5 n i 0) x1 m g h n a5 a6) (fun _ i _ _ _ => 40 - i) ?_ 0 0 n a5 a6
    ⟨Nat.zero_le n, w, Or.inl ⟨rfl, rfl, rfl, rfl, fun i' _ v' _ z => absurd z (by omega)⟩⟩
  rintro fu x1 i m g h ⟨hi, w', hF⟩ hw
  have hm := gb_W_32 w'
  refine pk_le m i (fun z => ?_) (fun z => ?_)
  · rcases hF with ⟨e1, e2, e3, e4, hV⟩ | ⟨e1, e2⟩
    · subst e1 e2 e3 e4
      exact ⟨gb_nb0, H0 (fun i' hi' v' hv' => hV i' hi' v' hv' (by omega))⟩
    · subst e1
      exact ⟨gb_nb1, H1 m g h e2 w'⟩
  · refine pk_loop (σ := Int32 × Nat × (Nat → Int32) × (Nat → Int32)) (fun fu' v s => wX_tryVariables_14 post (wX_tryVariables_4 post fu) (nI i) fu' s.1 (nI v) k0 (nI s.2.1) a1 a2 a3 a4 s.2.2.1 s.2.2.2 a7 a8 a9)
      (fun v s => i < s.2.1 ∧ gb_W zs q c s.2.2.1 s.2.2.2 s.2.1 ∧ gb_F (gb_Vu a5 n i v) s.1 s.2.1 s.2.2.1 s.2.2.2 n a5 a6) 5 0 (x1, m, g, h) (by omega) ⟨z, w', hF⟩ ?_ ?_
    · rintro fu' ⟨y1, m', g', h'⟩ ⟨hi', w2, hF'⟩
      have hi2 : i < m' := hi'
      refine pk_le 5 5 (fun _ => nm_r (nI_1 i) (hw y1 (i + 1) m' g' h' ⟨hi2, w2, gb_F_mono (fun hV i' a v' b cc => hV i' a v' b (by omega)) hF'⟩ (by omega))) (fun z => absurd z (by omega))
    · rintro fu' v ⟨y1, m', g', h'⟩ hv ⟨hi', w2, hF'⟩ hw2
      have hi2 : i < m' := hi'
      have w3 : gb_W zs q c g' h' m' := w2
      have hF2 : gb_F (gb_Vu a5 n i v) y1 m' g' h' n a5 a6 := hF'
      have hm' := gb_W_32 w3
      have e6 : h' (nI i).toNatClampNeg = nI (gb_ld g' i) := by rw [nI_clamp (by omega)]; exact (w3.1 i hi2).2
      have ebit : (h' (nI i).toNatClampNeg >>> (nI v &&& 31)) &&& 1 = 1 ↔ gb_sub (2 ^ v) (gb_ld g' i) = true := by
        rw [e6, gb_sb1 (by omega), gb_it (by omega), gb_bitsub]
      obtain ⟨he, hsh⟩ := gb_pw5 v hv
      refine pk_le 5 v (fun z => absurd z (by omega)) (fun _ => ⟨pk_in i 40 (by omega), ek_if ebit (fun hb => ⟨pk_in i 40 (by omega), ?_⟩) (fun hb => nm_r (nI_1 v) (hw2 (y1, m', g', h') ⟨hi2, w3, ?_⟩))⟩)
      · show wpX_times _ (k0, nI m', a1, a2, a3, a4, g', h', a7, a8, a9) (g' (nI i).toNatClampNeg) ((1 : Int32) <<< (nI v &&& 31))
        rw [hsh, nI_clamp (show i < 2 ^ 31 by omega)]
        refine gb_w_tm he T (gb_w_enter T w3 (gb_van_tm (w3.2.1 i hi2) he) (fun hr => ?_) (fun g2 h2 wn _ => ?_))
        · rcases hF2 with ⟨e1, e2, e3, e4, hV⟩ | ⟨e1, e2⟩
          · subst e1 e2 e3 e4
            refine br_t rfl (br_t rfl (nm_r (nI_1 v) (hw2 (0, m', g', h') ⟨hi2, w3, Or.inl ⟨rfl, rfl, rfl, rfl, fun i' a v' b cc d => ?_⟩⟩)))
            by_cases ee : i' = i ∧ v' = v
            · rw [ee.1, ee.2]; exact hr
            · exact hV i' a v' b (by omega) d
          · subst e1
            exact br_f gb_n10 (nm_r (nI_1 v) (hw2 (1, m', g', h') ⟨hi2, w3, Or.inr ⟨rfl, e2⟩⟩))
        · have hlt : n < m' + 1 := by
            rcases hF2 with ⟨_, e2, _⟩ | ⟨_, e2⟩ <;> omega
          have t := hw2 (1, m' + 1, g2, h2) ⟨show i < m' + 1 by omega, wn, Or.inr ⟨rfl, hlt⟩⟩
          rcases hF2 with ⟨e1, _⟩ | ⟨e1, _⟩
          · subst e1
            exact br_t rfl (br_f gb_n10 (nm_r (nI_1 v) t))
          · subst e1
            exact br_f gb_n10 (nm_r (nI_1 v) t)
      · rcases hF2 with ⟨e1, e2, e3, e4, hV⟩ | hR
        · subst e1 e2 e3 e4
          refine Or.inl ⟨rfl, rfl, rfl, rfl, fun i' a v' b cc d => ?_⟩
          by_cases ee : i' = i ∧ v' = v
          · rw [ee.1, ee.2] at d; exact absurd d hb
          · exact hV i' a v' b (by omega) d
        · exact Or.inr hR
theorem gb_w_tp {post : Int32 → St2 → Prop} {zs : Nat → Bool} {q : Nat → Int32} {c n : Nat} (T : gb_T a3 a4) (w : gb_W zs q c a5 a6 n)
    (H0 : (∀ i, i < n → ∀ j, j < i → gb_R a5 n (gb_sp a5 (gb_ld a5) i j) = 0) → post 0 (k0, nI n, a1, a2, a3, a4, a5, a6, a7, a8, a9))
    (H1 : ∀ n' g h, n < n' → gb_W zs q c g h n' → post 1 (k0, nI n', a1, a2, a3, a4, g, h, a7, a8, a9)) :
    wpX_tryPairs post (k0, nI n, a1, a2, a3, a4, a5, a6, a7, a8, a9) := by
  refine lp5 (fun fu (x1 : Int32) (i m : Nat) (g h : Nat → Int32) => wX_tryPairs_4 post fu x1 (nI i) k0 (nI m) a1 a2 a3 a4 g h a7 a8 a9)
    (fun x1 i m g h => i ≤ m ∧ gb_W zs q c g h m ∧ gb_F (gb_Su a5 n i 0) x1 m g h n a5 a6) (fun _ i _ _ _ => 40 - i) ?_ 0 0 n a5 a6
    ⟨Nat.zero_le n, w, Or.inl ⟨rfl, rfl, rfl, rfl, fun i' _ v' _ z => absurd z (by omega)⟩⟩
  rintro fu x1 i m g h ⟨hi, w', hF⟩ hw
  have hm := gb_W_32 w'
  refine pk_le m i (fun z => ?_) (fun z => ?_)
  · rcases hF with ⟨e1, e2, e3, e4, hV⟩ | ⟨e1, e2⟩
    · subst e1 e2 e3 e4
      exact ⟨gb_nb0, H0 (fun i' hi' j' hj' => hV i' hi' j' hj' (by omega))⟩
    · subst e1
      exact ⟨gb_nb1, H1 m g h e2 w'⟩
  · refine pk_loop (σ := Int32 × Nat × (Nat → Int32) × (Nat → Int32)) (fun fu' v s => wX_tryPairs_14 post (wX_tryPairs_4 post fu) (nI i) fu' s.1 (nI v) k0 (nI s.2.1) a1 a2 a3 a4 s.2.2.1 s.2.2.2 a7 a8 a9)
      (fun v s => i < s.2.1 ∧ gb_W zs q c s.2.2.1 s.2.2.2 s.2.1 ∧ gb_F (gb_Su a5 n i v) s.1 s.2.1 s.2.2.1 s.2.2.2 n a5 a6) i 0 (x1, m, g, h) (by omega) ⟨z, w', hF⟩ ?_ ?_
    · rintro fu' ⟨y1, m', g', h'⟩ ⟨hi', w2, hF'⟩
      have hi2 : i < m' := hi'
      refine pk_le i i (fun _ => nm_r (nI_1 i) (hw y1 (i + 1) m' g' h' ⟨hi2, w2, gb_F_mono (fun hV i' a v' b cc => hV i' a v' b (by omega)) hF'⟩ (by omega))) (fun z => absurd z (by omega))
    · rintro fu' v ⟨y1, m', g', h'⟩ hv ⟨hi', w2, hF'⟩ hw2
      have hi2 : i < m' := hi'
      have hv2 : v < m' := by omega
      have w3 : gb_W zs q c g' h' m' := w2
      have hF2 : gb_F (gb_Su a5 n i v) y1 m' g' h' n a5 a6 := hF'
      have hm' := gb_W_32 w3
      have ei : h' (nI i).toNatClampNeg = nI (gb_ld g' i) := by rw [nI_clamp (by omega)]; exact (w3.1 i hi2).2
      have ev : h' (nI v).toNatClampNeg = nI (gb_ld g' v) := by rw [nI_clamp (by omega)]; exact (w3.1 v hv2).2
      have gi : g' (nI i).toNatClampNeg = g' i := by rw [nI_clamp (by omega)]
      have gv : g' (nI v).toNatClampNeg = g' v := by rw [nI_clamp (by omega)]
      have hbo := gb_or32 (gb_ld32 g' i) (gb_ld32 g' v)
      have hsp : gb_van zs (gb_sp g' (gb_ld g') i v) := gb_van_xor (gb_van_tm (w3.2.1 i hi2) (gb_mi32 hbo)) (gb_van_tm (w3.2.1 v hv2) (gb_mi32 hbo))
      have e7 : h' (nI i).toNatClampNeg ||| h' (nI v).toNatClampNeg = nI (gb_ld g' i ||| gb_ld g' v) := by rw [ei, ev, gb_ior]
      refine pk_le i v (fun z => absurd z (by omega)) (fun _ => ⟨pk_in i 40 (by omega), pk_in v 40 (by omega), nm_r e7 ⟨pk_in i 40 (by omega), pk_in i 40 (by omega), ?_⟩⟩)
      show wpX_times _ (k0, nI m', a1, a2, a3, a4, g', h', a7, a8, a9) (g' (nI i).toNatClampNeg) (nI (gb_ld g' i ||| gb_ld g' v) &&& (h' (nI i).toNatClampNeg ^^^ (-1)))
      rw [gi, ei, gb_imi]
      refine gb_w_tm (gb_mi32 hbo) T ⟨pk_in v 40 (by omega), pk_in v 40 (by omega), ?_⟩
      show wpX_times _ (k0, nI m', a1, a2, a3, a4, g', h', a7, a8, a9) (g' (nI v).toNatClampNeg) (nI (gb_ld g' i ||| gb_ld g' v) &&& (h' (nI v).toNatClampNeg ^^^ (-1)))
      rw [gv, ev, gb_imi]
      refine gb_w_tm (gb_mi32 hbo) T (nm_e (gb_w_enter T w3 hsp (fun hr => ?_) (fun g2 h2 wn _ => ?_)))
      · rcases hF2 with ⟨e1, e2, e3, e4, hV⟩ | ⟨e1, e2⟩
        · subst e1 e2 e3 e4
          refine br_t rfl (br_t rfl (nm_r (nI_1 v) (hw2 (0, m', g', h') ⟨hi2, w3, Or.inl ⟨rfl, rfl, rfl, rfl, fun i' a v' b cc => ?_⟩⟩)))
          by_cases ee : i' = i ∧ v' = v
          · rw [ee.1, ee.2]; exact hr
          · exact hV i' a v' b (by omega)
        · subst e1
          exact br_f gb_n10 (nm_r (nI_1 v) (hw2 (1, m', g', h') ⟨hi2, w3, Or.inr ⟨rfl, e2⟩⟩))
      · have hlt : n < m' + 1 := by
          rcases hF2 with ⟨_, e2, _⟩ | ⟨_, e2⟩ <;> omega
        have t := hw2 (1, m' + 1, g2, h2) ⟨show i < m' + 1 by omega, wn, Or.inr ⟨rfl, hlt⟩⟩
        rcases hF2 with ⟨e1, _⟩ | ⟨e1, _⟩
        · subst e1
          exact br_t rfl (br_f gb_n10 (nm_r (nI_1 v) t))
        · subst e1
          exact br_f gb_n10 (nm_r (nI_1 v) t)
end
end
section
/-! part 08: keepLeast and complete -/
/-- is the entry i least against the entries below n, as the program asks it -/
def gb_lsN (g : Nat → Int32) (i : Nat) : Nat → Bool
  | 0 => true
  | n + 1 => gb_lsN g i n && (n == i || !gb_sub (gb_ld g n) (gb_ld g i))
theorem gb_lsN_iff (g : Nat → Int32) (i : Nat) : ∀ n, gb_lsN g i n = true ↔ gb_lst g n i
  | 0 => ⟨fun _ j hj => absurd hj (by omega), fun _ => rfl⟩
  | n + 1 => by
    have ih := gb_lsN_iff g i n
    show (gb_lsN g i n && (n == i || !gb_sub (gb_ld g n) (gb_ld g i))) = true ↔ _
    rw [Bool.and_eq_true, ih, Bool.or_eq_true, beq_iff_eq, Bool.not_eq_true']
    constructor
    · rintro ⟨h1, h2⟩ j hj hne
      by_cases e : j = n
      · rw [e] at hne ⊢
        exact h2.resolve_left hne
      · exact h1 j (by omega) hne
    · intro h
      refine ⟨fun j hj hne => h j (by omega) hne, ?_⟩
      by_cases e : n = i
      · exact Or.inl e
      · exact Or.inr (h n (by omega) e)
/-- what keepLeast holds after the entries below i -/
def gb_KL (zs : Nat → Bool) (g : Nat → Int32) (n k : Nat) (b0 : Nat → Int32) (i s : Nat) (b : Nat → Int32) : Prop :=
  s = gb_cn (fun i => gb_lsN g i n) i ∧ (∀ t, t < s → b (32 * k + t) ≠ 0 ∧ gb_van zs (b (32 * k + t))) ∧
  (∀ i', i' < i → gb_lst g n i' → ∃ t, t < s ∧ gb_top (b (32 * k + t)) (gb_hi (g i'))) ∧ (∀ j, (j < 32 * k ∨ 32 * k + 32 ≤ j) → b j = b0 j)
theorem gb_KL_le {zs : Nat → Bool} {g : Nat → Int32} {n k : Nat} {b0 : Nat → Int32} {i s : Nat} {b : Nat → Int32} (h : gb_KL zs g n k b0 i s b) : s ≤ i := by
  rw [h.1]; exact gb_cn_le _ i
theorem gb_KL_skip {zs : Nat → Bool} {g : Nat → Int32} {n k : Nat} {b0 : Nat → Int32} {i s : Nat} {b : Nat → Int32} (h : gb_KL zs g n k b0 i s b) (hl : gb_lsN g i n = false) : gb_KL zs g n k b0 (i + 1) s b := by
  obtain ⟨h1, h2, h3, h4⟩ := h
  refine ⟨?_, h2, fun i' hi' hx => ?_, h4⟩
  · show s = gb_cn (fun i => gb_lsN g i n) i + (if gb_lsN g i n = true then 1 else 0)
    rw [hl, ← h1]; simp
  · by_cases e : i' = i
    · rw [e] at hx
      rw [(gb_lsN_iff g i n).mpr hx] at hl
      cases hl
    · exact h3 i' (by omega) hx
/-- an entry put in at the place a, those from a on moved up by one -/
theorem gb_KL_put {zs : Nat → Bool} {g : Nat → Int32} {n k : Nat} {b0 : Nat → Int32} {i s a : Nat} {b b' : Nat → Int32} {y : Int32} (h : gb_KL zs g n k b0 i s b) (hl : gb_lsN g i n = true) (hs : s < 32) (ha : a ≤ s)
    (hy : gb_top y (gb_hi (g i))) (hv : gb_van zs y) (l1 : ∀ t, t < a → b' (32 * k + t) = b (32 * k + t)) (l2 : ∀ t, a ≤ t → t < s → b' (32 * k + t + 1) = b (32 * k + t)) (l3 : ∀ j, (j < 32 * k ∨ 32 * k + 32 ≤ j) → b' j = b j) :
    gb_KL zs g n k b0 (i + 1) (s + 1) (upd b' (32 * k + a) y) := by
  obtain ⟨h1, h2, h3, h4⟩ := h
  refine ⟨?_, fun t ht => ?_, fun i' hi' hx => ?_, fun j hj => ?_⟩
  · show s + 1 = gb_cn (fun i => gb_lsN g i n) i + (if gb_lsN g i n = true then 1 else 0)
    rw [hl, ← h1]; simp
  · rcases Nat.lt_trichotomy t a with z | z | z
    · rw [pk_un (by omega), l1 t z]; exact h2 t (by omega)
    · rw [z, pk_us]; exact ⟨gb_top_ne hy, hv⟩
    · obtain ⟨t', rfl⟩ : ∃ t', t = t' + 1 := ⟨t - 1, by omega⟩
      rw [pk_un (by omega), show 32 * k + (t' + 1) = 32 * k + t' + 1 by omega, l2 t' (by omega) (by omega)]; exact h2 t' (by omega)
  · by_cases e : i' = i
    · exact ⟨a, by omega, by rw [pk_us, e]; exact hy⟩
    · obtain ⟨t, ht, hp⟩ := h3 i' (by omega) hx
      rcases Nat.lt_or_ge t a with z | z
      · exact ⟨t, by omega, by rw [pk_un (by omega), l1 t z]; exact hp⟩
      · exact ⟨t + 1, by omega, by rw [pk_un (by omega), show 32 * k + (t + 1) = 32 * k + t + 1 by omega, l2 t z ht]; exact hp⟩
  · rw [pk_un (by omega), l3 j hj]; exact h4 j hj
section
variable {k0 ws : Int32} {a1 a2 a3 a4 a5 a6 a7 a8 a9 : Nat → Int32}
theorem gb_w_kl51 {post : St2 → Prop} {J4 : Int32 → Int32 → (Nat → Int32) → (Nat → Int32) → (Nat → Int32) → (Nat → Int32) → (Nat → Int32) → (Nat → Int32) → (Nat → Int32) → (Nat → Int32) → (Nat → Int32) → Prop} {J18 : Int32 → Int32 → Prop} {x1 x2 : Int32} {i j : Nat} (hi : i < 40) (hj : j < 40) {b d : Bool}
    (H : J18 (gb_bi (b && (j == i || !d))) (nI (j + 1))) : wX_keepLeast_51 post J4 J18 x1 x2 (nI i) (gb_bi b) (nI j) (gb_bi d) k0 ws a1 a2 a3 a4 a5 a6 a7 a8 a9 := by
  unfold wX_keepLeast_51
  cases b
  · exact br_t rfl (nm_r (nI_1 j) H)
  · refine br_f gb_n10 (pk_eq j i (fun e => nm_r (nI_1 j) ?_) (fun e => ?_))
    · rw [show (j == i) = true from beq_iff_eq.mpr e] at H
      exact H
    · rw [show (j == i) = false from beq_eq_false_iff_ne.mpr e] at H
      cases d
      · exact br_t rfl (nm_r (nI_1 j) H)
      · exact br_f gb_n10 (nm_r (nI_1 j) H)
theorem gb_w_kl97 {post : St2 → Prop} {J4 : Int32 → Int32 → (Nat → Int32) → (Nat → Int32) → (Nat → Int32) → (Nat → Int32) → (Nat → Int32) → (Nat → Int32) → (Nat → Int32) → (Nat → Int32) → (Nat → Int32) → Prop} {k s i : Nat} {y : Int32} (hk : k < 2) (hs : s < 32)
    (H : ∀ a b, a ≤ s → (∀ t, t < a → b (32 * k + t) = a7 (32 * k + t)) → (∀ t, a ≤ t → t < s → b (32 * k + t + 1) = a7 (32 * k + t)) → (∀ j, (j < 32 * k ∨ 32 * k + 32 ≤ j) → b j = a7 j) →
      J4 (nI (s + 1)) (nI (i + 1)) a1 a2 a3 a4 a5 a6 (upd b (32 * k + a) y) a8 a9) :
    ∃ fu, wX_keepLeast_97 post J4 (nI k) (nI s) (nI i) y k0 ws fu (nI s) a1 a2 a3 a4 a5 a6 a7 a8 a9 := by
  have ex : ∀ a b, a ≤ s → (∀ t, t < a → b (32 * k + t) = a7 (32 * k + t)) → (∀ t, a ≤ t → t < s → b (32 * k + t + 1) = a7 (32 * k + t)) → (∀ j, (j < 32 * k ∨ 32 * k + 32 ≤ j) → b j = a7 j) →
      wX_keepLeast_159 post J4 (nI k) (nI s) (nI i) y (nI a) k0 ws a1 a2 a3 a4 a5 a6 b a8 a9 := fun a b ha l1 l2 l3 => by
    unfold wX_keepLeast_159
    rw [gb_i32]
    refine ⟨pk_in (32 * k + a) 64 (by omega), nm_r (by rw [nI_clamp (by omega)]) (nm_r (nI_1 s) (nm_r (nI_1 i) (H a b ha l1 l2 l3)))⟩
  refine ⟨s + 1, pk_loopD (fun fu a b => wX_keepLeast_97 post J4 (nI k) (nI s) (nI i) y k0 ws fu (nI a) a1 a2 a3 a4 a5 a6 b a8 a9)
    (fun a b => a ≤ s ∧ (∀ t, t < a → b (32 * k + t) = a7 (32 * k + t)) ∧ (∀ t, a ≤ t → t < s → b (32 * k + t + 1) = a7 (32 * k + t)) ∧ (∀ j, (j < 32 * k ∨ 32 * k + 32 ≤ j) → b j = a7 j)) ?_ ?_ s a7
    ⟨Nat.le_refl s, fun _ _ => rfl, fun t h1 h2 => absurd h1 (by omega), fun _ _ => rfl⟩⟩
  · rintro fu b ⟨ha, l1, l2, l3⟩
    exact pk_le 0 0 (fun _ => ex 0 b ha l1 l2 l3) (fun z => absurd z (by omega))
  · rintro fu a b ⟨ha, l1, l2, l3⟩ hw
    have e1 : (32 : Int32) * nI k + nI (a + 1) - 1 = nI (32 * k + a) := by
      rw [gb_i32, show 32 * k + (a + 1) = (32 * k + a) + 1 by omega, nI_pred]
    refine pk_le (a + 1) 0 (fun z => absurd z (by omega)) (fun _ => ?_)
    rw [e1, gb_i32]
    refine ⟨pk_in (32 * k + a) 64 (by omega), gb_w_hi (gb_w_hi (br_c (fun _ => ex (a + 1) b ha l1 l2 l3) (fun _ => ⟨pk_in (32 * k + a) 64 (by omega), pk_in (32 * k + (a + 1)) 64 (by omega), nm_r (e' := upd b (32 * k + (a + 1)) (b (32 * k + a))) ?_ (nm_r (pk_m1 a) (hw _ ⟨by omega, fun t ht => ?_, fun t h1 h2 => ?_, fun j hj => ?_⟩))⟩)))⟩
    · rw [nI_clamp (show 32 * k + (a + 1) < 2 ^ 31 by omega), nI_clamp (show 32 * k + a < 2 ^ 31 by omega)]
    · rw [pk_un (by omega)]; exact l1 t (by omega)
    · by_cases e : t = a
      · rw [e, show 32 * k + a + 1 = 32 * k + (a + 1) by omega, pk_us]; exact l1 a (by omega)
      · rw [pk_un (by omega)]; exact l2 t (by omega) h2
    · rw [pk_un (by omega)]; exact l3 j hj
end
section
variable {k0 : Int32} {a1 a2 a3 a4 a5 a6 a7 a8 a9 : Nat → Int32}
theorem gb_w_kl18 {post : St2 → Prop} {J4 : Int32 → Int32 → (Nat → Int32) → (Nat → Int32) → (Nat → Int32) → (Nat → Int32) → (Nat → Int32) → (Nat → Int32) → (Nat → Int32) → (Nat → Int32) → (Nat → Int32) → Prop} {n k s i : Nat} (T : gb_T a3 a4) (K : gb_K a5 a6 n) (hi : i < n) (hk : k < 2) (hs : s < 32)
    (H0 : gb_lsN a5 i n = false → J4 (nI s) (nI (i + 1)) a1 a2 a3 a4 a5 a6 a7 a8 a9)
    (H1 : gb_lsN a5 i n = true → ∀ a b, a ≤ s → (∀ t, t < a → b (32 * k + t) = a7 (32 * k + t)) → (∀ t, a ≤ t → t < s → b (32 * k + t + 1) = a7 (32 * k + t)) → (∀ j, (j < 32 * k ∨ 32 * k + 32 ≤ j) → b j = a7 j) →
      J4 (nI (s + 1)) (nI (i + 1)) a1 a2 a3 a4 a5 a6 (upd b (32 * k + a) (gb_e (gb_hi (a5 i)) ||| gb_R a5 n (a5 i &&& (gb_e (gb_hi (a5 i)) ^^^ (-1))))) a8 a9) :
    ∃ fu, wX_keepLeast_18 post J4 (nI k) (nI s) (nI i) k0 (nI n) a1 a2 a3 a4 a5 a6 a7 a8 a9 fu 1 0 := by
  have hn := K.1
  have e6 : ∀ j, j < n → a6 (nI j).toNatClampNeg = nI (gb_ld a5 j) := fun j hj => by rw [nI_clamp (by omega)]; exact (K.2 j hj).2
  refine pk_loop (σ := Unit) (fun fu j _ => wX_keepLeast_18 post J4 (nI k) (nI s) (nI i) k0 (nI n) a1 a2 a3 a4 a5 a6 a7 a8 a9 fu (gb_bi (gb_lsN a5 i j)) (nI j)) (fun _ _ => True) n 0 () (by omega) trivial ?_ ?_
  · intro fu _ _
    refine pk_le n n (fun _ => ?_) (fun z => absurd z (by omega))
    cases hl : gb_lsN a5 i n
    · exact br_t rfl (nm_r (nI_1 i) (H0 hl))
    · exact br_f gb_n10 (gb_w_tail T K hi (gb_w_kl97 hk hs (H1 hl)))
  · intro fu j _ hj _ hw
    have t : wX_keepLeast_18 post J4 (nI k) (nI s) (nI i) k0 (nI n) a1 a2 a3 a4 a5 a6 a7 a8 a9 fu (gb_bi (gb_lsN a5 i j && (j == i || !gb_sub (gb_ld a5 j) (gb_ld a5 i)))) (nI (j + 1)) := hw () trivial
    refine pk_le n j (fun z => absurd z (by omega)) (fun _ => ⟨pk_in j 40 (by omega), pk_in i 40 (by omega), ?_⟩)
    rw [e6 j hj, e6 i hi]
    refine ek_if (gb_imi0 (gb_ld32 a5 j)) (fun hd => ?_) (fun hd => ?_)
    · rw [hd] at t
      exact gb_w_kl51 (d := true) (by omega) (by omega) t
    · rw [Bool.eq_false_iff.mpr hd] at t
      exact gb_w_kl51 (d := false) (by omega) (by omega) t
/-- no zeros: one least entry -/
theorem gb_one_lst {zs : Nat → Bool} {g : Nat → Int32} {n : Nat} (h : gb_inc g n) (hg : ∀ x p, gb_van zs x → gb_top x p → gb_led (gb_ld g) n (gb_M p)) (hz : ∀ z, z < 32 → zs z = false) : gb_cn (fun i => gb_lsN g i n) n = 1 := by
  obtain ⟨i0, hi0, hs⟩ := hg (gb_e 0) 0 (fun z hz32 hs => by rw [hz z hz32] at hs; cases hs) (gb_top_e (by decide))
  have e0 : gb_ld g i0 = 0 := by
    have := gb_sub_le hs
    rw [show gb_M 0 = 0 from rfl] at this
    omega
  have only : ∀ i, i < n → i ≠ i0 → gb_lsN g i n = false := fun i hi hne => by
    rw [Bool.eq_false_iff]
    intro z
    have := (gb_lsN_iff g i n).mp z i0 hi0 (fun e => hne e.symm)
    rw [e0, gb_sub_0] at this
    cases this
  have self : gb_lsN g i0 n = true := (gb_lsN_iff g i0 n).mpr (fun j hj hne => by
    rw [Bool.eq_false_iff]
    intro z
    rw [e0] at z
    have := gb_sub_le z
    exact hne (gb_inc_ne h hj hi0 (by omega)))
  have := gb_cn_drop (T := fun i => gb_lsN g i n) self hi0
  have z0 : ∀ m, (∀ i, i < m → (gb_lsN g i n && !(i == i0)) = false) → gb_cn (fun i => gb_lsN g i n && !(i == i0)) m = 0 := by
    intro m
    induction m with
    | zero => exact fun _ => rfl
    | succ m ih =>
      intro hm
      show gb_cn (fun i => gb_lsN g i n && !(i == i0)) m + (if (gb_lsN g m n && !(m == i0)) = true then 1 else 0) = 0
      rw [ih (fun i hi => hm i (by omega)), hm m (by omega)]; rfl
  rw [z0 n (fun i hi => ?_)] at this
  · omega
  · by_cases e : i = i0
    · rw [e]; simp
    · rw [only i hi e]; rfl
theorem gb_w_kl {post : St2 → Prop} {zs : Nat → Bool} {q : Nat → Int32} {c n k : Nat} (T : gb_T a3 a4) (w : gb_W zs q c a5 a6 n) (hk : k < 2)
    (hg : ∀ x p, gb_van zs x → gb_top x p → gb_led (gb_ld a5) n (gb_M p))
    (H : ∀ b s, s ≤ 32 → gb_basis zs (fun t => b (32 * k + t)) s → ((∀ z, z < 32 → zs z = false) → s = 1) → (∀ j, (j < 32 * k ∨ 32 * k + 32 ≤ j) → b j = a7 j) →
      post (k0, nI n, a1, a2, a3, a4, a5, a6, b, upd a8 k (nI s), a9)) :
    wpX_keepLeast post (k0, nI n, a1, a2, a3, a4, a5, a6, a7, a8, a9) (nI k) := by
  have hn := gb_W_32 w
  have h0 : ∀ i, i < n → a5 i ≠ 0 := fun i hi => (w.1 i hi).1
  refine pk_loop (σ := Nat × (Nat → Int32)) (fun fu i s => wX_keepLeast_4 post (nI k) k0 (nI n) fu (nI s.1) (nI i) a1 a2 a3 a4 a5 a6 s.2 a8 a9) (fun i s => gb_KL zs a5 n k a7 i s.1 s.2) n 0 (0, a7) (by omega)
    ⟨rfl, fun t ht => absurd ht (by omega), fun i' hi' => absurd hi' (by omega), fun _ _ => rfl⟩ ?_ ?_
  · rintro fu ⟨s, b⟩ hKL
    have hKL' : gb_KL zs a5 n k a7 n s b := hKL
    have hs := gb_KL_le hKL'
    obtain ⟨l1, l2, l3, l4⟩ := hKL'
    refine pk_le n n (fun _ => ⟨pk_in k 2 hk, nm_r (e' := upd a8 k (nI s)) ?_ (H b s (by omega) (gb_basis_of w.2.2.1 hg l2 l3) (fun hz => ?_) l4)⟩) (fun z => absurd z (by omega))
    · rw [nI_clamp (by omega)]
    · rw [l1]; exact gb_one_lst w.2.2.1 hg hz
  · rintro fu i ⟨s, b⟩ hi hKL hw
    have hKL' : gb_KL zs a5 n k a7 i s b := hKL
    have hs := gb_KL_le hKL'
    refine pk_le n i (fun z => absurd z (by omega)) (fun _ => ?_)
    refine gb_w_kl18 (a7 := b) T (gb_W_K w) hi hk (by show s < 32; omega) (fun hl => hw (s, b) (gb_KL_skip hKL' hl)) (fun hl a b' ha m1 m2 m3 => hw (s + 1, _) (gb_KL_put hKL' hl (by omega) ha (gb_tail h0 w.2.1 hi).1 (gb_tail h0 w.2.1 hi).2 m1 m2 m3))
/-! complete -/
theorem gb_W_gen {zs : Nat → Bool} {q : Nat → Int32} {c : Nat} {g h : Nat → Int32} {n : Nat} (w : gb_W zs q c g h n) (hg : gb_gen g n (q c)) : gb_W zs q (c + 1) g h n :=
  ⟨w.1, w.2.1, w.2.2.1, fun j hj => by
    by_cases e : j = c
    · rw [e]; exact hg
    · exact w.2.2.2 j (by omega)⟩
/-- the generators as given: a1 from 8k on; where all vanish -/
def gb_zN (q : Nat → Int32) (z : Nat) : Nat → Bool
  | 0 => true
  | n + 1 => gb_zN q z n && !gb_va (q n) z
theorem gb_zN_iff (q : Nat → Int32) (z : Nat) : ∀ n, gb_zN q z n = true ↔ ∀ j, j < n → gb_va (q j) z = false
  | 0 => ⟨fun _ j hj => absurd hj (by omega), fun _ => rfl⟩
  | n + 1 => by
    have ih := gb_zN_iff q z n
    show (gb_zN q z n && !gb_va (q n) z) = true ↔ _
    rw [Bool.and_eq_true, ih, Bool.not_eq_true']
    constructor
    · rintro ⟨h1, h2⟩ j hj
      by_cases e : j = n
      · rw [e]; exact h2
      · exact h1 j (by omega)
    · exact fun h => ⟨fun j hj => h j (by omega), h n (by omega)⟩
def gb_z (a1 : Nat → Int32) (k c z : Nat) : Bool := gb_zN (fun j => a1 (8 * k + j)) z c
/-- the criterion gives what keepLeast needs -/
theorem gb_done {a1 : Nat → Int32} {k c : Nat} {g h : Nat → Int32} {n : Nat} (w : gb_W (gb_z a1 k c) (fun j => gb_in (a1 (8 * k + j))) c g h n)
    (hV : ∀ i, i < n → ∀ v, v < 5 → gb_sub (2 ^ v) (gb_ld g i) = true → gb_R g n (gb_tm (g i) (2 ^ v)) = 0) (hS : ∀ i, i < n → ∀ j, j < i → gb_R g n (gb_sp g (gb_ld g) i j) = 0) :
    ∀ x p, gb_van (gb_z a1 k c) x → gb_top x p → gb_led (gb_ld g) n (gb_M p) := by
  intro x p hx hp
  have h0 : ∀ i, i < n → g i ≠ 0 := fun i hi => (w.1 i hi).1
  have hL := gb_ld_L h0
  have hB : ∀ i f, i < n → f < 32 → gb_R g n (gb_tm (g i) f) = 0 := fun i f hi hf => gb_buch hL hV hS _ i f hi hf rfl
  refine gb_red_top hL hp (gb_all h0 hB w.2.2.2 (fun z hz h => hx z hz ?_))
  exact (gb_zN_iff _ z c).mpr (fun j hj => by rw [← gb_val_in]; exact h j hj)
theorem gb_w_co66 {post : St2 → Prop} {k c n : Nat} (T : gb_T a3 a4) (hk : k < 2) (w : gb_W (gb_z a1 k c) (fun j => gb_in (a1 (8 * k + j))) c a5 a6 n)
    (H : ∀ n' g h b s, n' ≤ 32 → s ≤ 32 → gb_basis (gb_z a1 k c) (fun t => b (32 * k + t)) s → ((∀ z, z < 32 → gb_z a1 k c z = false) → s = 1) → (∀ j, (j < 32 * k ∨ 32 * k + 32 ≤ j) → b j = a7 j) →
      post (k0, nI n', a1, a2, a3, a4, g, h, b, upd a8 k (nI s), a9)) :
    ∃ fu, wX_complete_66 post (nI k) fu 1 0 k0 (nI n) a1 a2 a3 a4 a5 a6 a7 a8 a9 := by
  refine lp5 (fun fu (x2 : Int32) (r m : Nat) (g h : Nat → Int32) => wX_complete_66 post (nI k) fu x2 (nI r) k0 (nI m) a1 a2 a3 a4 g h a7 a8 a9)
    (fun x2 r m g h => r ≤ 40 ∧ gb_W (gb_z a1 k c) (fun j => gb_in (a1 (8 * k + j))) c g h m ∧ ((x2 = 1 ∧ r ≤ m) ∨ (x2 = 0 ∧ (∀ i, i < m → ∀ v, v < 5 → gb_sub (2 ^ v) (gb_ld g i) = true → gb_R g m (gb_tm (g i) (2 ^ v)) = 0) ∧ (∀ i, i < m → ∀ j, j < i → gb_R g m (gb_sp g (gb_ld g) i j) = 0))))
    (fun _ r _ _ _ => 50 - r) ?_ 1 0 n a5 a6 ⟨by omega, w, Or.inl ⟨rfl, Nat.zero_le n⟩⟩
  rintro fu x2 r m g h ⟨hr, w', hF⟩ hw
  have hm := gb_W_32 w'
  rcases hF with ⟨e1, e2⟩ | ⟨e1, hV, hS⟩
  · subst e1
    refine pk_le 40 r (fun z => absurd z (by omega)) (fun _ => br_f gb_n10 (gb_w_tv T w' (fun hV => ?_) (fun n' g' h' hlt w2 => ?_)))
    · refine gb_w_tp T w' (fun hS => ?_) (fun n' g' h' hlt w2 => ?_)
      · exact br_t rfl (br_t rfl (nm_r (nI_1 r) (hw 0 (r + 1) m g h ⟨by omega, w', Or.inr ⟨rfl, hV, hS⟩⟩ (by omega))))
      · exact br_t rfl (br_f gb_n10 (nm_r (nI_1 r) (hw 1 (r + 1) n' g' h' ⟨by omega, w2, Or.inl ⟨rfl, by omega⟩⟩ (by omega))))
    · refine gb_w_tp T w2 (fun hS => ?_) (fun n2 g2 h2 hlt2 w3 => ?_)
      · exact br_f gb_n10 (nm_r (nI_1 r) (hw 1 (r + 1) n' g' h' ⟨by omega, w2, Or.inl ⟨rfl, by omega⟩⟩ (by omega)))
      · exact br_f gb_n10 (nm_r (nI_1 r) (hw 1 (r + 1) n2 g2 h2 ⟨by omega, w3, Or.inl ⟨rfl, by omega⟩⟩ (by omega)))
  · subst e1
    have fin : wX_complete_110 post (nI k) k0 (nI m) a1 a2 a3 a4 g h a7 a8 a9 := by
      unfold wX_complete_110
      exact gb_w_kl T w' hk (gb_done w' hV hS) (fun b s hs hb hu hf => H m g h b s hm hs hb hu hf)
    exact pk_le 40 r (fun _ => fin) (fun _ => br_t rfl fin)
theorem gb_w_co24 {post : St2 → Prop} {k c : Nat} (T : gb_T a3 a4) (hk : k < 2) (hc : c ≤ 8) (h2 : a2 k = nI c)
    (H : ∀ n' g h b s, n' ≤ 32 → s ≤ 32 → gb_basis (gb_z a1 k c) (fun t => b (32 * k + t)) s → ((∀ z, z < 32 → gb_z a1 k c z = false) → s = 1) → (∀ j, (j < 32 * k ∨ 32 * k + 32 ≤ j) → b j = a7 j) →
      post (k0, nI n', a1, a2, a3, a4, g, h, b, upd a8 k (nI s), a9)) :
    ∃ fu, wX_complete_24 post (nI k) fu 0 k0 0 a1 a2 a3 a4 a5 a6 a7 a8 a9 := by
  have e2 : a2 (nI k).toNatClampNeg = nI c := by rw [nI_clamp (by omega)]; exact h2
  refine pk_loop (σ := Nat × (Nat → Int32) × (Nat → Int32)) (fun fu i s => wX_complete_24 post (nI k) fu (nI i) k0 (nI s.1) a1 a2 a3 a4 s.2.1 s.2.2 a7 a8 a9)
    (fun i s => gb_W (gb_z a1 k c) (fun j => gb_in (a1 (8 * k + j))) i s.2.1 s.2.2 s.1) c 0 (0, a5, a6) (by omega)
    ⟨fun i hi => absurd hi (by omega), fun i hi => absurd hi (by omega), fun i hi => absurd hi (by omega), fun j hj => absurd hj (by omega)⟩ ?_ ?_
  · rintro fu ⟨n, g, h⟩ w
    have w' : gb_W (gb_z a1 k c) (fun j => gb_in (a1 (8 * k + j))) c g h n := w
    exact ⟨pk_in k 2 hk, pk_le c c (fun _ => gb_w_co66 T hk w' H) (fun z => absurd z (by omega)) e2⟩
  · rintro fu i ⟨n, g, h⟩ hi w hw
    have w' : gb_W (gb_z a1 k c) (fun j => gb_in (a1 (8 * k + j))) i g h n := w
    refine ⟨pk_in k 2 hk, pk_le c i (fun z => absurd z (by omega)) (fun _ => ⟨?_, ?_⟩) e2⟩
    · rw [gb_i8]; exact pk_in (8 * k + i) 16 (by omega)
    · rw [gb_i8, nI_clamp (show 8 * k + i < 2 ^ 31 by omega)]
      refine gb_w_in T (gb_w_enter T w' ?_ (fun hr => nm_r (nI_1 i) (hw (n, g, h) (gb_W_gen w' (gb_gen_of0 (fun i hi => (w'.1 i hi).1) hr)))) (fun g' h' wn hgen => nm_r (nI_1 i) (hw (n + 1, g', h') (gb_W_gen wn hgen))))
      intro z hz hs
      rw [gb_val_in]
      exact (gb_zN_iff _ z c).mp hs i hi
end
end
section
/-! part 09: the object's invariant, and its public methods -/
def gb_B (zs : Nat → Bool) (b : Nat → Int32) (e : Int32) : Prop := ∃ s, e = nI s ∧ s ≤ 32 ∧ gb_basis zs b s ∧ ((∀ z, z < 32 → zs z = false) → s = 1)
def gb_ok (c : Nat → Nat) (a1 a2 a3 a4 a7 a8 a9 : Nat → Int32) : Prop := gb_T a3 a4 ∧ ∀ k, k < 2 → c k ≤ 8 ∧ a2 k = nI (c k) ∧ (a9 k ≠ 0 → gb_B (gb_z a1 k (c k)) (fun t => a7 (32 * k + t)) (a8 k))
theorem gb_lb_succ (l : Nat → Nat) (n m : Nat) : gb_lb l (n + 1) m = (gb_lb l n m || gb_sub (l n) m) := by
  rw [Bool.eq_iff_iff, Bool.or_eq_true, gb_lb_iff, gb_lb_iff]
  constructor
  · rintro ⟨i, hi, hs⟩
    by_cases e : i = n
    · rw [e] at hs; exact Or.inr hs
    · exact Or.inl ⟨i, by omega, hs⟩
  · rintro (⟨i, hi, hs⟩ | hs)
    · exact ⟨i, by omega, hs⟩
    · exact ⟨n, by omega, hs⟩
section
variable {k0 ws : Int32} {a1 a2 a3 a4 a5 a6 a7 a8 a9 : Nat → Int32}
theorem gb_w_co {post : St2 → Prop} {c : Nat → Nat} {k : Nat} (hk : k < 2) (ok : gb_ok c a1 a2 a3 a4 a7 a8 a9)
    (H : ∀ ws' b5 b6 b7 b8 b9, gb_ok c a1 a2 a3 a4 b7 b8 b9 → b9 k ≠ 0 → post (k0, ws', a1, a2, a3, a4, b5, b6, b7, b8, b9)) :
    wpX_complete post (k0, ws, a1, a2, a3, a4, a5, a6, a7, a8, a9) (nI k) := by
  obtain ⟨T, hK⟩ := ok
  obtain ⟨hc, h2, h9⟩ := hK k hk
  refine ⟨pk_in k 2 hk, br_c (fun _ => ⟨pk_in k 2 hk, nm_r (e' := upd a9 k 1) (by rw [nI_clamp (by omega)]) (gb_w_co24 T hk hc h2 (fun n' g h b s hn hs hb hu hf => H _ g h b (upd a8 k (nI s)) (upd a9 k 1) ⟨T, fun k' hk' => ?_⟩ ?_))⟩) (fun h => H ws a5 a6 a7 a8 a9 ⟨T, hK⟩ (by rw [nI_clamp (by omega)] at h; exact h))⟩
  · obtain ⟨c1, c2, c3⟩ := hK k' hk'
    refine ⟨c1, c2, fun hr => ?_⟩
    by_cases e : k' = k
    · rw [e, pk_us]
      exact ⟨s, rfl, hs, hb, hu⟩
    · rw [pk_un e] at hr ⊢
      obtain ⟨s', d1, d2, d3, d4⟩ := c3 hr
      exact ⟨s', d1, d2, gb_basis_congr (fun t ht => hf _ (by omega)) d3, d4⟩
  · rw [pk_us]; decide
theorem gb_w_id {post : Int32 → Prop} {k : Nat} (hk : k < 2) (H : post 1) : wpX_isIdeal post () (nI k) :=
  pk_eq k 0 (fun _ => H) (fun _ => pk_eq k 1 (fun _ => H) (fun z => absurd hk (by omega)))
/-! freeMonomials -/
theorem gb_w_fm21 {post : Int32 → St2 → Prop} {J9 : Int32 → Int32 → Prop} {k s m u : Nat} (T : gb_T a3 a4) (hk : k < 2) (hs : s ≤ 32) (h8 : a8 k = nI s) (hm : m < 32)
    (H : J9 (nI (u + (if (!gb_lb (gb_ld (fun t => a7 (32 * k + t))) s m) = true then 1 else 0))) (nI (m + 1))) :
    ∃ fu, wX_freeMonomials_21 post J9 (nI k) (nI u) (nI m) k0 ws a1 a2 a3 a4 a5 a6 a7 a8 a9 fu 0 0 := by
  have e8 : a8 (nI k).toNatClampNeg = nI s := by rw [nI_clamp (by omega)]; exact h8
  refine pk_loop (σ := Unit) (fun fu j _ => wX_freeMonomials_21 post J9 (nI k) (nI u) (nI m) k0 ws a1 a2 a3 a4 a5 a6 a7 a8 a9 fu (gb_bi (gb_lb (gb_ld (fun t => a7 (32 * k + t))) j m)) (nI j)) (fun _ _ => True) s 0 () (by omega) trivial ?_ ?_
  · intro fu _ _
    refine ⟨pk_in k 2 hk, pk_le s s (fun _ => ?_) (fun z => absurd z (by omega)) e8⟩
    cases hl : gb_lb (gb_ld (fun t => a7 (32 * k + t))) s m
    · rw [hl] at H
      exact br_t rfl (nm_r (nI_1 u) (nm_r (nI_1 m) H))
    · rw [hl] at H
      exact br_f gb_n10 (nm_r (e' := nI u) (Int32.add_zero _) (nm_r (nI_1 m) H))
  · intro fu j _ hj _ hw
    have t : wX_freeMonomials_21 post J9 (nI k) (nI u) (nI m) k0 ws a1 a2 a3 a4 a5 a6 a7 a8 a9 fu (gb_bi (gb_lb (gb_ld (fun t => a7 (32 * k + t))) (j + 1) m)) (nI (j + 1)) := hw () trivial
    rw [gb_lb_succ] at t
    refine ⟨pk_in k 2 hk, pk_le s j (fun z => absurd z (by omega)) (fun _ => ⟨?_, ?_⟩) e8⟩
    · rw [gb_i32]; exact pk_in (32 * k + j) 64 (by omega)
    · rw [gb_i32, nI_clamp (show 32 * k + j < 2 ^ 31 by omega)]
      refine gb_w_hi ⟨pk_in _ 32 (gb_hi32 _), nm_r (e' := nI (gb_ld (fun t => a7 (32 * k + t)) j)) ?_ ?_⟩
      · rw [nI_clamp (Nat.lt_trans (gb_hi32 _) (by decide)), T.2 _ (gb_hi32 _)]
        rfl
      · cases hl : gb_lb (gb_ld (fun t => a7 (32 * k + t))) j m
        · rw [hl] at t
          refine br_t rfl (ek_if (gb_imi0 (gb_ld32 _ j)) (fun hd => nm_r (nI_1 j) ?_) (fun hd => nm_r (nI_1 j) ?_))
          · rw [hd] at t; exact t
          · rw [Bool.eq_false_iff.mpr hd] at t; exact t
        · rw [hl] at t
          exact br_f gb_n10 (nm_r (nI_1 j) t)
theorem gb_w_fm {post : Int32 → St2 → Prop} {c : Nat → Nat} {k : Nat} (hk : k < 2) (ok : gb_ok c a1 a2 a3 a4 a7 a8 a9)
    (H : ∀ ws' b5 b6 b7 b8 b9, gb_ok c a1 a2 a3 a4 b7 b8 b9 → post (nI (gb_cn (gb_z a1 k (c k)) 32)) (k0, ws', a1, a2, a3, a4, b5, b6, b7, b8, b9)) :
    wpX_freeMonomials post (k0, ws, a1, a2, a3, a4, a5, a6, a7, a8, a9) (nI k) := by
  unfold wpX_freeMonomials
  dsimp only
  refine gb_w_co hk ok (fun ws' b5 b6 b7 b8 b9 ok' h9 => ?_)
  obtain ⟨s, e8, hs, hb, _⟩ := (ok'.2 k hk).2.2 h9
  have H' := H ws' b5 b6 b7 b8 b9 ok'
  rw [← gb_count hb] at H'
  exact pk_loop (σ := Unit) (fun fu m _ => wX_freeMonomials_9 post (nI k) k0 ws' a1 a2 a3 a4 b5 b6 b7 b8 b9 fu (nI (gb_cn (fun m => !gb_lb (gb_ld (fun t => b7 (32 * k + t))) s m) m)) (nI m)) (fun _ _ => True) 32 0 () (by omega) trivial
    (fun fu _ _ => pk_le 32 32 (fun _ => H') (fun z => absurd z (by omega)))
    (fun fu m _ hm _ hw => pk_le 32 m (fun z => absurd z (by omega)) (fun _ => gb_w_fm21 ok'.1 hk hs e8 hm (hw () trivial)))
theorem gb_w_zeros {post : Int32 → St2 → Prop} {c : Nat → Nat} {k : Nat} (hk : k < 2) (ok : gb_ok c a1 a2 a3 a4 a7 a8 a9)
    (H : ∀ ws' b5 b6 b7 b8 b9, gb_ok c a1 a2 a3 a4 b7 b8 b9 → post (nI (gb_cn (gb_z a1 k (c k)) 32)) (k0, ws', a1, a2, a3, a4, b5, b6, b7, b8, b9)) :
    wpX_zeros post (k0, ws, a1, a2, a3, a4, a5, a6, a7, a8, a9) (nI k) := by
  unfold wpX_zeros
  dsimp only
  exact gb_w_id hk (br_f gb_n10 (gb_w_fm hk ok H))
theorem gb_w_standard {post : Int32 → St2 → Prop} {c : Nat → Nat} {k : Nat} (hk : k < 2) (ok : gb_ok c a1 a2 a3 a4 a7 a8 a9)
    (H : ∀ ws' b5 b6 b7 b8 b9, gb_ok c a1 a2 a3 a4 b7 b8 b9 → post (nI (gb_cn (gb_z a1 k (c k)) 32)) (k0, ws', a1, a2, a3, a4, b5, b6, b7, b8, b9)) :
    wpX_standard post (k0, ws, a1, a2, a3, a4, a5, a6, a7, a8, a9) (nI k) := by
  unfold wpX_standard
  dsimp only
  exact gb_w_id hk (br_f gb_n10 (gb_w_fm hk ok H))
/-! normalOf -/
theorem gb_w_no {post : Int32 → St2 → Prop} {c : Nat → Nat} {k : Nat} {p : Int32} (hk : k < 2) (ok : gb_ok c a1 a2 a3 a4 a7 a8 a9)
    (H : ∀ r ws' b5 b6 b7 b8 b9, gb_ok c a1 a2 a3 a4 b7 b8 b9 → (∀ z, z < 32 → gb_z a1 k (c k) z = true → gb_va r z = gb_va p z) → (r = 0 ↔ ∀ z, z < 32 → gb_z a1 k (c k) z = true → gb_va p z = false) → post r (k0, ws', a1, a2, a3, a4, b5, b6, b7, b8, b9)) :
    wpX_normalOf post (k0, ws, a1, a2, a3, a4, a5, a6, a7, a8, a9) (nI k) p := by
  unfold wpX_normalOf
  dsimp only
  refine gb_w_co hk ok (fun ws' b5 b6 b7 b8 b9 ok' h9 => ?_)
  obtain ⟨s, e8, hs, hb, _⟩ := (ok'.2 k hk).2.2 h9
  have T := ok'.1
  refine ⟨pk_in k 2 hk, nm_r (e' := nI s) (by rw [nI_clamp (by omega)]; exact e8) ?_⟩
  refine pk_loop (σ := (Nat → Int32) × (Nat → Int32)) (fun fu i t => wX_normalOf_17 post (nI k) p k0 (nI s) fu (nI i) a1 a2 a3 a4 t.1 t.2 b7 b8 b9)
    (fun i t => ∀ j, j < i → t.1 j = b7 (32 * k + j) ∧ t.2 j = nI (gb_M (gb_hi (b7 (32 * k + j))))) s 0 (b5, b6) (by omega) (fun j hj => absurd hj (by omega)) ?_ ?_
  · rintro fu ⟨g, h⟩ hI
    have hI' : ∀ j, j < s → g j = b7 (32 * k + j) ∧ h j = nI (gb_M (gb_hi (b7 (32 * k + j)))) := hI
    have hb' : gb_basis (gb_z a1 k (c k)) g s := gb_basis_congr (fun t ht => (hI' t ht).1) hb
    have K : gb_K g h s := ⟨by omega, fun i hi => ⟨(hb'.1 i hi).1, by unfold gb_ld; rw [(hI' i hi).2, (hI' i hi).1]⟩⟩
    refine pk_le s s (fun _ => gb_w_in T (gb_w_red T K (gb_w_out T (H _ _ g h b7 b8 b9 ok' (fun z hz hzs => ?_) ?_)))) (fun z => absurd z (by omega))
    · rw [gb_va_out, gb_nf_val hb' _ hz hzs, gb_val_in]
    · rw [gb_out_0, gb_nf_0 hb']
      constructor
      · intro hv z hz hzs
        rw [← gb_val_in]; exact hv z hz hzs
      · intro hv z hz hzs
        rw [gb_val_in]; exact hv z hz hzs
  · rintro fu i ⟨g, h⟩ hi hI hw
    have hI' : ∀ j, j < i → g j = b7 (32 * k + j) ∧ h j = nI (gb_M (gb_hi (b7 (32 * k + j)))) := hI
    have hi40 : i < 2 ^ 31 := by omega
    refine pk_le s i (fun z => absurd z (by omega)) (fun _ => ⟨?_, pk_in i 40 (by omega), nm_r (e' := upd g i (b7 (32 * k + i))) ?_ ⟨pk_in i 40 (by omega), ?_⟩⟩)
    · rw [gb_i32]; exact pk_in (32 * k + i) 64 (by omega)
    · rw [gb_i32, nI_clamp (show 32 * k + i < 2 ^ 31 by omega), nI_clamp hi40]
    · rw [nI_clamp hi40, pk_us]
      refine gb_w_hi ⟨pk_in _ 32 (gb_hi32 _), pk_in i 40 (by omega), nm_r (e' := upd h i (nI (gb_M (gb_hi (b7 (32 * k + i)))))) ?_ (nm_r (nI_1 i) (hw (_, _) (fun j hj => ?_)))⟩
      · rw [nI_clamp (Nat.lt_trans (gb_hi32 _) (by decide)), T.2 _ (gb_hi32 _)]
      · show upd g i (b7 (32 * k + i)) j = b7 (32 * k + j) ∧ upd h i (nI (gb_M (gb_hi (b7 (32 * k + i))))) j = nI (gb_M (gb_hi (b7 (32 * k + j))))
        by_cases e : j = i
        · rw [e, pk_us, pk_us]; exact ⟨rfl, rfl⟩
        · rw [pk_un e, pk_un e]; exact hI' j (by omega)
theorem gb_w_normal {post : Int32 → St2 → Prop} {c : Nat → Nat} {k : Nat} {p : Int32} (hk : k < 2) (ok : gb_ok c a1 a2 a3 a4 a7 a8 a9)
    (H : ∀ r ws' b5 b6 b7 b8 b9, gb_ok c a1 a2 a3 a4 b7 b8 b9 → (∀ z, z < 32 → gb_z a1 k (c k) z = true → gb_va r z = gb_va p z) → (r = 0 ↔ ∀ z, z < 32 → gb_z a1 k (c k) z = true → gb_va p z = false) → post r (k0, ws', a1, a2, a3, a4, b5, b6, b7, b8, b9)) :
    wpX_normal post (k0, ws, a1, a2, a3, a4, a5, a6, a7, a8, a9) (nI k) p := by
  unfold wpX_normal
  dsimp only
  exact gb_w_id hk (br_f gb_n10 (gb_w_no hk ok H))
theorem gb_w_contains {post : Int32 → St2 → Prop} {c : Nat → Nat} {k : Nat} {p : Int32} (hk : k < 2) (ok : gb_ok c a1 a2 a3 a4 a7 a8 a9)
    (H : ∀ (d : Bool) ws' b5 b6 b7 b8 b9, gb_ok c a1 a2 a3 a4 b7 b8 b9 → (d = true ↔ ∀ z, z < 32 → gb_z a1 k (c k) z = true → gb_va p z = false) → post (gb_bi d) (k0, ws', a1, a2, a3, a4, b5, b6, b7, b8, b9)) :
    wpX_contains post (k0, ws, a1, a2, a3, a4, a5, a6, a7, a8, a9) (nI k) p := by
  unfold wpX_contains
  dsimp only
  exact gb_w_id hk (br_f gb_n10 (gb_w_no hk ok (fun r ws' b5 b6 b7 b8 b9 ok' _ h0 => br_c (fun e => H true ws' b5 b6 b7 b8 b9 ok' ⟨fun _ => h0.mp e, fun _ => rfl⟩) (fun e => H false ws' b5 b6 b7 b8 b9 ok' ⟨fun z => (by cases z), fun z => absurd (h0.mpr z) e⟩))))
theorem gb_w_within {post : Int32 → St2 → Prop} {c : Nat → Nat} {k : Nat} (hk : k < 2) (ok : gb_ok c a1 a2 a3 a4 a7 a8 a9)
    (H : ∀ (d : Bool) ws' b5 b6 b7 b8 b9, gb_ok c a1 a2 a3 a4 b7 b8 b9 → (d = true ↔ ∀ i, i < c k → ∀ z, z < 32 → gb_z a1 (1 - k) (c (1 - k)) z = true → gb_va (a1 (8 * k + i)) z = false) → post (gb_bi d) (k0, ws', a1, a2, a3, a4, b5, b6, b7, b8, b9)) :
    wpX_within post (k0, ws, a1, a2, a3, a4, a5, a6, a7, a8, a9) (nI k) := by
  unfold wpX_within
  dsimp only
  refine gb_w_id hk (br_f gb_n10 ?_)
  obtain ⟨hc, h2, _⟩ := ok.2 k hk
  have e2 : a2 (nI k).toNatClampNeg = nI (c k) := by rw [nI_clamp (by omega)]; exact h2
  have e1 : (1 : Int32) - nI k = nI (1 - k) := by
    rw [show (1 : Int32) = nI 1 from rfl]; exact pk_sub (by omega)
  refine pk_loop (σ := Int32 × (Nat → Int32) × (Nat → Int32) × (Nat → Int32) × (Nat → Int32) × (Nat → Int32)) (fun fu i s => wX_within_11 post (nI k) fu (nI i) k0 s.1 a1 a2 a3 a4 s.2.1 s.2.2.1 s.2.2.2.1 s.2.2.2.2.1 s.2.2.2.2.2)
    (fun i s => gb_ok c a1 a2 a3 a4 s.2.2.2.1 s.2.2.2.2.1 s.2.2.2.2.2 ∧ ∀ i', i' < i → ∀ z, z < 32 → gb_z a1 (1 - k) (c (1 - k)) z = true → gb_va (a1 (8 * k + i')) z = false) (c k) 0 (ws, a5, a6, a7, a8, a9) (by omega)
    ⟨ok, fun i' hi' => absurd hi' (by omega)⟩ ?_ ?_
  · rintro fu ⟨w, b5, b6, b7, b8, b9⟩ ⟨ok', hv⟩
    exact ⟨pk_in k 2 hk, pk_le (c k) (c k) (fun _ => H true w b5 b6 b7 b8 b9 ok' ⟨fun _ => hv, fun _ => rfl⟩) (fun z => absurd z (by omega)) e2⟩
  · rintro fu i ⟨w, b5, b6, b7, b8, b9⟩ hi ⟨ok', hv⟩ hw
    have ok2 : gb_ok c a1 a2 a3 a4 b7 b8 b9 := ok'
    refine ⟨pk_in k 2 hk, pk_le (c k) i (fun z => absurd z (by omega)) (fun _ => ⟨?_, ?_⟩) e2⟩
    · rw [gb_i8]; exact pk_in (8 * k + i) 16 (by omega)
    · rw [gb_i8, nI_clamp (show 8 * k + i < 2 ^ 31 by omega), e1]
      refine gb_w_no (show 1 - k < 2 by omega) ok2 (fun r ws' d5 d6 d7 d8 d9 ok3 _ h0 => br_c (fun e => nm_r (nI_1 i) (hw (ws', d5, d6, d7, d8, d9) ⟨ok3, fun i' hi' => ?_⟩)) (fun e => H false ws' d5 d6 d7 d8 d9 ok3 ⟨fun z => (by cases z), fun z => absurd (h0.mpr (z i hi)) e⟩))
      by_cases ei : i' = i
      · rw [ei]; exact h0.mp e
      · exact hv i' (by omega)
/-! fixed(0, 2, b) -/
theorem gb_sub4 : ∀ z, z < 32 → gb_sub 4 z = z.testBit 2 := by decide +kernel
theorem gb_wish (b : Bool) : ((1 : Int32) <<< (((1 : Int32) <<< ((2 : Int32) &&& 31)) &&& 31)) ^^^ gb_bi b = gb_e 4 ^^^ gb_bi b := by cases b <;> decide
theorem gb_va_bi (b : Bool) (z : Nat) : gb_va (gb_bi b) z = b := by
  cases b
  · exact gb_va_0 z
  · have : gb_va (gb_e 0) z = true := by rw [gb_va_e (by decide), gb_sub_0]
    exact this
theorem gb_va_wish (b : Bool) {z : Nat} (hz : z < 32) : gb_va (gb_e 4 ^^^ gb_bi b) z = (z.testBit 2 ^^ b) := by
  rw [gb_va_xor, gb_va_e (by decide), gb_sub4 z hz, gb_va_bi]
theorem gb_w_fixed {post : Int32 → St2 → Prop} {c : Nat → Nat} {b : Bool} (ok : gb_ok c a1 a2 a3 a4 a7 a8 a9)
    (H : ∀ (d : Bool) ws' b5 b6 b7 b8 b9, gb_ok c a1 a2 a3 a4 b7 b8 b9 → (d = true ↔ ∀ z, z < 32 → gb_z a1 0 (c 0) z = true → (z.testBit 2 ^^ b) = false) → post (gb_bi d) (k0, ws', a1, a2, a3, a4, b5, b6, b7, b8, b9)) :
    wpX_fixed post (k0, ws, a1, a2, a3, a4, a5, a6, a7, a8, a9) 0 2 (gb_bi b) := by
  have main : wX_fixed_33 post 0 2 (gb_bi b) k0 ws a1 a2 a3 a4 a5 a6 a7 a8 a9 := by
    unfold wX_fixed_33
    refine nm_r (gb_wish b) (gb_w_no (k := 0) (by omega) ok (fun r ws' b5 b6 b7 b8 b9 ok' _ h0 => ?_))
    have h0' : r = 0 ↔ ∀ z, z < 32 → gb_z a1 0 (c 0) z = true → (z.testBit 2 ^^ b) = false := by
      rw [h0]
      constructor
      · intro h z hz hs; rw [← gb_va_wish b hz]; exact h z hz hs
      · intro h z hz hs; rw [gb_va_wish b hz]; exact h z hz hs
    exact br_c (fun e => H true ws' b5 b6 b7 b8 b9 ok' ⟨fun _ => h0'.mp e, fun _ => rfl⟩) (fun e => H false ws' b5 b6 b7 b8 b9 ok' ⟨fun z => (by cases z), fun z => absurd (h0'.mpr z) e⟩)
  unfold wpX_fixed
  dsimp only
  refine gb_w_id (k := 0) (by omega) (br_f gb_n10 (br_f (by decide) (br_t (by decide) ?_)))
  cases b
  · exact br_t rfl main
  · exact br_f gb_n10 (br_t rfl main)
/-! isZero, commonZeros, nextZero -/
theorem gb_w_iz {post : Int32 → Prop} {c : Nat → Nat} {k z : Nat} (hk : k < 2) (ok : gb_ok c a1 a2 a3 a4 a7 a8 a9) (H : post (gb_bi (gb_z a1 k (c k) z))) :
    wpX_isZero post (k0, ws, a1, a2, a3, a4, a5, a6, a7, a8, a9) (nI k) (nI z) := by
  obtain ⟨hc, h2, _⟩ := ok.2 k hk
  have e2 : a2 (nI k).toNatClampNeg = nI (c k) := by rw [nI_clamp (by omega)]; exact h2
  refine pk_loop (σ := Unit) (fun fu i _ => wX_isZero_2 post (nI k) (nI z) k0 ws a1 a2 a3 a4 a5 a6 a7 a8 a9 fu (nI i)) (fun i _ => ∀ j, j < i → gb_va (a1 (8 * k + j)) z = false) (c k) 0 () (by omega) (fun j hj => absurd hj (by omega)) ?_ ?_
  · intro fu _ hv
    have e : gb_z a1 k (c k) z = true := (gb_zN_iff _ z (c k)).mpr hv
    rw [e] at H
    exact ⟨pk_in k 2 hk, pk_le (c k) (c k) (fun _ => H) (fun z => absurd z (by omega)) e2⟩
  · intro fu i _ hi hv hw
    refine ⟨pk_in k 2 hk, pk_le (c k) i (fun z => absurd z (by omega)) (fun _ => ⟨?_, ?_⟩) e2⟩
    · rw [gb_i8]; exact pk_in (8 * k + i) 16 (by omega)
    · rw [gb_i8, nI_clamp (show 8 * k + i < 2 ^ 31 by omega)]
      refine gb_w_va (ek_if (gb_bi1 _) (fun hb => ?_) (fun hb => nm_r (nI_1 i) (hw () (fun j hj => ?_))))
      · have e : gb_z a1 k (c k) z = false := by
          rw [Bool.eq_false_iff]
          intro h
          have := (gb_zN_iff _ z (c k)).mp h i hi
          rw [hb] at this; cases this
        rw [e] at H
        exact H
      · by_cases e : j = i
        · rw [e]; exact Bool.eq_false_iff.mpr hb
        · exact hv j (by omega)
theorem gb_w_cz {post : Int32 → Prop} {c : Nat → Nat} (ok : gb_ok c a1 a2 a3 a4 a7 a8 a9) (H : post (nI (gb_cn (fun z => gb_z a1 0 (c 0) z && gb_z a1 1 (c 1) z) 32))) :
    wpX_commonZeros post (k0, ws, a1, a2, a3, a4, a5, a6, a7, a8, a9) := by
  refine pk_loop (σ := Unit) (fun fu i _ => wX_commonZeros_4 post k0 ws a1 a2 a3 a4 a5 a6 a7 a8 a9 fu (nI (gb_cn (fun z => gb_z a1 0 (c 0) z && gb_z a1 1 (c 1) z) i)) (nI i)) (fun _ _ => True) 32 0 () (by omega) trivial
    (fun fu _ _ => pk_le 32 32 (fun _ => H) (fun z => absurd z (by omega))) ?_
  intro fu i _ hi _ hw
  have t : wX_commonZeros_4 post k0 ws a1 a2 a3 a4 a5 a6 a7 a8 a9 fu (nI (gb_cn (fun z => gb_z a1 0 (c 0) z && gb_z a1 1 (c 1) z) i + (if (gb_z a1 0 (c 0) i && gb_z a1 1 (c 1) i) = true then 1 else 0))) (nI (i + 1)) := hw () trivial
  refine pk_le 32 i (fun z => absurd z (by omega)) (fun _ => gb_w_iz (k := 0) (by omega) ok (ek_if (gb_bi0 _) (fun h0 => nm_r (Int32.add_zero _) (nm_r (nI_1 i) ?_)) (fun h0 => gb_w_iz (k := 1) (by omega) ok (ek_if (gb_bi0 _) (fun h1 => nm_r (Int32.add_zero _) (nm_r (nI_1 i) ?_)) (fun h1 => nm_r (nI_1 _) (nm_r (nI_1 i) ?_))))))
  · rw [h0] at t; exact t
  · rw [h1, Bool.and_false] at t; exact t
  · rw [Bool.not_eq_false] at h0 h1
    rw [h0, h1] at t
    exact t
/-- the first zero behind a, or -2 -/
def gb_nz (zs : Nat → Bool) (a n : Nat) : Int32 := if gb_fi (fun z => zs z && decide (a < z)) n < n then nI (gb_fi (fun z => zs z && decide (a < z)) n) else -2
theorem gb_fi_eq {q : Nat → Bool} {n k : Nat} (hk : k < n) (h : q k = true) (h0 : ∀ i, i < k → q i = false) : gb_fi q n = k := by
  obtain ⟨_, h2, h3⟩ := gb_fi_p q n
  rcases Nat.lt_trichotomy (gb_fi q n) k with z | z | z
  · have := h3 (by omega); rw [h0 _ z] at this; cases this
  · exact z
  · have := h2 k z; rw [h] at this; cases this
theorem gb_w_nz {post : Int32 → Prop} {c : Nat → Nat} {k a : Nat} (hk : k < 2) (ha : a < 32) (ok : gb_ok c a1 a2 a3 a4 a7 a8 a9) (H : post (gb_nz (gb_z a1 k (c k)) a 32)) :
    wpX_nextZero post (k0, ws, a1, a2, a3, a4, a5, a6, a7, a8, a9) (nI k) (nI a) := by
  have none : (∀ z, z < 32 → (gb_z a1 k (c k) z && decide (a < z)) = false) → post (-2) := fun h => by
    unfold gb_nz at H
    rw [if_neg (fun z => by
      have := (gb_fi_p (fun z => gb_z a1 k (c k) z && decide (a < z)) 32).2.2 z
      have h' := h _ z
      rw [h'] at this; cases this)] at H
    exact H
  unfold wpX_nextZero
  dsimp only
  refine gb_w_id hk (br_f gb_n10 (pk_lt a 31 (fun hlt => br_t (nI_pos' (by omega)) (nm_r (nI_1 a) ?_)) (fun hge => none (fun z hz => by rw [decide_eq_false (by omega), Bool.and_false]))))
  refine pk_loop (σ := Unit) (fun fu i _ => wX_nextZero_30 post (nI k) k0 ws a1 a2 a3 a4 a5 a6 a7 a8 a9 fu (nI i)) (fun i _ => a < i ∧ ∀ z, z < i → (gb_z a1 k (c k) z && decide (a < z)) = false) 32 (a + 1) () (by omega) ⟨by omega, fun z hz => by rw [decide_eq_false (by omega), Bool.and_false]⟩ ?_ ?_
  · rintro fu _ ⟨_, hv⟩
    exact pk_le 32 32 (fun _ => none hv) (fun z => absurd z (by omega))
  · rintro fu i _ hi ⟨hai, hv⟩ hw
    refine pk_le 32 i (fun z => absurd z (by omega)) (fun _ => gb_w_iz hk ok (ek_if (gb_bi0 _) (fun h0 => nm_r (nI_1 i) (hw () ⟨by omega, fun z hz => ?_⟩)) (fun h0 => ?_)))
    · by_cases e : z = i
      · rw [e, h0]; rfl
      · exact hv z (by omega)
    · rw [Bool.not_eq_false] at h0
      have e : gb_fi (fun z => gb_z a1 k (c k) z && decide (a < z)) 32 = i := gb_fi_eq hi (by rw [h0, decide_eq_true hai]; rfl) hv
      unfold gb_nz at H
      rw [e, if_pos hi] at H
      exact H
/-! basisSize, basis -/
theorem gb_w_bs {post : Int32 → St2 → Prop} {c : Nat → Nat} (ok : gb_ok c a1 a2 a3 a4 a7 a8 a9) (hz : ∀ z, z < 32 → gb_z a1 0 (c 0) z = false)
    (H : ∀ ws' b5 b6 b7 b8 b9, gb_ok c a1 a2 a3 a4 b7 b8 b9 → post 1 (k0, ws', a1, a2, a3, a4, b5, b6, b7, b8, b9)) :
    wpX_basisSize post (k0, ws, a1, a2, a3, a4, a5, a6, a7, a8, a9) 0 := by
  unfold wpX_basisSize
  dsimp only
  refine gb_w_id (k := 0) (by omega) (br_f gb_n10 (gb_w_co (k := 0) (by omega) ok (fun ws' b5 b6 b7 b8 b9 ok' h9 => ⟨pk_in 0 2 (by omega), ?_⟩)))
  obtain ⟨s, e8, hs, hb, hu⟩ := (ok'.2 0 (by omega)).2.2 h9
  have e : b8 (0 : Int32).toNatClampNeg = 1 := by
    show b8 0 = 1
    rw [e8, hu hz]; rfl
  show post (b8 (0 : Int32).toNatClampNeg) _
  rw [e]
  exact H ws' b5 b6 b7 b8 b9 ok'
theorem gb_w_ba {post : Int32 → St2 → Prop} {c : Nat → Nat} (ok : gb_ok c a1 a2 a3 a4 a7 a8 a9) (hz : ∀ z, z < 32 → gb_z a1 0 (c 0) z = false)
    (H : ∀ ws' b5 b6 b7 b8 b9, gb_ok c a1 a2 a3 a4 b7 b8 b9 → post 1 (k0, ws', a1, a2, a3, a4, b5, b6, b7, b8, b9)) :
    wpX_basis post (k0, ws, a1, a2, a3, a4, a5, a6, a7, a8, a9) 0 0 := by
  unfold wpX_basis
  dsimp only
  refine gb_w_id (k := 0) (by omega) (br_f gb_n10 (gb_w_co (k := 0) (by omega) ok (fun ws' b5 b6 b7 b8 b9 ok' h9 => br_f (by decide) ⟨pk_in 0 2 (by omega), ?_⟩)))
  obtain ⟨s, e8, hs, hb, hu⟩ := (ok'.2 0 (by omega)).2.2 h9
  have e1 := hu hz
  rw [e1] at e8 hb
  have e : b8 (0 : Int32).toNatClampNeg = nI 1 := e8
  obtain ⟨t, ht, hs2⟩ := hb.2 (gb_e 0) 0 (fun z hz32 h => by rw [hz z hz32] at h; cases h) (gb_top_e (by decide))
  have t0 : t = 0 := by omega
  have hl0 : gb_ld (fun t => b7 (32 * 0 + t)) 0 = 0 := by
    rw [t0] at hs2
    have := gb_sub_le hs2
    rw [show gb_M 0 = 0 from rfl] at this
    omega
  have hne : b7 0 ≠ 0 := (hb.1 0 (by omega)).1
  have hi0 : gb_hi (b7 0) = 0 := by
    have := gb_ld_P (fun t => b7 (32 * 0 + t)) 0
    rw [hl0] at this
    exact this.symm
  have htop := gb_top_hi hne
  rw [hi0] at htop
  have eb : b7 0 = gb_e 0 := gb_ext (fun i hi => by
    rw [gb_te (by decide)]
    by_cases ei : i = 0
    · rw [ei, htop.2.1]; rfl
    · rw [htop.2.2 i (by omega), decide_eq_false ei])
  have eo : gb_out (gb_e 0) = 1 := by
    have := gb_out_in (gb_e 0)
    rw [gb_in_e (by decide)] at this
    exact this
  refine pk_le 1 0 (fun z => absurd z (by omega)) (fun _ => ⟨pk_in 0 64 (by omega), ?_⟩) e
  refine gb_w_out ok'.1 ?_
  show post (gb_out (b7 0)) _
  rw [eb, eo]
  exact H ws' b5 b6 b7 b8 b9 ok'
/-! generate, retract(0, 1), clear(0), init -/
theorem gb_w_gen {post : Int32 → St2 → Prop} {k c : Nat} {p : Int32} (hk : k < 2) (hc : c < 8) (h2 : a2 k = nI c)
    (H : post (nI (c + 1)) (k0, ws, upd a1 (8 * k + c) p, upd a2 k (nI (c + 1)), a3, a4, a5, a6, a7, a8, upd a9 k 0)) :
    wpX_generate post (k0, ws, a1, a2, a3, a4, a5, a6, a7, a8, a9) (nI k) p := by
  have e2 : a2 (nI k).toNatClampNeg = nI c := by rw [nI_clamp (by omega)]; exact h2
  unfold wpX_generate
  dsimp only
  rw [e2, gb_i8, nI_clamp (show 8 * k + c < 2 ^ 31 by omega), nI_1, nI_clamp (show k < 2 ^ 31 by omega)]
  refine gb_w_id hk (br_f gb_n10 ⟨pk_in k 2 hk, pk_eq c 8 (fun z => absurd z (by omega)) (fun _ => ⟨pk_in k 2 hk, pk_in (8 * k + c) 16 (by omega), nm_e ⟨pk_in k 2 hk, pk_in k 2 hk, nm_e ⟨pk_in k 2 hk, nm_e ⟨pk_in k 2 hk, ?_⟩⟩⟩⟩)⟩)
  rw [pk_us]
  exact H
theorem gb_w_retract {post : Int32 → St2 → Prop} (h2 : a2 0 = nI 2) (H : post 1 (k0, ws, a1, upd a2 0 1, a3, a4, a5, a6, a7, a8, upd a9 0 0)) :
    wpX_retract post (k0, ws, a1, a2, a3, a4, a5, a6, a7, a8, a9) 0 1 := by
  have e2 : a2 (0 : Int32).toNatClampNeg = nI 2 := h2
  unfold wpX_retract
  dsimp only
  refine gb_w_id (k := 0) (by omega) (br_f gb_n10 (br_f (by decide) ⟨pk_in 0 2 (by omega), pk_lt 1 2 (fun _ => nm_e ⟨1, ⟨pk_in 0 2 (by omega), pk_le 2 2 (fun _ => ⟨pk_in 0 2 (by omega), pk_in 0 2 (by omega), nm_r (e' := upd a2 0 1) ?_ ⟨pk_in 0 2 (by omega), nm_e ⟨pk_in 0 2 (by omega), ?_⟩⟩⟩) (fun z => absurd z (by omega)) e2⟩⟩) (fun z => absurd z (by omega)) rfl e2⟩))
  · rw [e2]; rfl
  · exact H
theorem gb_w_clear {post : Int32 → St2 → Prop} (H : post (a2 0) (k0, ws, a1, upd a2 0 0, a3, a4, a5, a6, a7, a8, upd a9 0 0)) :
    wpX_clear post (k0, ws, a1, a2, a3, a4, a5, a6, a7, a8, a9) 0 := by
  unfold wpX_clear
  dsimp only
  exact gb_w_id (k := 0) (by omega) (br_f gb_n10 ⟨pk_in 0 2 (by omega), nm_e ⟨pk_in 0 2 (by omega), nm_e ⟨pk_in 0 2 (by omega), nm_e H⟩⟩⟩)
theorem gb_w_init {post : St2 → Prop} {mc ms : Nat} (hc : 9 ≤ mc) (hs : 230 ≤ ms) (H : ∀ b3 b4, gb_T b3 b4 → post (0, ws, (fun _ => 0), (fun _ => 0), b3, b4, (fun _ => 0), (fun _ => 0), (fun _ => 0), (fun _ => 0), (fun _ => 0))) :
    wpX_init post mc ms (0, ws) := by
  unfold wpX_init
  dsimp only
  exact ⟨by omega, by omega, by omega, by omega, by omega, by omega, by omega, by omega, by omega, by omega, by omega, by omega, by omega, by omega, by omega, by omega, by omega, by omega, gb_w_arr H⟩
end
end
section
/-! part 10: the law's first loop: what a point does to the counts (printed by wip/D-11501/tools/gen10.py) -/
def gb_al (c : Nat → Bool) : Nat → Bool
  | 0 => true
  | n + 1 => c n && gb_al c n
theorem gb_al_iff (c : Nat → Bool) : ∀ n, gb_al c n = true ↔ ∀ i, i < n → c i = true
  | 0 => ⟨fun _ i hi => absurd hi (by omega), fun _ => rfl⟩
  | n + 1 => by
    have ih := gb_al_iff c n
    show (c n && gb_al c n) = true ↔ _
    rw [Bool.and_eq_true, ih]
    constructor
    · rintro ⟨h1, h2⟩ i hi
      by_cases e : i = n
      · rw [e]; exact h1
      · exact h2 i (by omega)
    · exact fun h => ⟨h n (by omega), fun i hi => h i (by omega)⟩
theorem gb_cn_0 (q : Nat → Bool) : ∀ n, gb_cn q n = 0 ↔ ∀ i, i < n → q i = false
  | 0 => ⟨fun _ i hi => absurd hi (by omega), fun _ => rfl⟩
  | n + 1 => by
    have ih := gb_cn_0 q n
    show gb_cn q n + (if q n = true then 1 else 0) = 0 ↔ _
    constructor
    · intro h i hi
      have h1 : q n = false := by
        cases e : q n
        · rfl
        · rw [e] at h; simp at h
      by_cases e : i = n
      · rw [e]; exact h1
      · exact ih.mp (by omega) i (by omega)
    · intro h
      rw [ih.mpr (fun i hi => h i (by omega)), h n (by omega)]; rfl
theorem gb_bit2 (z : Nat) : ((nI z >>> ((2 : Int32) &&& 31)) &&& 1) = 1 ↔ z.testBit 2 = true := by
  rw [← gb_it (a := z) (k := 2) (by omega)]
  exact gb_sb1 (k := 2) (by omega) (nI z)
theorem gb_bit20 (z : Nat) : ((nI z >>> ((2 : Int32) &&& 31)) &&& 1) = 0 ↔ z.testBit 2 = false := by
  rw [← gb_it (a := z) (k := 2) (by omega)]
  exact gb_sb0 (k := 2) (by omega) (nI z)
theorem gb_nz_pos {zs : Nat → Bool} {a n : Nat} (hn : n ≤ 32) : 0 ≤ gb_nz zs a n ↔ gb_fi (fun z => zs z && decide (a < z)) n < n := by
  unfold gb_nz
  by_cases c : gb_fi (fun z => zs z && decide (a < z)) n < n
  · rw [if_pos c]
    exact ⟨fun _ => c, fun _ => nI_pos' (by omega)⟩
  · rw [if_neg c]
    exact ⟨fun z => absurd z (by decide), fun z => absurd z c⟩
theorem gb_nz_old {zs : Nat → Bool} {a n : Nat} (h : gb_fi (fun z => zs z && decide (a < z)) n < n) : gb_nz zs a (n + 1) = gb_nz zs a n := by
  have e : gb_fi (fun z => zs z && decide (a < z)) (n + 1) = gb_fi (fun z => zs z && decide (a < z)) n := if_pos h
  unfold gb_nz
  rw [e, if_pos h, if_pos (by omega)]
theorem gb_nz_skip {zs : Nat → Bool} {a n : Nat} (h : (zs n && decide (a < n)) = false) : gb_nz zs a (n + 1) = gb_nz zs a n := by
  by_cases c : gb_fi (fun z => zs z && decide (a < z)) n < n
  · exact gb_nz_old c
  · have e : gb_fi (fun z => zs z && decide (a < z)) (n + 1) = n + 1 := by
      show (if gb_fi (fun z => zs z && decide (a < z)) n < n then gb_fi (fun z => zs z && decide (a < z)) n else if (zs n && decide (a < n)) = true then n else n + 1) = n + 1
      rw [if_neg c, if_neg (by rw [h]; simp)]
    unfold gb_nz
    rw [e, if_neg c, if_neg (by omega)]
theorem gb_nz_new {zs : Nat → Bool} {a n : Nat} (c : ¬ gb_fi (fun z => zs z && decide (a < z)) n < n) (h : (zs n && decide (a < n)) = true) : gb_nz zs a (n + 1) = nI n := by
  have e : gb_fi (fun z => zs z && decide (a < z)) (n + 1) = n := by
    show (if gb_fi (fun z => zs z && decide (a < z)) n < n then gb_fi (fun z => zs z && decide (a < z)) n else if (zs n && decide (a < n)) = true then n else n + 1) = n
    rw [if_neg c, if_pos h]
  unfold gb_nz
  rw [e, if_pos (by omega)]
section
variable {post : Int32 → St0 → Prop} {mc ms : Nat} {J70 J79 : Int32 → Int32 → Int32 → Int32 → Int32 → Int32 → Int32 → Int32 → Int32 → Prop}
  {x0 x1 x2 x3 x5 x6 x7 x8 x9 x10 x11 x12 x13 x14 : Int32} {j z n6 n7 n8 n10 n11 : Nat} {zb wb b12 b13 : Bool} {kc ks : Nat} {k0 ws : Int32} {a1 a2 a3 a4 a5 a6 a7 a8 a9 : Nat → Int32}
theorem gb_c265 (H : J79 x6 x7 x8 x9 x10 (nI (n11 + (if (zb && z.testBit 2) = true then 1 else 0))) x12 x13 (nI (j + 1))) : wL_lawOf_265 post mc ms J70 J79 x0 x1 x2 x3 x5 x6 x7 x8 x9 x10 (nI n11) x12 x13 x14 (nI j) (nI z) (gb_bi zb) kc ks k0 ws a1 a2 a3 a4 a5 a6 a7 a8 a9 := by
  unfold wL_lawOf_265
  cases zb
  · exact br_t rfl (nm_r (nI_1 j) H)
  · refine br_f gb_n10 (ek_if (gb_bit2 z) (fun hb => nm_r (nI_1 n11) (nm_r (nI_1 j) ?_)) (fun hb => nm_r (nI_1 j) ?_))
    · rw [hb] at H; exact H
    · rw [Bool.eq_false_iff.mpr hb] at H; exact H
theorem gb_c248 (H : wL_lawOf_265 post mc ms J70 J79 x0 x1 x2 x3 x5 x6 x7 x8 x9 (nI (n10 + (if (zb && !z.testBit 2) = true then 1 else 0))) x11 x12 x13 x14 (nI j) (nI z) (gb_bi zb) kc ks k0 ws a1 a2 a3 a4 a5 a6 a7 a8 a9) : wL_lawOf_248 post mc ms J70 J79 x0 x1 x2 x3 x5 x6 x7 x8 x9 (nI n10) x11 x12 x13 x14 (nI j) (nI z) (gb_bi zb) kc ks k0 ws a1 a2 a3 a4 a5 a6 a7 a8 a9 := by
  unfold wL_lawOf_248
  cases zb
  · exact br_t rfl H
  · refine br_f gb_n10 (ek_if (gb_bit20 z) (fun hb => nm_r (nI_1 n10) ?_) (fun hb => ?_))
    · rw [hb] at H; exact H
    · rw [Bool.not_eq_false] at hb; rw [hb] at H; exact H
theorem gb_c235 (H : wL_lawOf_248 post mc ms J70 J79 x0 x1 x2 x3 x5 x6 x7 x8 x9 x10 x11 x12 (gb_bi (!(!wb && !zb) && b13)) x14 (nI j) (nI z) (gb_bi zb) kc ks k0 ws a1 a2 a3 a4 a5 a6 a7 a8 a9) : wL_lawOf_235 post mc ms J70 J79 x0 x1 x2 x3 x5 x6 x7 x8 x9 x10 x11 x12 (gb_bi b13) x14 (nI j) (nI z) (gb_bi wb) (gb_bi zb) kc ks k0 ws a1 a2 a3 a4 a5 a6 a7 a8 a9 := by
  unfold wL_lawOf_235
  cases wb
  · cases zb
    · exact br_t rfl (br_t rfl H)
    · exact br_t rfl (br_f gb_n10 H)
  · exact br_f gb_n10 H
theorem gb_c221 (H : wL_lawOf_235 post mc ms J70 J79 x0 x1 x2 x3 x5 x6 x7 x8 x9 x10 x11 (gb_bi (!(zb && wb) && b12)) x13 x14 (nI j) (nI z) (gb_bi wb) (gb_bi zb) kc ks k0 ws a1 a2 a3 a4 a5 a6 a7 a8 a9) : wL_lawOf_221 post mc ms J70 J79 x0 x1 x2 x3 x5 x6 x7 x8 x9 x10 x11 (gb_bi b12) x13 x14 (nI j) (nI z) (gb_bi wb) (gb_bi zb) kc ks k0 ws a1 a2 a3 a4 a5 a6 a7 a8 a9 := by
  unfold wL_lawOf_221
  cases zb
  · exact br_t rfl H
  · cases wb
    · exact br_f gb_n10 (br_f (by decide) H)
    · exact br_f gb_n10 (br_t rfl H)
theorem gb_c198 {zs : Nat → Bool} {a : Nat} (hz : z < 32) (ha : a < 32) (hx : x3 &&& 31 = nI a) (H : wL_lawOf_221 post mc ms J70 J79 x0 x1 x2 x3 x5 x6 x7 x8 (gb_nz zs a (z + 1)) x10 x11 x12 x13 x14 (nI j) (nI z) (gb_bi wb) (gb_bi (zs z)) kc ks k0 ws a1 a2 a3 a4 a5 a6 a7 a8 a9) : wL_lawOf_198 post mc ms J70 J79 x0 x1 x2 x3 x5 x6 x7 x8 (gb_nz zs a z) x10 x11 x12 x13 x14 (nI j) (nI z) (gb_bi wb) (gb_bi (zs z)) kc ks k0 ws a1 a2 a3 a4 a5 a6 a7 a8 a9 := by
  unfold wL_lawOf_198
  rw [hx]
  cases hzb : zs z
  · rw [gb_nz_skip (by rw [hzb]; rfl), hzb] at H
    exact br_t rfl H
  · rw [hzb] at H
    refine br_f gb_n10 (pk_le z a (fun g => ?_) (fun g => ek_if (gb_nz_pos (by omega)) (fun c => ?_) (fun c => ?_)))
    · rw [gb_nz_skip (by rw [decide_eq_false (by omega), Bool.and_false])] at H
      exact H
    · rw [gb_nz_old c] at H
      exact H
    · rw [gb_nz_new c (by rw [hzb, decide_eq_true g]; rfl)] at H
      exact H
theorem gb_c185 (H : wL_lawOf_198 post mc ms J70 J79 x0 x1 x2 x3 x5 x6 x7 (nI (n8 + (if (zb && !wb) = true then 1 else 0))) x9 x10 x11 x12 x13 x14 (nI j) (nI z) (gb_bi wb) (gb_bi zb) kc ks k0 ws a1 a2 a3 a4 a5 a6 a7 a8 a9) : wL_lawOf_185 post mc ms J70 J79 x0 x1 x2 x3 x5 x6 x7 (nI n8) x9 x10 x11 x12 x13 x14 (nI j) (nI z) (gb_bi wb) (gb_bi zb) kc ks k0 ws a1 a2 a3 a4 a5 a6 a7 a8 a9 := by
  unfold wL_lawOf_185
  cases zb
  · exact br_t rfl H
  · cases wb
    · exact br_f gb_n10 (br_t rfl (nm_r (nI_1 n8) H))
    · exact br_f gb_n10 (br_f gb_n10 H)
theorem gb_c177 (H : wL_lawOf_185 post mc ms J70 J79 x0 x1 x2 x3 x5 x6 (nI (n7 + (if (!wb) = true then 1 else 0))) x8 x9 x10 x11 x12 x13 x14 (nI j) (nI z) (gb_bi wb) (gb_bi zb) kc ks k0 ws a1 a2 a3 a4 a5 a6 a7 a8 a9) : wL_lawOf_177 post mc ms J70 J79 x0 x1 x2 x3 x5 x6 (nI n7) x8 x9 x10 x11 x12 x13 x14 (nI j) (nI z) (gb_bi wb) (gb_bi zb) kc ks k0 ws a1 a2 a3 a4 a5 a6 a7 a8 a9 := by
  unfold wL_lawOf_177
  cases wb
  · exact br_t rfl (nm_r (nI_1 n7) H)
  · exact br_f gb_n10 H
theorem gb_c167 (H : wL_lawOf_177 post mc ms J70 J79 x0 x1 x2 x3 x5 (nI (n6 + (if zb = true then 1 else 0))) x7 x8 x9 x10 x11 x12 x13 x14 (nI j) (nI z) (gb_bi wb) (gb_bi zb) kc ks k0 ws a1 a2 a3 a4 a5 a6 a7 a8 a9) : wL_lawOf_167 post mc ms J70 J79 x0 x1 x2 x3 x5 (nI n6) x7 x8 x9 x10 x11 x12 x13 x14 (nI j) (nI z) (gb_bi wb) (gb_bi zb) kc ks k0 ws a1 a2 a3 a4 a5 a6 a7 a8 a9 := by
  unfold wL_lawOf_167
  cases zb
  · exact br_t rfl H
  · exact br_f gb_n10 (nm_r (nI_1 n6) H)
/-- the whole chain -/
theorem gb_chain {zs : Nat → Bool} {a : Nat} (hz : z < 32) (ha : a < 32) (hx : x3 &&& 31 = nI a)
    (H : J79 (nI (n6 + (if zs z = true then 1 else 0))) (nI (n7 + (if (!wb) = true then 1 else 0))) (nI (n8 + (if (zs z && !wb) = true then 1 else 0))) (gb_nz zs a (z + 1)) (nI (n10 + (if (zs z && !z.testBit 2) = true then 1 else 0))) (nI (n11 + (if (zs z && z.testBit 2) = true then 1 else 0))) (gb_bi (!(zs z && wb) && b12)) (gb_bi (!(!wb && !zs z) && b13)) (nI (j + 1))) :
    wL_lawOf_167 post mc ms J70 J79 x0 x1 x2 x3 x5 (nI n6) (nI n7) (nI n8) (gb_nz zs a z) (nI n10) (nI n11) (gb_bi b12) (gb_bi b13) x14 (nI j) (nI z) (gb_bi wb) (gb_bi (zs z)) kc ks k0 ws a1 a2 a3 a4 a5 a6 a7 a8 a9 :=
  gb_c167 (gb_c177 (gb_c185 (gb_c198 hz ha hx (gb_c221 (gb_c235 (gb_c248 (gb_c265 H)))))))
end
end
section
/-! part 11: the law's checks, its two loops, the law (printed by wip/D-11501/tools/gen11.py) -/
def gb_zz (p q : Int32) (z : Nat) : Bool := !gb_va p z && !gb_va q z
def gb_c21 (k : Nat) : Nat := if k = 0 then 2 else 1
def gb_c11 (k : Nat) : Nat := 1
def gb_c01 (k : Nat) : Nat := if k = 0 then 0 else 1
theorem gb_z_02 {a1 : Nat → Int32} {p q : Int32} (h0 : a1 0 = p) (h1 : a1 1 = q) : gb_z a1 0 (gb_c21 0) = gb_zz p q := by
  funext z
  show ((true && !gb_va (a1 0) z) && !gb_va (a1 1) z) = (!gb_va p z && !gb_va q z)
  rw [h0, h1, Bool.true_and]
theorem gb_z_11 {a1 : Nat → Int32} {r : Int32} (h8 : a1 8 = r) : gb_z a1 1 (gb_c21 1) = (fun z => !gb_va r z) := by
  funext z
  show (true && !gb_va (a1 8) z) = !gb_va r z
  rw [h8, Bool.true_and]
theorem gb_va_inj {x y : Int32} (h : ∀ z, z < 32 → gb_va x z = gb_va y z) : x = y := by
  have e : gb_in x = gb_in y := gb_val_inj (fun z hz => by rw [gb_val_in, gb_val_in]; exact h z hz)
  rw [← gb_out_in x, e, gb_out_in]
theorem gb_ok_set {c c' : Nat → Nat} {a1 a2 a3 a4 a7 a8 a9 : Nat → Int32} {e : Int32} (ok : gb_ok c a1 a2 a3 a4 a7 a8 a9) (hc : c' 0 ≤ 8) (he : e = nI (c' 0)) (h1 : c' 1 = c 1) : gb_ok c' a1 (upd a2 0 e) a3 a4 a7 a8 (upd a9 0 0) := by
  refine ⟨ok.1, fun k hk => ?_⟩
  by_cases e0 : k = 0
  · rw [e0]
    exact ⟨hc, by rw [pk_us, he], fun h => absurd pk_us h⟩
  · have e1 : k = 1 := by omega
    rw [e1, h1, pk_un (by decide), pk_un (by decide)]
    exact ok.2 1 (by omega)
section
variable {post : Int32 → St0 → Prop} {mc ms : Nat} {p q r x3 x5 nrm : Int32} {kc ks : Nat} {k0 ws : Int32} {a1 a2 a3 a4 a5 a6 a7 a8 a9 : Nat → Int32}
theorem gb_w_end {x6 : Int32} (e6 : x6 = nI (gb_cn (gb_zz p q) 32)) (ok : gb_ok gb_c21 a1 a2 a3 a4 a7 a8 a9) (h0 : a1 0 = p) (h1 : a1 1 = q)
    (hn : nrm = 0 ↔ ∀ z, z < 32 → gb_zz p q z = true → gb_va r z = false) (H : post 1 ()) {fu : Nat} :
    wL_lawOf_473 post mc ms p q r x6 nrm kc ks k0 ws a1 a2 a3 a4 a5 a6 a7 a8 a9 (fu + 1) 4 := by
  have eZ := gb_z_02 h0 h1
  have hle := gb_cn_le (gb_zz p q) 32
  refine pk_le 4 4 (fun _ => pk_eq (gb_cn (gb_zz p q) 32) 0 (fun e => ?_) (fun e => ?_) e6) (fun z => absurd z (by omega))
  · have hz' := (gb_cn_0 (gb_zz p q) 32).mp e
    have hz : ∀ z, z < 32 → gb_z a1 0 (gb_c21 0) z = false := fun z h => by rw [eZ]; exact hz' z h
    refine gb_w_bs ok hz (fun w' b5 b6 b7 b8 b9 ok' => br_t rfl (gb_w_ba ok' hz (fun w2 d5 d6 d7 d8 d9 ok2 => br_t rfl (br_t ?_ H))))
    exact hn.mpr (fun z h g => by rw [hz' z h] at g; cases g)
  · have h2 : a2 0 = nI 2 := (ok.2 0 (by omega)).2.1
    refine gb_w_retract h2 (br_t rfl (gb_w_zeros (k := 0) (c := gb_c11) (by omega) (gb_ok_set ok (by decide) rfl rfl) (fun w' b5 b6 b7 b8 b9 ok' => ?_)))
    have hle2 := gb_cn_le (gb_z a1 0 (gb_c11 0)) 32
    have hmono : gb_cn (gb_zz p q) 32 ≤ gb_cn (gb_z a1 0 (gb_c11 0)) 32 := gb_cn_mono (fun z hz g => by
      show (true && !gb_va (a1 0) z) = true
      rw [h0, Bool.true_and]
      unfold gb_zz at g
      rw [Bool.and_eq_true] at g
      exact g.1)
    refine pk_lt (gb_cn (gb_z a1 0 (gb_c11 0)) 32) (gb_cn (gb_zz p q) 32) (fun z => absurd z (by omega)) (fun _ => ?_) rfl e6
    refine gb_w_clear (br_t rfl (gb_w_zeros (k := 0) (c := gb_c01) (by omega) (gb_ok_set ok' (by decide) rfl rfl) (fun w2 d5 d6 d7 d8 d9 ok2 => ?_)))
    refine br_t (by rfl) (gb_w_normal (k := 0) (c := gb_c01) (by omega) ok2 (fun r' w3 f5 f6 f7 f8 f9 ok3 hv _ => br_t ?_ H))
    exact gb_va_inj (fun z hz => hv z hz rfl)
theorem gb_w_473 {x6 : Int32} (e6 : x6 = nI (gb_cn (gb_zz p q) 32)) (ok : gb_ok gb_c21 a1 a2 a3 a4 a7 a8 a9) (h0 : a1 0 = p) (h1 : a1 1 = q)
    (hv : ∀ z, z < 32 → gb_zz p q z = true → gb_va nrm z = gb_va r z) (hn : nrm = 0 ↔ ∀ z, z < 32 → gb_zz p q z = true → gb_va r z = false) (H : post 1 ()) :
    ∃ fu, wL_lawOf_473 post mc ms p q r x6 nrm kc ks k0 ws a1 a2 a3 a4 a5 a6 a7 a8 a9 fu 0 := by
  refine pk_loop (σ := Unit) (fun fu i _ => wL_lawOf_473 post mc ms p q r x6 nrm kc ks k0 ws a1 a2 a3 a4 a5 a6 a7 a8 a9 fu (nI i)) (fun _ _ => True) 4 0 () (by omega) trivial ?_ ?_
  · intro fu _ _
    exact gb_w_end e6 ok h0 h1 hn H
  · intro fu i _ hi _ hw
    refine pk_le 4 i (fun z => absurd z (by omega)) (fun _ => ?_)
    refine pk_loop (σ := Unit) (fun fu' j _ => wL_lawOf_482 post mc ms (wL_lawOf_473 post mc ms p q r x6 nrm kc ks k0 ws a1 a2 a3 a4 a5 a6 a7 a8 a9 fu) p q r x6 nrm (nI i) kc ks k0 ws a1 a2 a3 a4 a5 a6 a7 a8 a9 fu' (nI j)) (fun _ _ => True) 8 0 () (by omega) trivial
      (fun fu' _ _ => pk_le 8 8 (fun _ => nm_r (nI_1 i) (hw () trivial)) (fun z => absurd z (by omega))) ?_
    intro fu' j _ hj _ hw2
    have t := hw2 () trivial
    have hm : 8 * i + j < 32 := by omega
    refine pk_le 8 j (fun z => absurd z (by omega)) (fun _ => nm_r (gb_i8 i j) (gb_w_lv (ek_if (gb_bi0 _) (fun hp => gb_w_lv (ek_if (gb_bi0 _) (fun hq => gb_w_lv (gb_w_lv (br_t ?_ (nm_r (nI_1 j) t)))) (fun hq => nm_r (nI_1 j) t))) (fun hp => nm_r (nI_1 j) t))))
    rw [hv _ hm (by unfold gb_zz; rw [hp, hq]; rfl)]
theorem gb_w_456 {x6 e : Int32} (e6 : x6 = nI (gb_cn (gb_zz p q) 32)) (ok : gb_ok gb_c21 a1 a2 a3 a4 a7 a8 a9) (h0 : a1 0 = p) (h1 : a1 1 = q) (H : post 1 ()) :
    wL_lawOf_456 post mc ms p q r x6 e e kc ks k0 ws a1 a2 a3 a4 a5 a6 a7 a8 a9 := by
  unfold wL_lawOf_456
  have eZ := gb_z_02 h0 h1
  refine br_t rfl (gb_w_normal (k := 0) (c := gb_c21) (by omega) ok (fun r' w' b5 b6 b7 b8 b9 ok' hv hn => ?_))
  rw [eZ] at hv hn
  exact gb_w_473 e6 ok' h0 h1 hv hn H
theorem gb_w_435 {x6 e : Int32} {n10 : Nat} (e6 : x6 = nI (gb_cn (gb_zz p q) 32)) (ok : gb_ok gb_c21 a1 a2 a3 a4 a7 a8 a9) (h0 : a1 0 = p) (h1 : a1 1 = q) (l10 : n10 ≤ 32)
    (E10 : n10 = 0 ↔ ∀ z, z < 32 → gb_zz p q z = true → (z.testBit 2 ^^ true) = false) (H : post 1 ()) :
    wL_lawOf_435 post mc ms p q r x6 (nI n10) e e kc ks k0 ws a1 a2 a3 a4 a5 a6 a7 a8 a9 := by
  unfold wL_lawOf_435
  have eZ := gb_z_02 h0 h1
  refine br_t rfl (gb_w_fixed (b := true) ok (fun d w' b5 b6 b7 b8 b9 ok' hd => ?_))
  rw [eZ, ← E10] at hd
  refine pk_eq n10 0 (fun z => ?_) (fun z => ?_)
  · rw [hd.mpr z]
    exact gb_w_456 e6 ok' h0 h1 H
  · rw [Bool.eq_false_iff.mpr (fun y => z (hd.mp y))]
    exact gb_w_456 e6 ok' h0 h1 H
theorem gb_w_412 {x6 e : Int32} {n10 n11 : Nat} (e6 : x6 = nI (gb_cn (gb_zz p q) 32)) (ok : gb_ok gb_c21 a1 a2 a3 a4 a7 a8 a9) (h0 : a1 0 = p) (h1 : a1 1 = q) (l10 : n10 ≤ 32) (l11 : n11 ≤ 32)
    (E10 : n10 = 0 ↔ ∀ z, z < 32 → gb_zz p q z = true → (z.testBit 2 ^^ true) = false) (E11 : n11 = 0 ↔ ∀ z, z < 32 → gb_zz p q z = true → (z.testBit 2 ^^ false) = false) (H : post 1 ()) :
    wL_lawOf_412 post mc ms p q r x6 (nI n10) (nI n11) e e kc ks k0 ws a1 a2 a3 a4 a5 a6 a7 a8 a9 := by
  unfold wL_lawOf_412
  have eZ := gb_z_02 h0 h1
  refine br_t rfl (gb_w_fixed (b := false) ok (fun d w' b5 b6 b7 b8 b9 ok' hd => ?_))
  rw [eZ, ← E11] at hd
  refine pk_eq n11 0 (fun z => ?_) (fun z => ?_)
  · rw [hd.mpr z]
    exact gb_w_435 e6 ok' h0 h1 l10 E10 H
  · rw [Bool.eq_false_iff.mpr (fun y => z (hd.mp y))]
    exact gb_w_435 e6 ok' h0 h1 l10 E10 H
/-- two Bools that ask the same -/
theorem gb_beq {a b : Bool} {P : Prop} (ha : a = true ↔ P) (hb : b = true ↔ P) : a = b := by
  rw [Bool.eq_iff_iff, ha, hb]
/-- an int that is chosen by a flag -/
theorem gb_sel {F : Int32 → Prop} {b : Bool} (H : F (gb_bi b)) : (gb_bi b = 0 → F 0) ∧ (¬ gb_bi b = 0 → F 1) := by
  cases b
  · exact br_t rfl H
  · exact br_f gb_n10 H
theorem gb_w_393 {x6 e : Int32} {n10 n11 : Nat} {b12 : Bool} (e6 : x6 = nI (gb_cn (gb_zz p q) 32)) (ok : gb_ok gb_c21 a1 a2 a3 a4 a7 a8 a9) (h0 : a1 0 = p) (h1 : a1 1 = q) (h8 : a1 8 = r) (l10 : n10 ≤ 32) (l11 : n11 ≤ 32)
    (E10 : n10 = 0 ↔ ∀ z, z < 32 → gb_zz p q z = true → (z.testBit 2 ^^ true) = false) (E11 : n11 = 0 ↔ ∀ z, z < 32 → gb_zz p q z = true → (z.testBit 2 ^^ false) = false)
    (E12 : b12 = true ↔ ∀ z, z < 32 → gb_zz p q z = true → gb_va r z = false) (H : post 1 ()) :
    wL_lawOf_393 post mc ms p q r x6 (nI n10) (nI n11) (gb_bi b12) e e kc ks k0 ws a1 a2 a3 a4 a5 a6 a7 a8 a9 := by
  unfold wL_lawOf_393
  have eZ := gb_z_02 h0 h1
  refine br_t rfl (gb_w_within (k := 1) (by omega) ok (fun d w' b5 b6 b7 b8 b9 ok' hd => ?_))
  have hd' : d = true ↔ ∀ z, z < 32 → gb_zz p q z = true → gb_va r z = false := by
    rw [hd]
    constructor
    · intro h z hz hs
      have := h 0 (by decide) z hz (by show gb_z a1 0 (gb_c21 0) z = true; rw [eZ]; exact hs)
      rw [← h8]; exact this
    · intro h i hi z hz hs
      have i0 : i = 0 := by have : i < 1 := hi; omega
      rw [i0]
      show gb_va (a1 8) z = false
      rw [h8]
      exact h z hz (by rw [← eZ]; exact hs)
  rw [gb_beq hd' E12]
  exact gb_sel (F := fun v => wL_lawOf_412 post mc ms p q r x6 (nI n10) (nI n11) v (gb_bi b12) kc ks k0 w' a1 a2 a3 a4 b5 b6 b7 b8 b9) (gb_w_412 e6 ok' h0 h1 l10 l11 E10 E11 H)
theorem gb_w_372 {x6 e : Int32} {n10 n11 : Nat} {b12 b13 : Bool} (e6 : x6 = nI (gb_cn (gb_zz p q) 32)) (ok : gb_ok gb_c21 a1 a2 a3 a4 a7 a8 a9) (h0 : a1 0 = p) (h1 : a1 1 = q) (h8 : a1 8 = r) (l10 : n10 ≤ 32) (l11 : n11 ≤ 32)
    (E10 : n10 = 0 ↔ ∀ z, z < 32 → gb_zz p q z = true → (z.testBit 2 ^^ true) = false) (E11 : n11 = 0 ↔ ∀ z, z < 32 → gb_zz p q z = true → (z.testBit 2 ^^ false) = false)
    (E12 : b12 = true ↔ ∀ z, z < 32 → gb_zz p q z = true → gb_va r z = false) (E13 : b13 = true ↔ ∀ z, z < 32 → gb_va r z = false → gb_zz p q z = true) (H : post 1 ()) :
    wL_lawOf_372 post mc ms p q r x6 (nI n10) (nI n11) (gb_bi b12) (gb_bi b13) e e kc ks k0 ws a1 a2 a3 a4 a5 a6 a7 a8 a9 := by
  unfold wL_lawOf_372
  have eO := gb_z_11 h8
  refine br_t rfl (gb_w_within (k := 0) (by omega) ok (fun d w' b5 b6 b7 b8 b9 ok' hd => ?_))
  have hd' : d = true ↔ ∀ z, z < 32 → gb_va r z = false → gb_zz p q z = true := by
    rw [hd]
    constructor
    · intro h z hz hs
      have hO : gb_z a1 (1 - 0) (gb_c21 (1 - 0)) z = true := by show gb_z a1 1 (gb_c21 1) z = true; rw [eO]; show (!gb_va r z) = true; rw [hs]; rfl
      have e0 : gb_va p z = false := by rw [← h0]; exact h 0 (by decide) z hz hO
      have e1 : gb_va q z = false := by rw [← h1]; exact h 1 (by decide) z hz hO
      unfold gb_zz
      rw [e0, e1]; rfl
    · intro h i hi z hz hs
      have hO : gb_va r z = false := by
        have hs' : gb_z a1 1 (gb_c21 1) z = true := hs
        rw [eO] at hs'
        have hs2 : (!gb_va r z) = true := hs'
        rw [Bool.not_eq_true'] at hs2
        exact hs2
      have g := h z hz hO
      unfold gb_zz at g
      rw [Bool.and_eq_true, Bool.not_eq_true', Bool.not_eq_true'] at g
      have i2 : i < 2 := hi
      rcases (show i = 0 ∨ i = 1 by omega) with e | e
      · rw [e]; show gb_va (a1 0) z = false; rw [h0]; exact g.1
      · rw [e]; show gb_va (a1 1) z = false; rw [h1]; exact g.2
  rw [gb_beq hd' E13]
  exact gb_sel (F := fun v => wL_lawOf_393 post mc ms p q r x6 (nI n10) (nI n11) (gb_bi b12) v (gb_bi b13) kc ks k0 w' a1 a2 a3 a4 b5 b6 b7 b8 b9) (gb_w_393 e6 ok' h0 h1 h8 l10 l11 E10 E11 E12 H)
/-- behind the first loop -/
theorem gb_w_mid {a : Nat} (ha : a < 32) (hx : x3 &&& 31 = nI a) (ok : gb_ok gb_c21 a1 a2 a3 a4 a7 a8 a9) (h0 : a1 0 = p) (h1 : a1 1 = q) (h8 : a1 8 = r) (H : post 1 ()) {fu : Nat} :
    wL_lawOf_70 post mc ms p q r x3 x5 kc ks k0 ws a1 a2 a3 a4 a5 a6 a7 a8 a9 (fu + 1) (nI (gb_cn (gb_zz p q) (32))) (nI (gb_cn (fun z => !gb_va r z) (32))) (nI (gb_cn (fun z => gb_zz p q z && !gb_va r z) (32))) (gb_nz (gb_zz p q) a (32)) (nI (gb_cn (fun z => gb_zz p q z && !z.testBit 2) (32))) (nI (gb_cn (fun z => gb_zz p q z && z.testBit 2) (32))) (gb_bi (gb_al (fun z => !(gb_zz p q z && gb_va r z)) (32))) (gb_bi (gb_al (fun z => !(!gb_va r z && !gb_zz p q z)) (32))) 4 := by
  have eZ := gb_z_02 h0 h1
  have eO := gb_z_11 h8
  refine pk_le 4 4 (fun _ => gb_w_zeros (k := 0) (by omega) ok (fun w1 b5 b6 b7 b8 b9 ok1 => br_t (by rw [eZ]) ?_)) (fun z => absurd z (by omega))
  refine gb_w_standard (k := 0) (by omega) ok1 (fun w2 b5 b6 b7 b8 b9 ok2 => br_t (by rw [eZ]) ?_)
  refine gb_w_zeros (k := 1) (by omega) ok2 (fun w3 b5 b6 b7 b8 b9 ok3 => br_t (by rw [eO]) ?_)
  refine gb_w_cz ok3 (br_t (by rw [eZ, eO]) ?_)
  rw [hx]
  refine gb_w_nz (k := 0) (by omega) ha ok3 (br_t (by rw [eZ]) ?_)
  refine gb_w_contains (k := 0) (by omega) ok3 (fun d w4 b5 b6 b7 b8 b9 ok4 hd => ?_)
  rw [eZ] at hd
  have E12 : gb_al (fun z => !(gb_zz p q z && gb_va r z)) 32 = true ↔ ∀ z, z < 32 → gb_zz p q z = true → gb_va r z = false := by
    rw [gb_al_iff]
    constructor
    · intro h z hz hs
      have h1 : (!(gb_zz p q z && gb_va r z)) = true := h z hz
      rw [hs, Bool.true_and, Bool.not_eq_true'] at h1
      exact h1
    · intro h z hz
      show (!(gb_zz p q z && gb_va r z)) = true
      cases e : gb_zz p q z
      · rfl
      · rw [h z hz e]; rfl
  have E13 : gb_al (fun z => !(!gb_va r z && !gb_zz p q z)) 32 = true ↔ ∀ z, z < 32 → gb_va r z = false → gb_zz p q z = true := by
    rw [gb_al_iff]
    constructor
    · intro h z hz hs
      have h1 : (!(!gb_va r z && !gb_zz p q z)) = true := h z hz
      rw [hs] at h1
      revert h1
      cases gb_zz p q z <;> simp
    · intro h z hz
      show (!(!gb_va r z && !gb_zz p q z)) = true
      cases e : gb_va r z
      · rw [h z hz e]; rfl
      · rfl
  have E10 : gb_cn (fun z => gb_zz p q z && !z.testBit 2) 32 = 0 ↔ ∀ z, z < 32 → gb_zz p q z = true → (z.testBit 2 ^^ true) = false := by
    rw [gb_cn_0]
    constructor
    · intro h z hz hs
      have h1 : (gb_zz p q z && !z.testBit 2) = false := h z hz
      rw [hs] at h1
      revert h1
      cases z.testBit 2 <;> simp
    · intro h z hz
      show (gb_zz p q z && !z.testBit 2) = false
      cases e : gb_zz p q z
      · rfl
      · have := h z hz e
        revert this
        cases z.testBit 2 <;> simp
  have E11 : gb_cn (fun z => gb_zz p q z && z.testBit 2) 32 = 0 ↔ ∀ z, z < 32 → gb_zz p q z = true → (z.testBit 2 ^^ false) = false := by
    rw [gb_cn_0]
    constructor
    · intro h z hz hs
      have h1 : (gb_zz p q z && z.testBit 2) = false := h z hz
      rw [hs] at h1
      revert h1
      cases z.testBit 2 <;> simp
    · intro h z hz
      show (gb_zz p q z && z.testBit 2) = false
      cases e : gb_zz p q z
      · rfl
      · have := h z hz e
        revert this
        cases z.testBit 2 <;> simp
  rw [gb_beq hd E12]
  exact gb_sel (F := fun v => wL_lawOf_372 post mc ms p q r (nI (gb_cn (gb_zz p q) 32)) (nI (gb_cn (fun z => gb_zz p q z && !z.testBit 2) 32)) (nI (gb_cn (fun z => gb_zz p q z && z.testBit 2) 32)) (gb_bi (gb_al (fun z => !(gb_zz p q z && gb_va r z)) 32)) (gb_bi (gb_al (fun z => !(!gb_va r z && !gb_zz p q z)) 32)) v (gb_bi (gb_al (fun z => !(gb_zz p q z && gb_va r z)) 32)) kc ks k0 w4 a1 a2 a3 a4 b5 b6 b7 b8 b9)
    (gb_w_372 rfl ok4 h0 h1 h8 (gb_cn_le _ 32) (gb_cn_le _ 32) E10 E11 E12 E13 H)
/-- the first loop -/
theorem gb_w_70 {a : Nat} (ha : a < 32) (hx : x3 &&& 31 = nI a) (ok : gb_ok gb_c21 a1 a2 a3 a4 a7 a8 a9) (h0 : a1 0 = p) (h1 : a1 1 = q) (h8 : a1 8 = r) (h5 : ∀ z, gb_va x5 z = (gb_va p z && gb_va r z)) (H : post 1 ()) :
    ∃ fu, wL_lawOf_70 post mc ms p q r x3 x5 kc ks k0 ws a1 a2 a3 a4 a5 a6 a7 a8 a9 fu 0 0 0 (-2) 0 0 1 1 0 := by
  refine pk_loop (σ := Unit) (fun fu i _ => wL_lawOf_70 post mc ms p q r x3 x5 kc ks k0 ws a1 a2 a3 a4 a5 a6 a7 a8 a9 fu (nI (gb_cn (gb_zz p q) (8 * i))) (nI (gb_cn (fun z => !gb_va r z) (8 * i))) (nI (gb_cn (fun z => gb_zz p q z && !gb_va r z) (8 * i))) (gb_nz (gb_zz p q) a (8 * i)) (nI (gb_cn (fun z => gb_zz p q z && !z.testBit 2) (8 * i))) (nI (gb_cn (fun z => gb_zz p q z && z.testBit 2) (8 * i))) (gb_bi (gb_al (fun z => !(gb_zz p q z && gb_va r z)) (8 * i))) (gb_bi (gb_al (fun z => !(!gb_va r z && !gb_zz p q z)) (8 * i))) (nI i)) (fun _ _ => True) 4 0 () (by omega) trivial ?_ ?_
  · intro fu _ _
    exact gb_w_mid ha hx ok h0 h1 h8 H
  · intro fu i _ hi _ hw
    refine pk_le 4 i (fun z => absurd z (by omega)) (fun _ => ?_)
    refine pk_loop (σ := Unit) (fun fu' j _ => wL_lawOf_79 post mc ms (wL_lawOf_70 post mc ms p q r x3 x5 kc ks k0 ws a1 a2 a3 a4 a5 a6 a7 a8 a9 fu) p q r x3 x5 (nI i) kc ks k0 ws a1 a2 a3 a4 a5 a6 a7 a8 a9 fu' (nI (gb_cn (gb_zz p q) (8 * i + j))) (nI (gb_cn (fun z => !gb_va r z) (8 * i + j))) (nI (gb_cn (fun z => gb_zz p q z && !gb_va r z) (8 * i + j))) (gb_nz (gb_zz p q) a (8 * i + j)) (nI (gb_cn (fun z => gb_zz p q z && !z.testBit 2) (8 * i + j))) (nI (gb_cn (fun z => gb_zz p q z && z.testBit 2) (8 * i + j))) (gb_bi (gb_al (fun z => !(gb_zz p q z && gb_va r z)) (8 * i + j))) (gb_bi (gb_al (fun z => !(!gb_va r z && !gb_zz p q z)) (8 * i + j))) (nI j)) (fun _ _ => True) 8 0 () (by omega) trivial
      (fun fu' _ _ => pk_le 8 8 (fun _ => nm_r (nI_1 i) (hw () trivial)) (fun z => absurd z (by omega))) ?_
    intro fu' j _ hj _ hw2
    have t := hw2 () trivial
    have hm : 8 * i + j < 32 := by omega
    refine pk_le 8 j (fun z => absurd z (by omega)) (fun _ => nm_r (gb_i8 i j) (gb_w_lv (gb_w_lv (gb_w_lv (gb_w_value hm (br_t rfl (gb_w_value hm (br_t ?_ ?_))))))))
    · rw [h5, gb_bi_and]
    · have ch := gb_chain (post := post) (mc := mc) (ms := ms) (J70 := wL_lawOf_70 post mc ms p q r x3 x5 kc ks k0 ws a1 a2 a3 a4 a5 a6 a7 a8 a9 fu) (x0 := p) (x1 := q) (x2 := r) (x5 := x5) (x14 := nI i) (kc := kc) (ks := ks) (k0 := k0) (ws := ws) (a1 := a1) (a2 := a2) (a3 := a3) (a4 := a4) (a5 := a5) (a6 := a6) (a7 := a7) (a8 := a8) (a9 := a9) hm ha hx t
      cases hp : gb_va p (8 * i + j)
      · cases hq : gb_va q (8 * i + j)
        · have e : gb_zz p q (8 * i + j) = true := by unfold gb_zz; rw [hp, hq]; rfl
          rw [e] at ch
          exact br_t rfl (br_t rfl ch)
        · have e : gb_zz p q (8 * i + j) = false := by unfold gb_zz; rw [hp, hq]; rfl
          rw [e] at ch
          exact br_t rfl (br_f gb_n10 ch)
      · have e : gb_zz p q (8 * i + j) = false := by unfold gb_zz; rw [hp]; rfl
        rw [e] at ch
        exact br_f gb_n10 ch
end
theorem gb_w_law {post : Int32 → St0 → Prop} {p q r x3 : Int32} (H : post 1 ()) : wpL_lawOf post 10 241 () p q r x3 := by
  refine ⟨by omega, by omega, 9, 230, by omega, by omega, gb_w_init (by omega) (by omega) (fun b3 b4 T => ?_)⟩
  refine gb_w_gen (k := 0) (c := 0) (by omega) (by omega) rfl ?_
  refine gb_w_gen (k := 0) (c := 1) (by omega) (by omega) rfl ?_
  refine gb_w_gen (k := 1) (c := 0) (by omega) (by omega) rfl ?_
  refine gb_w_prod T ?_
  obtain ⟨a, ha, hx⟩ := pk_andE x3 (m := 31) 5 (by decide)
  refine gb_w_70 ha hx ⟨T, fun k hk => ?_⟩ rfl rfl rfl (fun z => ?_) H
  · rcases (show k = 0 ∨ k = 1 by omega) with e | e
    · rw [e]
      exact ⟨by decide, rfl, fun h => absurd rfl h⟩
    · rw [e]
      exact ⟨by decide, rfl, fun h => absurd rfl h⟩
  · rw [gb_va_out, gb_val_mu, gb_val_in, gb_val_in]
theorem gb_w_cell {post : Int32 → Prop} {L : Nat} {xs : Nat → Int32} {k : Nat} (hL : L ≤ 4) (hk : k < 4) (H : ∀ v, post v) : wpL_cellAt post L xs () (nI k) :=
  pk_le L k (fun _ => H 0) (fun h => ⟨pk_in k L h, H _⟩)
theorem i_vc (xs : Nat → Int32) (L : Nat) (hL : L ≤ 4) : wpL_law (fun r => r = 1) L xs := by
  unfold wpL_law
  refine gb_w_cell (k := 0) hL (by omega) (fun p => gb_w_cell (k := 1) hL (by omega) (fun q => gb_w_cell (k := 2) hL (by omega) (fun r => gb_w_cell (k := 3) hL (by omega) (fun x3 => ⟨10, 241, by omega, by omega, gb_w_law rfl⟩))))
end
