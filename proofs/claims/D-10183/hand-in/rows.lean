section
/-! bits of an Int32 (begun as the first family of laws/BITS.to-paste, renamed) -/
def sj_bt (x : Int32) (i : Nat) : Bool := x.toBitVec.getLsbD i
theorem sj_bext {x y : Int32} (h : ∀ i, i < 32 → sj_bt x i = sj_bt y i) : x = y := Int32.toBitVec_inj.mp (BitVec.eq_of_getLsbD_eq (fun i hi => h i hi))
theorem sj_bor (x y : Int32) (i : Nat) : sj_bt (x ||| y) i = (sj_bt x i || sj_bt y i) := by unfold sj_bt; rw [Int32.toBitVec_or, BitVec.getLsbD_or]
theorem sj_band (x y : Int32) (i : Nat) : sj_bt (x &&& y) i = (sj_bt x i && sj_bt y i) := by unfold sj_bt; rw [Int32.toBitVec_and, BitVec.getLsbD_and]
theorem sj_bxor (x y : Int32) (i : Nat) : sj_bt (x ^^^ y) i = (sj_bt x i ^^ sj_bt y i) := by unfold sj_bt; rw [Int32.toBitVec_xor, BitVec.getLsbD_xor]
theorem sj_bbig {x : Int32} {i : Nat} (h : 32 ≤ i) : sj_bt x i = false := BitVec.getLsbD_of_ge _ _ h
theorem sj_bm1 : ∀ i, i < 32 → sj_bt (-1) i = true := by decide +kernel
theorem sj_b0 (i : Nat) : sj_bt 0 i = false := BitVec.getLsbD_zero
theorem sj_b1 : ∀ i, i < 32 → sj_bt 1 i = decide (i = 0) := by decide +kernel
theorem sj_sl : ∀ n, n < 32 → ((nI n &&& 31).toBitVec.smod 32).toNat = n := by decide +kernel
theorem sj_su : ∀ n, n < 32 → (((nI n).toUInt32 &&& Int32.toUInt32 31).toBitVec % 32).toNat = n := by decide +kernel
theorem sj_bushr (n : Nat) (hn : n < 32) (x : Int32) (i : Nat) : sj_bt ((x.toUInt32 >>> ((nI n).toUInt32 &&& Int32.toUInt32 31)).toInt32) i = sj_bt x (n + i) := by
  show (x.toUInt32 >>> ((nI n).toUInt32 &&& Int32.toUInt32 31)).toBitVec.getLsbD i = x.toUInt32.toBitVec.getLsbD (n + i)
  rw [UInt32.toBitVec_shiftRight]
  show (x.toUInt32.toBitVec >>> (((nI n).toUInt32 &&& Int32.toUInt32 31).toBitVec % 32).toNat).getLsbD i = _
  rw [sj_su n hn, BitVec.getLsbD_ushiftRight]
theorem sj_bsshr (n : Nat) (hn : n < 32) (x : Int32) {i : Nat} (hi : i < 32) : sj_bt (x >>> (nI n &&& 31)) i = if n + i < 32 then sj_bt x (n + i) else sj_bt x 31 := by
  unfold sj_bt
  rw [Int32.toBitVec_shiftRight]
  show (x.toBitVec.sshiftRight ((nI n &&& 31).toBitVec.smod 32).toNat).getLsbD i = _
  rw [sj_sl n hn, BitVec.getLsbD_sshiftRight, BitVec.msb_eq_getLsbD_last]
  simp [hi]
/-- one bit, set: 1 << n -/
theorem sj_one : ∀ n, n < 32 → ∀ i, i < 32 → sj_bt ((1 : Int32) <<< (nI n &&& 31)) i = decide (i = n) := by decide +kernel
/-- the test (x >> b) & 1 -/
theorem sj_tst (x : Int32) {b : Nat} (hb : b < 32) : (x >>> (nI b &&& 31)) &&& 1 = nI (sj_bt x b).toNat := by
  apply sj_bext
  intro i hi
  rw [sj_band, sj_bsshr b hb x hi, sj_b1 i hi]
  by_cases h0 : i = 0
  · subst h0
    simp only [Nat.add_zero, hb, if_true, decide_true, Bool.and_true]
    cases sj_bt x b
    · exact (by decide : false = sj_bt (nI (Bool.toNat false)) 0)
    · exact (by decide : true = sj_bt (nI (Bool.toNat true)) 0)
  · rw [decide_eq_false h0, Bool.and_false]
    cases sj_bt x b
    · exact (sj_b0 i).symm
    · have := sj_b1 i hi
      rw [decide_eq_false h0] at this
      exact this.symm
theorem sj_tst1 (x : Int32) {b : Nat} (hb : b < 32) : (x >>> (nI b &&& 31)) &&& 1 = 1 ↔ sj_bt x b = true := by
  rw [sj_tst x hb]
  cases sj_bt x b
  · exact ⟨fun h => absurd h (by decide), fun h => absurd h (by decide)⟩
  · exact ⟨fun _ => rfl, fun _ => rfl⟩
/-- the test x & (1 << b) -/
theorem sj_and0 (x : Int32) {b : Nat} (hb : b < 32) : x &&& ((1 : Int32) <<< (nI b &&& 31)) = 0 ↔ sj_bt x b = false := by
  constructor
  · intro h
    have e : sj_bt (x &&& ((1 : Int32) <<< (nI b &&& 31))) b = false := by rw [h]; exact sj_b0 b
    rw [sj_band, sj_one b hb b hb, decide_eq_true (rfl : b = b), Bool.and_true] at e
    exact e
  · intro h
    apply sj_bext
    intro i hi
    rw [sj_band, sj_one b hb i hi, sj_b0]
    by_cases e : i = b
    · rw [e, h, Bool.false_and]
    · rw [decide_eq_false e, Bool.and_false]
theorem sj_set (x : Int32) {b i : Nat} (hb : b < 32) (hi : i < 32) : sj_bt (x ||| ((1 : Int32) <<< (nI b &&& 31))) i = (sj_bt x i || decide (i = b)) := by
  rw [sj_bor, sj_one b hb i hi]
theorem sj_clr (x : Int32) {b i : Nat} (hb : b < 32) (hi : i < 32) : sj_bt (x &&& (((1 : Int32) <<< (nI b &&& 31)) ^^^ (-1))) i = (sj_bt x i && !decide (i = b)) := by
  rw [sj_band, sj_bxor, sj_one b hb i hi, sj_bm1 i hi, Bool.xor_true]
end
section
/-- how many i < n have p -/
def sj_ct (p : Nat → Bool) : Nat → Nat
  | 0 => 0
  | n + 1 => sj_ct p n + (p n).toNat
theorem sj_ct_cong {p q : Nat → Bool} {n : Nat} (h : ∀ i, i < n → p i = q i) : sj_ct p n = sj_ct q n := by
  induction n with
  | zero => rfl
  | succ n ih =>
    show sj_ct p n + (p n).toNat = sj_ct q n + (q n).toNat
    rw [ih (fun i hi => h i (by omega)), h n (by omega)]
theorem sj_toNat_le (b : Bool) : b.toNat ≤ 1 := by cases b <;> decide
theorem sj_ct_le (p : Nat → Bool) (n : Nat) : sj_ct p n ≤ n := by
  induction n with
  | zero => exact Nat.le_refl 0
  | succ n ih =>
    show sj_ct p n + (p n).toNat ≤ n + 1
    have := sj_toNat_le (p n)
    omega
theorem sj_ct_0 {p : Nat → Bool} {n : Nat} (h : ∀ i, i < n → p i = false) : sj_ct p n = 0 := by
  induction n with
  | zero => rfl
  | succ n ih =>
    show sj_ct p n + (p n).toNat = 0
    rw [ih (fun i hi => h i (by omega)), h n (by omega)]
    rfl
theorem sj_ct_all {p : Nat → Bool} {n : Nat} (h : ∀ i, i < n → p i = true) : sj_ct p n = n := by
  induction n with
  | zero => rfl
  | succ n ih =>
    show sj_ct p n + (p n).toNat = n + 1
    rw [ih (fun i hi => h i (by omega)), h n (by omega)]
    rfl
theorem sj_ct_set {p q : Nat → Bool} {n b : Nat} (hb : b < n) (h0 : p b = false) (h1 : q b = true) (h : ∀ i, i < n → i ≠ b → q i = p i) : sj_ct q n = sj_ct p n + 1 := by
  induction n with
  | zero => exact absurd hb (by omega)
  | succ n ih =>
    show sj_ct q n + (q n).toNat = sj_ct p n + (p n).toNat + 1
    by_cases e : b = n
    · subst e
      rw [sj_ct_cong (p := q) (q := p) (fun i hi => h i (by omega) (by omega)), h0, h1]
      rfl
    · rw [ih (by omega) (fun i hi hn => h i (by omega) hn), h n (by omega) (fun z => e z.symm)]
      omega
theorem sj_ct_pos {p : Nat → Bool} {n b : Nat} (hb : b < n) (h : p b = true) : 1 ≤ sj_ct p n := by
  induction n with
  | zero => exact absurd hb (by omega)
  | succ n ih =>
    show 1 ≤ sj_ct p n + (p n).toNat
    by_cases e : b = n
    · subst e
      rw [h]
      exact Nat.le_add_left 1 _
    · have := ih (by omega)
      omega
theorem sj_ct_cut {p : Nat → Bool} {n m : Nat} (hm : n ≤ m) (h : ∀ i, n ≤ i → i < m → p i = false) : sj_ct p m = sj_ct p n := by
  induction m with
  | zero => rw [show n = 0 by omega]
  | succ m ih =>
    by_cases e : n = m + 1
    · rw [e]
    · show sj_ct p m + (p m).toNat = sj_ct p n
      rw [ih (by omega) (fun i h1 h2 => h i h1 (by omega)), h m (by omega) (by omega)]
      rfl
theorem sj_ct_add (p : Nat → Bool) (k n : Nat) : sj_ct p (k + n) = sj_ct p k + sj_ct (fun i => p (k + i)) n := by
  induction n with
  | zero => rfl
  | succ n ih =>
    show sj_ct p (k + n) + (p (k + n)).toNat = sj_ct p k + (sj_ct (fun i => p (k + i)) n + (p (k + n)).toNat)
    rw [ih]
    omega
theorem sj_ct_or {p q s : Nat → Bool} {n : Nat} (h : ∀ i, i < n → (s i).toNat = (p i).toNat + (q i).toNat) : sj_ct s n = sj_ct p n + sj_ct q n := by
  induction n with
  | zero => rfl
  | succ n ih =>
    show sj_ct s n + (s n).toNat = sj_ct p n + (p n).toNat + (sj_ct q n + (q n).toNat)
    rw [ih (fun i hi => h i (by omega)), h n (by omega)]
    omega
/-- how many bits are set -/
def sj_pc (x : Int32) : Nat := sj_ct (sj_bt x) 32
theorem sj_pc_set {x : Int32} {b : Nat} (hb : b < 32) (h : sj_bt x b = false) : sj_pc (x ||| ((1 : Int32) <<< (nI b &&& 31))) = sj_pc x + 1 :=
  sj_ct_set hb h (by rw [sj_set x hb hb, decide_eq_true (rfl : b = b), Bool.or_true]) (fun i hi hn => by rw [sj_set x hb hi, decide_eq_false hn, Bool.or_false])
theorem sj_pc_clr {x : Int32} {b : Nat} (hb : b < 32) (h : sj_bt x b = true) : sj_pc (x &&& (((1 : Int32) <<< (nI b &&& 31)) ^^^ (-1))) + 1 = sj_pc x :=
  (sj_ct_set (p := sj_bt (x &&& (((1 : Int32) <<< (nI b &&& 31)) ^^^ (-1)))) (q := sj_bt x) hb (by rw [sj_clr x hb hb, decide_eq_true (rfl : b = b), Bool.not_true, Bool.and_false]) h (fun i hi hn => by rw [sj_clr x hb hi, decide_eq_false hn, Bool.not_false, Bool.and_true])).symm
theorem sj_pc_0 : sj_pc 0 = 0 := sj_ct_0 (fun i _ => sj_b0 i)
/-! the popcount by bytes -/
theorem sj_nand (k a m n q : Nat) (ha : a < 2 ^ k) (hm : m < 2 ^ k) : (2 ^ k * n + a) &&& (2 ^ k * q + m) = 2 ^ k * (n &&& q) + (a &&& m) := by
  apply Nat.eq_of_testBit_eq
  intro i
  have ham : a &&& m < 2 ^ k := Nat.lt_of_le_of_lt Nat.and_le_left ha
  rw [Nat.testBit_and, Nat.testBit_two_pow_mul_add _ ha, Nat.testBit_two_pow_mul_add _ hm, Nat.testBit_two_pow_mul_add _ ham]
  by_cases h : i < k
  · simp [h]
  · simp [h]
theorem sj_and8 (a m n q : Nat) (ha : a < 256) (hm : m < 256) : (256 * n + a) &&& (256 * q + m) = 256 * (n &&& q) + (a &&& m) := sj_nand 8 a m n q ha hm
theorem sj_and4 {a b c d m : Nat} (ha : a < 256) (hb : b < 256) (hc : c < 256) (hm : m < 256) :
    (256 * (256 * (256 * d + c) + b) + a) &&& (256 * (256 * (256 * m + m) + m) + m) = 256 * (256 * (256 * (d &&& m) + (c &&& m)) + (b &&& m)) + (a &&& m) := by
  rw [sj_and8 _ _ _ _ ha hm, sj_and8 _ _ _ _ hb hm, sj_and8 _ _ _ _ hc hm]
def sj_p1 (c : Nat) : Nat := c - (c / 2 &&& 85)
def sj_p2 (d : Nat) : Nat := (d &&& 51) + (d / 4 &&& 51)
def sj_p3 (g : Nat) : Nat := (g + g / 16) &&& 15
theorem sj_r1 : ∀ r, r < 2 → ∀ c, c < 256 → (c / 2 + 128 * r) &&& 85 = c / 2 &&& 85 := by decide +kernel
theorem sj_r1b : ∀ c, c < 256 → (c / 2 &&& 85) ≤ c ∧ sj_p1 c < 256 := by decide +kernel
theorem sj_r2 : ∀ r, r < 4 → ∀ c, c < 256 → (c / 4 + 64 * r) &&& 51 = c / 4 &&& 51 := by decide +kernel
theorem sj_r2b : ∀ c, c < 256 → sj_p2 (sj_p1 c) < 69 ∧ sj_p2 (sj_p1 c) % 16 ≤ 4 := by decide +kernel
theorem sj_r3 : ∀ r, r < 16 → ∀ g, g < 69 → (g + g / 16 + 16 * r) &&& 15 = sj_p3 g := by decide +kernel
theorem sj_r4 : ∀ c, c < 256 → sj_p3 (sj_p2 (sj_p1 c)) = sj_ct (fun i => c.testBit i) 8 := by decide +kernel
theorem sj_s1 {a b c d : Nat} (ha : a < 256) (hb : b < 256) (hc : c < 256) (hd : d < 256) :
    (256 * (256 * (256 * d + c) + b) + a) - ((256 * (256 * (256 * d + c) + b) + a) / 2 &&& 1431655765) = 256 * (256 * (256 * sj_p1 d + sj_p1 c) + sj_p1 b) + sj_p1 a := by
  have e : (256 * (256 * (256 * d + c) + b) + a) / 2 = 256 * (256 * (256 * (d / 2 + 128 * 0) + (c / 2 + 128 * (d % 2))) + (b / 2 + 128 * (c % 2))) + (a / 2 + 128 * (b % 2)) := by omega
  have em : (1431655765 : Nat) = 256 * (256 * (256 * 85 + 85) + 85) + 85 := by decide
  rw [e, em, sj_and4 (by omega) (by omega) (by omega) (by omega), sj_r1 _ (by omega) a ha, sj_r1 _ (by omega) b hb, sj_r1 _ (by omega) c hc, sj_r1 _ (by omega) d hd]
  have h1 := (sj_r1b a ha).1
  have h2 := (sj_r1b b hb).1
  have h3 := (sj_r1b c hc).1
  have h4 := (sj_r1b d hd).1
  unfold sj_p1
  omega
theorem sj_s2 {a b c d : Nat} (ha : a < 256) (hb : b < 256) (hc : c < 256) (hd : d < 256) :
    ((256 * (256 * (256 * d + c) + b) + a) &&& 858993459) + ((256 * (256 * (256 * d + c) + b) + a) / 4 &&& 858993459) = 256 * (256 * (256 * sj_p2 d + sj_p2 c) + sj_p2 b) + sj_p2 a := by
  have e : (256 * (256 * (256 * d + c) + b) + a) / 4 = 256 * (256 * (256 * (d / 4 + 64 * 0) + (c / 4 + 64 * (d % 4))) + (b / 4 + 64 * (c % 4))) + (a / 4 + 64 * (b % 4)) := by omega
  have em : (858993459 : Nat) = 256 * (256 * (256 * 51 + 51) + 51) + 51 := by decide
  rw [e, em, sj_and4 ha hb hc (by omega), sj_and4 (by omega) (by omega) (by omega) (by omega), sj_r2 _ (by omega) a ha, sj_r2 _ (by omega) b hb, sj_r2 _ (by omega) c hc, sj_r2 _ (by omega) d hd]
  unfold sj_p2
  omega
theorem sj_s3 {a b c d : Nat} (ha : a < 69) (hb : b < 69) (hc : c < 69) (hd : d < 69) (ha2 : a % 16 ≤ 4) (hb2 : b % 16 ≤ 4) (hc2 : c % 16 ≤ 4) (hd2 : d % 16 ≤ 4) :
    ((256 * (256 * (256 * d + c) + b) + a) + (256 * (256 * (256 * d + c) + b) + a) / 16) &&& 252645135 = 256 * (256 * (256 * sj_p3 d + sj_p3 c) + sj_p3 b) + sj_p3 a := by
  have e : (256 * (256 * (256 * d + c) + b) + a) + (256 * (256 * (256 * d + c) + b) + a) / 16 = 256 * (256 * (256 * (d + d / 16 + 16 * 0) + (c + c / 16 + 16 * (d % 16))) + (b + b / 16 + 16 * (c % 16))) + (a + a / 16 + 16 * (b % 16)) := by omega
  have em : (252645135 : Nat) = 256 * (256 * (256 * 15 + 15) + 15) + 15 := by decide
  rw [e, em, sj_and4 (by omega) (by omega) (by omega) (by omega), sj_r3 _ (by omega) a ha, sj_r3 _ (by omega) b hb, sj_r3 _ (by omega) c hc, sj_r3 _ (by omega) d hd]
theorem sj_s4 {a b c d : Nat} (ha : a ≤ 8) (hb : b ≤ 8) (hc : c ≤ 8) (hd : d ≤ 8) :
    (256 * (256 * (256 * d + c) + b) + a) * 16843009 % 4294967296 / 16777216 = a + b + c + d := by
  have e : (256 * (256 * (256 * d + c) + b) + a) * 16843009 = 4294967296 * (65536 * d + 256 * (c + d) + (b + c + d)) + (16777216 * (a + b + c + d) + (65536 * (a + b + c) + 256 * (a + b) + a)) := by omega
  rw [e, Nat.mul_add_mod, Nat.mod_eq_of_lt (by omega)]
  omega
theorem sj_pcN {a b c d : Nat} (ha : a < 256) (hb : b < 256) (hc : c < 256) :
    sj_ct (fun i => (256 * (256 * (256 * d + c) + b) + a).testBit i) 32 = sj_ct (fun i => a.testBit i) 8 + sj_ct (fun i => b.testBit i) 8 + sj_ct (fun i => c.testBit i) 8 + sj_ct (fun i => d.testBit i) 8 := by
  have st : ∀ (n a m : Nat), a < 256 → sj_ct (fun i => (256 * n + a).testBit i) (8 + m) = sj_ct (fun i => a.testBit i) 8 + sj_ct (fun i => n.testBit i) m := by
    intro n a m h
    rw [sj_ct_add]
    have e1 : sj_ct (fun i => (256 * n + a).testBit i) 8 = sj_ct (fun i => a.testBit i) 8 := sj_ct_cong (fun i hi => by
      show (2 ^ 8 * n + a).testBit i = a.testBit i
      rw [Nat.testBit_two_pow_mul_add _ h, if_pos hi])
    have e2 : sj_ct (fun i => (256 * n + a).testBit (8 + i)) m = sj_ct (fun i => n.testBit i) m := sj_ct_cong (fun i hi => by
      show (2 ^ 8 * n + a).testBit (8 + i) = n.testBit i
      rw [Nat.testBit_two_pow_mul_add _ h, if_neg (by omega), Nat.add_sub_cancel_left])
    rw [e1, e2]
  rw [show (32 : Nat) = 8 + 24 from rfl, st _ _ _ ha, show (24 : Nat) = 8 + 16 from rfl, st _ _ _ hb, show (16 : Nat) = 8 + 8 from rfl, st _ _ _ hc]
  omega
theorem sj_nIand (a b : Nat) : nI a &&& nI b = nI (a &&& b) := by
  apply Int32.toBitVec_inj.1
  show BitVec.ofNat 32 a &&& BitVec.ofNat 32 b = BitVec.ofNat 32 (a &&& b)
  apply BitVec.eq_of_getLsbD_eq
  intro i hi
  simp [hi]
theorem sj_nImod (n : Nat) : nI n = nI (n % 4294967296) := by
  apply Int32.toBitVec_inj.1
  show BitVec.ofNat 32 n = BitVec.ofNat 32 (n % 4294967296)
  apply BitVec.eq_of_toNat_eq
  simp
theorem sj_nIof (x : Int32) : ∃ n, n < 4294967296 ∧ x = nI n := by
  refine ⟨x.toBitVec.toNat, x.toBitVec.isLt, ?_⟩
  apply Int32.toBitVec_inj.1
  show x.toBitVec = BitVec.ofNat 32 x.toBitVec.toNat
  simp
theorem sj_btN {n i : Nat} (hi : i < 32) : sj_bt (nI n) i = n.testBit i := by
  show (BitVec.ofNat 32 n).getLsbD i = _
  rw [BitVec.getLsbD_ofNat, decide_eq_true hi, Bool.true_and]
theorem sj_ones {post : Int32 → Prop} {x : Int32} (H : post (nI (sj_pc x))) : wpX_ones post () x := by
  obtain ⟨n, hn, rfl⟩ := sj_nIof x
  obtain ⟨a, b, c, d, ha, hb, hc, hd, rfl⟩ : ∃ a b c d, a < 256 ∧ b < 256 ∧ c < 256 ∧ d < 256 ∧ n = 256 * (256 * (256 * d + c) + b) + a :=
    ⟨n % 256, n / 256 % 256, n / 65536 % 256, n / 16777216, by omega, by omega, by omega, by omega, by omega⟩
  have hpc : sj_pc (nI (256 * (256 * (256 * d + c) + b) + a)) = sj_p3 (sj_p2 (sj_p1 a)) + sj_p3 (sj_p2 (sj_p1 b)) + sj_p3 (sj_p2 (sj_p1 c)) + sj_p3 (sj_p2 (sj_p1 d)) := by
    rw [sj_r4 a ha, sj_r4 b hb, sj_r4 c hc, sj_r4 d hd, ← sj_pcN ha hb hc]
    exact sj_ct_cong (fun i hi => sj_btN hi)
  rw [hpc] at H
  have a1 := (sj_r1b a ha).2
  have b1 := (sj_r1b b hb).2
  have c1 := (sj_r1b c hc).2
  have d1 := (sj_r1b d hd).2
  have a2 := sj_r2b a ha
  have b2 := sj_r2b b hb
  have c2 := sj_r2b c hc
  have d2 := sj_r2b d hd
  have l8 : ∀ c, c < 256 → sj_p3 (sj_p2 (sj_p1 c)) ≤ 8 := fun c hc => by rw [sj_r4 c hc]; exact sj_ct_le _ 8
  have a3 := l8 a ha
  have b3 := l8 b hb
  have c3 := l8 c hc
  have d3 := l8 d hd
  have E1 := sj_s1 ha hb hc hd
  have E2 := sj_s2 a1 b1 c1 d1
  have E3 := sj_s3 a2.1 b2.1 c2.1 d2.1 a2.2 b2.2 c2.2 d2.2
  have E4 := sj_s4 a3 b3 c3 d3
  clear hpc l8
  generalize hN : 256 * (256 * (256 * d + c) + b) + a = N at *
  generalize hN1 : 256 * (256 * (256 * sj_p1 d + sj_p1 c) + sj_p1 b) + sj_p1 a = N1 at *
  generalize hN2 : 256 * (256 * (256 * sj_p2 (sj_p1 d) + sj_p2 (sj_p1 c)) + sj_p2 (sj_p1 b)) + sj_p2 (sj_p1 a) = N2 at *
  generalize hN3 : 256 * (256 * (256 * sj_p3 (sj_p2 (sj_p1 d)) + sj_p3 (sj_p2 (sj_p1 c))) + sj_p3 (sj_p2 (sj_p1 b))) + sj_p3 (sj_p2 (sj_p1 a)) = N3 at *
  have n1 : N1 < 4294967296 := by omega
  have n2 : N2 < 4294967296 := by omega
  refine nm_r (e' := nI N1) ?_ (nm_r (e' := nI N2) ?_ (nm_r (e' := nI N3) ?_ ?_))
  · rw [pk_ushrN hn 1 1 (by decide)]
    show nI N - (nI (N / 2 ^ 1) &&& nI 1431655765) = nI N1
    rw [sj_nIand, pk_sub (Nat.le_trans Nat.and_le_left (Nat.div_le_self _ _))]
    exact congrArg nI E1
  · rw [pk_ushrN n1 2 2 (by decide)]
    show (nI N1 &&& nI 858993459) + (nI (N1 / 2 ^ 2) &&& nI 858993459) = nI N2
    rw [sj_nIand, sj_nIand, nI_add]
    exact congrArg nI E2
  · rw [pk_ushrN n2 4 4 (by decide)]
    show (nI N2 + nI (N2 / 2 ^ 4)) &&& nI 252645135 = nI N3
    rw [nI_add, sj_nIand]
    exact congrArg nI E3
  · show post (((nI N3 * nI 16843009).toUInt32 >>> ((24 : Int32).toUInt32 &&& Int32.toUInt32 31)).toInt32)
    rw [pk_mul, sj_nImod, pk_ushrN (Nat.mod_lt _ (by decide)) 24 24 (by decide)]
    exact (congrArg (fun z => post (nI z)) E4).mpr H
end
section
/-- sums -/
def sj_sm (f : Nat → Nat) : Nat → Nat
  | 0 => 0
  | n + 1 => sj_sm f n + f n
theorem sj_sm_cong {f g : Nat → Nat} {n : Nat} (h : ∀ i, i < n → f i = g i) : sj_sm f n = sj_sm g n := by
  induction n with
  | zero => rfl
  | succ n ih =>
    show sj_sm f n + f n = sj_sm g n + g n
    rw [ih (fun i hi => h i (by omega)), h n (by omega)]
theorem sj_sm_add (f g : Nat → Nat) (n : Nat) : sj_sm (fun i => f i + g i) n = sj_sm f n + sj_sm g n := by
  induction n with
  | zero => rfl
  | succ n ih =>
    show sj_sm (fun i => f i + g i) n + (f n + g n) = sj_sm f n + f n + (sj_sm g n + g n)
    rw [ih]
    omega
theorem sj_sm_ct (p : Nat → Bool) (n : Nat) : sj_sm (fun i => (p i).toNat) n = sj_ct p n := by
  induction n with
  | zero => rfl
  | succ n ih =>
    show sj_sm (fun i => (p i).toNat) n + (p n).toNat = sj_ct p n + (p n).toNat
    rw [ih]
theorem sj_sm_pred {f : Nat → Nat} {n : Nat} (h : ∀ i, i < n → 1 ≤ f i) : sj_sm (fun i => f i - 1) n + n = sj_sm f n := by
  induction n with
  | zero => rfl
  | succ n ih =>
    show sj_sm (fun i => f i - 1) n + (f n - 1) + (n + 1) = sj_sm f n + f n
    have h1 := ih (fun i hi => h i (by omega))
    have h2 := h n (by omega)
    omega
theorem sj_sm_le {f : Nat → Nat} {n m : Nat} (h : ∀ i, i < n → f i ≤ m) : sj_sm f n ≤ n * m := by
  induction n with
  | zero => exact Nat.zero_le _
  | succ n ih =>
    show sj_sm f n + f n ≤ (n + 1) * m
    have h1 := ih (fun i hi => h i (by omega))
    have h2 := h n (by omega)
    rw [Nat.add_mul, Nat.one_mul]
    omega
/-- the degrees of a symmetric, reflexive relation -/
theorem sj_degrees {M : Nat → Nat → Bool} (n : Nat) (hs : ∀ i j, i < n → j < n → M i j = M j i) (hr : ∀ i, i < n → M i i = true) :
    sj_sm (fun i => sj_ct (M i) n) n = 2 * sj_sm (fun i => sj_ct (fun b => decide (i < b) && M i b) n) n + n := by
  induction n with
  | zero => rfl
  | succ n ih =>
    have h0 := ih (fun i j hi hj => hs i j (by omega) (by omega)) (fun i hi => hr i (by omega))
    have e1 : sj_sm (fun i => sj_ct (M i) (n + 1)) n = sj_sm (fun i => sj_ct (M i) n) n + sj_ct (fun i => M i n) n := by
      rw [← sj_sm_ct, ← sj_sm_add]
      rfl
    have e2 : sj_sm (fun i => sj_ct (fun b => decide (i < b) && M i b) (n + 1)) n = sj_sm (fun i => sj_ct (fun b => decide (i < b) && M i b) n) n + sj_ct (fun i => M i n) n := by
      rw [← sj_sm_ct, ← sj_sm_add]
      apply sj_sm_cong
      intro i hi
      show sj_ct (fun b => decide (i < b) && M i b) n + (decide (i < n) && M i n).toNat = _
      rw [decide_eq_true hi, Bool.true_and]
    have e3 : sj_ct (fun b => decide (n < b) && M n b) (n + 1) = 0 := sj_ct_0 (fun i hi => by
      show (decide (n < i) && M n i) = false
      rw [decide_eq_false (by omega), Bool.false_and])
    have e4 : sj_ct (M n) (n + 1) = sj_ct (fun i => M i n) n + 1 := by
      show sj_ct (M n) n + (M n n).toNat = _
      rw [hr n (by omega), sj_ct_cong (p := M n) (q := fun i => M i n) (fun i hi => hs n i (by omega) (by omega))]
      rfl
    show sj_sm (fun i => sj_ct (M i) (n + 1)) n + sj_ct (M n) (n + 1) = 2 * (sj_sm (fun i => sj_ct (fun b => decide (i < b) && M i b) (n + 1)) n + sj_ct (fun b => decide (n < b) && M n b) (n + 1)) + (n + 1)
    rw [e1, e2, e3, e4]
    omega
/-- the members of all groups -/
theorem sj_members {rt : Nat → Nat} {c : Nat} (hi : ∀ i, i < c → rt (rt i) = rt i) (n : Nat) :
    sj_sm (fun i => if rt i = i then sj_ct (fun r => decide (rt r = i)) c else 0) n = sj_ct (fun r => decide (rt r < n)) c := by
  induction n with
  | zero => exact (sj_ct_0 (fun i _ => decide_eq_false (by omega))).symm
  | succ n ih =>
    show sj_sm (fun i => if rt i = i then sj_ct (fun r => decide (rt r = i)) c else 0) n + (if rt n = n then sj_ct (fun r => decide (rt r = n)) c else 0) = _
    rw [ih]
    by_cases e : rt n = n
    · rw [if_pos e]
      refine (sj_ct_or (fun r hr => ?_)).symm
      show (decide (rt r < n + 1)).toNat = (decide (rt r < n)).toNat + (decide (rt r = n)).toNat
      rcases Nat.lt_trichotomy (rt r) n with z | z | z
      · rw [decide_eq_true (show rt r < n + 1 by omega), decide_eq_true z, decide_eq_false (show ¬ rt r = n by omega)]
        rfl
      · rw [decide_eq_true (show rt r < n + 1 by omega), decide_eq_false (show ¬ rt r < n by omega), decide_eq_true z]
        rfl
      · rw [decide_eq_false (show ¬ rt r < n + 1 by omega), decide_eq_false (show ¬ rt r < n by omega), decide_eq_false (show ¬ rt r = n by omega)]
        rfl
    · rw [if_neg e, Nat.add_zero]
      refine sj_ct_cong (fun r hr => ?_)
      have : rt r ≠ n := fun z => e (by rw [← z]; exact hi r hr)
      rw [decide_eq_decide]
      omega
/-- parent matches the root function rt below c -/
def sj_P (c : Nat) (rt : Nat → Nat) (a : Nat → Int32) : Prop := ∀ i, i < c → ∃ p, a i = nI p ∧ p ≤ i ∧ rt p = rt i ∧ (p = i → rt i = i)
theorem sj_P_rt {c : Nat} {rt : Nat → Nat} {a : Nat → Int32} (h : sj_P c rt a) : ∀ k i, i ≤ k → i < c → rt i ≤ i ∧ rt (rt i) = rt i := by
  intro k
  induction k with
  | zero =>
    intro i hi hc
    obtain ⟨p, _, h2, _, h4⟩ := h i hc
    have e : rt i = i := h4 (by omega)
    exact ⟨by omega, by rw [e, e]⟩
  | succ k ih =>
    intro i hi hc
    obtain ⟨p, _, h2, h3, h4⟩ := h i hc
    by_cases e : p = i
    · have e : rt i = i := h4 e
      exact ⟨by omega, by rw [e, e]⟩
    · have := ih p (by omega) (by omega)
      rw [h3] at this
      exact ⟨by omega, this.2⟩
theorem sj_P_le {c : Nat} {rt : Nat → Nat} {a : Nat → Int32} (h : sj_P c rt a) {i : Nat} (hi : i < c) : rt i ≤ i := (sj_P_rt h i i (Nat.le_refl i) hi).1
theorem sj_P_id {c : Nat} {rt : Nat → Nat} {a : Nat → Int32} (h : sj_P c rt a) {i : Nat} (hi : i < c) : rt (rt i) = rt i := (sj_P_rt h i i (Nat.le_refl i) hi).2
/-- halving a path -/
theorem sj_P_half {c : Nat} {rt : Nat → Nat} {a : Nat → Int32} (h : sj_P c rt a) {i p q : Nat} (hi : i < c) (hpi : p < i) (hqp : q ≤ p) (hp : rt p = rt i) (hq : rt q = rt p) : sj_P c rt (upd a i (nI q)) := by
  intro j hj
  by_cases e : j = i
  · subst e
    exact ⟨q, pk_us, by omega, by omega, fun z => absurd z (by omega)⟩
  · rw [pk_un e]
    exact h j hj
/-- the new root function -/
def sj_jn (rt : Nat → Nat) (x y l : Nat) : Nat → Nat := fun i => if rt i = x ∨ rt i = y then l else rt i
theorem sj_P_join {c : Nat} {rt : Nat → Nat} {a : Nat → Int32} (h : sj_P c rt a) {x y l : Nat} (hx : x < c) (hy : y < c) (ex : rt x = x) (ey : rt y = y) (hl : l = x ∨ l = y) (lx : l ≤ x) (ly : l ≤ y) :
    sj_P c (sj_jn rt x y l) (upd (upd a x (nI l)) y (nI l)) := by
  have el : rt l = l := by rcases hl with z | z <;> rw [z] <;> assumption
  have jl : sj_jn rt x y l l = l := by
    show (if rt l = x ∨ rt l = y then l else rt l) = l
    rw [if_pos (by rw [el]; exact hl)]
  have jx : sj_jn rt x y l x = l := if_pos (Or.inl ex)
  have jy : sj_jn rt x y l y = l := if_pos (Or.inr ey)
  intro i hi
  by_cases e1 : i = y
  · subst e1
    exact ⟨l, pk_us, ly, by rw [jl, jy], fun z => by rw [jy]; exact z⟩
  · rw [pk_un e1]
    by_cases e2 : i = x
    · subst e2
      exact ⟨l, pk_us, lx, by rw [jl, jx], fun z => by rw [jx]; exact z⟩
    · rw [pk_un e2]
      obtain ⟨p, h1, h2, h3, h4⟩ := h i hi
      refine ⟨p, h1, h2, ?_, fun z => ?_⟩
      · show (if rt p = x ∨ rt p = y then l else rt p) = (if rt i = x ∨ rt i = y then l else rt i)
        rw [h3]
      · show (if rt i = x ∨ rt i = y then l else rt i) = i
        rw [h4 z, if_neg (fun w => w.elim e2 e1)]
theorem sj_jn_keep {rt : Nat → Nat} {x y l i j : Nat} (h : rt i = rt j) : sj_jn rt x y l i = sj_jn rt x y l j := by
  show (if rt i = x ∨ rt i = y then l else rt i) = (if rt j = x ∨ rt j = y then l else rt j)
  rw [h]
theorem sj_jn_new {rt : Nat → Nat} {l i j : Nat} : sj_jn rt (rt i) (rt j) l i = sj_jn rt (rt i) (rt j) l j := by
  show (if rt i = rt i ∨ rt i = rt j then l else rt i) = (if rt j = rt i ∨ rt j = rt j then l else rt j)
  rw [if_pos (Or.inl rfl), if_pos (Or.inr rfl)]
/-- the merge of two lines -/
def sj_m (A B : Nat → Int32) (p q w : Nat) : Nat → Nat → Nat → Nat → Bool
  | 0 => fun _ _ s => decide (w ≤ s)
  | f + 1 => fun i j s => if p ≤ i ∨ q ≤ j then decide (w ≤ s) else if s + min (p - i) (q - j) < w then false else
      sj_m A B p q w f (if A i ≤ B j then i + 1 else i) (if B j ≤ A i then j + 1 else j) (if A i = B j then s + 1 else s)
theorem sj_m_sym (A B : Nat → Int32) (p q w : Nat) : ∀ f i j s, sj_m A B p q w f i j s = sj_m B A q p w f j i s := by
  intro f
  induction f with
  | zero => intro i j s; rfl
  | succ f ih =>
    intro i j s
    show (if p ≤ i ∨ q ≤ j then decide (w ≤ s) else if s + min (p - i) (q - j) < w then false else
      sj_m A B p q w f (if A i ≤ B j then i + 1 else i) (if B j ≤ A i then j + 1 else j) (if A i = B j then s + 1 else s)) =
      (if q ≤ j ∨ p ≤ i then decide (w ≤ s) else if s + min (q - j) (p - i) < w then false else
      sj_m B A q p w f (if B j ≤ A i then j + 1 else j) (if A i ≤ B j then i + 1 else i) (if B j = A i then s + 1 else s))
    rw [ih, Nat.min_comm (p - i) (q - j)]
    have e1 : (p ≤ i ∨ q ≤ j) ↔ (q ≤ j ∨ p ≤ i) := Or.comm
    have e2 : (A i = B j) ↔ (B j = A i) := eq_comm
    simp only [e1, e2]
theorem sj_m_self (A : Nat → Int32) (p w : Nat) (hw : w ≤ p) : ∀ f i, i ≤ p → p ≤ f + i → sj_m A A p p w f i i i = true := by
  intro f
  induction f with
  | zero =>
    intro i h1 h2
    exact decide_eq_true (show w ≤ i by omega)
  | succ f ih =>
    intro i h1 h2
    show (if p ≤ i ∨ p ≤ i then decide (w ≤ i) else if i + min (p - i) (p - i) < w then false else
      sj_m A A p p w f (if A i ≤ A i then i + 1 else i) (if A i ≤ A i then i + 1 else i) (if A i = A i then i + 1 else i)) = true
    by_cases e : p ≤ i
    · rw [if_pos (Or.inl e)]
      exact decide_eq_true (show w ≤ i by omega)
    · rw [if_neg (fun z => z.elim e e), if_neg (by omega), if_pos (Int32.le_refl _), if_pos rfl]
      exact ih (i + 1) (by omega) (by omega)
/-- how many shared tokens are needed -/
def sj_nd (t u p q : Nat) : Nat := (t * (p + q) + (t + u) - 1) / (t + u)
theorem sj_nd_sym (t u p q : Nat) : sj_nd t u p q = sj_nd t u q p := by unfold sj_nd; rw [Nat.add_comm p q]
theorem sj_nd_self {t u p : Nat} (ht : 1 ≤ t) (h : t ≤ u) : sj_nd t u p p ≤ p := by
  unfold sj_nd
  apply Nat.le_of_lt_succ
  rw [Nat.div_lt_iff_lt_mul (by omega)]
  have h1 : t * p ≤ u * p := Nat.mul_le_mul_right p h
  have e1 : t * (p + p) = t * p + t * p := Nat.mul_add t p p
  have e2 : (p + 1) * (t + u) = t * p + u * p + (t + u) := by
    rw [Nat.add_mul, Nat.one_mul, Nat.mul_add, Nat.mul_comm p t, Nat.mul_comm p u]
  rw [e1, Nat.succ_eq_add_one, e2]
  omega
/-- how many tokens of a line of s tokens are looked at -/
def sj_nf (t u s : Nat) : Nat := (t * s + u - 1) / u
def sj_pf (t u s : Nat) : Nat := s - sj_nf t u s + 1
theorem sj_nf_in {t u s : Nat} (ht : 1 ≤ t) (h : t ≤ u) (hs : 1 ≤ s) : 1 ≤ sj_nf t u s ∧ sj_nf t u s ≤ s := by
  have h1 : t * s ≤ u * s := Nat.mul_le_mul_right s h
  have h2 : 1 * 1 ≤ t * s := Nat.mul_le_mul ht hs
  unfold sj_nf
  constructor
  · rw [Nat.le_div_iff_mul_le (by omega)]
    omega
  · apply Nat.le_of_lt_succ
    rw [Nat.div_lt_iff_lt_mul (by omega), Nat.succ_eq_add_one, Nat.add_mul, Nat.one_mul, Nat.mul_comm s u]
    omega
theorem sj_pf_in {t u s : Nat} (ht : 1 ≤ t) (h : t ≤ u) (hs : 1 ≤ s) : 1 ≤ sj_pf t u s ∧ sj_pf t u s ≤ s := by
  have := sj_nf_in ht h hs
  unfold sj_pf
  omega
/-- line r of the ranks -/
def sj_ln (a : Nat → Int32) (r : Nat) : Nat → Int32 := fun i => a (12 * r + i)
/-- the two heads of lines meet -/
def sj_C (t u : Nat) (sz : Nat → Nat) (a : Nat → Int32) (r b : Nat) : Prop := ∃ k l, k < sj_pf t u (sz r) ∧ l < sj_pf t u (sz b) ∧ sj_ln a r k = sj_ln a b l
/-- the two records are found similar -/
def sj_S (t u : Nat) (sz : Nat → Nat) (a : Nat → Int32) (r b : Nat) : Prop :=
  sj_C t u sz a r b ∧ t * sz r ≤ u * sz b ∧ t * sz b ≤ u * sz r ∧ sj_m (sj_ln a r) (sj_ln a b) (sz r) (sz b) (sj_nd t u (sz r) (sz b)) 24 0 0 0 = true
theorem sj_S_sym {t u : Nat} {sz : Nat → Nat} {a : Nat → Int32} {r b : Nat} (h : sj_S t u sz a r b) : sj_S t u sz a b r := by
  obtain ⟨⟨k, l, h1, h2, h3⟩, h4, h5, h6⟩ := h
  refine ⟨⟨l, k, h2, h1, h3.symm⟩, h5, h4, ?_⟩
  rw [sj_m_sym, sj_nd_sym]
  exact h6
theorem sj_S_refl {t u : Nat} {sz : Nat → Nat} {a : Nat → Int32} {r : Nat} (ht : 1 ≤ t) (h : t ≤ u) (hs : 1 ≤ sz r) (h12 : sz r ≤ 12) : sj_S t u sz a r r := by
  have hp := sj_pf_in ht h hs
  exact ⟨⟨0, 0, by omega, by omega, rfl⟩, Nat.mul_le_mul_right _ h, Nat.mul_le_mul_right _ h, sj_m_self _ _ _ (sj_nd_self ht h) 24 0 (by omega) (by omega)⟩
end
section
section
variable {dr ds cn tp bo cu : Int32} {a1 a2 a3 a4 a5 a6 a7 a8 : Nat → Int32}
theorem sj_root {post : Int32 → St1 → Prop} {c r : Nat} {rt : Nat → Nat} (hc : c ≤ 20) (hP : sj_P c rt a8) (hr : r < c)
    (H : ∀ b8, sj_P c rt b8 → post (nI (rt r)) (dr, ds, cn, tp, bo, cu, a1, a2, a3, a4, a5, a6, a7, b8)) :
    wpX_root post (dr, ds, cn, tp, bo, cu, a1, a2, a3, a4, a5, a6, a7, a8) (nI r) := by
  refine pk_loop (σ := Nat × (Nat → Int32)) (fun n i s => wX_root_4 post dr ds cn tp bo cu n (nI s.1) (nI i) a1 a2 a3 a4 a5 a6 a7 s.2)
    (fun i s => s.1 < c ∧ s.1 + i ≤ 19 ∧ rt s.1 = rt r ∧ sj_P c rt s.2) 20 0 (r, a8) (by omega) ⟨hr, by show r + 0 ≤ 19; omega, rfl, hP⟩ (fun n s h => absurd h.2.1 (by omega)) ?_
  intro n i s hi h hw
  obtain ⟨m, a⟩ := s
  obtain ⟨h1, h2, h3, h4⟩ := h
  dsimp only at h1 h2 h3 h4
  obtain ⟨p, e1, e2, e3, e4⟩ := h4 m h1
  obtain ⟨q, f1, f2, f3, f4⟩ := h4 p (by omega)
  refine pk_le 20 i (fun z => absurd z (by omega)) (fun _ => And.intro (pk_in m 20 (by omega)) ?_)
  dsimp only
  rw [nI_clamp (show m < 2 ^ 31 by omega), e1, nI_clamp (show p < 2 ^ 31 by omega), f1]
  refine pk_eq p m (fun z => ?_) (fun z => ?_)
  · have e := e4 z
    rw [h3] at e
    rw [← e]
    exact H a h4
  · exact ⟨pk_in m 20 (by omega), pk_in p 20 (by omega), pk_in m 20 (by omega), nm_e ⟨pk_in m 20 (by omega), nm_r (e' := nI q) pk_us (nm_r (nI_1 i) (hw (q, upd a m (nI q)) ⟨by show q < c; omega, by show q + (i + 1) ≤ 19; omega, by show rt q = rt r; omega, sj_P_half h4 h1 (by omega) f2 e3 f3⟩))⟩⟩
theorem sj_j51 {post : St1 → Prop} {J : Int32 → Int32 → Int32 → Int32 → Int32 → Int32 → Int32 → (Nat → Int32) → (Nat → Int32) → (Nat → Int32) → (Nat → Int32) → (Nat → Int32) → (Nat → Int32) → (Nat → Int32) → (Nat → Int32) → Prop} {x1 : Int32} {i x y l : Nat} (hx : x < 20) (hy : y < 20)
    (H : J (nI (i + 1)) dr ds cn tp bo cu a1 a2 a3 a4 a5 a6 a7 (upd (upd a8 x (nI l)) y (nI l))) :
    wX_joinRow_51 post J x1 (nI i) (nI x) (nI y) (nI l) dr ds cn tp bo cu a1 a2 a3 a4 a5 a6 a7 a8 := by
  unfold wX_joinRow_51
  rw [nI_clamp (show x < 2 ^ 31 by omega), nI_clamp (show y < 2 ^ 31 by omega)]
  exact ⟨pk_in x 20 hx, nm_e ⟨pk_in y 20 hy, nm_e (nm_r (nI_1 i) H)⟩⟩
theorem sj_joinRow {post : St1 → Prop} {c r : Nat} {rt : Nat → Nat} (hc : c ≤ 20) (hP : sj_P c rt a8) (hr : r < c)
    (H : ∀ rt' b8, sj_P c rt' b8 → (∀ i j, rt i = rt j → rt' i = rt' j) → (∀ b, r < b → b < c → sj_bt (a7 r) b = true → rt' r = rt' b) → post (dr, ds, nI c, tp, bo, cu, a1, a2, a3, a4, a5, a6, a7, b8)) :
    wpX_joinRow post (dr, ds, nI c, tp, bo, cu, a1, a2, a3, a4, a5, a6, a7, a8) (nI r) := by
  refine nm_r (nI_1 r) (pk_loop (σ := (Nat → Nat) × (Nat → Int32)) (fun n i s => wX_joinRow_4 post (nI r) n (nI i) dr ds (nI c) tp bo cu a1 a2 a3 a4 a5 a6 a7 s.2)
    (fun i s => sj_P c s.1 s.2 ∧ (∀ i j, rt i = rt j → s.1 i = s.1 j) ∧ (∀ b, r < b → b < i → sj_bt (a7 r) b = true → s.1 r = s.1 b)) c (r + 1) (rt, a8) (by omega) ⟨hP, fun _ _ h => h, fun b h1 h2 => absurd h1 (by omega)⟩ ?_ ?_)
  · intro n s h
    obtain ⟨ρ, a⟩ := s
    exact pk_le c c (fun _ => H ρ a h.1 h.2.1 h.2.2) (fun z => absurd z (by omega))
  · intro n i s hi h hw
    obtain ⟨ρ, a⟩ := s
    obtain ⟨h1, h2, h3⟩ := h
    dsimp only at h1 h2 h3
    refine pk_le c i (fun z => absurd z (by omega)) (fun _ => And.intro (pk_in r 20 (by omega)) ?_)
    rw [nI_clamp (show r < 2 ^ 31 by omega)]
    refine ek_if (sj_tst1 _ (by omega)) (fun hb => ?_) (fun hb => nm_r (nI_1 i) (hw (ρ, a) ⟨h1, h2, ?_⟩))
    · refine sj_root hc h1 hr (fun b8 hb8 => ?_)
      refine sj_root hc hb8 hi (fun b9 hb9 => ?_)
      have lr := sj_P_le hb9 hr
      have li := sj_P_le hb9 hi
      have K : ∀ l, (l = ρ r ∨ l = ρ i) → l ≤ ρ r → l ≤ ρ i → wX_joinRow_4 post (nI r) n (nI (i + 1)) dr ds (nI c) tp bo cu a1 a2 a3 a4 a5 a6 a7 (upd (upd b9 (ρ r) (nI l)) (ρ i) (nI l)) := fun l hl l1 l2 =>
        hw (sj_jn ρ (ρ r) (ρ i) l, _) ⟨sj_P_join hb9 (by omega) (by omega) (sj_P_id hb9 hr) (sj_P_id hb9 hi) hl l1 l2, fun x y z => sj_jn_keep (h2 x y z), fun b g1 g2 g3 => by
          by_cases e : b = i
          · subst e
            exact sj_jn_new
          · exact sj_jn_keep (h3 b g1 (by omega) g3)⟩
      exact pk_le (ρ i) (ρ r) (fun z => sj_j51 (by omega) (by omega) (K _ (Or.inr rfl) z (Nat.le_refl _))) (fun z => sj_j51 (by omega) (by omega) (K _ (Or.inl rfl) (Nat.le_refl _) (by omega)))
    · intro b g1 g2 g3
      have e : b ≠ i := fun z => hb (by rw [← z]; exact g3)
      exact h3 b g1 (by omega) g3
end
end
section
theorem sj_ix (r k : Nat) : (12 : Int32) * nI r + nI k = nI (12 * r + k) := by
  show nI 12 * nI r + nI k = _
  rw [pk_mul, nI_add]
theorem sj_ix1 (r k : Nat) : (12 : Int32) * nI r + nI (k + 1) - 1 = nI (12 * r + k) := by
  rw [sj_ix, ← Nat.add_assoc, nI_pred]
/-- the ranks are in range -/
def sj_R (N : Nat) (a : Nat → Int32) : Prop := ∀ j, j < N → ∃ v, v < 30 ∧ a j = nI v
theorem sj_R_upd {N : Nat} {a : Nat → Int32} {k : Nat} {x : Int32} (h : sj_R N a) (hx : ∃ v, v < 30 ∧ x = nI v) : sj_R N (upd a k x) := by
  intro j hj
  by_cases e : j = k
  · rw [e, pk_us]
    exact hx
  · rw [pk_un e]
    exact h j hj
/-- but for line r, b is a -/
def sj_K (r : Nat) (a b : Nat → Int32) : Prop := ∀ j, j < 12 * r ∨ 12 * r + 12 ≤ j → b j = a j
theorem sj_K_upd {r : Nat} {a b : Nat → Int32} {k : Nat} {x : Int32} (h : sj_K r a b) (hk : k < 12) : sj_K r a (upd b (12 * r + k) x) := by
  intro j hj
  rw [pk_un (by omega)]
  exact h j hj
section
variable {dr ds cn tp bo cu : Int32} {a1 a2 a3 a4 a5 a6 a7 a8 : Nat → Int32}
theorem sj_rankTokens {post : St1 → Prop} {c : Nat} (hc : c ≤ 20) (H : ∀ b4 b5, sj_R 30 b4 → post (dr, ds, nI c, tp, bo, cu, a1, a2, a3, b4, b5, a6, a7, a8)) :
    wpX_rankTokens post (dr, ds, nI c, tp, bo, cu, a1, a2, a3, a4, a5, a6, a7, a8) := by
  refine pk_loop (σ := Nat → Int32) (fun n i s => wX_rankTokens_2 post dr ds (nI c) tp bo cu n (nI i) a1 a2 a3 a4 s a6 a7 a8) (fun _ _ => True) 30 0 a5 (by omega) trivial ?_ ?_
  · intro n b5 _
    refine pk_le 30 30 (fun _ => ?_) (fun z => absurd z (by omega))
    refine pk_loop (σ := Nat → Int32) (fun n i s => wX_rankTokens_58 post dr ds (nI c) tp bo cu n (nI i) a1 a2 a3 s b5 a6 a7 a8) (fun i s => sj_R i s) 30 0 a4 (by omega) (fun j hj => absurd hj (by omega)) ?_ ?_
    · intro n b4 h
      exact pk_le 30 30 (fun _ => H b4 b5 h) (fun z => absurd z (by omega))
    · intro n i b4 hi h hw
      refine pk_le 30 i (fun z => absurd z (by omega)) (fun _ => ?_)
      refine pk_loop (σ := Nat) (fun m k s => wX_rankTokens_68 post (wX_rankTokens_58 post dr ds (nI c) tp bo cu n) (nI i) dr ds (nI c) tp bo cu a1 a2 a3 b4 b5 a6 a7 a8 m (nI s) (nI k)) (fun k s => s ≤ k ∧ (i < k → s + 1 ≤ k)) 30 0 0 (by omega) ⟨Nat.le_refl 0, fun z => absurd z (by omega)⟩ ?_ ?_
      · intro m s hs
        refine pk_le 30 30 (fun _ => And.intro (pk_in i 30 hi) (nm_r (e' := upd b4 i (nI s)) (by rw [nI_clamp (by omega)]) (nm_r (nI_1 i) (hw _ ?_)))) (fun z => absurd z (by omega))
        intro j hj
        by_cases e : j = i
        · rw [e, pk_us]
          exact ⟨s, by have := hs.2 hi; omega, rfl⟩
        · rw [pk_un e]
          exact h j (by omega)
      · intro m k s hk hs hw2
        have s1 := hs.1
        have s2 := hs.2
        have L : wX_rankTokens_68 post (wX_rankTokens_58 post dr ds (nI c) tp bo cu n) (nI i) dr ds (nI c) tp bo cu a1 a2 a3 b4 b5 a6 a7 a8 m (nI s) (nI (k + 1)) := hw2 s ⟨by omega, fun _ => by omega⟩
        have G : k ≠ i → wX_rankTokens_68 post (wX_rankTokens_58 post dr ds (nI c) tp bo cu n) (nI i) dr ds (nI c) tp bo cu a1 a2 a3 b4 b5 a6 a7 a8 m (nI (s + 1)) (nI (k + 1)) := fun e => hw2 (s + 1) ⟨by omega, fun z => by have := s2 (by omega); omega⟩
        refine pk_le 30 k (fun z => absurd z (by omega)) (fun _ => And.intro (pk_in k 30 hk) (And.intro (pk_in i 30 hi) ?_))
        rw [nI_clamp (show k < 2 ^ 31 by omega), nI_clamp (show i < 2 ^ 31 by omega)]
        exact br_c (fun g => nm_r (nI_1 s) (nm_r (nI_1 k) (G (fun e => by rw [e] at g; exact Int32.lt_irrefl g)))) (fun g => ⟨pk_in k 30 hk, pk_in i 30 hi, br_c (fun _ => pk_le i k (fun z => nm_r (nI_1 k) L) (fun z => nm_r (nI_1 s) (nm_r (nI_1 k) (G (by omega))))) (fun _ => nm_r (nI_1 k) L)⟩)
  · intro n i b5 hi _ hw
    refine pk_le 30 i (fun z => absurd z (by omega)) (fun _ => And.intro (pk_in i 30 hi) (nm_e ?_))
    refine pk_loop (σ := Nat → Int32) (fun m k s => wX_rankTokens_17 post (wX_rankTokens_2 post dr ds (nI c) tp bo cu n) (nI i) dr ds (nI c) tp bo cu m (nI k) a1 a2 a3 a4 s a6 a7 a8) (fun _ _ => True) c 0 _ (by omega) trivial ?_ ?_
    · intro m s _
      exact pk_le c c (fun _ => nm_r (nI_1 i) (hw _ trivial)) (fun z => absurd z (by omega))
    · intro m k s hk _ hw2
      exact pk_le c k (fun z => absurd z (by omega)) (fun _ => And.intro (pk_in i 30 hi) (And.intro (pk_in k 20 (by omega)) (And.intro (pk_in i 30 hi) (nm_e (nm_r (nI_1 k) (hw2 _ trivial))))))
theorem sj_92 {post : St1 → Prop} {J : Int32 → Int32 → (Nat → Int32) → (Nat → Int32) → (Nat → Int32) → (Nat → Int32) → (Nat → Int32) → (Nat → Int32) → (Nat → Int32) → (Nat → Int32) → Prop} {x : Int32} {r s i k : Nat} (hr : r ≤ 20) (hi : i < 30) (hk : k < 12)
    (H : J (nI (s + 1)) (nI (i + 1)) a1 a2 (upd a3 (12 * r + k) (a4 i)) a4 a5 a6 a7 a8) :
    wX_spell_92 post J (nI r) x (nI s) (nI i) (nI k) dr ds cn tp bo cu a1 a2 a3 a4 a5 a6 a7 a8 := by
  unfold wX_spell_92
  rw [sj_ix, nI_clamp (show 12 * r + k < 2 ^ 31 by omega), nI_clamp (show i < 2 ^ 31 by omega)]
  exact ⟨pk_in i 30 hi, pk_in (12 * r + k) 252 (by omega), nm_e (nm_r (nI_1 s) (nm_r (nI_1 i) H))⟩
theorem sj_spell {post : St1 → Prop} {r : Nat} {x : Int32} (hr : r ≤ 20) (h4 : sj_R 30 a4) (h3 : sj_R 252 a3)
    (H : ∀ b3, sj_R 252 b3 → sj_K r a3 b3 → post (dr, ds, cn, tp, bo, cu, a1, a2, b3, a4, a5, a6, a7, a8)) :
    wpX_spell post (dr, ds, cn, tp, bo, cu, a1, a2, a3, a4, a5, a6, a7, a8) (nI r) x := by
  refine pk_loop (σ := Nat × (Nat → Int32)) (fun n i s => wX_spell_5 post (nI r) x dr ds cn tp bo cu n (nI s.1) (nI i) a1 a2 s.2 a4 a5 a6 a7 a8) (fun _ s => s.1 ≤ 12 ∧ sj_R 252 s.2 ∧ sj_K r a3 s.2) 30 0 (0, a3) (by omega) ⟨by show 0 ≤ 12; omega, h3, fun _ _ => rfl⟩ ?_ ?_
  · intro n s h
    exact pk_le 30 30 (fun _ => H s.2 h.2.1 h.2.2) (fun z => absurd z (by omega))
  · intro n i s hi h hw
    obtain ⟨s, b⟩ := s
    obtain ⟨h1, h2, h3'⟩ := h
    dsimp only at h1 h2 h3'
    have L : wX_spell_5 post (nI r) x dr ds cn tp bo cu n (nI s) (nI (i + 1)) a1 a2 b a4 a5 a6 a7 a8 := hw (s, b) ⟨h1, h2, h3'⟩
    refine pk_le 30 i (fun z => absurd z (by omega)) (fun _ => br_c (fun _ => pk_le 12 s (fun _ => nm_r (nI_1 i) L) (fun hs => ⟨s + 1, ?_⟩)) (fun _ => nm_r (nI_1 i) L))
    have G : ∀ (k : Nat) (b : Nat → Int32), k ≤ s → sj_R 252 b → sj_K r a3 b → wX_spell_92 post (wX_spell_5 post (nI r) x dr ds cn tp bo cu n) (nI r) x (nI s) (nI i) (nI k) dr ds cn tp bo cu a1 a2 b a4 a5 a6 a7 a8 := fun k b g1 g2 g3 =>
      sj_92 hr hi (by omega) (hw (s + 1, _) ⟨by show s + 1 ≤ 12; omega, sj_R_upd g2 (h4 i hi), sj_K_upd g3 (by omega)⟩)
    refine pk_loopD (σ := Nat → Int32) (fun m k b => wX_spell_31 post (wX_spell_5 post (nI r) x dr ds cn tp bo cu n) (nI r) x (nI s) (nI i) dr ds cn tp bo cu m (nI k) a1 a2 b a4 a5 a6 a7 a8) (fun k b => k ≤ s ∧ sj_R 252 b ∧ sj_K r a3 b) ?_ ?_ s b ⟨Nat.le_refl s, h2, h3'⟩
    · intro m b g
      exact pk_le 0 0 (fun _ => G 0 b g.1 g.2.1 g.2.2) (fun z => absurd z (by omega))
    · intro m k b g hw2
      obtain ⟨g1, g2, g3⟩ := g
      refine pk_le (k + 1) 0 (fun z => absurd z (by omega)) (fun _ => ?_)
      rw [sj_ix1, sj_ix, nI_clamp (show 12 * r + k < 2 ^ 31 by omega), nI_clamp (show i < 2 ^ 31 by omega), nI_clamp (show 12 * r + (k + 1) < 2 ^ 31 by omega)]
      exact ⟨pk_in (12 * r + k) 252 (by omega), pk_in i 30 hi, br_c (fun _ => G (k + 1) b g1 g2 g3) (fun _ => ⟨pk_in (12 * r + k) 252 (by omega), pk_in (12 * r + (k + 1)) 252 (by omega), nm_e (nm_r (pk_m1 k) (hw2 _ ⟨by omega, sj_R_upd g2 (g2 _ (by omega)), sj_K_upd g3 (by omega)⟩))⟩)⟩
theorem sj_pfx {post : Int32 → Prop} {t u s : Nat} (ht : 1 ≤ t) (htu : t ≤ u) (hu : u ≤ 12) (hs : 1 ≤ s) (hs2 : s ≤ 12) (H : post (nI (sj_pf t u s))) :
    wpX_prefixLength post (dr, ds, cn, nI t, nI u, cu, a1, a2, a3, a4, a5, a6, a7, a8) (nI s) := by
  have hm : t * s ≤ 12 * 12 := Nat.mul_le_mul (by omega) hs2
  have hn := sj_nf_in ht htu hs
  refine pk_le u 0 (fun z => absurd z (by omega)) (fun _ => And.intro (nI_ne0 (by omega) (by omega)) (nm_r (e' := nI (sj_nf t u s)) ?_ ?_))
  · rw [pk_mul, nI_add]
    show (nI (t * s + u) - nI 1) / nI u = _
    rw [pk_sub (by omega), pk_div (by omega) (by omega) (by omega)]
    rfl
  · rw [pk_sub hn.2, nI_1]
    exact H
end
end
section
section
variable {dr ds cn tp bo cu : Int32} {a1 a2 a3 a4 a5 a6 a7 a8 : Nat → Int32}
theorem sj_203 {post : Int32 → Prop} {w s : Nat} (hw : w < 2 ^ 31) (hs : s < 2 ^ 31) (H : post (nI (decide (w ≤ s)).toNat)) :
    wX_verify_203 post (nI w) (nI s) dr ds cn tp bo cu a1 a2 a3 a4 a5 a6 a7 a8 :=
  pk_lt s w (fun z => by rw [decide_eq_false (by omega)] at H; exact H) (fun z => by rw [decide_eq_true z] at H; exact H)
theorem sj_163 {post : Int32 → Prop} {J : Int32 → Int32 → Int32 → Int32 → Prop} {x1 x2 x3 x5 x11 x12 : Int32} {i j s k : Nat}
    (H : J (nI (if x11 ≤ x12 then i + 1 else i)) (nI (if x12 ≤ x11 then j + 1 else j)) (nI s) (nI (k + 1))) :
    wX_verify_163 post J x1 x2 x3 x5 (nI i) (nI j) (nI s) (nI k) x11 x12 dr ds cn tp bo cu a1 a2 a3 a4 a5 a6 a7 a8 := by
  have e0 : ∀ n, nI n + 0 = nI n := fun n => nI_add n 0
  refine br_c (fun g => ?_) (fun g => ?_)
  · rw [if_neg (Int32.not_le.mpr g), if_pos (Int32.le_of_lt g)] at H
    refine nm_r (e0 i) (br_f (fun z => Int32.lt_irrefl (Int32.lt_trans g z)) (nm_r (nI_1 j) (nm_r (nI_1 k) H)))
  · rw [if_pos (Int32.not_lt.mp g)] at H
    refine nm_r (nI_1 i) (br_c (fun g2 => ?_) (fun g2 => ?_))
    · rw [if_neg (Int32.not_le.mpr g2)] at H
      exact nm_r (e0 j) (nm_r (nI_1 k) H)
    · rw [if_pos (Int32.not_lt.mp g2)] at H
      exact nm_r (nI_1 j) (nm_r (nI_1 k) H)
theorem sj_111 {post : Int32 → Prop} {J : Int32 → Int32 → Int32 → Int32 → Prop} {x2 : Int32} {r b w i j s k z : Nat} (hr : r ≤ 20) (hb : b ≤ 20) (hw : w < 100) (hi : i < 12) (hj : j < 12) (hs : s < 100) (hz : z < 100)
    (H0 : s + z < w → post 0)
    (H1 : w ≤ s + z → J (nI (if sj_ln a3 r i ≤ sj_ln a3 b j then i + 1 else i)) (nI (if sj_ln a3 b j ≤ sj_ln a3 r i then j + 1 else j)) (nI (if sj_ln a3 r i = sj_ln a3 b j then s + 1 else s)) (nI (k + 1))) :
    wX_verify_111 post J (nI r) x2 (nI b) (nI w) (nI i) (nI j) (nI s) (nI k) (nI z) dr ds cn tp bo cu a1 a2 a3 a4 a5 a6 a7 a8 := by
  unfold wX_verify_111
  refine pk_le w (s + z) (fun g => ?_) H0 rfl (nI_add s z)
  have H := H1 g
  refine And.intro (pk_in (12 * r + i) 252 (by omega) (sj_ix r i)) (nm_r (e' := sj_ln a3 r i) (by rw [sj_ix, nI_clamp (by omega)]; rfl) (And.intro (pk_in (12 * b + j) 252 (by omega) (sj_ix b j)) (nm_r (e' := sj_ln a3 b j) (by rw [sj_ix, nI_clamp (by omega)]; rfl) ?_)))
  refine br_c (fun e => nm_r (nI_1 s) ?_) (fun e => ?_)
  · rw [if_pos e] at H
    exact sj_163 H
  · rw [if_neg e] at H
    exact sj_163 H
theorem sj_verify {post : Int32 → Prop} {t u r b p q : Nat} (ht : 1 ≤ t) (htu : t ≤ u) (hu : u ≤ 12) (hr : r ≤ 20) (hb : b < 20) (hp : p ≤ 12) (hq : q ≤ 12) (h2 : a2 b = nI q)
    (H : post (nI (sj_m (sj_ln a3 r) (sj_ln a3 b) p q (sj_nd t u p q) 24 0 0 0).toNat)) :
    wpX_verify post (dr, ds, cn, nI t, nI u, cu, a1, a2, a3, a4, a5, a6, a7, a8) (nI r) (nI p) (nI b) := by
  have hm : t * (p + q) ≤ 12 * 24 := Nat.mul_le_mul (by omega) (by omega)
  have hw : sj_nd t u p q < 100 := by
    unfold sj_nd
    rw [Nat.div_lt_iff_lt_mul (by omega)]
    have : t + u ≥ 2 := by omega
    have : 100 * (t + u) ≥ 100 * 2 := Nat.mul_le_mul_left 100 this
    have e1 : t * (p + q) ≤ t * 24 := Nat.mul_le_mul_left t (by omega)
    omega
  refine nm_r (nI_add t u) (And.intro (pk_in b 20 hb) ?_)
  rw [nI_clamp (show b < 2 ^ 31 by omega), h2]
  refine pk_le (t + u) 0 (fun z => absurd z (by omega)) (fun _ => And.intro (nI_ne0 (by omega) (by omega)) (nm_r (e' := nI (sj_nd t u p q)) ?_ ?_))
  · rw [nI_add, pk_mul, nI_add]
    show (nI (t * (p + q) + (t + u)) - nI 1) / nI (t + u) = _
    rw [pk_sub (by omega), pk_div (by omega) (by omega) (by omega)]
    rfl
  generalize sj_nd t u p q = w at hw H
  generalize hM : sj_m (sj_ln a3 r) (sj_ln a3 b) p q w 24 0 0 0 = M at H
  refine pk_loop (σ := Nat × Nat × Nat) (fun n k s => wX_verify_55 post (nI r) (nI p) (nI b) (nI w) dr ds cn (nI t) (nI u) cu a1 a2 a3 a4 a5 a6 a7 a8 n (nI s.1) (nI s.2.1) (nI s.2.2) (nI k))
    (fun k s => s.1 ≤ k ∧ s.2.1 ≤ k ∧ s.2.2 ≤ k ∧ sj_m (sj_ln a3 r) (sj_ln a3 b) p q w (24 - k) s.1 s.2.1 s.2.2 = M) 24 0 (0, 0, 0) (by omega) ⟨Nat.le_refl 0, Nat.le_refl 0, Nat.le_refl 0, hM⟩ ?_ ?_
  · intro n s h
    obtain ⟨i, j, s⟩ := s
    obtain ⟨g1, g2, g3, g4⟩ := h
    dsimp only at g1 g2 g3 g4
    have e : decide (w ≤ s) = M := g4
    rw [← e] at H
    exact pk_le 24 24 (fun _ => sj_203 (by omega) (by show s < _; omega) H) (fun z => absurd z (by omega))
  · intro n k s hk h hw2
    obtain ⟨i, j, s⟩ := s
    obtain ⟨g1, g2, g3, g4⟩ := h
    dsimp only at g1 g2 g3 g4
    rw [show 24 - k = (24 - (k + 1)) + 1 by omega] at g4
    have g5 : (if p ≤ i ∨ q ≤ j then decide (w ≤ s) else if s + min (p - i) (q - j) < w then false else
      sj_m (sj_ln a3 r) (sj_ln a3 b) p q w (24 - (k + 1)) (if sj_ln a3 r i ≤ sj_ln a3 b j then i + 1 else i) (if sj_ln a3 b j ≤ sj_ln a3 r i then j + 1 else j) (if sj_ln a3 r i = sj_ln a3 b j then s + 1 else s)) = M := g4
    refine pk_le 24 k (fun z => absurd z (by omega)) (fun _ => pk_le p i (fun z => ?_) (fun z => And.intro (pk_in b 20 hb) ?_))
    · rw [if_pos (Or.inl z)] at g5
      rw [← g5] at H
      exact sj_203 (by omega) (by show s < _; omega) H
    · rw [nI_clamp (show b < 2 ^ 31 by omega), h2]
      refine pk_le q j (fun z2 => ?_) (fun z2 => And.intro (pk_in b 20 hb) ?_)
      · rw [if_pos (Or.inr z2)] at g5
        rw [← g5] at H
        exact sj_203 (by omega) (by show s < _; omega) H
      · rw [if_neg (by omega)] at g5
        show (nI q - nI j ≤ nI p - nI i → _) ∧ (¬ nI q - nI j ≤ nI p - nI i → _)
        have F : ∀ z, z = min (p - i) (q - j) → wX_verify_111 post (wX_verify_55 post (nI r) (nI p) (nI b) (nI w) dr ds cn (nI t) (nI u) cu a1 a2 a3 a4 a5 a6 a7 a8 n) (nI r) (nI p) (nI b) (nI w) (nI i) (nI j) (nI s) (nI k) (nI z) dr ds cn (nI t) (nI u) cu a1 a2 a3 a4 a5 a6 a7 a8 := by
          intro z hz
          refine sj_111 hr (by omega) (by omega) (by omega) (by omega) (by omega) (by omega) (fun l => ?_) (fun l => ?_)
          · rw [if_pos (by omega)] at g5
            rw [← g5] at H
            exact H
          · rw [if_neg (by omega)] at g5
            refine hw2 (_, _, _) ⟨?_, ?_, ?_, g5⟩
            · show (if sj_ln a3 r i ≤ sj_ln a3 b j then i + 1 else i) ≤ k + 1
              split <;> omega
            · show (if sj_ln a3 b j ≤ sj_ln a3 r i then j + 1 else j) ≤ k + 1
              split <;> omega
            · show (if sj_ln a3 r i = sj_ln a3 b j then s + 1 else s) ≤ k + 1
              split <;> omega
        rw [pk_sub (show j ≤ q by omega), pk_sub (show i ≤ p by omega)]
        exact pk_le (q - j) (p - i) (fun l => And.intro (pk_in b 20 hb) (F _ (by omega))) (fun l => F _ (by omega))
theorem sj_113n {post : Int32 → Prop} {J : Int32 → Int32 → Prop} {x1 x2 x3 x5 : Int32} {b : Nat} (H : J x5 (nI (b + 1))) :
    wX_probe_112 post J x1 x2 x3 x5 (nI b) dr ds cn tp bo cu a1 a2 a3 a4 a5 a6 a7 a8 :=
  br_c (fun _ => br_t rfl (nm_r (nI_1 b) H)) (fun _ => nm_r (nI_1 b) H)
/-- what the index says -/
def sj_X (t u c : Nat) (sz : Nat → Nat) (a3 a6 : Nat → Int32) : Prop := ∀ v, v < 30 → ∀ b, b < 32 → (sj_bt (a6 v) b = true ↔ b < c ∧ ∃ l, l < sj_pf t u (sz b) ∧ sj_ln a3 b l = nI v)
/-- the stored sizes -/
def sj_Z (c : Nat) (sz : Nat → Nat) (a2 : Nat → Int32) : Prop := ∀ b, b < c → a2 b = nI (sz b) ∧ 1 ≤ sz b ∧ sz b ≤ 12
theorem sj_probe {post : Int32 → Prop} {t u c r : Nat} {sz : Nat → Nat} (ht : 1 ≤ t) (htu : t ≤ u) (hu : u ≤ 12) (hc : c ≤ 20) (hr : r < c) (hz : sj_Z c sz a2) (h3 : sj_R 252 a3) (hX : sj_X t u c sz a3 a6)
    (H : ∀ x, (∀ b, b < 32 → (sj_bt x b = true ↔ b < c ∧ sj_S t u sz a3 r b)) → post x) :
    wpX_probe post (dr, ds, nI c, nI t, nI u, cu, a1, a2, a3, a4, a5, a6, a7, a8) (nI r) (nI (sz r)) := by
  obtain ⟨_, z1, z2⟩ := hz r hr
  have hpf := sj_pf_in ht htu z1
  refine pk_eq (sz r) 0 (fun z => absurd z (by omega)) (fun _ => sj_pfx ht htu hu z1 z2 ?_)
  refine pk_loop (σ := Int32) (fun n k x => wX_probe_18 post (nI r) (nI (sz r)) (nI (sj_pf t u (sz r))) dr ds (nI c) (nI t) (nI u) cu a1 a2 a3 a4 a5 a6 a7 a8 n x (nI k))
    (fun k x => ∀ b, b < 32 → (sj_bt x b = true ↔ b < c ∧ ∃ m l, m < k ∧ l < sj_pf t u (sz b) ∧ sj_ln a3 r m = sj_ln a3 b l)) (sj_pf t u (sz r)) 0 0 (by omega) ?_ ?_ ?_
  · intro b hb
    rw [sj_b0]
    exact ⟨fun z => absurd z (by decide), fun z => by obtain ⟨_, m, _, hm, _⟩ := z; exact absurd hm (by omega)⟩
  · intro n x hx
    refine pk_le (sj_pf t u (sz r)) (sj_pf t u (sz r)) (fun _ => ?_) (fun z => absurd z (by omega))
    have hx' : ∀ b, b < 32 → (sj_bt x b = true ↔ b < c ∧ sj_C t u sz a3 r b) := hx
    refine pk_loop (σ := Int32) (fun n b y => wX_probe_57 post (nI r) (nI (sz r)) x dr ds (nI c) (nI t) (nI u) cu a1 a2 a3 a4 a5 a6 a7 a8 n y (nI b))
      (fun b y => ∀ j, j < 32 → (sj_bt y j = true ↔ j < b ∧ sj_S t u sz a3 r j)) c 0 0 (by omega) ?_ ?_ ?_
    · intro j hj
      rw [sj_b0]
      exact ⟨fun z => absurd z (by decide), fun z => absurd z.1 (by omega)⟩
    · intro n y hy
      exact pk_le c c (fun _ => H y hy) (fun z => absurd z (by omega))
    · intro n b y hb hy hw
      obtain ⟨e2, y1, y2⟩ := hz b hb
      have m1 : u * sz b ≤ 12 * 12 := Nat.mul_le_mul hu y2
      have m2 : t * sz r ≤ 12 * 12 := Nat.mul_le_mul (by omega) z2
      have m3 : u * sz r ≤ 12 * 12 := Nat.mul_le_mul hu z2
      have m4 : t * sz b ≤ 12 * 12 := Nat.mul_le_mul (by omega) y2
      have L : ¬ sj_S t u sz a3 r b → wX_probe_57 post (nI r) (nI (sz r)) x dr ds (nI c) (nI t) (nI u) cu a1 a2 a3 a4 a5 a6 a7 a8 n y (nI (b + 1)) := fun hn => hw y (fun j hj => by
        rw [hy j hj]
        constructor
        · exact fun z => ⟨by omega, z.2⟩
        · intro z
          refine ⟨?_, z.2⟩
          have : j ≠ b := fun e => hn (by rw [← e]; exact z.2)
          omega)
      refine pk_le c b (fun z => absurd z (by omega)) (fun _ => And.intro (pk_in b 20 (by omega)) ?_)
      rw [nI_clamp (show b < 2 ^ 31 by omega), e2]
      refine pk_lt (u * sz b) (t * sz r) (fun z => sj_113n (L (fun h => absurd h.2.1 (by omega)))) (fun g1 => And.intro (pk_in b 20 (by omega)) ?_) (pk_mul u (sz b)) (pk_mul t (sz r))
      refine pk_lt (u * sz r) (t * sz b) (fun z => sj_113n (L (fun h => absurd h.2.2.1 (by omega)))) (fun g2 => ?_) (pk_mul u (sz r)) (pk_mul t (sz b))
      refine ek_if (sj_tst1 _ (by omega)) (fun hC => br_f (by decide) ?_) (fun hC => nm_r (nI_1 b) (L (fun h => hC ((hx' b (by omega)).mpr ⟨hb, h.1⟩))))
      have C := ((hx' b (by omega)).mp hC).2
      refine sj_verify ht htu hu (by omega) (by omega) z2 y2 e2 ?_
      generalize hM : sj_m (sj_ln a3 r) (sj_ln a3 b) (sz r) (sz b) (sj_nd t u (sz r) (sz b)) 24 0 0 0 = M
      cases M with
      | false => exact br_t rfl (nm_r (nI_1 b) (L (fun h => absurd (hM.symm.trans h.2.2.2) (by decide))))
      | true =>
        refine br_f (by decide) (nm_e (nm_r (nI_1 b) (hw _ (fun j hj => ?_))))
        rw [sj_set y (by omega) hj, Bool.or_eq_true, hy j hj, decide_eq_true_iff]
        constructor
        · rintro (z | z)
          · exact ⟨by omega, z.2⟩
          · rw [z]
            exact ⟨by omega, C, g1, g2, hM⟩
        · intro z
          by_cases e : j = b
          · exact Or.inr e
          · exact Or.inl ⟨by omega, z.2⟩
  · intro n k x hk hx hw
    refine pk_le (sj_pf t u (sz r)) k (fun z => absurd z (by omega)) (fun _ => ?_)
    obtain ⟨v, hv, ev⟩ := h3 (12 * r + k) (by omega)
    rw [sj_ix, nI_clamp (show 12 * r + k < 2 ^ 31 by omega), ev, nI_clamp (show v < 2 ^ 31 by omega)]
    refine And.intro (pk_in (12 * r + k) 252 (by omega)) (And.intro (pk_in v 30 hv) (nm_e (nm_r (nI_1 k) (hw _ (fun b hb => ?_)))))
    rw [sj_bor, Bool.or_eq_true, hx b hb, hX v hv b hb]
    constructor
    · rintro (⟨z, m, l, q1, q2, q3⟩ | ⟨z, l, q1, q2⟩)
      · exact ⟨z, m, l, by omega, q2, q3⟩
      · exact ⟨z, k, l, by omega, q1, ev.trans q2.symm⟩
    · rintro ⟨z, m, l, q1, q2, q3⟩
      by_cases e : m = k
      · exact Or.inr ⟨z, l, q2, by rw [← q3, e]; exact ev⟩
      · exact Or.inl ⟨z, m, l, by omega, q2, q3⟩
end
end
section
/-- the rows are good -/
def sj_W (c : Nat) (a7 : Nat → Int32) : Prop := ∀ i, i < c → (∀ b, b < 32 → sj_bt (a7 i) b = true → b < c) ∧ sj_bt (a7 i) i = true ∧ ∀ j, j < c → sj_bt (a7 i) j = sj_bt (a7 j) i
/-- similar records have one root -/
def sj_Q (c : Nat) (a7 : Nat → Int32) (rt : Nat → Nat) : Prop := ∀ i j, i < c → j < c → sj_bt (a7 i) j = true → rt i = rt j
/-- rows and parents are good -/
def sj_G (c : Nat) (a7 a8 : Nat → Int32) (rt : Nat → Nat) : Prop := sj_W c a7 ∧ sj_P c rt a8 ∧ sj_Q c a7 rt
/-- the records -/
def sj_B (c t u : Nat) (sz : Nat → Nat) (a2 a3 : Nat → Int32) : Prop := c ≤ 20 ∧ 1 ≤ t ∧ t ≤ u ∧ u ≤ 12 ∧ sj_Z c sz a2 ∧ sj_R 252 a3
theorem sj_W_mk {t u c : Nat} {sz : Nat → Nat} {a2 a3 a7 : Nat → Int32} (hB : sj_B c t u sz a2 a3) (h : ∀ i, i < c → ∀ b, b < 32 → (sj_bt (a7 i) b = true ↔ b < c ∧ sj_S t u sz a3 i b)) : sj_W c a7 := by
  obtain ⟨hc, ht, htu, hu, hz, h3⟩ := hB
  intro i hi
  refine ⟨fun b hb z => ((h i hi b hb).mp z).1, (h i hi i (by omega)).mpr ⟨hi, sj_S_refl ht htu (hz i hi).2.1 (hz i hi).2.2⟩, fun j hj => ?_⟩
  rw [Bool.eq_iff_iff, h i hi j (by omega), h j hj i (by omega)]
  exact ⟨fun z => ⟨hi, sj_S_sym z.2⟩, fun z => ⟨hj, sj_S_sym z.2⟩⟩
theorem sj_Q_mk {c : Nat} {a7 : Nat → Int32} {rt : Nat → Nat} (hW : sj_W c a7) (h : ∀ i, i < c → ∀ b, i < b → b < c → sj_bt (a7 i) b = true → rt i = rt b) : sj_Q c a7 rt := by
  intro i j hi hj hb
  rcases Nat.lt_trichotomy i j with z | z | z
  · exact h i hi j z hj hb
  · rw [z]
  · exact (h j hj i z hi (by rw [← (hW i hi).2.2 j hj]; exact hb)).symm
section
variable {dr ds cn tp bo cu : Int32} {a1 a2 a3 a4 a5 a6 a7 a8 : Nat → Int32}
theorem sj_162 {post : St1 → Prop} {c : Nat} (hc : c ≤ 20) (hW : sj_W c a7) (h8 : ∀ i, i < c → a8 i = nI i)
    (H : ∀ b8 rt, sj_G c a7 b8 rt → post (dr, ds, nI c, tp, bo, cu, a1, a2, a3, a4, a5, a6, a7, b8)) :
    ∃ n, wX_refresh_162 post n 0 dr ds (nI c) tp bo cu a1 a2 a3 a4 a5 a6 a7 a8 := by
  refine pk_loop (σ := (Nat → Nat) × (Nat → Int32)) (fun n r s => wX_refresh_162 post n (nI r) dr ds (nI c) tp bo cu a1 a2 a3 a4 a5 a6 a7 s.2)
    (fun r s => sj_P c s.1 s.2 ∧ ∀ i, i < r → ∀ b, i < b → b < c → sj_bt (a7 i) b = true → s.1 i = s.1 b) c 0 (fun i => i, a8) (by omega) ⟨fun i hi => ⟨i, h8 i hi, Nat.le_refl i, rfl, fun _ => rfl⟩, fun i hi => absurd hi (by omega)⟩ ?_ ?_
  · intro n s h
    exact pk_le c c (fun _ => H s.2 s.1 ⟨hW, h.1, sj_Q_mk hW h.2⟩) (fun z => absurd z (by omega))
  · intro n r s hr h hw
    obtain ⟨ρ, b8⟩ := s
    obtain ⟨h1, h2⟩ := h
    dsimp only at h1 h2
    refine pk_le c r (fun z => absurd z (by omega)) (fun _ => sj_joinRow hc h1 hr (fun ρ' b9 g1 g2 g3 => nm_r (nI_1 r) (hw (ρ', b9) ⟨g1, fun i hi b k1 k2 k3 => ?_⟩)))
    by_cases e : i = r
    · subst e
      exact g3 b k1 k2 k3
    · exact g2 i b (h2 i (by omega) b k1 k2 k3)
theorem sj_122 {post : St1 → Prop} {t u c : Nat} {sz : Nat → Nat} (hB : sj_B c t u sz a2 a3) (hX : sj_X t u c sz a3 a6)
    (H : ∀ b7 b8 rt, sj_G c b7 b8 rt → post (dr, ds, nI c, nI t, nI u, cu, a1, a2, a3, a4, a5, a6, b7, b8)) :
    ∃ n, wX_refresh_122 post dr ds (nI c) (nI t) (nI u) cu n 0 a1 a2 a3 a4 a5 a6 a7 a8 := by
  have hB' := hB
  obtain ⟨hc, ht, htu, hu, hz, h3⟩ := hB'
  refine pk_loop (σ := (Nat → Int32) × (Nat → Int32)) (fun n r s => wX_refresh_122 post dr ds (nI c) (nI t) (nI u) cu n (nI r) a1 a2 a3 a4 a5 a6 s.1 s.2)
    (fun r s => (∀ i, i < r → ∀ b, b < 32 → (sj_bt (s.1 i) b = true ↔ b < c ∧ sj_S t u sz a3 i b)) ∧ ∀ i, i < r → s.2 i = nI i) c 0 (a7, a8) (by omega) ⟨fun i hi => absurd hi (by omega), fun i hi => absurd hi (by omega)⟩ ?_ ?_
  · intro n s h
    exact pk_le c c (fun _ => sj_162 hc (sj_W_mk hB h.1) h.2 (fun b8 rt g => H s.1 b8 rt g)) (fun z => absurd z (by omega))
  · intro n r s hr h hw
    obtain ⟨b7, b8⟩ := s
    obtain ⟨h1, h2⟩ := h
    dsimp only at h1 h2
    refine pk_le c r (fun z => absurd z (by omega)) (fun _ => And.intro (pk_in r 20 (by omega)) ?_)
    rw [nI_clamp (show r < 2 ^ 31 by omega), (hz r hr).1]
    refine sj_probe ht htu hu hc hr hz h3 hX (fun x hx => And.intro (pk_in r 20 (by omega)) (nm_e (And.intro (pk_in r 20 (by omega)) (nm_e (nm_r (nI_1 r) (hw (upd b7 r x, upd b8 r (nI r)) ⟨?_, ?_⟩))))))
    · intro i hi b hb
      show sj_bt (upd b7 r x i) b = true ↔ _
      by_cases e : i = r
      · rw [e, pk_us]
        exact hx b hb
      · rw [pk_un e]
        exact h1 i (by omega) b hb
    · intro i hi
      show upd b8 r (nI r) i = nI i
      by_cases e : i = r
      · rw [e, pk_us]
      · rw [pk_un e]
        exact h2 i (by omega)
theorem sj_72 {post : St1 → Prop} {J : Int32 → Int32 → Int32 → Int32 → Int32 → Int32 → Int32 → (Nat → Int32) → (Nat → Int32) → (Nat → Int32) → (Nat → Int32) → (Nat → Int32) → (Nat → Int32) → (Nat → Int32) → (Nat → Int32) → Prop} {t u r : Nat} {sz : Nat → Nat} (hr : r < 20) (hp : sj_pf t u (sz r) ≤ 12) (h3 : sj_R 252 a3) (hX : sj_X t u r sz a3 a6)
    (H : ∀ b6, sj_X t u (r + 1) sz a3 b6 → J (nI (r + 1)) dr ds cn tp bo cu a1 a2 a3 a4 a5 b6 a7 a8) :
    ∃ n, wX_refresh_72 post J (nI r) (nI (sj_pf t u (sz r))) dr ds cn tp bo cu n 0 a1 a2 a3 a4 a5 a6 a7 a8 := by
  refine pk_loop (σ := Nat → Int32) (fun m k s => wX_refresh_72 post J (nI r) (nI (sj_pf t u (sz r))) dr ds cn tp bo cu m (nI k) a1 a2 a3 a4 a5 s a7 a8)
    (fun k s => ∀ v, v < 30 → ∀ b, b < 32 → (sj_bt (s v) b = true ↔ (b < r ∧ ∃ l, l < sj_pf t u (sz b) ∧ sj_ln a3 b l = nI v) ∨ (b = r ∧ ∃ l, l < k ∧ sj_ln a3 r l = nI v))) (sj_pf t u (sz r)) 0 a6 (by omega) ?_ ?_ ?_
  · intro v hv b hb
    rw [hX v hv b hb]
    exact ⟨fun z => Or.inl z, fun z => z.elim id (fun z => by obtain ⟨_, l, hl, _⟩ := z; exact absurd hl (by omega))⟩
  · intro m s h
    refine pk_le (sj_pf t u (sz r)) (sj_pf t u (sz r)) (fun _ => nm_r (nI_1 r) (H s (fun v hv b hb => ?_))) (fun z => absurd z (by omega))
    rw [h v hv b hb]
    constructor
    · rintro (⟨z, l, q1, q2⟩ | ⟨z, l, q1, q2⟩)
      · exact ⟨by omega, l, q1, q2⟩
      · exact ⟨by omega, l, by rw [z]; exact q1, by rw [z]; exact q2⟩
    · rintro ⟨z, l, q1, q2⟩
      by_cases e : b = r
      · exact Or.inr ⟨e, l, by rw [← e]; exact q1, by rw [← e]; exact q2⟩
      · exact Or.inl ⟨by omega, l, q1, q2⟩
  · intro m k s hk h hw
    obtain ⟨w, hw30, ew⟩ := h3 (12 * r + k) (by omega)
    refine pk_le (sj_pf t u (sz r)) k (fun z => absurd z (by omega)) (fun _ => And.intro (pk_in (12 * r + k) 252 (by omega) (sj_ix r k)) (nm_r (e' := nI w) (by rw [sj_ix, nI_clamp (by omega), ew]) ?_))
    refine And.intro (pk_in w 30 hw30) (And.intro (pk_in w 30 hw30) (nm_r (e' := upd s w (s w ||| ((1 : Int32) <<< (nI r &&& 31)))) (by rw [nI_clamp (by omega)]) (nm_r (nI_1 k) (hw _ (fun v hv b hb => ?_)))))
    by_cases e : v = w
    · rw [e, pk_us, sj_set _ (by omega) hb, Bool.or_eq_true, h w hw30 b hb, decide_eq_true_iff]
      constructor
      · rintro ((z | ⟨z, l, q1, q2⟩) | z)
        · exact Or.inl z
        · exact Or.inr ⟨z, l, by omega, q2⟩
        · exact Or.inr ⟨z, k, by omega, ew⟩
      · rintro (z | ⟨z, l, q1, q2⟩)
        · exact Or.inl (Or.inl z)
        · exact Or.inr z
    · rw [pk_un e, h v hv b hb]
      constructor
      · rintro (z | ⟨z, l, q1, q2⟩)
        · exact Or.inl z
        · exact Or.inr ⟨z, l, by omega, q2⟩
      · rintro (z | ⟨z, l, q1, q2⟩)
        · exact Or.inl z
        · refine Or.inr ⟨z, l, ?_, q2⟩
          have : l ≠ k := fun el => e (by
            rw [el] at q2
            exact ((nI_eq (by omega) (by omega)).mp (q2.symm.trans ew)))
          omega
theorem sj_X_keep {t u r : Nat} {sz : Nat → Nat} {b3 : Nat → Int32} (hs : ∀ b, b < r → sj_pf t u (sz b) ≤ 12) (hX : sj_X t u r sz a3 a6) (hK : sj_K r a3 b3) : sj_X t u r sz b3 a6 := by
  intro v hv b hb
  rw [hX v hv b hb]
  have e : b < r → ∀ l, l < sj_pf t u (sz b) → sj_ln b3 b l = sj_ln a3 b l := fun h l hl => hK _ (Or.inl (by have := hs b h; omega))
  constructor
  · rintro ⟨z, l, q1, q2⟩
    exact ⟨z, l, q1, by rw [e z l q1]; exact q2⟩
  · rintro ⟨z, l, q1, q2⟩
    exact ⟨z, l, q1, by rw [← e z l q1]; exact q2⟩
theorem sj_40 {post : St1 → Prop} {t u c : Nat} {sz : Nat → Nat} (hB : sj_B c t u sz a2 a3) (h4 : sj_R 30 a4) (h6 : ∀ v, v < 30 → a6 v = 0)
    (H : ∀ b3 b6 b7 b8 rt, sj_R 252 b3 → sj_G c b7 b8 rt → post (dr, ds, nI c, nI t, nI u, cu, a1, a2, b3, a4, a5, b6, b7, b8)) :
    ∃ n, wX_refresh_40 post n 0 dr ds (nI c) (nI t) (nI u) cu a1 a2 a3 a4 a5 a6 a7 a8 := by
  obtain ⟨hc, ht, htu, hu, hz, h3⟩ := hB
  have hpf : ∀ b, b < c → sj_pf t u (sz b) ≤ 12 := fun b hb => Nat.le_trans (sj_pf_in ht htu (hz b hb).2.1).2 (hz b hb).2.2
  refine pk_loop (σ := (Nat → Int32) × (Nat → Int32)) (fun n r s => wX_refresh_40 post n (nI r) dr ds (nI c) (nI t) (nI u) cu a1 a2 s.1 a4 a5 s.2 a7 a8) (fun r s => sj_R 252 s.1 ∧ sj_X t u r sz s.1 s.2) c 0 (a3, a6) (by omega) ⟨h3, ?_⟩ ?_ ?_
  · intro v hv b hb
    show sj_bt (a6 v) b = true ↔ _
    rw [h6 v hv, sj_b0]
    exact ⟨fun z => absurd z (by decide), fun z => absurd z.1 (by omega)⟩
  · intro n s h
    exact pk_le c c (fun _ => sj_122 ⟨hc, ht, htu, hu, hz, h.1⟩ h.2 (fun b7 b8 rt g => H s.1 s.2 b7 b8 rt h.1 g)) (fun z => absurd z (by omega))
  · intro n r s hr h hw
    obtain ⟨b3, b6⟩ := s
    obtain ⟨h1, h2⟩ := h
    dsimp only at h1 h2
    refine pk_le c r (fun z => absurd z (by omega)) (fun _ => And.intro (pk_in r 20 (by omega)) (sj_spell (by omega) h4 h1 (fun c3 g1 g2 => And.intro (pk_in r 20 (by omega)) ?_)))
    rw [nI_clamp (show r < 2 ^ 31 by omega), (hz r hr).1]
    exact sj_pfx ht htu hu (hz r hr).2.1 (hz r hr).2.2 (sj_72 (by omega) (hpf r hr) g1 (sj_X_keep (fun b hb => hpf b (by omega)) h2 g2) (fun c6 g => hw (c3, c6) ⟨g1, g⟩))
theorem sj_cold {post : St1 → Prop} {t u c : Nat} {sz : Nat → Nat} (hB : sj_B c t u sz a2 a3) (h0 : cu = 0)
    (H : ∀ b3 b4 b5 b6 b7 b8 rt, sj_R 252 b3 → sj_G c b7 b8 rt → post (dr, ds, nI c, nI t, nI u, 1, a1, a2, b3, b4, b5, b6, b7, b8)) :
    wpX_refresh post (dr, ds, nI c, nI t, nI u, cu, a1, a2, a3, a4, a5, a6, a7, a8) := by
  refine br_t h0 (sj_rankTokens hB.1 (fun b4 b5 h4 => ?_))
  refine pk_loop (σ := Nat → Int32) (fun n i s => wX_refresh_19 post dr ds (nI c) (nI t) (nI u) 1 n (nI i) a1 a2 a3 b4 b5 s a7 a8) (fun i s => ∀ v, v < i → s v = 0) 30 0 a6 (by omega) (fun v hv => absurd hv (by omega)) ?_ ?_
  · intro n b6 h6
    exact pk_le 30 30 (fun _ => sj_40 hB h4 h6 (fun b3 b6 b7 b8 rt g1 g2 => H b3 b4 b5 b6 b7 b8 rt g1 g2)) (fun z => absurd z (by omega))
  · intro n i b6 hi h6 hw
    refine pk_le 30 i (fun z => absurd z (by omega)) (fun _ => And.intro (pk_in i 30 hi) (nm_r (e' := upd b6 i 0) (by rw [nI_clamp (by omega)]) (nm_r (nI_1 i) (hw _ (fun v hv => ?_)))))
    by_cases e : v = i
    · rw [e, pk_us]
    · rw [pk_un e]
      exact h6 v (by omega)
theorem sj_hot {post : St1 → Prop} (h0 : ¬ cu = 0) (H : post (dr, ds, cn, tp, bo, cu, a1, a2, a3, a4, a5, a6, a7, a8)) : wpX_refresh post (dr, ds, cn, tp, bo, cu, a1, a2, a3, a4, a5, a6, a7, a8) := br_f h0 H
end
end
section
/-- while holds() runs: at record i, with the degrees dg and the members mb so far -/
def sj_dg (c : Nat) (a7 : Nat → Int32) : Nat → Nat := sj_sm (fun i => sj_ct (sj_bt (a7 i)) c - 1)
def sj_mb (c : Nat) (rt : Nat → Nat) : Nat → Nat := sj_sm (fun i => if rt i = i then sj_ct (fun r => decide (rt r = i)) c else 0)
def sj_up (c : Nat) (a7 : Nat → Int32) : Nat → Nat := sj_sm (fun i => sj_ct (fun b => decide (i < b) && sj_bt (a7 i) b) c)
def sj_E (c i : Nat) (dg mb : Int32) (a7 a8 : Nat → Int32) : Prop := ∃ rt, sj_G c a7 a8 rt ∧ dg = nI (sj_dg c a7 i) ∧ mb = nI (sj_mb c rt i)
def sj_D (c i : Nat) (dg mb cu : Int32) (a7 a8 : Nat → Int32) : Prop := (cu = 0 ∧ i = 0 ∧ dg = 0 ∧ mb = 0) ∨ (¬ cu = 0 ∧ sj_E c i dg mb a7 a8)
theorem sj_pc_W {c i : Nat} {a7 : Nat → Int32} (hc : c ≤ 20) (h : sj_W c a7) (hi : i < c) : sj_pc (a7 i) = sj_ct (sj_bt (a7 i)) c ∧ 1 ≤ sj_ct (sj_bt (a7 i)) c := by
  refine ⟨sj_ct_cut (by omega) (fun b h1 h2 => ?_), sj_ct_pos hi (h i hi).2.1⟩
  cases e : sj_bt (a7 i) b with
  | false => rfl
  | true => exact absurd ((h i hi).1 b h2 e) (by omega)
theorem sj_pc_up {c i : Nat} {a7 : Nat → Int32} (hc : c ≤ 20) (h : sj_W c a7) (hi : i < c) : sj_pc (((a7 i).toUInt32 >>> ((nI (i + 1)).toUInt32 &&& Int32.toUInt32 31)).toInt32) = sj_ct (fun b => decide (i < b) && sj_bt (a7 i) b) c := by
  have e1 : sj_pc (((a7 i).toUInt32 >>> ((nI (i + 1)).toUInt32 &&& Int32.toUInt32 31)).toInt32) = sj_ct (fun b => decide (i < i + 1 + b) && sj_bt (a7 i) (i + 1 + b)) 32 :=
    sj_ct_cong (fun b hb => by rw [sj_bushr (i + 1) (by omega), decide_eq_true (show i < i + 1 + b by omega), Bool.true_and])
  have e2 := sj_ct_add (fun b => decide (i < b) && sj_bt (a7 i) b) (i + 1) 32
  have e3 : sj_ct (fun b => decide (i < b) && sj_bt (a7 i) b) (i + 1) = 0 := sj_ct_0 (fun b hb => by
    show (decide (i < b) && sj_bt (a7 i) b) = false
    rw [decide_eq_false (by omega), Bool.false_and])
  have e4 : sj_ct (fun b => decide (i < b) && sj_bt (a7 i) b) (i + 1 + 32) = sj_ct (fun b => decide (i < b) && sj_bt (a7 i) b) c := sj_ct_cut (by omega) (fun b h1 h2 => by
    show (decide (i < b) && sj_bt (a7 i) b) = false
    cases e : sj_bt (a7 i) b with
    | false => exact Bool.and_false _
    | true =>
      exfalso
      by_cases hb : b < 32
      · exact absurd ((h i hi).1 b hb e) (by omega)
      · rw [sj_bbig (by omega)] at e
        exact absurd e (by decide))
  rw [e1, ← e4, e2, e3, Nat.zero_add]
theorem sj_twice {c : Nat} {a7 : Nat → Int32} (hc : c ≤ 20) (h : sj_W c a7) : sj_dg c a7 c = 2 * sj_up c a7 c := by
  have e1 := sj_degrees (M := fun i j => sj_bt (a7 i) j) c (fun i j hi hj => (h i hi).2.2 j hj) (fun i hi => (h i hi).2.1)
  have e2 := sj_sm_pred (f := fun i => sj_ct (sj_bt (a7 i)) c) (n := c) (fun i hi => (sj_pc_W hc h hi).2)
  have e3 : sj_sm (fun i => sj_ct (sj_bt (a7 i)) c) c = 2 * sj_up c a7 c + c := e1
  have e4 : sj_dg c a7 c + c = sj_sm (fun i => sj_ct (sj_bt (a7 i)) c) c := e2
  omega
theorem sj_allm {c : Nat} {rt : Nat → Nat} {a8 : Nat → Int32} (h : sj_P c rt a8) : sj_mb c rt c = c := by
  have e : sj_mb c rt c = sj_ct (fun r => decide (rt r < c)) c := sj_members (fun i hi => sj_P_id h hi) c
  rw [e]
  exact sj_ct_all (fun i hi => decide_eq_true (Nat.lt_of_le_of_lt (sj_P_le h hi) hi))
section
variable {dr ds cn tp bo cu : Int32} {a1 a2 a3 a4 a5 a6 a7 a8 : Nat → Int32}
theorem sj_refresh {post : St1 → Prop} {t u c i : Nat} {sz : Nat → Nat} {dg mb : Int32} (hB : sj_B c t u sz a2 a3) (hD : sj_D c i dg mb cu a7 a8)
    (H : ∀ cu' b3 b4 b5 b6 b7 b8, ¬ cu' = 0 → sj_R 252 b3 → sj_E c i dg mb b7 b8 → post (dr, ds, nI c, nI t, nI u, cu', a1, a2, b3, b4, b5, b6, b7, b8)) :
    wpX_refresh post (dr, ds, nI c, nI t, nI u, cu, a1, a2, a3, a4, a5, a6, a7, a8) := by
  rcases hD with ⟨h0, h1, h2, h3⟩ | ⟨h0, h1⟩
  · exact sj_cold hB h0 (fun b3 b4 b5 b6 b7 b8 rt g1 g2 => H 1 b3 b4 b5 b6 b7 b8 (by decide) g1 ⟨rt, g2, by rw [h2, h1]; rfl, by rw [h3, h1]; rfl⟩)
  · exact sj_hot h0 (H cu a3 a4 a5 a6 a7 a8 h0 hB.2.2.2.2.2 h1)
theorem sj_isRec {post : Int32 → Prop} {c i : Nat} (hc : c ≤ 20) (hi : i < c) (H : post 1) : wpX_isRecord post (dr, ds, nI c, tp, bo, cu, a1, a2, a3, a4, a5, a6, a7, a8) (nI i) :=
  br_f (nI_pos (by omega)) (pk_le c i (fun z => absurd z (by omega)) (fun _ => H))
theorem sj_degree {post : Int32 → St1 → Prop} {t u c i : Nat} {sz : Nat → Nat} {dg mb : Int32} (hB : sj_B c t u sz a2 a3) (hD : sj_D c i dg mb cu a7 a8) (hi : i < c)
    (H : ∀ cu' b3 b4 b5 b6 b7 b8, ¬ cu' = 0 → sj_R 252 b3 → sj_E c i dg mb b7 b8 → post (nI (sj_ct (sj_bt (b7 i)) c - 1)) (dr, ds, nI c, nI t, nI u, cu', a1, a2, b3, b4, b5, b6, b7, b8)) :
    wpX_degree post (dr, ds, nI c, nI t, nI u, cu, a1, a2, a3, a4, a5, a6, a7, a8) (nI i) := by
  have hc := hB.1
  unfold wpX_degree
  refine sj_isRec hc hi (br_f (by decide) (sj_refresh hB hD (fun cu' b3 b4 b5 b6 b7 b8 g1 g2 g3 => And.intro (pk_in i 20 (by omega)) ?_)))
  have K := H cu' b3 b4 b5 b6 b7 b8 g1 g2 g3
  obtain ⟨rt, hG, _, _⟩ := g3
  obtain ⟨p1, p2⟩ := sj_pc_W hc hG.1 hi
  refine sj_ones ?_
  rw [nI_clamp (show i < 2 ^ 31 by omega), p1]
  show post (nI _ - nI 1) _
  rw [pk_sub p2]
  exact K
theorem sj_groupOf {post : Int32 → St1 → Prop} {c i : Nat} {rt : Nat → Nat} (h0 : ¬ cu = 0) (hc : c ≤ 20) (hP : sj_P c rt a8) (hi : i < c)
    (H : ∀ b8, sj_P c rt b8 → post (nI (rt i)) (dr, ds, nI c, tp, bo, cu, a1, a2, a3, a4, a5, a6, a7, b8)) :
    wpX_groupOf post (dr, ds, nI c, tp, bo, cu, a1, a2, a3, a4, a5, a6, a7, a8) (nI i) := by
  unfold wpX_groupOf
  exact sj_isRec hc hi (br_f (by decide) (sj_hot h0 (sj_root hc hP hi (fun b8 h => H b8 h))))
theorem sj_similar {post : Int32 → St1 → Prop} {c i j : Nat} (h0 : ¬ cu = 0) (hc : c ≤ 20) (hi : i < c) (hj : j < c)
    (H : post (nI (sj_bt (a7 i) j).toNat) (dr, ds, nI c, tp, bo, cu, a1, a2, a3, a4, a5, a6, a7, a8)) :
    wpX_similar post (dr, ds, nI c, tp, bo, cu, a1, a2, a3, a4, a5, a6, a7, a8) (nI i) (nI j) := by
  unfold wpX_similar
  refine sj_isRec hc hi (br_f (by decide) (sj_isRec hc hj (br_f (by decide) (sj_hot h0 (And.intro (pk_in i 20 (by omega)) ?_)))))
  rw [nI_clamp (show i < 2 ^ 31 by omega), sj_tst _ (by omega)]
  exact H
theorem sj_groupSize {post : Int32 → St1 → Prop} {c i : Nat} {rt : Nat → Nat} (h0 : ¬ cu = 0) (hc : c ≤ 20) (hP : sj_P c rt a8) (hi : i < c)
    (H : ∀ b8, sj_P c rt b8 → post (nI (sj_ct (fun r => decide (rt r = rt i)) c)) (dr, ds, nI c, tp, bo, cu, a1, a2, a3, a4, a5, a6, a7, b8)) :
    wpX_groupSize post (dr, ds, nI c, tp, bo, cu, a1, a2, a3, a4, a5, a6, a7, a8) (nI i) := by
  unfold wpX_groupSize
  refine sj_isRec hc hi (br_f (by decide) (sj_hot h0 (sj_root hc hP hi (fun b8 h => ?_))))
  refine pk_loop (σ := Nat × (Nat → Int32)) (fun n k s => wX_groupSize_25 post (nI (rt i)) n (nI s.1) (nI k) dr ds (nI c) tp bo cu a1 a2 a3 a4 a5 a6 a7 s.2) (fun k s => s.1 = sj_ct (fun r => decide (rt r = rt i)) k ∧ sj_P c rt s.2) c 0 (0, b8) (by omega) ⟨rfl, h⟩ ?_ ?_
  · intro n s g
    obtain ⟨s, b⟩ := s
    obtain ⟨g1, g2⟩ := g
    dsimp only at g1 g2
    subst g1
    exact pk_le c c (fun _ => H b g2) (fun z => absurd z (by omega))
  · intro n k s hk g hw
    obtain ⟨s, b⟩ := s
    obtain ⟨g1, g2⟩ := g
    dsimp only at g1 g2
    refine pk_le c k (fun z => absurd z (by omega)) (fun _ => sj_root hc g2 hk (fun b9 g3 => ?_))
    have l1 := sj_P_le g3 hk
    have l2 := sj_P_le g3 hi
    refine pk_eq (rt k) (rt i) (fun z => nm_r (nI_1 s) (nm_r (nI_1 k) (hw (s + 1, b9) ⟨?_, g3⟩))) (fun z => nm_r (nI_1 k) (hw (s, b9) ⟨?_, g3⟩))
    · show s + 1 = sj_ct (fun r => decide (rt r = rt i)) k + (decide (rt k = rt i)).toNat
      rw [decide_eq_true z, ← g1]
      rfl
    · show s = sj_ct (fun r => decide (rt r = rt i)) k + (decide (rt k = rt i)).toNat
      rw [decide_eq_false z, ← g1]
      rfl
theorem sj_pairs {post : Int32 → St1 → Prop} {t u c i : Nat} {sz : Nat → Nat} {dg mb : Int32} (hB : sj_B c t u sz a2 a3) (hD : sj_D c i dg mb cu a7 a8)
    (H : ∀ cu' b3 b4 b5 b6 b7 b8, ¬ cu' = 0 → sj_R 252 b3 → sj_E c i dg mb b7 b8 → post (nI (sj_up c b7 c)) (dr, ds, nI c, nI t, nI u, cu', a1, a2, b3, b4, b5, b6, b7, b8)) :
    wpX_pairs post (dr, ds, nI c, nI t, nI u, cu, a1, a2, a3, a4, a5, a6, a7, a8) := by
  have hc := hB.1
  refine sj_refresh hB hD (fun cu' b3 b4 b5 b6 b7 b8 g1 g2 g3 => ?_)
  have K := H cu' b3 b4 b5 b6 b7 b8 g1 g2 g3
  obtain ⟨rt, hG, _, _⟩ := g3
  refine pk_loop (σ := Unit) (fun n k _ => wX_pairs_8 post dr ds (nI c) (nI t) (nI u) cu' a1 a2 b3 b4 b5 b6 b7 b8 n (nI (sj_up c b7 k)) (nI k)) (fun _ _ => True) c 0 () (by omega) trivial ?_ ?_
  · intro n _ _
    exact pk_le c c (fun _ => K) (fun z => absurd z (by omega))
  · intro n k _ hk _ hw
    refine pk_le c k (fun z => absurd z (by omega)) (fun _ => And.intro (pk_in k 20 (by omega)) ?_)
    rw [nI_clamp (show k < 2 ^ 31 by omega), nI_1]
    refine sj_ones ?_
    rw [sj_pc_up hc hG.1 hk]
    exact nm_r (nI_add _ _) (nm_e (hw () trivial))
end
end
section
/-- between two turns -/
def sj_N (c : Nat) (cu : Int32) (a7 a8 : Nat → Int32) : Prop := cu = 0 ∨ (¬ cu = 0 ∧ ∃ rt, sj_G c a7 a8 rt)
section
variable {dr ds cn tp bo cu : Int32} {a1 a2 a3 a4 a5 a6 a7 a8 : Nat → Int32}
theorem sj_54 {post : Int32 → St1 → Prop} {J : Int32 → Int32 → Int32 → Int32 → Int32 → Int32 → Int32 → Int32 → Int32 → (Nat → Int32) → (Nat → Int32) → (Nat → Int32) → (Nat → Int32) → (Nat → Int32) → (Nat → Int32) → (Nat → Int32) → (Nat → Int32) → Prop} {x2 x3 : Int32} {c i : Nat} {rt : Nat → Nat} (h0 : ¬ cu = 0) (hc : c ≤ 20) (hW : sj_W c a7) (hQ : sj_Q c a7 rt) (hP : sj_P c rt a8) (hi : i < c)
    (H : ∀ b8, sj_P c rt b8 → J x2 x3 (nI (i + 1)) dr ds (nI c) tp bo cu a1 a2 a3 a4 a5 a6 a7 b8) :
    ∃ n, wL_holds_54 post J (nI c) x2 x3 (nI i) (nI (rt i)) n 0 dr ds (nI c) tp bo cu a1 a2 a3 a4 a5 a6 a7 a8 := by
  refine pk_loop (σ := Nat → Int32) (fun n j s => wL_holds_54 post J (nI c) x2 x3 (nI i) (nI (rt i)) n (nI j) dr ds (nI c) tp bo cu a1 a2 a3 a4 a5 a6 a7 s) (fun _ s => sj_P c rt s) c 0 a8 (by omega) hP ?_ ?_
  · intro n b8 h
    exact pk_le c c (fun _ => nm_r (nI_1 i) (H b8 h)) (fun z => absurd z (by omega))
  · intro n j b8 hj h hw
    refine pk_le c j (fun z => absurd z (by omega)) (fun _ => sj_similar h0 hc hi hj (sj_similar h0 hc hj hi (br_t (by rw [(hW i hi).2.2 j hj]) ?_)))
    cases e : sj_bt (a7 i) j with
    | false => exact br_f (by decide) (nm_r (nI_1 j) (hw b8 h))
    | true => exact br_t (by decide) (sj_groupOf h0 hc h hj (fun b9 g => br_t (by rw [hQ i j hi hj e]) (nm_r (nI_1 j) (hw b9 g))))
theorem sj_holds {post : Int32 → St1 → Prop} {t u c : Nat} {sz : Nat → Nat} (hB : sj_B c t u sz a2 a3) (hN : sj_N c cu a7 a8)
    (H : ∀ cu' b3 b4 b5 b6 b7 b8, sj_R 252 b3 → sj_N c cu' b7 b8 → post 1 (dr, ds, nI c, nI t, nI u, cu', a1, a2, b3, b4, b5, b6, b7, b8)) :
    wpL_holds post (dr, ds, nI c, nI t, nI u, cu, a1, a2, a3, a4, a5, a6, a7, a8) := by
  obtain ⟨hc, ht, htu, hu, hz, h3⟩ := hB
  unfold wpL_holds
  show wpX_records _ _
  unfold wpX_records
  refine pk_loop (σ := Int32 × Int32 × Int32 × (Nat → Int32) × (Nat → Int32) × (Nat → Int32) × (Nat → Int32) × (Nat → Int32) × (Nat → Int32)) (fun n i s => wL_holds_12 post (nI c) n s.1 s.2.1 (nI i) dr ds (nI c) (nI t) (nI u) s.2.2.1 a1 a2 s.2.2.2.1 s.2.2.2.2.1 s.2.2.2.2.2.1 s.2.2.2.2.2.2.1 s.2.2.2.2.2.2.2.1 s.2.2.2.2.2.2.2.2)
    (fun i s => sj_R 252 s.2.2.2.1 ∧ sj_D c i s.1 s.2.1 s.2.2.1 s.2.2.2.2.2.2.2.1 s.2.2.2.2.2.2.2.2) c 0 (0, 0, cu, a3, a4, a5, a6, a7, a8) (by omega) ⟨h3, ?_⟩ ?_ ?_
  · rcases hN with h | ⟨h, rt, g⟩
    · exact Or.inl ⟨h, rfl, rfl, rfl⟩
    · exact Or.inr ⟨h, rt, g, rfl, rfl⟩
  · intro n s h
    obtain ⟨dg, mb, cu, a3, a4, a5, a6, a7, a8⟩ := s
    obtain ⟨h1, h2⟩ := h
    dsimp only at h1 h2
    refine pk_le c c (fun _ => sj_pairs ⟨hc, ht, htu, hu, hz, h1⟩ h2 (fun cu' b3 b4 b5 b6 b7 b8 g1 g2 g3 => ?_)) (fun z => absurd z (by omega))
    have K := H cu' b3 b4 b5 b6 b7 b8 g2 (Or.inr ⟨g1, by obtain ⟨rt, g, _, _⟩ := g3; exact ⟨rt, g⟩⟩)
    obtain ⟨rt, g, e1, e2⟩ := g3
    refine br_t ?_ (br_t ?_ K)
    · show dg = nI 2 * nI (sj_up c b7 c)
      rw [pk_mul, e1, sj_twice hc g.1]
    · show mb = nI c
      rw [e2, sj_allm g.2.1]
  · intro n i s hi h hw
    obtain ⟨dg, mb, cu, a3, a4, a5, a6, a7, a8⟩ := s
    obtain ⟨h1, h2⟩ := h
    dsimp only at h1 h2
    refine pk_le c i (fun z => absurd z (by omega)) (fun _ => sj_degree ⟨hc, ht, htu, hu, hz, h1⟩ h2 hi (fun cu' b3 b4 b5 b6 b7 b8 g1 g2 g3 => ?_))
    obtain ⟨rt, ⟨gW, gP, gQ⟩, e1, e2⟩ := g3
    have li := sj_P_le gP hi
    refine nm_r (e' := nI (sj_dg c b7 (i + 1))) (by rw [e1, nI_add]; rfl) (sj_groupOf g1 hc gP hi (fun b9 k1 => ?_))
    refine pk_eq (rt i) i (fun z => ?_) (fun z => ?_)
    · refine sj_groupSize g1 hc k1 hi (fun b10 k2 => nm_r (e' := nI (sj_mb c rt (i + 1))) ?_ ?_)
      · rw [e2, nI_add]
        show nI (sj_mb c rt i + sj_ct (fun r => decide (rt r = rt i)) c) = nI (sj_mb c rt i + if rt i = i then sj_ct (fun r => decide (rt r = i)) c else 0)
        rw [if_pos z, z]
      · exact sj_54 g1 hc gW gQ k2 hi (fun b11 k3 => hw (_, _, _, _, _, _, _, _, _) ⟨g2, Or.inr ⟨g1, rt, ⟨gW, k3, gQ⟩, rfl, rfl⟩⟩)
    · have em : mb = nI (sj_mb c rt (i + 1)) := by
        rw [e2]
        show nI (sj_mb c rt i) = nI (sj_mb c rt i + if rt i = i then sj_ct (fun r => decide (rt r = i)) c else 0)
        rw [if_neg z, Nat.add_zero]
      exact sj_54 g1 hc gW gQ k1 hi (fun b11 k3 => hw (_, _, _, _, _, _, _, _, _) ⟨g2, Or.inr ⟨g1, rt, ⟨gW, k3, gQ⟩, rfl, em⟩⟩)
end
end
section
/-- the whole picture between two turns -/
def sj_V (c t u : Nat) (sz : Nat → Nat) (dr ds cu : Int32) (a1 a2 a3 a7 a8 : Nat → Int32) : Prop :=
  sj_B c t u sz a2 a3 ∧ (∃ q, q ≤ 12 ∧ ds = nI q ∧ sj_pc dr = q) ∧ (∀ r, r < c → sj_pc (a1 r) = sz r) ∧ sj_N c cu a7 a8
def sj_Ok (post : St1 → Prop) (a3 a4 a5 a6 a7 a8 : Nat → Int32) : Prop :=
  ∀ (dr ds cu : Int32) (c t u : Nat) (sz : Nat → Nat) (b1 b2 : Nat → Int32), sj_V c t u sz dr ds cu b1 b2 a3 a7 a8 → post (dr, ds, nI c, nI t, nI u, cu, b1, b2, a3, a4, a5, a6, a7, a8)
section
variable {dr ds cn tp bo cu : Int32} {a1 a2 a3 a4 a5 a6 a7 a8 : Nat → Int32}
theorem sj_isTok {post : Int32 → Prop} {k : Nat} (hk : k < 30) (H : post 1) : wpX_isToken post () (nI k) :=
  br_f (nI_pos (by omega)) (pk_le 30 k (fun z => absurd z (by omega)) (fun _ => H))
theorem sj_token {post : Int32 → St1 → Prop} {c t u k : Nat} {sz : Nat → Nat} {x : Int32} (hV : sj_V c t u sz dr ds cu a1 a2 a3 a7 a8) (hk : k < 30) (hx : x = nI k) (H : ∀ r, sj_Ok (post r) a3 a4 a5 a6 a7 a8) :
    wpX_token post (dr, ds, nI c, nI t, nI u, cu, a1, a2, a3, a4, a5, a6, a7, a8) x := by
  subst hx
  obtain ⟨hB, ⟨q, q1, q2, q3⟩, h1, hN⟩ := hV
  unfold wpX_token
  refine sj_isTok hk (br_f (by decide) (nm_e ?_))
  refine ek_if (sj_and0 dr (by omega)) (fun hb => ?_) (fun hb => H _ _ _ _ _ _ _ _ _ _ ⟨hB, ⟨q, q1, q2, q3⟩, h1, hN⟩)
  subst q2
  refine pk_eq q 12 (fun z => H _ _ _ _ _ _ _ _ _ _ ⟨hB, ⟨q, q1, rfl, q3⟩, h1, hN⟩) (fun z => nm_e (nm_r (nI_1 q) (H _ _ _ _ _ _ _ _ _ _ ⟨hB, ⟨q + 1, by omega, rfl, ?_⟩, h1, hN⟩)))
  rw [sj_pc_set (by omega) hb, q3]
theorem sj_drop {post : Int32 → St1 → Prop} {c t u k : Nat} {sz : Nat → Nat} {x : Int32} (hV : sj_V c t u sz dr ds cu a1 a2 a3 a7 a8) (hk : k < 30) (hx : x = nI k) (H : ∀ r, sj_Ok (post r) a3 a4 a5 a6 a7 a8) :
    wpX_drop post (dr, ds, nI c, nI t, nI u, cu, a1, a2, a3, a4, a5, a6, a7, a8) x := by
  subst hx
  obtain ⟨hB, ⟨q, q1, q2, q3⟩, h1, hN⟩ := hV
  unfold wpX_drop
  refine sj_isTok hk (br_f (by decide) (nm_e ?_))
  refine ek_if (sj_and0 dr (by omega)) (fun hb => H _ _ _ _ _ _ _ _ _ _ ⟨hB, ⟨q, q1, q2, q3⟩, h1, hN⟩) (fun hb => ?_)
  have hb' : sj_bt dr k = true := by
    cases e : sj_bt dr k with
    | false => exact absurd e hb
    | true => rfl
  have e := sj_pc_clr (by omega) hb'
  rw [q3] at e
  subst q2
  rw [← e, nI_pred]
  exact nm_e (nm_e (H _ _ _ _ _ _ _ _ _ _ ⟨hB, ⟨_, by omega, rfl, rfl⟩, h1, hN⟩))
theorem sj_clear {post : Int32 → St1 → Prop} {c t u : Nat} {sz : Nat → Nat} (hV : sj_V c t u sz dr ds cu a1 a2 a3 a7 a8) (H : ∀ r, sj_Ok (post r) a3 a4 a5 a6 a7 a8) :
    wpX_clear post (dr, ds, nI c, nI t, nI u, cu, a1, a2, a3, a4, a5, a6, a7, a8) :=
  H _ _ _ _ _ _ _ _ _ _ ⟨hV.1, ⟨0, by omega, rfl, sj_pc_0⟩, hV.2.2.1, hV.2.2.2⟩
theorem sj_recall {post : Int32 → St1 → Prop} {c t u k : Nat} {sz : Nat → Nat} {x : Int32} (hV : sj_V c t u sz dr ds cu a1 a2 a3 a7 a8) (hk : k < c) (hx : x = nI k) (H : ∀ r, sj_Ok (post r) a3 a4 a5 a6 a7 a8) :
    wpX_recall post (dr, ds, nI c, nI t, nI u, cu, a1, a2, a3, a4, a5, a6, a7, a8) x := by
  subst hx
  obtain ⟨hB, _, h1, hN⟩ := hV
  have hc := hB.1
  obtain ⟨z1, z2, z3⟩ := hB.2.2.2.2.1 k hk
  unfold wpX_recall
  refine sj_isRec hc hk (br_f (by decide) (And.intro (pk_in k 20 (by omega)) ?_))
  rw [nI_clamp (show k < 2 ^ 31 by omega)]
  exact nm_e (And.intro (pk_in k 20 (by omega)) (nm_e (H _ _ _ _ _ _ _ _ _ _ ⟨hB, ⟨sz k, z3, z1, h1 k hk⟩, h1, hN⟩)))
theorem sj_store {post : Int32 → St1 → Prop} {c t u : Nat} {sz : Nat → Nat} (hV : sj_V c t u sz dr ds cu a1 a2 a3 a7 a8) (H : ∀ r, sj_Ok (post r) a3 a4 a5 a6 a7 a8) :
    wpX_store post (dr, ds, nI c, nI t, nI u, cu, a1, a2, a3, a4, a5, a6, a7, a8) := by
  obtain ⟨⟨hc, ht, htu, hu, hz, h3⟩, ⟨q, q1, q2, q3⟩, h1, hN⟩ := hV
  subst q2
  refine pk_eq q 0 (fun _ => H _ _ _ _ _ _ _ _ _ _ ⟨⟨hc, ht, htu, hu, hz, h3⟩, ⟨q, q1, rfl, q3⟩, h1, hN⟩) (fun q0 => pk_eq c 20 (fun _ => H _ _ _ _ _ _ _ _ _ _ ⟨⟨hc, ht, htu, hu, hz, h3⟩, ⟨q, q1, rfl, q3⟩, h1, hN⟩) (fun c20 => ?_))
  rw [nI_clamp (show c < 2 ^ 31 by omega)]
  refine And.intro (pk_in c 20 (by omega)) (nm_e (And.intro (pk_in c 20 (by omega)) (nm_e (nm_r (nI_1 c) (H _ _ _ _ _ _ _ (fun r => if r = c then q else sz r) _ _ ⟨⟨by omega, ht, htu, hu, ?_, h3⟩, ⟨q, q1, rfl, q3⟩, ?_, Or.inl rfl⟩)))))
  · intro b hb
    by_cases e : b = c
    · rw [e, pk_us]
      show nI q = nI (if c = c then q else sz c) ∧ 1 ≤ (if c = c then q else sz c) ∧ (if c = c then q else sz c) ≤ 12
      rw [if_pos rfl]
      exact ⟨rfl, by omega, q1⟩
    · rw [pk_un e]
      show a2 b = nI (if b = c then q else sz b) ∧ 1 ≤ (if b = c then q else sz b) ∧ (if b = c then q else sz b) ≤ 12
      rw [if_neg e]
      exact hz b (by omega)
  · intro b hb
    show sj_pc (upd a1 c dr b) = if b = c then q else sz b
    by_cases e : b = c
    · rw [e, pk_us, if_pos rfl, q3]
    · rw [pk_un e, if_neg e]
      exact h1 b (by omega)
theorem sj_threshold {post : Int32 → St1 → Prop} {c t u x y : Nat} {sz : Nat → Nat} {p0 p1 : Int32} (hV : sj_V c t u sz dr ds cu a1 a2 a3 a7 a8) (h1 : 1 ≤ x) (h2 : x ≤ y) (h3 : y ≤ 12) (e0 : p0 = nI x) (e1 : p1 = nI y) (H : ∀ r, sj_Ok (post r) a3 a4 a5 a6 a7 a8) :
    wpX_threshold post (dr, ds, nI c, nI t, nI u, cu, a1, a2, a3, a4, a5, a6, a7, a8) p0 p1 := by
  obtain ⟨⟨hc, ht, htu, hu, hz, h3'⟩, hq, h1', hN⟩ := hV
  subst e0 e1
  exact pk_lt x 1 (fun z => absurd z (by omega)) (fun _ => pk_lt 12 x (fun z => absurd z (by omega)) (fun _ => pk_lt y 1 (fun z => absurd z (by omega)) (fun _ => pk_le y 12 (fun _ => pk_le x y (fun _ => H _ _ _ _ _ _ _ _ _ _ ⟨⟨hc, h1, h2, h3, hz, h3'⟩, hq, h1', Or.inl rfl⟩) (fun z => absurd z (by omega))) (fun z => absurd z (by omega)))))
theorem sj_remove {post : Int32 → St1 → Prop} {c t u k : Nat} {sz : Nat → Nat} {x : Int32} (hV : sj_V c t u sz dr ds cu a1 a2 a3 a7 a8) (hk : k < 32) (hx : x = nI k) (H : ∀ r, sj_Ok (post r) a3 a4 a5 a6 a7 a8) :
    wpX_remove post (dr, ds, nI c, nI t, nI u, cu, a1, a2, a3, a4, a5, a6, a7, a8) x := by
  subst hx
  have hV' := hV
  obtain ⟨⟨hc, ht, htu, hu, hz, h3⟩, hq, h1, hN⟩ := hV'
  unfold wpX_remove
  refine br_f (nI_pos (by omega)) (pk_le c k (fun _ => br_t rfl (H _ _ _ _ _ _ _ _ _ _ hV)) (fun hkc => br_f (by decide) (nm_r (nI_1 k) ?_)))
  refine pk_loop (σ := (Nat → Int32) × (Nat → Int32)) (fun n i s => wX_remove_14 post dr ds (nI c) (nI t) (nI u) cu n (nI i) s.1 s.2 a3 a4 a5 a6 a7 a8)
    (fun i s => k + 1 ≤ i ∧ (∀ r, r + 1 < i → s.2 r = nI (if r < k then sz r else sz (r + 1)) ∧ sj_pc (s.1 r) = if r < k then sz r else sz (r + 1)) ∧ ∀ r, i ≤ r → s.1 r = a1 r ∧ s.2 r = a2 r) c (k + 1) (a1, a2) (by omega) ⟨Nat.le_refl _, ?_, fun _ _ => ⟨rfl, rfl⟩⟩ ?_ ?_
  · intro r hr
    show a2 r = _ ∧ sj_pc (a1 r) = _
    rw [if_pos (by omega)]
    exact ⟨(hz r (by omega)).1, h1 r (by omega)⟩
  · intro n s h
    obtain ⟨b1, b2⟩ := s
    obtain ⟨g1, g2, g3⟩ := h
    dsimp only at g2
    refine pk_le c c (fun _ => ?_) (fun z => absurd z (by omega))
    obtain ⟨d, rfl⟩ : ∃ d, c = d + 1 := ⟨c - 1, by omega⟩
    rw [nI_pred]
    refine nm_e (H _ _ _ _ _ _ _ (fun r => if r < k then sz r else sz (r + 1)) _ _ ⟨⟨by omega, ht, htu, hu, fun b hb => ⟨(g2 b (by omega)).1, ?_⟩, h3⟩, hq, fun b hb => (g2 b (by omega)).2, Or.inl rfl⟩)
    show 1 ≤ (if b < k then sz b else sz (b + 1)) ∧ (if b < k then sz b else sz (b + 1)) ≤ 12
    by_cases e : b < k
    · rw [if_pos e]
      exact (hz b (by omega)).2
    · rw [if_neg e]
      exact (hz (b + 1) (by omega)).2
  · intro n i s hi h hw
    obtain ⟨b1, b2⟩ := s
    obtain ⟨g1, g2, g3⟩ := h
    dsimp only at g2 g3
    obtain ⟨j, rfl⟩ : ∃ j, i = j + 1 := ⟨i - 1, by omega⟩
    refine pk_le c (j + 1) (fun z => absurd z (by omega)) (fun _ => And.intro (pk_in (j + 1) 20 (by omega)) ?_)
    rw [nI_pred, nI_clamp (show j < 2 ^ 31 by omega), nI_clamp (show j + 1 < 2 ^ 31 by omega)]
    refine And.intro (pk_in j 20 (by omega)) (nm_e (And.intro (pk_in (j + 1) 20 (by omega)) (And.intro (pk_in j 20 (by omega)) (nm_e (nm_r (nI_1 (j + 1)) (hw (upd b1 j (b1 (j + 1)), upd b2 j (b2 (j + 1))) ⟨by omega, fun r hr => ?_, fun r hr => ?_⟩))))))
    · show upd b2 j (b2 (j + 1)) r = _ ∧ sj_pc (upd b1 j (b1 (j + 1)) r) = _
      by_cases e : r = j
      · rw [e, pk_us, pk_us, (g3 (j + 1) (Nat.le_refl _)).1, (g3 (j + 1) (Nat.le_refl _)).2, if_neg (by omega)]
        exact ⟨(hz (j + 1) hi).1, h1 (j + 1) hi⟩
      · rw [pk_un e, pk_un e]
        exact g2 r (by omega)
    · show upd b1 j (b1 (j + 1)) r = _ ∧ upd b2 j (b2 (j + 1)) r = _
      rw [pk_un (by omega), pk_un (by omega)]
      exact g3 r (by omega)
theorem sj_110 {post : St1 → Prop} {c t u : Nat} {sz : Nat → Nat} {d op : Int32} (hV : sj_V c t u sz dr ds cu a1 a2 a3 a7 a8) (H : sj_Ok post a3 a4 a5 a6 a7 a8) :
    wL_turn_110 post d op dr ds (nI c) (nI t) (nI u) cu a1 a2 a3 a4 a5 a6 a7 a8 := by
  obtain ⟨m7, k7, e7⟩ := pk_andE d (m := 7) 3 (by decide)
  obtain ⟨m31, k31, e31⟩ := pk_andE d (m := 31) 5 (by decide)
  obtain ⟨m3, k3, e3⟩ := pk_andE (d >>> ((3 : Int32) &&& 31)) (m := 3) 2 (by decide)
  refine br_c (fun _ => sj_threshold hV (x := 1 + m7) (y := 1 + m7 + m3) (by omega) (by omega) (by omega) ?_ ?_ (fun _ _ _ _ _ _ _ _ _ _ h => H _ _ _ _ _ _ _ _ _ h)) (fun _ => br_c (fun _ => sj_remove hV (k := m31) (by omega) e31 (fun _ _ _ _ _ _ _ _ _ _ h => H _ _ _ _ _ _ _ _ _ h)) (fun _ => br_c (fun _ => sj_clear hV (fun _ _ _ _ _ _ _ _ _ _ h => H _ _ _ _ _ _ _ _ _ h)) (fun _ => sj_drop hV (k := m7) (by omega) e7 (fun _ _ _ _ _ _ _ _ _ _ h => H _ _ _ _ _ _ _ _ _ h))))
  · rw [e7]
    exact nI_add 1 m7
  · rw [e7, e3]
    show nI 1 + nI m7 + nI m3 = _
    rw [nI_add, nI_add]
theorem sj_turn {post : St1 → Prop} {c t u : Nat} {sz : Nat → Nat} {p d : Int32} (hV : sj_V c t u sz dr ds cu a1 a2 a3 a7 a8) (H : sj_Ok post a3 a4 a5 a6 a7 a8) :
    wpL_turn post (dr, ds, nI c, nI t, nI u, cu, a1, a2, a3, a4, a5, a6, a7, a8) p d := by
  have hc := hV.1.1
  obtain ⟨m7, k7, e7⟩ := pk_andE d (m := 7) 3 (by decide)
  obtain ⟨m31, k31, e31⟩ := pk_andE d (m := 31) 5 (by decide)
  have e30 : (d &&& 31) - (d &&& 31) / 30 * 30 = nI (m31 % 30) := by
    rw [e31]
    exact pk_rem (d := 30) (by omega) (by decide) (by decide)
  have l30 : m31 % 30 < 30 := Nat.mod_lt _ (by omega)
  refine nm_e ?_
  show wpX_records _ _
  unfold wpX_records
  refine br_c (fun _ => br_c (fun _ => br_c (fun _ => And.intro (by decide) (sj_drop hV l30 e30 (fun _ _ _ _ _ _ _ _ _ _ h => H _ _ _ _ _ _ _ _ _ h))) (fun _ => br_c (fun _ => br_c (fun _ => pk_le c 0 (fun _ => sj_110 hV H) (fun hc0 => And.intro (nI_ne0 hc0 (by omega)) (sj_recall hV (k := m31 % c) (Nat.mod_lt _ hc0) ?_ (fun _ _ _ _ _ _ _ _ _ _ h => H _ _ _ _ _ _ _ _ _ h)))) (fun _ => sj_110 hV H)) (fun _ => sj_store hV (fun _ _ _ _ _ _ _ _ _ _ h => H _ _ _ _ _ _ _ _ _ h)))) (fun _ => sj_token hV (k := m7) (by omega) e7 (fun _ _ _ _ _ _ _ _ _ _ h => H _ _ _ _ _ _ _ _ _ h))) (fun _ => And.intro (by decide) (sj_token hV l30 e30 (fun _ _ _ _ _ _ _ _ _ _ h => H _ _ _ _ _ _ _ _ _ h)))
  rw [e31]
  exact pk_rem (by omega) hc0 (by omega)
end
end
section
theorem sj_cell {post : Int32 → Prop} {L k : Nat} {xs : Nat → Int32} {x : Int32} (hL : L ≤ 260) (hk : k ≤ 300) (hx : x = nI k) (H : ∀ v, post v) : wpL_cell post L xs () x :=
  pk_le L k (fun _ => H 0) (fun z => And.intro (pk_in k L z hx) (H _)) rfl hx
theorem sj_V_new {c t u : Nat} {sz : Nat → Nat} {dr ds cu cu' : Int32} {a1 a2 a3 a7 a8 b3 b7 b8 : Nat → Int32} (h : sj_V c t u sz dr ds cu a1 a2 a3 a7 a8) (h3 : sj_R 252 b3) (hN : sj_N c cu' b7 b8) : sj_V c t u sz dr ds cu' a1 a2 b3 b7 b8 :=
  ⟨⟨h.1.1, h.1.2.1, h.1.2.2.1, h.1.2.2.2.1, h.1.2.2.2.2.1, h3⟩, h.2.1, h.2.2.1, hN⟩
theorem sj_law {L : Nat} {xs : Nat → Int32} (hL : L ≤ 260) {kc ks : Nat} : ∃ n, wL_law_10 (fun r => r = 1) L xs kc ks n 0 0 0 0 1 2 0 (fun _ => 0) (fun _ => 0) (fun _ => 0) (fun _ => 0) (fun _ => 0) (fun _ => 0) (fun _ => 0) (fun _ => 0) := by
  refine pk_loop (σ := St1) (fun n i s => wL_law_10 (fun r => r = 1) L xs kc ks n (nI (2 * i)) s.1 s.2.1 s.2.2.1 s.2.2.2.1 s.2.2.2.2.1 s.2.2.2.2.2.1 s.2.2.2.2.2.2.1 s.2.2.2.2.2.2.2.1 s.2.2.2.2.2.2.2.2.1 s.2.2.2.2.2.2.2.2.2.1 s.2.2.2.2.2.2.2.2.2.2.1 s.2.2.2.2.2.2.2.2.2.2.2.1 s.2.2.2.2.2.2.2.2.2.2.2.2.1 s.2.2.2.2.2.2.2.2.2.2.2.2.2)
    (fun _ s => ∃ (c t u : Nat) (sz : Nat → Nat), s.2.2.1 = nI c ∧ s.2.2.2.1 = nI t ∧ s.2.2.2.2.1 = nI u ∧ sj_V c t u sz (s.1) (s.2.1) (s.2.2.2.2.2.1) (s.2.2.2.2.2.2.1) (s.2.2.2.2.2.2.2.1) (s.2.2.2.2.2.2.2.2.1) (s.2.2.2.2.2.2.2.2.2.2.2.2.1) (s.2.2.2.2.2.2.2.2.2.2.2.2.2)) ((L + 1) / 2) 0
    (0, 0, 0, 1, 2, 0, (fun _ => 0), (fun _ => 0), (fun _ => 0), (fun _ => 0), (fun _ => 0), (fun _ => 0), (fun _ => 0), (fun _ => 0)) (by omega) ?_ ?_ ?_
  · refine ⟨0, 1, 2, fun _ => 0, rfl, rfl, rfl, ⟨by omega, by omega, by omega, by omega, fun b hb => absurd hb (by omega), fun j _ => ⟨0, by omega, rfl⟩⟩, ⟨0, by omega, rfl, sj_pc_0⟩, fun b hb => absurd hb (by omega), Or.inl rfl⟩
  · intro n s h
    obtain ⟨dr, ds, cn, tp, bo, cu, a1, a2, a3, a4, a5, a6, a7, a8⟩ := s
    obtain ⟨c, t, u, sz, e1, e2, e3, hV⟩ := h
    dsimp only at e1 e2 e3 hV
    subst e1 e2 e3
    exact pk_le L (2 * ((L + 1) / 2)) (fun _ => sj_holds hV.1 hV.2.2.2 (fun cu' b3 b4 b5 b6 b7 b8 _ _ => rfl)) (fun z => absurd z (by omega))
  · intro n i s hi h hw
    obtain ⟨dr, ds, cn, tp, bo, cu, a1, a2, a3, a4, a5, a6, a7, a8⟩ := s
    obtain ⟨c, t, u, sz, e1, e2, e3, hV⟩ := h
    dsimp only at e1 e2 e3 hV
    subst e1 e2 e3
    have e : nI (2 * i) + 2 = nI (2 * (i + 1)) := nI_add (2 * i) 2
    refine pk_le L (2 * i) (fun z => absurd z (by omega)) (fun _ => sj_cell hL (k := 2 * i) (by omega) rfl (fun r => sj_cell hL (k := 2 * i + 1) (by omega) (nI_1 _) (fun r2 => sj_turn hV (fun dr' ds' cu' c' t' u' sz' b1 b2 hV' => ?_))))
    refine br_c (fun _ => sj_holds hV'.1 hV'.2.2.2 (fun cu2 b3 b4 b5 b6 b7 b8 g1 g2 => br_f (by decide) (nm_r e (hw (dr', ds', nI c', nI t', nI u', cu2, b1, b2, b3, b4, b5, b6, b7, b8) ⟨c', t', u', sz', rfl, rfl, rfl, sj_V_new hV' g1 g2⟩)))) (fun _ => nm_r e (hw (dr', ds', nI c', nI t', nI u', cu', b1, b2, a3, a4, a5, a6, a7, a8) ⟨c', t', u', sz', rfl, rfl, rfl, hV'⟩))
theorem i_vc (xs : Nat → Int32) (L : Nat) (hL : L ≤ 260) : wpL_law (fun r => r = 1) L xs := by
  refine ⟨8, 422, by omega, by omega, ?_⟩
  exact ⟨by omega, by omega, by omega, by omega, by omega, by omega, by omega, by omega, by omega, by omega, by omega, by omega, by omega, by omega, by omega, by omega, sj_law hL⟩
end
