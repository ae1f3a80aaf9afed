section
/-! bits of a long -/
def bw_b (x : Int64) (i : Nat) : Bool := x.toBitVec.getLsbD i
theorem bw_ext {x y : Int64} (h : ∀ i, i < 64 → bw_b x i = bw_b y i) : x = y := Int64.toBitVec_inj.mp (BitVec.eq_of_getLsbD_eq (fun i hi => h i hi))
theorem bw_or (x y : Int64) (i : Nat) : bw_b (x ||| y) i = (bw_b x i || bw_b y i) := by unfold bw_b; rw [Int64.toBitVec_or, BitVec.getLsbD_or]
theorem bw_and (x y : Int64) (i : Nat) : bw_b (x &&& y) i = (bw_b x i && bw_b y i) := by unfold bw_b; rw [Int64.toBitVec_and, BitVec.getLsbD_and]
theorem bw_xor (x y : Int64) (i : Nat) : bw_b (x ^^^ y) i = (bw_b x i ^^ bw_b y i) := by unfold bw_b; rw [Int64.toBitVec_xor, BitVec.getLsbD_xor]
theorem bw_big {x : Int64} {i : Nat} (h : 64 ≤ i) : bw_b x i = false := BitVec.getLsbD_of_ge _ _ h
theorem bw_m1 (i : Nat) : bw_b (-1) i = decide (i < 64) := by
  have e : (-1 : Int64).toBitVec = BitVec.allOnes 64 := by decide
  unfold bw_b
  rw [e, BitVec.getLsbD_allOnes]
theorem bw_0 (i : Nat) : bw_b 0 i = false := BitVec.getLsbD_zero
theorem bw_not (x : Int64) {i : Nat} (hi : i < 64) : bw_b (x ^^^ (-1)) i = !bw_b x i := by
  rw [bw_xor, bw_m1, decide_eq_true hi, Bool.xor_true]
theorem bw_c : ∀ k, k < 64 → ((nI k).toInt64 &&& 63) = lN k := by decide +kernel
theorem bw_cu : ∀ k, k < 64 → ((nI k).toInt64.toUInt64 &&& Int64.toUInt64 63) = UInt64.ofNat k := by decide +kernel
theorem bw_sm : ∀ k, k < 64 → (BitVec.ofNat 64 k).smod 64 = BitVec.ofNat 64 k := by decide +kernel
theorem bw_shl (x : Int64) {k : Nat} (hk : k < 64) (i : Nat) : bw_b (x <<< ((nI k).toInt64 &&& 63)) i = (decide (i < 64) && (decide (k ≤ i) && bw_b x (i - k))) := by
  rw [bw_c k hk]
  unfold bw_b
  have e : (lN k).toBitVec.smod 64 = BitVec.ofNat 64 k := bw_sm k hk
  rw [Int64.toBitVec_shiftLeft, e, BitVec.shiftLeft_eq', BitVec.toNat_ofNat, Nat.mod_eq_of_lt (show k < 2 ^ 64 by omega), BitVec.getLsbD_shiftLeft, Bool.and_assoc]
  by_cases h : i < k
  · rw [decide_eq_true h, decide_eq_false (show ¬ k ≤ i by omega)]
    rfl
  · rw [decide_eq_false h, decide_eq_true (show k ≤ i by omega)]
    rfl
theorem bw_shrV (x : Int64) {k : Nat} (hk : k < 64) : ((x.toUInt64 >>> ((nI k).toInt64.toUInt64 &&& Int64.toUInt64 63)).toInt64).toBitVec = x.toBitVec >>> k := by
  rw [bw_cu k hk]
  apply BitVec.eq_of_toNat_eq
  show (x.toUInt64 >>> UInt64.ofNat k).toNat = _
  have h1 : (UInt64.ofNat k).toNat = k := by
    show (BitVec.ofNat 64 k).toNat = k
    rw [BitVec.toNat_ofNat, Nat.mod_eq_of_lt (by omega)]
  rw [UInt64.toNat_shiftRight, h1, Nat.mod_eq_of_lt hk, BitVec.toNat_ushiftRight]
  rfl
theorem bw_shr (x : Int64) {k : Nat} (hk : k < 64) (i : Nat) : bw_b ((x.toUInt64 >>> ((nI k).toInt64.toUInt64 &&& Int64.toUInt64 63)).toInt64) i = bw_b x (k + i) := by
  unfold bw_b
  rw [bw_shrV x hk, BitVec.getLsbD_ushiftRight]
/-! how many of f 0 .. f (n - 1), and their parity -/
def bw_ct (f : Nat → Bool) : Nat → Nat
  | 0 => 0
  | n + 1 => bw_ct f n + (f n).toNat
def bw_px (f : Nat → Bool) : Nat → Bool
  | 0 => false
  | n + 1 => (bw_px f n ^^ f n)
theorem bw_ct1 (f : Nat → Bool) (n : Nat) : bw_ct f (n + 1) = bw_ct f n + (f n).toNat := rfl
theorem bw_px1 (f : Nat → Bool) (n : Nat) : bw_px f (n + 1) = (bw_px f n ^^ f n) := rfl
theorem bw_tn (b : Bool) : b.toNat ≤ 1 := by cases b <;> decide
theorem bw_ctC {f g : Nat → Bool} (n : Nat) (h : ∀ i, i < n → f i = g i) : bw_ct f n = bw_ct g n := by
  induction n with
  | zero => rfl
  | succ n ih => rw [bw_ct1, bw_ct1, ih (fun i hi => h i (by omega)), h n (by omega)]
theorem bw_pxC {f g : Nat → Bool} (n : Nat) (h : ∀ i, i < n → f i = g i) : bw_px f n = bw_px g n := by
  induction n with
  | zero => rfl
  | succ n ih => rw [bw_px1, bw_px1, ih (fun i hi => h i (by omega)), h n (by omega)]
theorem bw_ctM (f : Nat → Bool) (a b : Nat) : bw_ct f a ≤ bw_ct f (a + b) ∧ bw_ct f (a + b) ≤ bw_ct f a + b := by
  induction b with
  | zero => exact ⟨Nat.le_refl _, Nat.le_refl _⟩
  | succ b ih =>
    rw [← Nat.add_assoc, bw_ct1]
    have := bw_tn (f (a + b))
    omega
theorem bw_ctL (f : Nat → Bool) (n : Nat) : bw_ct f n ≤ n := by
  have := (bw_ctM f 0 n).2
  rw [Nat.zero_add] at this
  have e : bw_ct f 0 = 0 := rfl
  omega
theorem bw_ctA (f : Nat → Bool) (a n : Nat) : bw_ct f (a + n) = bw_ct f a + bw_ct (fun i => f (a + i)) n := by
  induction n with
  | zero => rfl
  | succ n ih => rw [← Nat.add_assoc, bw_ct1, bw_ct1, ih, Nat.add_assoc]
theorem bw_pxA (f : Nat → Bool) (a n : Nat) : bw_px f (a + n) = (bw_px f a ^^ bw_px (fun i => f (a + i)) n) := by
  induction n with
  | zero => show bw_px f a = (bw_px f a ^^ false); rw [Bool.xor_false]
  | succ n ih => rw [← Nat.add_assoc, bw_px1, bw_px1, ih, Bool.xor_assoc]
/-- the ones and the zeros of a picture together -/
theorem bw_ctN (f : Nat → Bool) (n : Nat) : bw_ct f n + bw_ct (fun i => !f i) n = n := by
  induction n with
  | zero => rfl
  | succ n ih =>
    rw [bw_ct1, bw_ct1]
    have : (f n).toNat + (!f n).toNat = 1 := by cases f n <;> rfl
    show bw_ct f n + (f n).toNat + (bw_ct (fun i => !f i) n + (!f n).toNat) = n + 1
    omega
/-- a place that is true is counted -/
theorem bw_ctT {f : Nat → Bool} {p n : Nat} (hp : p < n) (h : f p = true) : bw_ct f p < bw_ct f n := by
  have h1 := (bw_ctM f (p + 1) (n - (p + 1))).1
  rw [show p + 1 + (n - (p + 1)) = n by omega, bw_ct1, h] at h1
  have e : true.toNat = 1 := rfl
  omega
theorem bw_ctZ {f : Nat → Bool} (n k : Nat) (h : ∀ i, n ≤ i → f i = false) : bw_ct f (n + k) = bw_ct f n := by
  induction k with
  | zero => rfl
  | succ k ih =>
    rw [← Nat.add_assoc, bw_ct1, ih, h (n + k) (by omega)]
    rfl
/-! masks -/
theorem bw_lm : ∀ k, k < 64 → ∀ j, j < 64 → bw_b (((1 : Int64) <<< ((nI k).toInt64 &&& 63)) - 1) j = decide (j < k) := by decide +kernel
theorem bw_lowMask {post : Int64 → Prop} {k : Nat} (hk : k ≤ 256) (H : ∀ r, (∀ j, j < 64 → bw_b r j = decide (j < k)) → post r) : wpX_lowMask post () (nI k) := by
  refine pk_lt 0 k (fun h0 => pk_lt k 64 (fun h => H _ (fun j hj => bw_lm k h j hj)) (fun h => H _ (fun j hj => ?_))) (fun h0 => H _ (fun j hj => ?_))
  · rw [bw_m1, decide_eq_true hj, decide_eq_true (show j < k by omega)]
  · rw [bw_0, decide_eq_false (show ¬ j < k by omega)]
theorem bw_lowMaskAt {post : Int64 → Prop} {n i : Nat} (hn : n ≤ 256) (hi : i ≤ 4) (H : ∀ r, (∀ j, j < 64 → bw_b r j = decide (64 * i + j < n)) → post r) : wpX_lowMaskAt post () (nI n) (nI i) := by
  unfold wpX_lowMaskAt
  have e : (64 : Int32) * nI i = nI (64 * i) := pk_mul 64 i
  rw [e]
  rcases Nat.lt_or_ge (64 * i) n with h | h
  · rw [pk_sub (show 64 * i ≤ n by omega)]
    refine bw_lowMask (by omega) (fun r hr => H r (fun j hj => ?_))
    rw [hr j hj]
    exact decide_eq_decide.mpr (by omega)
  · have hneg : ¬ (0 : Int32) < nI n - nI (64 * i) := by
      rw [Int32.lt_iff_toInt_lt, pk_sub_toInt (by omega) (by omega)]
      show ¬ (0 : Int) < _
      omega
    exact br_f hneg (H 0 (fun j hj => by rw [bw_0, decide_eq_false (show ¬ 64 * i + j < n by omega)]))
/-! prefixXor -/
theorem bw_p6 {i : Nat} (hi : i < 6) : 2 ^ i < 64 := by
  have h : 2 ^ i < 2 ^ 6 := Nat.pow_lt_pow_right (by decide) hi
  exact h
def bw_pk (f : Nat → Bool) (s i : Nat) : Bool := (bw_px f (i + 1) ^^ bw_px f (i + 1 - s))
theorem bw_x3 (a b c : Bool) : ((a ^^ b) ^^ (b ^^ c)) = (a ^^ c) := by cases a <;> cases b <;> cases c <;> rfl
theorem bw_pkS (f : Nat → Bool) (s i : Nat) : bw_pk f (s * 2) i = (bw_pk f s i ^^ (decide (s ≤ i) && bw_pk f s (i - s))) := by
  unfold bw_pk
  by_cases h : s ≤ i
  · rw [decide_eq_true h, Bool.true_and, show i + 1 - s = i - s + 1 by omega, show i - s + 1 - s = i + 1 - s * 2 by omega, bw_x3]
  · rw [decide_eq_false h, Bool.false_and, Bool.xor_false, show i + 1 - s * 2 = 0 by omega, show i + 1 - s = 0 by omega]
theorem bw_prefixXor {post : Int64 → Prop} {w : Int64} (H : ∀ r, (∀ j, j < 64 → bw_b r j = bw_px (bw_b w) (j + 1)) → post r) : wpX_prefixXor post () w := by
  refine pk_loop (fun n i v => wX_prefixXor_5 post n v (nI (2 ^ i))) (fun i v => ∀ j, j < 64 → bw_b v j = bw_pk (bw_b w) (2 ^ i) j) 6 0 w (by omega) ?_ ?_ ?_
  · intro j hj
    show _ = bw_pk (bw_b w) (2 ^ 0) j
    unfold bw_pk
    rw [show j + 1 - 2 ^ 0 = j by omega, bw_px1]
    cases bw_px (bw_b w) j <;> cases bw_b w j <;> rfl
  · intro n v h
    refine pk_le 64 64 (fun _ => H v (fun j hj => ?_)) (fun z => absurd z (by omega))
    rw [h j hj]
    unfold bw_pk
    rw [show j + 1 - 2 ^ 6 = 0 by omega]
    show (_ ^^ false) = _
    rw [Bool.xor_false]
  · intro n i v hi h hw
    have hs : 2 ^ i < 64 := bw_p6 hi
    refine pk_le 64 (2 ^ i) (fun z => absurd z (by omega)) (fun _ => nm_e (nm_r (pk_mul (2 ^ i) 2) ?_))
    rw [← Nat.pow_succ]
    refine hw _ (fun j hj => ?_)
    rw [bw_xor, bw_shl v hs, decide_eq_true hj, Bool.true_and, Nat.pow_succ, bw_pkS, h j hj, h (j - 2 ^ i) (Nat.lt_of_le_of_lt (Nat.sub_le _ _) hj)]
end
section
/-! digits in base B, the lowest first -/
def bw_ds (B : Nat) : Nat → (Nat → Nat) → Nat
  | 0, _ => 0
  | n + 1, f => f 0 + B * bw_ds B n (fun k => f (k + 1))
theorem bw_ds1 (B n : Nat) (f : Nat → Nat) : bw_ds B (n + 1) f = f 0 + B * bw_ds B n (fun k => f (k + 1)) := rfl
theorem bw_dsC {B n : Nat} {f g : Nat → Nat} (h : ∀ k, k < n → f k = g k) : bw_ds B n f = bw_ds B n g := by
  induction n generalizing f g with
  | zero => rfl
  | succ n ih => rw [bw_ds1, bw_ds1, h 0 (by omega), ih (fun k hk => h (k + 1) (by omega))]
theorem bw_dsA (B n : Nat) (f g : Nat → Nat) : bw_ds B n (fun k => f k + g k) = bw_ds B n f + bw_ds B n g := by
  induction n generalizing f g with
  | zero => rfl
  | succ n ih =>
    rw [bw_ds1, bw_ds1, bw_ds1, ih (fun k => f (k + 1)) (fun k => g (k + 1)), Nat.mul_add]
    omega
theorem bw_dsT (B n : Nat) (f : Nat → Nat) (h : f n = 0) : bw_ds B (n + 1) f = bw_ds B n f := by
  induction n generalizing f with
  | zero =>
    rw [bw_ds1, h]
    show 0 + B * 0 = 0
    omega
  | succ n ih => rw [bw_ds1, ih (fun k => f (k + 1)) h, ← bw_ds1]
theorem bw_dsS {B n : Nat} {f : Nat → Nat} (h0 : f 0 < B) (h : f (n + 1) = 0) : bw_ds B (n + 1) f / B = bw_ds B (n + 1) (fun k => f (k + 1)) := by
  rw [bw_dsT B n (fun k => f (k + 1)) h, bw_ds1, Nat.add_mul_div_left _ _ (by omega), Nat.div_eq_of_lt h0, Nat.zero_add]
theorem bw_dsP (B n : Nat) (f : Nat → Nat) : bw_ds B (2 * n) f = bw_ds (B * B) n (fun k => f (2 * k) + B * f (2 * k + 1)) := by
  induction n generalizing f with
  | zero => rfl
  | succ n ih =>
    rw [show 2 * (n + 1) = 2 * n + 1 + 1 by omega, bw_ds1, bw_ds1, bw_ds1, ih (fun k => f (k + 1 + 1)), Nat.mul_add, Nat.mul_assoc]
    show f 0 + (B * f 1 + B * (B * bw_ds (B * B) n (fun k => f (2 * k + 1 + 1) + B * f (2 * k + 1 + 1 + 1)))) = f 0 + B * f 1 + B * (B * bw_ds (B * B) n (fun k => f (2 * (k + 1)) + B * f (2 * (k + 1) + 1)))
    rw [Nat.add_assoc]
    rfl
theorem bw_dsL {B n : Nat} {f : Nat → Nat} (h : ∀ k, f k < B) : bw_ds B n f < B ^ n := by
  induction n generalizing f with
  | zero => exact Nat.one_pos
  | succ n ih =>
    have h1 := ih (f := fun k => f (k + 1)) (fun k => h (k + 1))
    have h2 := h 0
    rw [bw_ds1, Nat.pow_succ, Nat.mul_comm (B ^ n) B]
    have h3 : B * (bw_ds B n (fun k => f (k + 1)) + 1) ≤ B * B ^ n := Nat.mul_le_mul_left B h1
    rw [Nat.mul_add] at h3
    omega
theorem bw_and2 {b x y X Y : Nat} (hx : x < 2 ^ b) (hy : y < 2 ^ b) : (x + 2 ^ b * X) &&& (y + 2 ^ b * Y) = (x &&& y) + 2 ^ b * (X &&& Y) := by
  apply Nat.eq_of_testBit_eq
  intro i
  rw [Nat.testBit_and, Nat.add_comm x, Nat.add_comm y, Nat.add_comm (x &&& y), Nat.testBit_two_pow_mul_add _ hx, Nat.testBit_two_pow_mul_add _ hy, Nat.testBit_two_pow_mul_add _ (Nat.and_lt_two_pow _ hy)]
  by_cases h : i < b
  · rw [if_pos h, if_pos h, if_pos h, Nat.testBit_and]
  · rw [if_neg h, if_neg h, if_neg h, Nat.testBit_and]
theorem bw_dsN {b n : Nat} {f g : Nat → Nat} (hf : ∀ k, f k < 2 ^ b) (hg : ∀ k, g k < 2 ^ b) : bw_ds (2 ^ b) n f &&& bw_ds (2 ^ b) n g = bw_ds (2 ^ b) n (fun k => f k &&& g k) := by
  induction n generalizing f g with
  | zero => exact Nat.and_self 0
  | succ n ih => rw [bw_ds1, bw_ds1, bw_ds1, bw_and2 (hf 0) (hg 0), ih (fun k => hf (k + 1)) (fun k => hg (k + 1))]
/-- every second digit by a mask -/
theorem bw_dsM {b n : Nat} {f : Nat → Nat} (hf : ∀ k, f k < 2 ^ b) : bw_ds (2 ^ b) (2 * n) f &&& bw_ds (2 ^ b * 2 ^ b) n (fun _ => 2 ^ b - 1) = bw_ds (2 ^ b * 2 ^ b) n (fun k => f (2 * k)) := by
  have hb : 0 < 2 ^ b := Nat.two_pow_pos b
  have e : 2 ^ b * 2 ^ b = 2 ^ (b + b) := (Nat.pow_add 2 b b).symm
  have hbb : 2 ^ b ≤ 2 ^ b * 2 ^ b := Nat.le_mul_of_pos_left _ hb
  rw [bw_dsP, e, bw_dsN (b := b + b)]
  · apply bw_dsC
    intro k _
    show (f (2 * k) + 2 ^ b * f (2 * k + 1)) &&& (2 ^ b - 1) = f (2 * k)
    rw [Nat.and_two_pow_sub_one_eq_mod, Nat.add_mul_mod_self_left, Nat.mod_eq_of_lt (hf _)]
  · intro k
    rw [← e]
    have h1 := hf (2 * k)
    have h3 : 2 ^ b * (f (2 * k + 1) + 1) ≤ 2 ^ b * 2 ^ b := Nat.mul_le_mul_left _ (hf (2 * k + 1))
    rw [Nat.mul_add] at h3
    show f (2 * k) + 2 ^ b * f (2 * k + 1) < _
    omega
  · intro k
    rw [← e]
    show 2 ^ b - 1 < _
    omega
theorem bw_dsB {x n : Nat} (h : x < 2 ^ n) : x = bw_ds 2 n (fun k => (x.testBit k).toNat) := by
  induction n generalizing x with
  | zero =>
    have : x = 0 := by
      have e : 2 ^ 0 = 1 := rfl
      omega
    rw [this]
    rfl
  | succ n ih =>
    have h2 : x / 2 < 2 ^ n := by
      rw [Nat.pow_succ] at h
      omega
    have h3 := ih h2
    rw [bw_ds1]
    have e : (fun k => (x.testBit (k + 1)).toNat) = (fun k => ((x / 2).testBit k).toNat) := by
      funext k
      rw [Nat.testBit_succ]
    rw [e, ← h3]
    have e2 : (x.testBit 0).toNat = x % 2 := by
      rw [Nat.testBit_zero]
      rcases Nat.mod_two_eq_zero_or_one x with z | z <;> rw [z] <;> rfl
    rw [e2]
    omega
/-! a long as an unsigned number -/
def bw_u (x : Int64) : Nat := x.toBitVec.toNat
theorem bw_uL (x : Int64) : bw_u x < 2 ^ 64 := x.toBitVec.isLt
theorem bw_uAnd (x y : Int64) : bw_u (x &&& y) = bw_u x &&& bw_u y := rfl
theorem bw_uAdd {x y : Int64} (h : bw_u x + bw_u y < 2 ^ 64) : bw_u (x + y) = bw_u x + bw_u y := by
  unfold bw_u at h ⊢
  rw [Int64.toBitVec_add, BitVec.toNat_add, Nat.mod_eq_of_lt h]
theorem bw_uSub {x y : Int64} (h : bw_u y ≤ bw_u x) : bw_u (x - y) = bw_u x - bw_u y := by
  have h1 := bw_uL x
  have h2 := bw_uL y
  unfold bw_u at *
  rw [Int64.toBitVec_sub, BitVec.toNat_sub]
  omega
theorem bw_uMul (x y : Int64) : bw_u (x * y) = bw_u x * bw_u y % 2 ^ 64 := rfl
theorem bw_uShr (x : Int64) {k : Nat} (hk : k < 64) : bw_u ((x.toUInt64 >>> ((nI k).toInt64.toUInt64 &&& Int64.toUInt64 63)).toInt64) = bw_u x / 2 ^ k := by
  unfold bw_u
  rw [bw_shrV x hk, BitVec.toNat_ushiftRight, Nat.shiftRight_eq_div_pow]
theorem bw_uN {x : Int64} {n : Nat} (h : bw_u x = n) : x = lN n := by
  apply Int64.toBitVec_inj.mp
  apply BitVec.eq_of_toNat_eq
  show bw_u x = (BitVec.ofNat 64 n).toNat
  have := bw_uL x
  rw [BitVec.toNat_ofNat, h, Nat.mod_eq_of_lt (by omega)]
theorem bw_sum8 {e : Nat → Nat} (h : ∀ k, e k ≤ 8) : bw_ds 256 8 e * 72340172838076673 % 2 ^ 64 / 2 ^ 56 = e 0 + e 1 + e 2 + e 3 + e 4 + e 5 + e 6 + e 7 := by
  have e8 : bw_ds 256 8 e = e 0 + 256 * (e 1 + 256 * (e 2 + 256 * (e 3 + 256 * (e 4 + 256 * (e 5 + 256 * (e 6 + 256 * (e 7 + 256 * 0))))))) := rfl
  have h0 := h 0
  have h1 := h 1
  have h2 := h 2
  have h3 := h 3
  have h4 := h 4
  have h5 := h 5
  have h6 := h 6
  have h7 := h 7
  rw [e8]
  have t : (e 0 + 256 * (e 1 + 256 * (e 2 + 256 * (e 3 + 256 * (e 4 + 256 * (e 5 + 256 * (e 6 + 256 * (e 7 + 256 * 0)))))))) * 72340172838076673 = 2 ^ 64 * (1 * e 1 + 257 * e 2 + 65793 * e 3 + 16843009 * e 4 + 4311810305 * e 5 + 1103823438081 * e 6 + 282578800148737 * e 7) + (2 ^ 56 * (e 0 + e 1 + e 2 + e 3 + e 4 + e 5 + e 6 + e 7) + (282578800148737 * e 0 + 282578800148736 * e 1 + 282578800148480 * e 2 + 282578800082944 * e 3 + 282578783305728 * e 4 + 282574488338432 * e 5 + 281474976710656 * e 6)) := by omega
  have l : 282578800148737 * e 0 + 282578800148736 * e 1 + 282578800148480 * e 2 + 282578800082944 * e 3 + 282578783305728 * e 4 + 282574488338432 * e 5 + 281474976710656 * e 6 < 2 ^ 56 := by omega
  rw [t, Nat.mul_add_mod, Nat.mod_eq_of_lt (by omega), Nat.mul_add_div (by decide), Nat.div_eq_of_lt l, Nat.add_zero]
/-! the ones of a long, step by step -/
theorem bw_o1 {b : Nat → Nat} (b1 : ∀ k, b k ≤ 1) (bz : ∀ k, 64 ≤ k → b k = 0) {w : Int64} (hw : bw_u w = bw_ds 2 64 b) : bw_u (w - ((w.toUInt64 >>> ((1 : Int32).toInt64.toUInt64 &&& Int64.toUInt64 63)).toInt64 &&& 6148914691236517205)) = bw_ds 4 32 (fun k => b (2 * k) + b (2 * k + 1)) := by
  have s1 : bw_u ((w.toUInt64 >>> ((1 : Int32).toInt64.toUInt64 &&& Int64.toUInt64 63)).toInt64 &&& 6148914691236517205) = bw_ds 4 32 (fun k => b (2 * k + 1)) := by
    have t : bw_u ((w.toUInt64 >>> ((1 : Int32).toInt64.toUInt64 &&& Int64.toUInt64 63)).toInt64) = bw_u w / 2 ^ 1 := bw_uShr w (k := 1) (by decide)
    rw [bw_uAnd, t, hw, Nat.pow_one, bw_dsS (B := 2) (n := 63) (f := b) (by have := b1 0; omega) (bz 64 (by omega))]
    have m := bw_dsM (b := 1) (n := 32) (f := fun k => b (k + 1)) (fun k => by have := b1 (k + 1); show b (k + 1) < 2; omega)
    have e : bw_u 6148914691236517205 = bw_ds (2 ^ 1 * 2 ^ 1) 32 (fun _ => 2 ^ 1 - 1) := by decide +kernel
    rw [e]
    exact m
  have s2 : bw_u w = bw_ds 4 32 (fun k => b (2 * k) + b (2 * k + 1)) + bw_ds 4 32 (fun k => b (2 * k + 1)) := by
    rw [hw, ← bw_dsA]
    refine Eq.trans (bw_dsP 2 32 b) (bw_dsC (fun k _ => ?_))
    show b (2 * k) + 2 * b (2 * k + 1) = b (2 * k) + b (2 * k + 1) + b (2 * k + 1)
    omega
  rw [bw_uSub (by rw [s1, s2]; omega), s1, s2]
  omega
theorem bw_o2 {c : Nat → Nat} (c2 : ∀ k, c k ≤ 2) (cz : ∀ k, 32 ≤ k → c k = 0) {v : Int64} (hv : bw_u v = bw_ds 4 32 c) : bw_u ((v &&& 3689348814741910323) + ((v.toUInt64 >>> ((2 : Int32).toInt64.toUInt64 &&& Int64.toUInt64 63)).toInt64 &&& 3689348814741910323)) = bw_ds 16 16 (fun k => c (2 * k) + c (2 * k + 1)) := by
  have e : bw_u 3689348814741910323 = bw_ds (2 ^ 2 * 2 ^ 2) 16 (fun _ => 2 ^ 2 - 1) := by decide +kernel
  have s0 : bw_u (v &&& 3689348814741910323) = bw_ds 16 16 (fun k => c (2 * k)) := by
    rw [bw_uAnd, hv, e]
    exact bw_dsM (b := 2) (n := 16) (f := c) (fun k => by have := c2 k; show c k < 4; omega)
  have s1 : bw_u ((v.toUInt64 >>> ((2 : Int32).toInt64.toUInt64 &&& Int64.toUInt64 63)).toInt64 &&& 3689348814741910323) = bw_ds 16 16 (fun k => c (2 * k + 1)) := by
    have t : bw_u ((v.toUInt64 >>> ((2 : Int32).toInt64.toUInt64 &&& Int64.toUInt64 63)).toInt64) = bw_u v / 4 := bw_uShr v (k := 2) (by decide)
    rw [bw_uAnd, t, hv, bw_dsS (B := 4) (n := 31) (f := c) (by have := c2 0; omega) (cz 32 (by omega)), e]
    exact bw_dsM (b := 2) (n := 16) (f := fun k => c (k + 1)) (fun k => by have := c2 (k + 1); show c (k + 1) < 4; omega)
  have s2 : bw_ds 16 16 (fun k => c (2 * k) + c (2 * k + 1)) < 16 ^ 16 := bw_dsL (fun k => by have := c2 (2 * k); have := c2 (2 * k + 1); show c (2 * k) + c (2 * k + 1) < 16; omega)
  rw [bw_dsA 16 16 (fun k => c (2 * k)) (fun k => c (2 * k + 1))] at s2
  rw [bw_uAdd (by rw [s0, s1]; exact s2), s0, s1, ← bw_dsA]
theorem bw_o3 {d : Nat → Nat} (d4 : ∀ k, d k ≤ 4) (dz : ∀ k, 16 ≤ k → d k = 0) {v : Int64} (hv : bw_u v = bw_ds 16 16 d) : bw_u ((v + (v.toUInt64 >>> ((4 : Int32).toInt64.toUInt64 &&& Int64.toUInt64 63)).toInt64) &&& 1085102592571150095) = bw_ds 256 8 (fun k => d (2 * k) + d (2 * k + 1)) := by
  have e : bw_u 1085102592571150095 = bw_ds (2 ^ 4 * 2 ^ 4) 8 (fun _ => 2 ^ 4 - 1) := by decide +kernel
  have t : bw_u ((v.toUInt64 >>> ((4 : Int32).toInt64.toUInt64 &&& Int64.toUInt64 63)).toInt64) = bw_ds 16 16 (fun k => d (k + 1)) := by
    have t0 : bw_u ((v.toUInt64 >>> ((4 : Int32).toInt64.toUInt64 &&& Int64.toUInt64 63)).toInt64) = bw_u v / 16 := bw_uShr v (k := 4) (by decide)
    rw [t0, hv, bw_dsS (B := 16) (n := 15) (f := d) (by have := d4 0; omega) (dz 16 (by omega))]
  have s2 : bw_ds 16 16 (fun k => d k + d (k + 1)) < 16 ^ 16 := bw_dsL (fun k => by have := d4 k; have := d4 (k + 1); show d k + d (k + 1) < 16; omega)
  have s3 := s2
  rw [bw_dsA 16 16 d (fun k => d (k + 1))] at s3
  rw [bw_uAnd, bw_uAdd (by rw [t, hv]; exact s3), t, hv, ← bw_dsA, e]
  exact bw_dsM (b := 4) (n := 8) (f := fun k => d k + d (k + 1)) (fun k => by have := d4 k; have := d4 (k + 1); show d k + d (k + 1) < 16; omega)
theorem bw_o4 {e : Nat → Nat} (h : ∀ k, e k ≤ 8) {v : Int64} (hv : bw_u v = bw_ds 256 8 e) : (((v * 72340172838076673).toUInt64 >>> ((56 : Int32).toInt64.toUInt64 &&& Int64.toUInt64 63)).toInt64).toInt32 = nI (e 0 + e 1 + e 2 + e 3 + e 4 + e 5 + e 6 + e 7) := by
  have t : bw_u ((((v * 72340172838076673).toUInt64 >>> ((56 : Int32).toInt64.toUInt64 &&& Int64.toUInt64 63)).toInt64)) = bw_u (v * 72340172838076673) / 2 ^ 56 := bw_uShr _ (k := 56) (by decide)
  have m : bw_u (72340172838076673 : Int64) = 72340172838076673 := by decide +kernel
  rw [bw_uMul, hv, m, bw_sum8 h] at t
  rw [bw_uN t, lN_i]
/-! the ones of a long -/
theorem bw_ones {post : Int32 → Prop} {w : Int64} (H : post (nI (bw_ct (bw_b w) 64))) : wpX_ones post () w := by
  have b1 : ∀ k, (bw_b w k).toNat ≤ 1 := fun k => bw_tn _
  have bz : ∀ k, 64 ≤ k → (bw_b w k).toNat = 0 := fun k hk => by rw [bw_big hk]; rfl
  have hw : bw_u w = bw_ds 2 64 (fun k => (bw_b w k).toNat) := bw_dsB (bw_uL w)
  have h1 := bw_o1 (b := fun k => (bw_b w k).toNat) b1 bz hw
  have c2 : ∀ k, (bw_b w (2 * k)).toNat + (bw_b w (2 * k + 1)).toNat ≤ 2 := fun k => by have := b1 (2 * k); have := b1 (2 * k + 1); omega
  have cz : ∀ k, 32 ≤ k → (bw_b w (2 * k)).toNat + (bw_b w (2 * k + 1)).toNat = 0 := fun k hk => by rw [bz (2 * k) (by omega), bz (2 * k + 1) (by omega)]
  have h2 := bw_o2 (c := fun k => (bw_b w (2 * k)).toNat + (bw_b w (2 * k + 1)).toNat) c2 cz h1
  have d4 : ∀ k, (bw_b w (2 * (2 * k))).toNat + (bw_b w (2 * (2 * k) + 1)).toNat + ((bw_b w (2 * (2 * k + 1))).toNat + (bw_b w (2 * (2 * k + 1) + 1)).toNat) ≤ 4 := fun k => by have := c2 (2 * k); have := c2 (2 * k + 1); omega
  have dz : ∀ k, 16 ≤ k → (bw_b w (2 * (2 * k))).toNat + (bw_b w (2 * (2 * k) + 1)).toNat + ((bw_b w (2 * (2 * k + 1))).toNat + (bw_b w (2 * (2 * k + 1) + 1)).toNat) = 0 := fun k hk => by rw [cz (2 * k) (by omega), cz (2 * k + 1) (by omega)]
  have h3 := bw_o3 (d := fun k => (bw_b w (2 * (2 * k))).toNat + (bw_b w (2 * (2 * k) + 1)).toNat + ((bw_b w (2 * (2 * k + 1))).toNat + (bw_b w (2 * (2 * k + 1) + 1)).toNat)) d4 dz h2
  have h4 := bw_o4 (e := fun k => (bw_b w (2 * (2 * (2 * k)))).toNat + (bw_b w (2 * (2 * (2 * k)) + 1)).toNat + ((bw_b w (2 * (2 * (2 * k) + 1))).toNat + (bw_b w (2 * (2 * (2 * k) + 1) + 1)).toNat) + ((bw_b w (2 * (2 * (2 * k + 1)))).toNat + (bw_b w (2 * (2 * (2 * k + 1)) + 1)).toNat + ((bw_b w (2 * (2 * (2 * k + 1) + 1))).toNat + (bw_b w (2 * (2 * (2 * k + 1) + 1) + 1)).toNat))) (fun k => by have := d4 (2 * k); have := d4 (2 * k + 1); show _ + _ ≤ 8; omega) h3
  refine nm_e (nm_e (nm_e (ek_v h4 (ek_v (congrArg nI ?_) H))))
  simp only [bw_ct, Nat.reduceMul, Nat.reduceAdd]
  omega
end
section
/-! reverseWord -/
def bw_sw (b j : Nat) : Nat := if j / b % 2 = 0 then j + b else j - b
theorem bw_rvS {v : Int64} {b : Nat} {M : Int64} (hb : b < 64) (hM : ∀ j, j < 64 → bw_b M j = decide (j / b % 2 = 0) ∧ (decide (b ≤ j) && bw_b M (j - b)) = !decide (j / b % 2 = 0)) {j : Nat} (hj : j < 64) : bw_b (((v.toUInt64 >>> ((nI b).toInt64.toUInt64 &&& Int64.toUInt64 63)).toInt64 &&& M) ||| ((v &&& M) <<< ((nI b).toInt64 &&& 63))) j = bw_b v (bw_sw b j) := by
  obtain ⟨h1, h2⟩ := hM j hj
  rw [bw_or, bw_and, bw_shr v hb, bw_shl _ hb, bw_and, decide_eq_true hj, Bool.true_and, h1]
  have e : (decide (b ≤ j) && (bw_b v (j - b) && bw_b M (j - b))) = (bw_b v (j - b) && !decide (j / b % 2 = 0)) := by
    rw [← h2]
    cases decide (b ≤ j) <;> cases bw_b v (j - b) <;> rfl
  rw [e]
  unfold bw_sw
  by_cases h : j / b % 2 = 0
  · rw [if_pos h, decide_eq_true h, Bool.and_true, Nat.add_comm]
    show (_ || (_ && false)) = _
    rw [Bool.and_false, Bool.or_false]
  · rw [if_neg h, decide_eq_false h, Bool.and_false, Bool.false_or]
    show (_ && true) = _
    rw [Bool.and_true]
theorem bw_rv32 {v : Int64} {j : Nat} (hj : j < 64) : bw_b ((v.toUInt64 >>> ((nI 32).toInt64.toUInt64 &&& Int64.toUInt64 63)).toInt64 ||| (v <<< ((nI 32).toInt64 &&& 63))) j = bw_b v (bw_sw 32 j) := by
  rw [bw_or, bw_shr v (by decide), bw_shl _ (by decide), decide_eq_true hj, Bool.true_and]
  unfold bw_sw
  by_cases h : j < 32
  · rw [if_pos (show j / 32 % 2 = 0 by omega), decide_eq_false (show ¬ 32 ≤ j by omega), Bool.false_and, Bool.or_false, Nat.add_comm]
  · rw [if_neg (show ¬ j / 32 % 2 = 0 by omega), decide_eq_true (show 32 ≤ j by omega), Bool.true_and, bw_big (show 64 ≤ 32 + j by omega), Bool.false_or]
theorem bw_rvL : ∀ j, j < 64 → bw_sw 1 j < 64 ∧ bw_sw 2 j < 64 ∧ bw_sw 4 j < 64 ∧ bw_sw 8 j < 64 ∧ bw_sw 16 j < 64 ∧ bw_sw 32 j < 64 := by decide +kernel
theorem bw_rvA : ∀ j, j < 64 → bw_sw 1 (bw_sw 2 (bw_sw 4 (bw_sw 8 (bw_sw 16 (bw_sw 32 j))))) = 63 - j := by decide +kernel
theorem bw_rv1 : ∀ j, j < 64 → bw_b 6148914691236517205 j = decide (j / 1 % 2 = 0) ∧ (decide (1 ≤ j) && bw_b 6148914691236517205 (j - 1)) = !decide (j / 1 % 2 = 0) := by decide +kernel
theorem bw_rv2 : ∀ j, j < 64 → bw_b 3689348814741910323 j = decide (j / 2 % 2 = 0) ∧ (decide (2 ≤ j) && bw_b 3689348814741910323 (j - 2)) = !decide (j / 2 % 2 = 0) := by decide +kernel
theorem bw_rv4 : ∀ j, j < 64 → bw_b 1085102592571150095 j = decide (j / 4 % 2 = 0) ∧ (decide (4 ≤ j) && bw_b 1085102592571150095 (j - 4)) = !decide (j / 4 % 2 = 0) := by decide +kernel
theorem bw_rv8 : ∀ j, j < 64 → bw_b 71777214294589695 j = decide (j / 8 % 2 = 0) ∧ (decide (8 ≤ j) && bw_b 71777214294589695 (j - 8)) = !decide (j / 8 % 2 = 0) := by decide +kernel
theorem bw_rv16 : ∀ j, j < 64 → bw_b 281470681808895 j = decide (j / 16 % 2 = 0) ∧ (decide (16 ≤ j) && bw_b 281470681808895 (j - 16)) = !decide (j / 16 % 2 = 0) := by decide +kernel
theorem bw_reverseWord {post : Int64 → Prop} {w : Int64} (H : ∀ r, (∀ j, j < 64 → bw_b r j = bw_b w (63 - j)) → post r) : wpX_reverseWord post () w := by
  refine fun v1 e1 v2 e2 v3 e3 v4 e4 v5 e5 => H _ (fun j hj => ?_)
  have h1 : ∀ j, j < 64 → bw_b v1 j = bw_b w (bw_sw 1 j) := fun j hj => by rw [e1]; exact bw_rvS (b := 1) (by decide) bw_rv1 hj
  have h2 : ∀ j, j < 64 → bw_b v2 j = bw_b v1 (bw_sw 2 j) := fun j hj => by rw [e2]; exact bw_rvS (b := 2) (by decide) bw_rv2 hj
  have h3 : ∀ j, j < 64 → bw_b v3 j = bw_b v2 (bw_sw 4 j) := fun j hj => by rw [e3]; exact bw_rvS (b := 4) (by decide) bw_rv4 hj
  have h4 : ∀ j, j < 64 → bw_b v4 j = bw_b v3 (bw_sw 8 j) := fun j hj => by rw [e4]; exact bw_rvS (b := 8) (by decide) bw_rv8 hj
  have h5 : ∀ j, j < 64 → bw_b v5 j = bw_b v4 (bw_sw 16 j) := fun j hj => by rw [e5]; exact bw_rvS (b := 16) (by decide) bw_rv16 hj
  refine Eq.trans (bw_rv32 hj) ?_
  have l6 := (bw_rvL j hj).2.2.2.2.2
  have l5 := (bw_rvL _ l6).2.2.2.2.1
  have l4 := (bw_rvL _ l5).2.2.2.1
  have l3 := (bw_rvL _ l4).2.2.1
  have l2 := (bw_rvL _ l3).2.1
  rw [h5 _ l6, h4 _ l5, h3 _ l4, h2 _ l3, h1 _ l2, bw_rvA j hj]
/-! where the bits of a mask go: zeros below a place, the place behind k steps -/
def bw_zc (f : Nat → Bool) (p : Nat) : Nat := bw_ct (fun i => !f i) p
def bw_ps (f : Nat → Bool) (k p : Nat) : Nat := p - bw_zc f p % 2 ^ k
theorem bw_zcL (f : Nat → Bool) (p : Nat) : bw_zc f p ≤ p := bw_ctL _ p
theorem bw_zq (f : Nat → Bool) (k p : Nat) : bw_zc f (bw_ps f k p) / 2 ^ k = bw_zc f p / 2 ^ k := by
  have h1 := Nat.div_add_mod (bw_zc f p) (2 ^ k)
  have h2 : bw_zc f p % 2 ^ k < 2 ^ k := Nat.mod_lt _ (Nat.two_pow_pos k)
  have h3 := bw_zcL f p
  have h4 : bw_zc f (bw_ps f k p) ≤ bw_zc f (bw_ps f k p + bw_zc f p % 2 ^ k) ∧ bw_zc f (bw_ps f k p + bw_zc f p % 2 ^ k) ≤ bw_zc f (bw_ps f k p) + bw_zc f p % 2 ^ k := bw_ctM _ _ _
  have e : bw_ps f k p + bw_zc f p % 2 ^ k = p := by
    unfold bw_ps
    omega
  rw [e] at h4
  apply Nat.div_eq_of_lt_le
  · rw [Nat.mul_comm]
    omega
  · rw [Nat.add_mul, Nat.mul_comm _ (2 ^ k)]
    omega
theorem bw_ps1 {f : Nat → Bool} {k p : Nat} (h : bw_zc f p / 2 ^ k % 2 = 1) : 2 ^ k ≤ bw_ps f k p ∧ bw_ps f (k + 1) p = bw_ps f k p - 2 ^ k := by
  have h1 : bw_zc f p % (2 ^ k * 2) = bw_zc f p % 2 ^ k + 2 ^ k * (bw_zc f p / 2 ^ k % 2) := Nat.mod_mul
  rw [h, Nat.mul_one, ← Nat.pow_succ] at h1
  have h2 : bw_zc f p % 2 ^ (k + 1) ≤ bw_zc f p := Nat.mod_le _ _
  have h3 := bw_zcL f p
  clear h
  unfold bw_ps
  generalize bw_zc f p % 2 ^ (k + 1) = R at *
  generalize bw_zc f p % 2 ^ k = r at *
  generalize 2 ^ k = s at *
  omega
theorem bw_ps0 {f : Nat → Bool} {k p : Nat} (h : ¬ bw_zc f p / 2 ^ k % 2 = 1) : bw_ps f (k + 1) p = bw_ps f k p := by
  have h1 : bw_zc f p % (2 ^ k * 2) = bw_zc f p % 2 ^ k + 2 ^ k * (bw_zc f p / 2 ^ k % 2) := Nat.mod_mul
  have h0 : bw_zc f p / 2 ^ k % 2 = 0 := by omega
  rw [h0, Nat.mul_zero, ← Nat.pow_succ] at h1
  unfold bw_ps
  rw [h1, Nat.add_zero]
theorem bw_psL (f : Nat → Bool) (k p : Nat) : bw_ps f k p ≤ p := Nat.sub_le _ _
theorem bw_psZ (f : Nat → Bool) (p : Nat) : bw_ps f 0 p = p := by
  unfold bw_ps
  rw [Nat.pow_zero, Nat.mod_one, Nat.sub_zero]
theorem bw_ps6 (f : Nat → Bool) {p : Nat} (hp : p < 64) : bw_ps f 6 p = bw_ct f p := by
  have h1 := bw_ctN f p
  have h2 := bw_zcL f p
  unfold bw_ps
  rw [Nat.mod_eq_of_lt (show bw_zc f p < 2 ^ 6 by omega)]
  unfold bw_zc
  omega
theorem bw_psA {f : Nat → Bool} {k p q : Nat} (hp : f p = true) (h : p < q) (e : bw_ps f k p = bw_ps f k q) : False := by
  have t : bw_zc f p / 2 ^ k = bw_zc f q / 2 ^ k := by rw [← bw_zq f k p, e, bw_zq f k q]
  have h1 := Nat.div_add_mod (bw_zc f p) (2 ^ k)
  have h2 := Nat.div_add_mod (bw_zc f q) (2 ^ k)
  have h3 := bw_zcL f p
  have h4 := bw_zcL f q
  rw [t] at h1
  have h5 : bw_zc f (p + 1 + (q - (p + 1))) ≤ bw_zc f (p + 1) + (q - (p + 1)) := (bw_ctM _ _ _).2
  rw [show p + 1 + (q - (p + 1)) = q by omega] at h5
  have h6 : bw_zc f (p + 1) = bw_zc f p := by
    show bw_zc f p + (!f p).toNat = bw_zc f p
    rw [hp]
    rfl
  unfold bw_ps at e
  generalize 2 ^ k * (bw_zc f q / 2 ^ k) = A at *
  generalize bw_zc f p % 2 ^ k = r at *
  generalize bw_zc f q % 2 ^ k = s at *
  omega
theorem bw_psI {f : Nat → Bool} {k p q : Nat} (hp : f p = true) (hq : f q = true) (e : bw_ps f k p = bw_ps f k q) : p = q := by
  rcases Nat.lt_trichotomy p q with h | h | h
  · exact (bw_psA hp h e).elim
  · exact h
  · exact (bw_psA hq h e.symm).elim
/-- the zeros that count in step k -/
def bw_zk (f : Nat → Bool) (k q : Nat) : Bool := (decide (1 ≤ q) && (!f (q - 1) && decide (bw_zc f q % 2 ^ k = 0)))
theorem bw_flip (z d : Nat) : (decide (z / d % 2 = 1) ^^ decide ((z + 1) % d = 0)) = decide ((z + 1) / d % 2 = 1) := by
  rw [Nat.succ_div]
  by_cases h : d ∣ z + 1
  · rw [if_pos h, decide_eq_true (Nat.mod_eq_zero_of_dvd h), Bool.xor_true]
    by_cases g : z / d % 2 = 1
    · rw [decide_eq_true g, decide_eq_false (show ¬ (z / d + 1) % 2 = 1 by omega)]
      rfl
    · rw [decide_eq_false g, decide_eq_true (show (z / d + 1) % 2 = 1 by omega)]
      rfl
  · rw [if_neg h, decide_eq_false (fun g => h (Nat.dvd_of_mod_eq_zero g)), Bool.xor_false]
    rfl
theorem bw_zp (f : Nat → Bool) (k q : Nat) : bw_px (bw_zk f k) (q + 1) = decide (bw_zc f q / 2 ^ k % 2 = 1) := by
  induction q with
  | zero =>
    have e : bw_zc f 0 = 0 := rfl
    rw [e, Nat.zero_div]
    rfl
  | succ q ih =>
    rw [bw_px1, ih]
    have e : bw_zc f (q + 1) = bw_zc f q + (!f q).toNat := rfl
    have e2 : bw_zk f k (q + 1) = (!f q && decide (bw_zc f (q + 1) % 2 ^ k = 0)) := by
      unfold bw_zk
      rw [decide_eq_true (show 1 ≤ q + 1 by omega), Bool.true_and]
      rfl
    rw [e2, e]
    cases f q with
    | true =>
      show (_ ^^ false) = decide ((bw_zc f q + 0) / 2 ^ k % 2 = 1)
      rw [Bool.xor_false, Nat.add_zero]
    | false =>
      show (_ ^^ (true && decide ((bw_zc f q + 1) % 2 ^ k = 0))) = decide ((bw_zc f q + 1) / 2 ^ k % 2 = 1)
      rw [Bool.true_and, bw_flip]
theorem bw_zk1 (f : Nat → Bool) (k q : Nat) : (bw_zk f k q && !decide (bw_zc f q / 2 ^ k % 2 = 1)) = bw_zk f (k + 1) q := by
  unfold bw_zk
  have h1 : bw_zc f q % (2 ^ k * 2) = bw_zc f q % 2 ^ k + 2 ^ k * (bw_zc f q / 2 ^ k % 2) := Nat.mod_mul
  rw [← Nat.pow_succ] at h1
  have h2 := Nat.two_pow_pos k
  have e : (decide (bw_zc f q % 2 ^ k = 0) && !decide (bw_zc f q / 2 ^ k % 2 = 1)) = decide (bw_zc f q % 2 ^ (k + 1) = 0) := by
    by_cases g : bw_zc f q / 2 ^ k % 2 = 1
    · rw [g] at h1
      rw [decide_eq_true g, decide_eq_false (show ¬ bw_zc f q % 2 ^ (k + 1) = 0 by rw [h1]; omega)]
      exact Bool.and_false _
    · rw [show bw_zc f q / 2 ^ k % 2 = 0 by omega] at h1
      rw [h1, decide_eq_false g, Nat.mul_zero, Nat.add_zero]
      exact Bool.and_true _
  rw [← e]
  cases decide (1 ≤ q) <;> cases f (q - 1) <;> rfl
end
section
/-! one step of gather and scatter -/
theorem bw_z0 {m : Int64} {q : Nat} (hq : q < 64) : bw_b ((m ^^^ (-1)) <<< ((1 : Int32).toInt64 &&& 63)) q = bw_zk (bw_b m) 0 q := by
  refine Eq.trans (bw_shl (m ^^^ (-1)) (k := 1) (by decide) q) ?_
  unfold bw_zk
  rw [decide_eq_true hq, Bool.true_and, bw_not m (show q - 1 < 64 by omega), Nat.pow_zero, Nat.mod_one, decide_eq_true (rfl : 0 = 0), Bool.and_true]
theorem bw_odd {f : Nat → Bool} {z r : Int64} {k : Nat} (hz : ∀ q, q < 64 → bw_b z q = bw_zk f k q) (hr : ∀ j, j < 64 → bw_b r j = bw_px (bw_b z) (j + 1)) : ∀ q, q < 64 → bw_b r q = decide (bw_zc f q / 2 ^ k % 2 = 1) := by
  intro q hq
  rw [hr q hq, bw_pxC (g := bw_zk f k) (q + 1) (fun i hi => hz i (by omega)), bw_zp]
theorem bw_zS {f : Nat → Bool} {z r : Int64} {k : Nat} (hz : ∀ q, q < 64 → bw_b z q = bw_zk f k q) (ho : ∀ q, q < 64 → bw_b r q = decide (bw_zc f q / 2 ^ k % 2 = 1)) : ∀ q, q < 64 → bw_b (z &&& (r ^^^ (-1))) q = bw_zk f (k + 1) q := by
  intro q hq
  rw [bw_and, bw_not r hq, hz q hq, ho q hq, bw_zk1]
theorem bw_mv {f : Nat → Bool} {m r : Int64} {k : Nat} (ho : ∀ q, q < 64 → bw_b r q = decide (bw_zc f q / 2 ^ k % 2 = 1)) (hm : ∀ p, p < 64 → f p = true → bw_b m (bw_ps f k p) = true) : ∀ p, p < 64 → f p = true → bw_b (r &&& m) (bw_ps f k p) = decide (bw_zc f p / 2 ^ k % 2 = 1) := by
  intro p hp fp
  rw [bw_and, hm p hp fp, Bool.and_true, ho _ (Nat.lt_of_le_of_lt (bw_psL f k p) hp), bw_zq]
theorem bw_mS {f : Nat → Bool} {m t : Int64} {k : Nat} (hk : 2 ^ k < 64) (ht : ∀ p, p < 64 → f p = true → bw_b t (bw_ps f k p) = decide (bw_zc f p / 2 ^ k % 2 = 1)) (hm : ∀ p, p < 64 → f p = true → bw_b m (bw_ps f k p) = true) : ∀ p, p < 64 → f p = true → bw_b ((m ^^^ t) ||| (t.toUInt64 >>> ((nI (2 ^ k)).toInt64.toUInt64 &&& Int64.toUInt64 63)).toInt64) (bw_ps f (k + 1) p) = true := by
  intro p hp fp
  have hM := ht p hp fp
  rw [bw_or, bw_xor, bw_shr _ hk]
  by_cases h : bw_zc f p / 2 ^ k % 2 = 1
  · obtain ⟨h1, h2⟩ := bw_ps1 h
    rw [h2, show 2 ^ k + (bw_ps f k p - 2 ^ k) = bw_ps f k p by omega, hM, decide_eq_true h, Bool.or_true]
  · rw [bw_ps0 h, hM, decide_eq_false h, hm p hp fp]
    rfl
theorem bw_vS {f : Nat → Bool} {v t w : Int64} {k : Nat} (hk : 2 ^ k < 64) (ht : ∀ p, p < 64 → f p = true → bw_b t (bw_ps f k p) = decide (bw_zc f p / 2 ^ k % 2 = 1)) (hv : ∀ p, p < 64 → f p = true → bw_b v (bw_ps f k p) = bw_b w p) (hs : ∀ q, bw_b v q = true → ∃ p, p < 64 ∧ f p = true ∧ q = bw_ps f k p) : ∀ p, p < 64 → f p = true → bw_b ((v ^^^ (v &&& t)) ||| ((v &&& t).toUInt64 >>> ((nI (2 ^ k)).toInt64.toUInt64 &&& Int64.toUInt64 63)).toInt64) (bw_ps f (k + 1) p) = bw_b w p := by
  intro p hp fp
  have hM := ht p hp fp
  rw [bw_or, bw_xor, bw_shr _ hk, bw_and, bw_and]
  by_cases h : bw_zc f p / 2 ^ k % 2 = 1
  · obtain ⟨h1, h2⟩ := bw_ps1 h
    rw [h2, show 2 ^ k + (bw_ps f k p - 2 ^ k) = bw_ps f k p by omega, hM, decide_eq_true h, Bool.and_true, hv p hp fp]
    have c : (bw_b v (bw_ps f k p - 2 ^ k) ^^ (bw_b v (bw_ps f k p - 2 ^ k) && bw_b t (bw_ps f k p - 2 ^ k))) = false := by
      cases g : bw_b v (bw_ps f k p - 2 ^ k) with
      | false => rfl
      | true =>
        obtain ⟨p', hp', fp', e⟩ := hs _ g
        rw [e, ht p' hp' fp']
        by_cases h' : bw_zc f p' / 2 ^ k % 2 = 1
        · rw [decide_eq_true h']
          rfl
        · exfalso
          have e2 : bw_ps f (k + 1) p = bw_ps f (k + 1) p' := by rw [h2, bw_ps0 h', e]
          exact h' (bw_psI fp fp' e2 ▸ h)
    rw [c, Bool.false_or]
  · rw [bw_ps0 h, hM, decide_eq_false h, hv p hp fp, Bool.and_false, Bool.xor_false]
    have c : (bw_b v (2 ^ k + bw_ps f k p) && bw_b t (2 ^ k + bw_ps f k p)) = false := by
      cases g : bw_b v (2 ^ k + bw_ps f k p) with
      | false => rfl
      | true =>
        obtain ⟨p', hp', fp', e⟩ := hs _ g
        rw [e, ht p' hp' fp']
        by_cases h' : bw_zc f p' / 2 ^ k % 2 = 1
        · exfalso
          have e2 : bw_ps f (k + 1) p = bw_ps f (k + 1) p' := by
            rw [bw_ps0 h, (bw_ps1 h').2]
            omega
          exact h (bw_psI fp fp' e2 ▸ h')
        · rw [decide_eq_false h']
          rfl
    rw [c, Bool.or_false]
theorem bw_sS {f : Nat → Bool} {v t : Int64} {k : Nat} (hk : 2 ^ k < 64) (ht : ∀ p, p < 64 → f p = true → bw_b t (bw_ps f k p) = decide (bw_zc f p / 2 ^ k % 2 = 1)) (hs : ∀ q, bw_b v q = true → ∃ p, p < 64 ∧ f p = true ∧ q = bw_ps f k p) : ∀ q, bw_b ((v ^^^ (v &&& t)) ||| ((v &&& t).toUInt64 >>> ((nI (2 ^ k)).toInt64.toUInt64 &&& Int64.toUInt64 63)).toInt64) q = true → ∃ p, p < 64 ∧ f p = true ∧ q = bw_ps f (k + 1) p := by
  intro q h
  rw [bw_or, bw_xor, bw_shr _ hk, bw_and, bw_and] at h
  cases g : bw_b v q with
  | true =>
    obtain ⟨p, hp, fp, e⟩ := hs q g
    by_cases h' : bw_zc f p / 2 ^ k % 2 = 1
    · have t1 : bw_b t q = true := by rw [e, ht p hp fp, decide_eq_true h']
      rw [g, t1] at h
      have h2 : (bw_b v (2 ^ k + q) && bw_b t (2 ^ k + q)) = true := h
      rw [Bool.and_eq_true] at h2
      obtain ⟨p', hp', fp', e'⟩ := hs _ h2.1
      have t2 := h2.2
      rw [e', ht p' hp' fp'] at t2
      have t3 := of_decide_eq_true t2
      refine ⟨p', hp', fp', ?_⟩
      rw [(bw_ps1 t3).2]
      omega
    · exact ⟨p, hp, fp, by rw [bw_ps0 h', e]⟩
  | false =>
    rw [g] at h
    have h2 : (bw_b v (2 ^ k + q) && bw_b t (2 ^ k + q)) = true := h
    rw [Bool.and_eq_true] at h2
    obtain ⟨p', hp', fp', e'⟩ := hs _ h2.1
    have t2 := h2.2
    rw [e', ht p' hp' fp'] at t2
    have t3 := of_decide_eq_true t2
    refine ⟨p', hp', fp', ?_⟩
    rw [(bw_ps1 t3).2]
    omega
/-! gather -/
def bw_GI (w m0 : Int64) (i : Nat) (s : Int64 × Int64 × Int64) : Prop := (∀ q, q < 64 → bw_b s.2.2 q = bw_zk (bw_b m0) i q) ∧ (∀ p, p < 64 → bw_b m0 p = true → bw_b s.2.1 (bw_ps (bw_b m0) i p) = true) ∧ (∀ p, p < 64 → bw_b m0 p = true → bw_b s.1 (bw_ps (bw_b m0) i p) = bw_b w p) ∧ (∀ q, bw_b s.1 q = true → ∃ p, p < 64 ∧ bw_b m0 p = true ∧ q = bw_ps (bw_b m0) i p)
theorem bw_gather {post : Int64 → Prop} {w m0 : Int64} (H : ∀ r, (∀ p, p < 64 → bw_b m0 p = true → bw_b r (bw_ct (bw_b m0) p) = bw_b w p) → (∀ q, bw_ct (bw_b m0) 64 ≤ q → bw_b r q = false) → post r) : wpX_gather post () w m0 := by
  refine nm_e (nm_e ?_)
  refine pk_loop (fun n i s => wX_gather_20 post n s.1 s.2.1 s.2.2 (nI (2 ^ i))) (bw_GI w m0) 6 0 (w &&& m0, m0, (m0 ^^^ (-1)) <<< ((1 : Int32).toInt64 &&& 63)) (by omega) ?_ ?_ ?_
  · refine ⟨fun q hq => bw_z0 hq, fun p hp fp => ?_, fun p hp fp => ?_, fun q hq => ?_⟩
    · rw [bw_psZ]
      exact fp
    · rw [bw_psZ]
      show bw_b (w &&& m0) p = _
      rw [bw_and, fp, Bool.and_true]
    · have hq' : bw_b (w &&& m0) q = true := hq
      rw [bw_and, Bool.and_eq_true] at hq'
      refine ⟨q, ?_, hq'.2, (bw_psZ _ q).symm⟩
      rcases Nat.lt_or_ge q 64 with z | z
      · exact z
      · rw [bw_big z] at hq'
        exact absurd hq'.1 (by decide)
  · intro n s h
    obtain ⟨_, _, hv, hs⟩ := h
    refine pk_le 64 64 (fun _ => H s.1 (fun p hp fp => ?_) (fun q hq => ?_)) (fun z => absurd z (by omega))
    · rw [← bw_ps6 _ hp]
      exact hv p hp fp
    · cases g : bw_b s.1 q with
      | false => rfl
      | true =>
        obtain ⟨p, hp, fp, e⟩ := hs q g
        rw [bw_ps6 _ hp] at e
        have := bw_ctT hp fp
        omega
  · intro n i s hi h hw
    obtain ⟨hz, hm, hv, hs⟩ := h
    have hk : 2 ^ i < 64 := bw_p6 hi
    refine pk_le 64 (2 ^ i) (fun z => absurd z (by omega)) (fun _ => bw_prefixXor (fun r hr => ?_))
    have ho := bw_odd hz hr
    have ht := bw_mv ho hm
    refine nm_e (nm_e (nm_e (nm_e (nm_e (nm_r (pk_mul (2 ^ i) 2) ?_)))))
    rw [← Nat.pow_succ]
    exact hw (_, _, _) ⟨bw_zS hz ho, bw_mS hk ht hm, bw_vS hk ht hv hs, bw_sS hk ht hs⟩
/-! scatter -/
theorem bw_s1 : ∀ i, i < 6 → ((1 : Int32) <<< (nI i &&& 31)) = nI (2 ^ i) := by decide +kernel
theorem bw_uLf {f : Nat → Int64} {k j : Nat} {x : Int64} : vp_updL f k x j = if j = k then x else f j := rfl
theorem bw_scatB {post : Int64 → St1 → Prop} {u m0 : Int64} {f0 f1 f2 : Int32} {a1 : Nat → Int64} {a2 : Nat → Int32} {a3 a4 a5 a6 : Nat → Int64}
    (ha : ∀ k, k < 6 → ∀ p, p < 64 → bw_b m0 p = true → bw_b (a6 k) (bw_ps (bw_b m0) k p) = decide (bw_zc (bw_b m0) p / 2 ^ k % 2 = 1))
    (H : ∀ r, (∀ p, p < 64 → bw_b r p = (bw_b m0 p && bw_b u (bw_ct (bw_b m0) p))) → post r (f0, f1, f2, a1, a2, a3, a4, a5, a6)) :
    ∃ n, wX_scatter_83 post m0 f0 f1 f2 a1 a2 a3 a4 a5 a6 n u 5 := by
  have t : wX_scatter_83 post m0 f0 f1 f2 a1 a2 a3 a4 a5 a6 (6 + 1) u (nI 6 + (-1)) := by
    refine pk_loopD (fun n i v => wX_scatter_83 post m0 f0 f1 f2 a1 a2 a3 a4 a5 a6 n v (nI i + (-1))) (fun i v => i ≤ 6 ∧ ∀ p, p < 64 → bw_b m0 p = true → bw_b v (bw_ps (bw_b m0) i p) = bw_b u (bw_ps (bw_b m0) 6 p)) ?_ ?_ 6 u ⟨by omega, fun p hp fp => rfl⟩
    · intro n v h
      refine br_t (by decide) (H _ (fun p hp => ?_))
      rw [bw_and, Bool.and_comm]
      cases g : bw_b m0 p with
      | false => rfl
      | true =>
        have t := h.2 p hp g
        rw [bw_psZ, bw_ps6 _ hp] at t
        rw [t]
    · intro n i v h hw
      obtain ⟨hi, hv⟩ := h
      show wX_scatter_83 post m0 f0 f1 f2 a1 a2 a3 a4 a5 a6 (n + 1) v (nI (i + 1) + (-1))
      rw [pk_m1 i]
      refine pk_lt i 0 (fun z => absurd z (by omega)) (fun _ => nm_e ⟨pk_in i 6 (by omega), pk_in i 6 (by omega), nm_e (nm_e ?_)⟩)
      rw [nI_clamp (show i < 2 ^ 31 by omega), bw_s1 i (by omega)]
      refine hw _ ⟨by omega, fun p hp fp => ?_⟩
      have hk : 2 ^ i < 64 := bw_p6 (by omega)
      have hq : bw_ps (bw_b m0) i p < 64 := Nat.lt_of_le_of_lt (bw_psL _ i p) hp
      have ht := ha i (by omega) p hp fp
      rw [bw_or, bw_and, bw_and, bw_not _ hq, bw_shl _ hk, decide_eq_true hq, Bool.true_and, ht]
      by_cases h : bw_zc (bw_b m0) p / 2 ^ i % 2 = 1
      · obtain ⟨h1, h2⟩ := bw_ps1 h
        rw [decide_eq_true h, decide_eq_true h1, ← h2, hv p hp fp, Bool.and_true, Bool.true_and]
        show ((_ && false) || _) = _
        rw [Bool.and_false, Bool.false_or]
      · rw [decide_eq_false h, ← bw_ps0 h, hv p hp fp, Bool.and_false, Bool.or_false]
        show (_ && true) = _
        rw [Bool.and_true]
  rw [show nI 6 + (-1) = (5 : Int32) by decide] at t
  exact ⟨_, t⟩
def bw_SI (m0 : Int64) (i : Nat) (s : Int64 × Int64 × (Nat → Int64)) : Prop := (∀ q, q < 64 → bw_b s.2.1 q = bw_zk (bw_b m0) i q) ∧ (∀ p, p < 64 → bw_b m0 p = true → bw_b s.1 (bw_ps (bw_b m0) i p) = true) ∧ (∀ k, k < i → ∀ p, p < 64 → bw_b m0 p = true → bw_b (s.2.2 k) (bw_ps (bw_b m0) k p) = decide (bw_zc (bw_b m0) p / 2 ^ k % 2 = 1))
theorem bw_scatter {post : Int64 → St1 → Prop} {u m0 : Int64} {f0 f1 f2 : Int32} {a1 : Nat → Int64} {a2 : Nat → Int32} {a3 a4 a5 a6 : Nat → Int64}
    (H : ∀ r a6', (∀ p, p < 64 → bw_b r p = (bw_b m0 p && bw_b u (bw_ct (bw_b m0) p))) → post r (f0, f1, f2, a1, a2, a3, a4, a5, a6')) :
    wpX_scatter post (f0, f1, f2, a1, a2, a3, a4, a5, a6) u m0 := by
  refine nm_e ?_
  refine pk_loop (fun n i s => wX_scatter_15 post u m0 f0 f1 f2 n s.1 s.2.1 (nI i) a1 a2 a3 a4 a5 s.2.2) (bw_SI m0) 6 0 (m0, (m0 ^^^ (-1)) <<< ((1 : Int32).toInt64 &&& 63), a6) (by omega) ?_ ?_ ?_
  · refine ⟨fun q hq => bw_z0 hq, fun p hp fp => ?_, fun k hk => absurd hk (by omega)⟩
    rw [bw_psZ]
    exact fp
  · intro n s h
    exact pk_le 6 6 (fun _ => bw_scatB h.2.2 (fun r hr => H r s.2.2 hr)) (fun z => absurd z (by omega))
  · intro n i s hi h hw
    obtain ⟨hz, hm, ha⟩ := h
    have hk : 2 ^ i < 64 := bw_p6 hi
    refine pk_le 6 i (fun z => absurd z (by omega)) (fun _ => bw_prefixXor (fun r hr => ?_))
    have ho := bw_odd hz hr
    have ht := bw_mv ho hm
    refine nm_e ⟨pk_in i 6 hi, nm_e (nm_e (nm_e (nm_r (nI_1 i) ?_)))⟩
    rw [nI_clamp (show i < 2 ^ 31 by omega), bw_s1 i hi]
    refine hw (_, _, _) ⟨bw_zS hz ho, bw_mS hk ht hm, fun k hk' p hp fp => ?_⟩
    show bw_b (vp_updL s.2.2 i _ k) _ = _
    rw [bw_uLf]
    by_cases e : k = i
    · rw [if_pos e, e]
      exact ht p hp fp
    · rw [if_neg e]
      exact ha k (by omega) p hp fp
end
section
/-! pictures of four words -/
def bw_W (w : Nat → Int64) (F : Nat → Bool) : Prop := ∀ j, j < 4 → ∀ b, b < 64 → bw_b (w j) b = F (64 * j + b)
/-- vector v holds the picture F of length n -/
def bw_V (a1 : Nat → Int64) (a2 : Nat → Int32) (v n : Nat) (F : Nat → Bool) : Prop := a2 v = nI n ∧ n ≤ 256 ∧ (∀ i, n ≤ i → F i = false) ∧ bw_W (fun j => a1 (4 * v + j)) F
/-- all vectors but one are kept -/
def bw_kp (t : Nat) (a1 b1 : Nat → Int64) (a2 b2 : Nat → Int32) : Prop := ∀ v, v ≠ t → b2 v = a2 v ∧ ∀ j, j < 4 → b1 (4 * v + j) = a1 (4 * v + j)
theorem bw_kpV {t : Nat} {a1 b1 : Nat → Int64} {a2 b2 : Nat → Int32} (h : bw_kp t a1 b1 a2 b2) {v n : Nat} {F : Nat → Bool} (hv : v ≠ t) (hV : bw_V a1 a2 v n F) : bw_V b1 b2 v n F := by
  obtain ⟨h1, h2⟩ := h v hv
  obtain ⟨g1, g2, g3, g4⟩ := hV
  refine ⟨by rw [h1, g1], g2, g3, fun j hj b hb => ?_⟩
  show bw_b (b1 (4 * v + j)) b = _
  rw [h2 j hj]
  exact g4 j hj b hb
theorem bw_WC {w : Nat → Int64} {F G : Nat → Bool} (h : bw_W w F) (e : ∀ i, i < 256 → F i = G i) : bw_W w G := by
  intro j hj b hb
  rw [h j hj b hb, e _ (by omega)]
theorem bw_VC {a1 : Nat → Int64} {a2 : Nat → Int32} {v n : Nat} {F G : Nat → Bool} (h : bw_V a1 a2 v n F) (e : ∀ i, F i = G i) : bw_V a1 a2 v n G := by
  have : F = G := funext e
  rw [← this]
  exact h
theorem bw_put {R : Nat → Int64 → Prop} {s : Nat → Int64} {i : Nat} {x : Int64} (h : ∀ j, j < i → R j (s j)) (hx : R i x) : ∀ j, j < i + 1 → R j (vp_updL s i x j) := by
  intro j hj
  by_cases e : j = i
  · rw [e, pk_uLs]
    exact hx
  · rw [pk_uLn e]
    exact h j (by omega)
theorem bw_bad {post : Int32 → Prop} {v : Nat} (hv : v < 6) (H : post 0) : wpX_bad post () (nI v) :=
  pk_lt v 0 (fun z => absurd z (by omega)) (fun _ => pk_le v 5 (fun _ => H) (fun z => absurd z (by omega)))
theorem bw_ix (v i : Nat) : nI v * 4 + nI i = nI (4 * v + i) := by
  show nI v * nI 4 + nI i = _
  rw [pk_mul, nI_add, Nat.mul_comm]
theorem bw_clearZ {post : St1 → Prop} {f0 f1 f2 : Int32} {a1 : Nat → Int64} {a2 : Nat → Int32} {a3 a4 a5 a6 : Nat → Int64}
    (H : ∀ z, bw_W z (fun _ => false) → post (f0, f1, f2, a1, a2, a3, a4, z, a6)) : wpX_clearZ post (f0, f1, f2, a1, a2, a3, a4, a5, a6) := by
  refine pk_loop (fun n i s => wX_clearZ_2 post f0 f1 f2 n (nI i) a1 a2 a3 a4 s a6) (fun i s => ∀ j, j < i → ∀ b, b < 64 → bw_b (s j) b = false) 4 0 a5 (by omega) (fun j hj => absurd hj (by omega)) ?_ ?_
  · intro n s h
    exact pk_le 4 4 (fun _ => H s h) (fun z => absurd z (by omega))
  · intro n i s hi h hw
    refine pk_le 4 i (fun z => absurd z (by omega)) (fun _ => ⟨pk_in i 4 hi, nm_e (nm_r (nI_1 i) ?_)⟩)
    rw [nI_clamp (show i < 2 ^ 31 by omega)]
    exact hw _ (bw_put (R := fun j x => ∀ b, b < 64 → bw_b x b = false) h (fun b _ => bw_0 b))
theorem bw_loadX {post : St1 → Prop} {f0 f1 f2 : Int32} {a1 : Nat → Int64} {a2 : Nat → Int32} {a3 a4 a5 a6 : Nat → Int64} {v n : Nat} {F : Nat → Bool} (hv : v < 6) (hV : bw_V a1 a2 v n F)
    (H : ∀ x, bw_W x F → post (nI n, f1, f2, a1, a2, x, a4, a5, a6)) : wpX_loadX post (f0, f1, f2, a1, a2, a3, a4, a5, a6) (nI v) := by
  obtain ⟨h1, h2, h3, h4⟩ := hV
  refine pk_loop (fun n i s => wX_loadX_2 post (nI v) f0 f1 f2 n (nI i) a1 a2 s a4 a5 a6) (fun i s => ∀ j, j < i → ∀ b, b < 64 → bw_b (s j) b = F (64 * j + b)) 4 0 a3 (by omega) (fun j hj => absurd hj (by omega)) ?_ ?_
  · intro n s h
    exact pk_le 4 4 (fun _ => ⟨pk_in v 6 hv, nm_r (by rw [nI_clamp (show v < 2 ^ 31 by omega), h1]) (H s h)⟩) (fun z => absurd z (by omega))
  · intro n i s hi h hw
    refine pk_le 4 i (fun z => absurd z (by omega)) (fun _ => ⟨pk_in (4 * v + i) 24 (by omega) (bw_ix v i), pk_in i 4 hi, nm_e (nm_r (nI_1 i) ?_)⟩)
    rw [bw_ix, nI_clamp (show i < 2 ^ 31 by omega), nI_clamp (show 4 * v + i < 2 ^ 31 by omega)]
    exact hw _ (bw_put (R := fun j x => ∀ b, b < 64 → bw_b x b = F (64 * j + b)) h (h4 i hi))
theorem bw_loadY {post : St1 → Prop} {f0 f1 f2 : Int32} {a1 : Nat → Int64} {a2 : Nat → Int32} {a3 a4 a5 a6 : Nat → Int64} {v n : Nat} {F : Nat → Bool} (hv : v < 6) (hV : bw_V a1 a2 v n F)
    (H : ∀ y, bw_W y F → post (f0, nI n, f2, a1, a2, a3, y, a5, a6)) : wpX_loadY post (f0, f1, f2, a1, a2, a3, a4, a5, a6) (nI v) := by
  obtain ⟨h1, h2, h3, h4⟩ := hV
  refine pk_loop (fun n i s => wX_loadY_2 post (nI v) f0 f1 f2 n (nI i) a1 a2 a3 s a5 a6) (fun i s => ∀ j, j < i → ∀ b, b < 64 → bw_b (s j) b = F (64 * j + b)) 4 0 a4 (by omega) (fun j hj => absurd hj (by omega)) ?_ ?_
  · intro n s h
    exact pk_le 4 4 (fun _ => ⟨pk_in v 6 hv, nm_r (by rw [nI_clamp (show v < 2 ^ 31 by omega), h1]) (H s h)⟩) (fun z => absurd z (by omega))
  · intro n i s hi h hw
    refine pk_le 4 i (fun z => absurd z (by omega)) (fun _ => ⟨pk_in (4 * v + i) 24 (by omega) (bw_ix v i), pk_in i 4 hi, nm_e (nm_r (nI_1 i) ?_)⟩)
    rw [bw_ix, nI_clamp (show i < 2 ^ 31 by omega), nI_clamp (show 4 * v + i < 2 ^ 31 by omega)]
    exact hw _ (bw_put (R := fun j x => ∀ b, b < 64 → bw_b x b = F (64 * j + b)) h (h4 i hi))
theorem bw_storeZ {post : Int32 → St1 → Prop} {f0 f1 : Int32} {a1 : Nat → Int64} {a2 : Nat → Int32} {a3 a4 a5 a6 : Nat → Int64} {t n : Nat} {F : Nat → Bool} (ht : t < 6) (hn : n ≤ 256) (hF : bw_W a5 F)
    (H : ∀ b1 b2, bw_V b1 b2 t n (fun i => (decide (i < n) && F i)) → bw_kp t a1 b1 a2 b2 → post (nI n) (f0, f1, nI n, b1, b2, a3, a4, a5, a6)) : wpX_storeZ post (f0, f1, nI n, a1, a2, a3, a4, a5, a6) (nI t) := by
  refine pk_loop (fun k i s => wX_storeZ_2 post (nI t) f0 f1 (nI n) k (nI i) s a2 a3 a4 a5 a6) (fun i s => (∀ j, j < i → ∀ b, b < 64 → bw_b (s (4 * t + j)) b = (decide (64 * j + b < n) && F (64 * j + b))) ∧ ∀ k, k < 4 * t ∨ 4 * t + 4 ≤ k → s k = a1 k) 4 0 a1 (by omega) ⟨fun j hj => absurd hj (by omega), fun _ _ => rfl⟩ ?_ ?_
  · intro k s h
    refine pk_le 4 4 (fun _ => ⟨pk_in t 6 ht, nm_e ?_⟩) (fun z => absurd z (by omega))
    rw [nI_clamp (show t < 2 ^ 31 by omega)]
    refine H s _ ⟨pk_us, hn, fun i hi => ?_, fun j hj b hb => h.1 j hj b hb⟩ (fun v hv => ⟨pk_un hv, fun j hj => h.2 _ (by omega)⟩)
    show (decide (i < n) && F i) = false
    rw [decide_eq_false (show ¬ i < n by omega), Bool.false_and]
  · intro k i s hi h hw
    refine pk_le 4 i (fun z => absurd z (by omega)) (fun _ => ⟨pk_in i 4 hi, bw_lowMaskAt hn (by omega) (fun r hr => ⟨pk_in (4 * t + i) 24 (by omega) (bw_ix t i), nm_e (nm_r (nI_1 i) ?_)⟩)⟩)
    rw [bw_ix, nI_clamp (show i < 2 ^ 31 by omega), nI_clamp (show 4 * t + i < 2 ^ 31 by omega)]
    refine hw _ ⟨fun j hj b hb => ?_, fun k hk => ?_⟩
    · by_cases e : j = i
      · rw [e, pk_uLs, bw_and, hr b hb, hF i hi b hb, Bool.and_comm]
      · rw [pk_uLn (show 4 * t + j ≠ 4 * t + i by omega)]
        exact h.1 j (by omega) b hb
    · rw [pk_uLn (show k ≠ 4 * t + i by omega)]
      exact h.2 k hk
/-! windows -/
theorem bw_shift6 {k : Nat} (hk : k < 2 ^ 31) : nI k >>> ((6 : Int32) &&& 31) = nI (k / 64) := pk_shrN hk _ 6 (by decide)
theorem bw_and63 {k : Nat} (hk : k < 2 ^ 31) : nI k &&& 63 = nI (k % 64) := pk_andN (by omega) 6 (by decide)
theorem bw_sub64 {s : Nat} (hs : s ≤ 64) : (64 : Int32) - nI s = nI (64 - s) := pk_sub (a := 64) hs
theorem bw_wordX {post : Int64 → Prop} {f0 f1 f2 : Int32} {a1 : Nat → Int64} {a2 : Nat → Int32} {a3 a4 a5 a6 : Nat → Int64} {F : Nat → Bool} (hF : bw_W a3 F) {i : Nat} (hi : i < 2 ^ 30)
    (H : ∀ r, (∀ b, b < 64 → bw_b r b = (decide (64 * i + b < 256) && F (64 * i + b))) → post r) : wpX_wordX post (f0, f1, f2, a1, a2, a3, a4, a5, a6) (nI i) := by
  refine pk_lt i 0 (fun z => absurd z (by omega)) (fun _ => pk_le i 3 (fun h => ⟨pk_in i 4 (by omega), ?_⟩) (fun h => H 0 (fun b hb => ?_)))
  · rw [nI_clamp (show i < 2 ^ 31 by omega)]
    refine H _ (fun b hb => ?_)
    rw [hF i (by omega) b hb, decide_eq_true (show 64 * i + b < 256 by omega), Bool.true_and]
  · rw [bw_0, decide_eq_false (show ¬ 64 * i + b < 256 by omega), Bool.false_and]
theorem bw_wordY {post : Int64 → Prop} {f0 f1 f2 : Int32} {a1 : Nat → Int64} {a2 : Nat → Int32} {a3 a4 a5 a6 : Nat → Int64} {F : Nat → Bool} (hF : bw_W a4 F) {i : Nat} (hi : i < 2 ^ 30)
    (H : ∀ r, (∀ b, b < 64 → bw_b r b = (decide (64 * i + b < 256) && F (64 * i + b))) → post r) : wpX_wordY post (f0, f1, f2, a1, a2, a3, a4, a5, a6) (nI i) := by
  refine pk_lt i 0 (fun z => absurd z (by omega)) (fun _ => pk_le i 3 (fun h => ⟨pk_in i 4 (by omega), ?_⟩) (fun h => H 0 (fun b hb => ?_)))
  · rw [nI_clamp (show i < 2 ^ 31 by omega)]
    refine H _ (fun b hb => ?_)
    rw [hF i (by omega) b hb, decide_eq_true (show 64 * i + b < 256 by omega), Bool.true_and]
  · rw [bw_0, decide_eq_false (show ¬ 64 * i + b < 256 by omega), Bool.false_and]
/-- two neighbouring words, the window between them -/
theorem bw_two {F : Nat → Bool} {k s : Nat} {r r' : Int64} (hs : k % 64 = s) (h0 : 0 < s)
    (hr : ∀ b, b < 64 → bw_b r b = (decide (64 * (k / 64) + b < 256) && F (64 * (k / 64) + b)))
    (hr' : ∀ b, b < 64 → bw_b r' b = (decide (64 * (k / 64 + 1) + b < 256) && F (64 * (k / 64 + 1) + b))) :
    ∀ b, b < 64 → bw_b ((r.toUInt64 >>> ((nI s).toInt64.toUInt64 &&& Int64.toUInt64 63)).toInt64 ||| (r' <<< ((nI (64 - s)).toInt64 &&& 63))) b = (decide (k + b < 256) && F (k + b)) := by
  intro b hb
  rw [bw_or, bw_shr _ (show s < 64 by omega), bw_shl _ (show 64 - s < 64 by omega), decide_eq_true hb, Bool.true_and]
  by_cases h : s + b < 64
  · rw [hr _ h, decide_eq_false (show ¬ 64 - s ≤ b by omega), Bool.false_and, Bool.or_false, show 64 * (k / 64) + (s + b) = k + b by omega]
  · rw [bw_big (show 64 ≤ s + b by omega), hr' _ (show b - (64 - s) < 64 by omega), decide_eq_true (show 64 - s ≤ b by omega), Bool.true_and, Bool.false_or, show 64 * (k / 64 + 1) + (b - (64 - s)) = k + b by omega]
theorem bw_windowX {post : Int64 → Prop} {f0 f1 f2 : Int32} {a1 : Nat → Int64} {a2 : Nat → Int32} {a3 a4 a5 a6 : Nat → Int64} {F : Nat → Bool} (hF : bw_W a3 F) {k : Nat} (hk : k < 2 ^ 30)
    (H : ∀ r, (∀ b, b < 64 → bw_b r b = (decide (k + b < 256) && F (k + b))) → post r) : wpX_windowX post (f0, f1, f2, a1, a2, a3, a4, a5, a6) (nI k) := by
  refine nm_r (bw_shift6 (by omega)) (nm_r (bw_and63 (by omega)) (bw_wordX hF (by omega) (fun r hr => pk_eq (k % 64) 0 (fun e => H r (fun b hb => ?_)) (fun e => ?_))))
  · rw [hr b hb, show 64 * (k / 64) + b = k + b by omega]
  · rw [nI_1, bw_sub64 (show k % 64 ≤ 64 by omega)]
    exact bw_wordX hF (by omega) (fun r' hr' => H _ (bw_two rfl (by omega) hr hr'))
theorem bw_windowY {post : Int64 → Prop} {f0 f1 f2 : Int32} {a1 : Nat → Int64} {a2 : Nat → Int32} {a3 a4 a5 a6 : Nat → Int64} {F : Nat → Bool} (hF : bw_W a4 F) {k : Nat} (hk : k < 2 ^ 30)
    (H : ∀ r, (∀ b, b < 64 → bw_b r b = (decide (k + b < 256) && F (k + b))) → post r) : wpX_windowY post (f0, f1, f2, a1, a2, a3, a4, a5, a6) (nI k) := by
  refine nm_r (bw_shift6 (by omega)) (nm_r (bw_and63 (by omega)) (bw_wordY hF (by omega) (fun r hr => pk_eq (k % 64) 0 (fun e => H r (fun b hb => ?_)) (fun e => ?_))))
  · rw [hr b hb, show 64 * (k / 64) + b = k + b by omega]
  · rw [nI_1, bw_sub64 (show k % 64 ≤ 64 by omega)]
    exact bw_wordY hF (by omega) (fun r' hr' => H _ (bw_two rfl (by omega) hr hr'))
/-- the window one place before the first word -/
theorem bw_windowXm {post : Int64 → Prop} {f0 f1 f2 : Int32} {a1 : Nat → Int64} {a2 : Nat → Int32} {a3 a4 a5 a6 : Nat → Int64} {F : Nat → Bool} (hF : bw_W a3 F)
    (H : ∀ r, (∀ b, b < 64 → bw_b r b = (decide (1 ≤ b) && F (b - 1))) → post r) : wpX_windowX post (f0, f1, f2, a1, a2, a3, a4, a5, a6) (-1) := by
  refine nm_r (e' := -1) (by decide) (nm_r (e' := nI 63) (by decide) (br_t (by decide) (br_f (by decide) ?_)))
  rw [show (-1 : Int32) + 1 = nI 0 by decide, show (64 : Int32) - nI 63 = nI 1 by decide]
  refine bw_wordX hF (by omega) (fun r' hr' => H _ (fun b hb => ?_))
  rw [bw_or, bw_shr _ (by decide), bw_shl _ (by decide), bw_0, Bool.false_or, decide_eq_true hb, Bool.true_and, hr' _ (show b - 1 < 64 by omega), decide_eq_true (show 64 * 0 + (b - 1) < 256 by omega), Bool.true_and, show 64 * 0 + (b - 1) = b - 1 by omega]
/-! orIntoZ -/
theorem bw_orIntoZ {post : St1 → Prop} {f0 f1 f2 : Int32} {a1 : Nat → Int64} {a2 : Nat → Int32} {a3 a4 a5 a6 : Nat → Int64} {Z : Nat → Bool} (hZ : bw_W a5 Z) {k : Nat} {bits : Int64} (hk : k < 256)
    (H : ∀ z, bw_W z (fun i => (Z i || (decide (k ≤ i) && bw_b bits (i - k)))) → post (f0, f1, f2, a1, a2, a3, a4, z, a6)) : wpX_orIntoZ post (f0, f1, f2, a1, a2, a3, a4, a5, a6) (nI k) bits := by
  have far : ∀ j b, j < 4 → b < 64 → j ≠ k / 64 → (j ≠ k / 64 + 1 ∨ k % 64 = 0) → bw_b (a5 j) b = (Z (64 * j + b) || (decide (k ≤ 64 * j + b) && bw_b bits (64 * j + b - k))) := by
    intro j b hj hb h1 h2
    rw [hZ j hj b hb]
    by_cases h : k ≤ 64 * j + b
    · rw [bw_big (show 64 ≤ 64 * j + b - k by omega), Bool.and_false, Bool.or_false]
    · rw [decide_eq_false h, Bool.false_and, Bool.or_false]
  have near : ∀ b, b < 64 → bw_b (a5 (k / 64) ||| (bits <<< ((nI (k % 64)).toInt64 &&& 63))) b = (Z (64 * (k / 64) + b) || (decide (k ≤ 64 * (k / 64) + b) && bw_b bits (64 * (k / 64) + b - k))) := by
    intro b hb
    rw [bw_or, hZ _ (by omega) b hb, bw_shl _ (show k % 64 < 64 by omega), decide_eq_true hb, Bool.true_and, show 64 * (k / 64) + b - k = b - k % 64 by omega, decide_eq_decide.mpr (show k % 64 ≤ b ↔ k ≤ 64 * (k / 64) + b by omega)]
  refine nm_r (bw_shift6 (by omega)) (nm_r (bw_and63 (by omega)) (pk_le (k / 64) 3 (fun _ => ⟨pk_in (k / 64) 4 (by omega), pk_in (k / 64) 4 (by omega), nm_e ?_⟩) (fun z => absurd z (by omega))))
  rw [nI_clamp (show k / 64 < 2 ^ 31 by omega)]
  have one : ∀ j b, j < 4 → b < 64 → (j ≠ k / 64 + 1 ∨ k % 64 = 0) → bw_b (vp_updL a5 (k / 64) (a5 (k / 64) ||| (bits <<< ((nI (k % 64)).toInt64 &&& 63))) j) b = (Z (64 * j + b) || (decide (k ≤ 64 * j + b) && bw_b bits (64 * j + b - k))) := by
    intro j b hj hb h2
    by_cases e : j = k / 64
    · rw [e, pk_uLs]
      exact near b hb
    · rw [pk_uLn e]
      exact far j b hj hb e h2
  refine pk_le (k % 64) 0 (fun h => H _ (fun j hj b hb => one j b hj hb (Or.inr (by omega)))) (fun h => pk_le 3 (k / 64) (fun h3 => H _ (fun j hj b hb => one j b hj hb (Or.inl (by omega)))) (fun h3 => ?_))
  rw [nI_1, bw_sub64 (show k % 64 ≤ 64 by omega)]
  refine ⟨pk_in (k / 64 + 1) 4 (by omega), pk_in (k / 64 + 1) 4 (by omega), nm_e (H _ (fun j hj b hb => ?_))⟩
  rw [nI_clamp (show k / 64 + 1 < 2 ^ 31 by omega)]
  dsimp only
  by_cases e : j = k / 64 + 1
  · rw [e, pk_uLs, pk_uLn (show k / 64 + 1 ≠ k / 64 by omega), bw_or, hZ _ (by omega) b hb, bw_shr _ (show 64 - k % 64 < 64 by omega), decide_eq_true (show k ≤ 64 * (k / 64 + 1) + b by omega), Bool.true_and, show 64 - k % 64 + b = 64 * (k / 64 + 1) + b - k by omega]
  · rw [pk_uLn e]
    exact one j b hj hb (Or.inl e)
end
section
/-! shift -/
theorem bw_shiftG {post : St1 → Prop} {f0 f1 f2 K : Int32} {a1 : Nat → Int64} {a2 : Nat → Int32} {a3 a4 a5 a6 : Nat → Int64} {G : Nat → Bool}
    (hK : ∀ i, i < 4 → ∀ (ψ : Int64 → Prop) (z : Nat → Int64), (∀ r, (∀ b, b < 64 → bw_b r b = G (64 * i + b)) → ψ r) → wpX_windowX ψ (f0, f1, f2, a1, a2, a3, a4, z, a6) (64 * nI i + K))
    (H : ∀ z, bw_W z G → post (f0, f1, f2, a1, a2, a3, a4, z, a6)) : wpX_shift post (f0, f1, f2, a1, a2, a3, a4, a5, a6) K := by
  refine pk_loop (fun n i s => wX_shift_2 post K f0 f1 f2 n (nI i) a1 a2 a3 a4 s a6) (fun i s => ∀ j, j < i → ∀ b, b < 64 → bw_b (s j) b = G (64 * j + b)) 4 0 a5 (by omega) (fun j hj => absurd hj (by omega)) ?_ ?_
  · intro n s h
    exact pk_le 4 4 (fun _ => H s h) (fun z => absurd z (by omega))
  · intro n i s hi h hw
    refine pk_le 4 i (fun z => absurd z (by omega)) (fun _ => hK i hi _ s (fun r hr => ⟨pk_in i 4 hi, nm_e (nm_r (nI_1 i) ?_)⟩))
    rw [nI_clamp (show i < 2 ^ 31 by omega)]
    exact hw _ (bw_put (R := fun j x => ∀ b, b < 64 → bw_b x b = G (64 * j + b)) h hr)
theorem bw_64i (i : Nat) : (64 : Int32) * nI i = nI (64 * i) := pk_mul 64 i
theorem bw_shift {post : St1 → Prop} {f0 f1 f2 : Int32} {a1 : Nat → Int64} {a2 : Nat → Int32} {a3 a4 a5 a6 : Nat → Int64} {F : Nat → Bool} (hF : bw_W a3 F) {k : Nat} (hk : k ≤ 256)
    (H : ∀ z, bw_W z (fun i => (decide (k + i < 256) && F (k + i))) → post (f0, f1, f2, a1, a2, a3, a4, z, a6)) : wpX_shift post (f0, f1, f2, a1, a2, a3, a4, a5, a6) (nI k) := by
  refine bw_shiftG (G := fun i => (decide (k + i < 256) && F (k + i))) (fun i hi ψ z h => ?_) H
  rw [bw_64i, nI_add]
  refine bw_windowX hF (by omega) (fun r hr => h r (fun b hb => ?_))
  rw [hr b hb, show 64 * i + k + b = k + (64 * i + b) by omega]
theorem bw_shiftM {post : St1 → Prop} {f0 f1 f2 : Int32} {a1 : Nat → Int64} {a2 : Nat → Int32} {a3 a4 a5 a6 : Nat → Int64} {F : Nat → Bool} (hF : bw_W a3 F)
    (H : ∀ z, bw_W z (fun i => (decide (1 ≤ i) && F (i - 1))) → post (f0, f1, f2, a1, a2, a3, a4, z, a6)) : wpX_shift post (f0, f1, f2, a1, a2, a3, a4, a5, a6) (-1) := by
  refine bw_shiftG (G := fun i => (decide (1 ≤ i) && F (i - 1))) (fun i hi ψ z h => ?_) H
  rw [bw_64i]
  by_cases e : i = 0
  · rw [e, show nI (64 * 0) + (-1) = (-1 : Int32) by decide]
    refine bw_windowXm hF (fun r hr => h r (fun b hb => ?_))
    rw [hr b hb, e, show 64 * 0 + b = b by omega]
  · rw [sb_m1 (show 0 < 64 * i by omega)]
    refine bw_windowX hF (by omega) (fun r hr => h r (fun b hb => ?_))
    rw [hr b hb, decide_eq_true (show 1 ≤ 64 * i + b by omega), decide_eq_true (show 64 * i - 1 + b < 256 by omega), show 64 * i - 1 + b = 64 * i + b - 1 by omega]
/-! reverse -/
theorem bw_rev32 {post : St1 → Prop} {f1 f2 : Int32} {a1 : Nat → Int64} {a2 : Nat → Int32} {a3 a4 a5 a6 : Nat → Int64} {F : Nat → Bool} {m : Nat} (hm : m ≤ 256) (hF : bw_W a5 F)
    (H : ∀ x z, bw_W z (fun i => (decide (256 - m + i < 256) && F (256 - m + i))) → post (nI m, f1, f2, a1, a2, x, a4, z, a6)) : ∃ n, wX_reverse_32 post (nI m) f1 f2 n 0 a1 a2 a3 a4 a5 a6 := by
  refine pk_loop (fun n i s => wX_reverse_32 post (nI m) f1 f2 n (nI i) a1 a2 s a4 a5 a6) (fun i s => ∀ j, j < i → ∀ b, b < 64 → bw_b (s j) b = F (64 * j + b)) 4 0 a3 (by omega) (fun j hj => absurd hj (by omega)) ?_ ?_
  · intro n s h
    refine pk_le 4 4 (fun _ => ?_) (fun z => absurd z (by omega))
    rw [show (256 : Int32) - nI m = nI (256 - m) from pk_sub (a := 256) hm]
    exact bw_shift h (by omega) (fun z hz => H s z hz)
  · intro n i s hi h hw
    refine pk_le 4 i (fun z => absurd z (by omega)) (fun _ => ⟨pk_in i 4 hi, pk_in i 4 hi, nm_e (nm_r (nI_1 i) ?_)⟩)
    rw [nI_clamp (show i < 2 ^ 31 by omega)]
    exact hw _ (bw_put (R := fun j x => ∀ b, b < 64 → bw_b x b = F (64 * j + b)) h (hF i hi))
theorem bw_reverse {post : St1 → Prop} {f1 f2 : Int32} {a1 : Nat → Int64} {a2 : Nat → Int32} {a3 a4 a5 a6 : Nat → Int64} {F : Nat → Bool} {m : Nat} (hm : m ≤ 256) (hF : bw_W a3 F)
    (H : ∀ x z, bw_W z (fun i => (decide (i < m) && F (m - 1 - i))) → post (nI m, f1, f2, a1, a2, x, a4, z, a6)) : wpX_reverse post (nI m, f1, f2, a1, a2, a3, a4, a5, a6) := by
  refine pk_loop (fun n i s => wX_reverse_2 post (nI m) f1 f2 n (nI i) a1 a2 a3 a4 s a6) (fun i s => ∀ j, j < i → ∀ b, b < 64 → bw_b (s j) b = F (255 - (64 * j + b))) 4 0 a5 (by omega) (fun j hj => absurd hj (by omega)) ?_ ?_
  · intro n s h
    refine pk_le 4 4 (fun _ => bw_rev32 (F := fun i => F (255 - i)) hm h (fun x z hz => H x z (bw_WC hz (fun i hi => ?_)))) (fun z => absurd z (by omega))
    show (decide (256 - m + i < 256) && F (255 - (256 - m + i))) = (decide (i < m) && F (m - 1 - i))
    by_cases e : i < m
    · rw [decide_eq_true e, decide_eq_true (show 256 - m + i < 256 by omega), show 255 - (256 - m + i) = m - 1 - i by omega]
    · rw [decide_eq_false e, decide_eq_false (show ¬ 256 - m + i < 256 by omega), Bool.false_and, Bool.false_and]
  · intro n i s hi h hw
    have e : (3 : Int32) - nI i = nI (3 - i) := pk_sub (a := 3) (by omega)
    refine pk_le 4 i (fun z => absurd z (by omega)) (fun _ => ⟨pk_in (3 - i) 4 (by omega) e, bw_reverseWord (fun r hr => ⟨pk_in i 4 hi, nm_e (nm_r (nI_1 i) ?_)⟩)⟩)
    rw [nI_clamp (show i < 2 ^ 31 by omega)]
    refine hw _ (bw_put (R := fun j x => ∀ b, b < 64 → bw_b x b = F (255 - (64 * j + b))) h (fun b hb => ?_))
    rw [hr b hb, e, nI_clamp (show 3 - i < 2 ^ 31 by omega), hF (3 - i) (by omega) (63 - b) (by omega), show 64 * (3 - i) + (63 - b) = 255 - (64 * i + b) by omega]
/-! NOT -/
theorem bw_notW {post : St1 → Prop} {f0 f1 f2 : Int32} {a1 : Nat → Int64} {a2 : Nat → Int32} {a3 a4 a5 a6 : Nat → Int64} {F : Nat → Bool} (hF : bw_W a3 F)
    (H : ∀ z, bw_W z (fun i => !F i) → post (f0, f1, f2, a1, a2, a3, a4, z, a6)) : ∃ n, wX_changeWords_42 post f0 f1 f2 n 0 a1 a2 a3 a4 a5 a6 := by
  refine pk_loop (fun n i s => wX_changeWords_42 post f0 f1 f2 n (nI i) a1 a2 a3 a4 s a6) (fun i s => ∀ j, j < i → ∀ b, b < 64 → bw_b (s j) b = !F (64 * j + b)) 4 0 a5 (by omega) (fun j hj => absurd hj (by omega)) ?_ ?_
  · intro n s h
    exact pk_le 4 4 (fun _ => H s h) (fun z => absurd z (by omega))
  · intro n i s hi h hw
    refine pk_le 4 i (fun z => absurd z (by omega)) (fun _ => ⟨pk_in i 4 hi, pk_in i 4 hi, nm_e (nm_r (nI_1 i) ?_)⟩)
    rw [nI_clamp (show i < 2 ^ 31 by omega)]
    refine hw _ (bw_put (R := fun j x => ∀ b, b < 64 → bw_b x b = !F (64 * j + b)) h (fun b hb => ?_))
    rw [bw_not _ hb, hF i hi b hb]
/-! SCAN_XOR -/
theorem bw_sgn (x : Int64) : 0 ≤ x ↔ bw_b x 63 = false := by
  have e : bw_b x 63 = x.toBitVec.msb := rfl
  rw [e, BitVec.msb_eq_toInt, decide_eq_false_iff_not, Int64.le_iff_toInt_le]
  show (0 : Int) ≤ x.toInt ↔ ¬ x.toInt < 0
  omega
def bw_cy (b : Bool) : Int32 := if b then 1 else 0
theorem bw_scan64 {post : St1 → Prop} {J4 : Int32 → Int32 → (Nat → Int64) → (Nat → Int32) → (Nat → Int64) → (Nat → Int64) → (Nat → Int64) → (Nat → Int64) → Prop} {i : Nat} (hi : i < 4) {r : Int64} {f0 f1 f2 : Int32} {a1 : Nat → Int64} {a2 : Nat → Int32} {a3 a4 a5 a6 : Nat → Int64}
    (H : J4 (bw_cy (bw_b r 63)) (nI (i + 1)) a1 a2 a3 a4 (vp_updL a5 i r) a6) : wX_scan_64 post J4 8 (nI i) r f0 f1 f2 a1 a2 a3 a4 a5 a6 := by
  refine br_c (fun h => ?_) (fun h => ?_)
  · refine br_f (by decide) ⟨pk_in i 4 hi, nm_e (nm_r (nI_1 i) ?_)⟩
    rw [nI_clamp (show i < 2 ^ 31 by omega)]
    rw [(bw_sgn r).mp h] at H
    exact H
  · refine br_f (by decide) ⟨pk_in i 4 hi, nm_e (nm_r (nI_1 i) ?_)⟩
    rw [nI_clamp (show i < 2 ^ 31 by omega)]
    have t : bw_b r 63 = true := by
      cases g : bw_b r 63 with
      | true => rfl
      | false => exact absurd ((bw_sgn r).mpr g) h
    rw [t] at H
    exact H
theorem bw_scan {post : St1 → Prop} {f0 f1 f2 : Int32} {a1 : Nat → Int64} {a2 : Nat → Int32} {a3 a4 a5 a6 : Nat → Int64} {F : Nat → Bool} (hF : bw_W a3 F)
    (H : ∀ z, bw_W z (fun i => bw_px F (i + 1)) → post (f0, f1, f2, a1, a2, a3, a4, z, a6)) : wpX_scan post (f0, f1, f2, a1, a2, a3, a4, a5, a6) 8 := by
  refine pk_loop (fun n i s => wX_scan_4 post 8 f0 f1 f2 n (bw_cy (bw_px F (64 * i))) (nI i) a1 a2 a3 a4 s a6) (fun i s => ∀ j, j < i → ∀ b, b < 64 → bw_b (s j) b = bw_px F (64 * j + b + 1)) 4 0 a5 (by omega) (fun j hj => absurd hj (by omega)) ?_ ?_
  · intro n s h
    exact pk_le 4 4 (fun _ => H s h) (fun z => absurd z (by omega))
  · intro n i s hi h hw
    have px : ∀ r, (∀ b, b < 64 → bw_b r b = bw_px (bw_b (a3 i)) (b + 1)) → ∀ b, b < 64 → bw_px F (64 * i + b + 1) = (bw_px F (64 * i) ^^ bw_b r b) := by
      intro r hr b hb
      rw [hr b hb, Nat.add_assoc, bw_pxA F (64 * i) (b + 1)]
      refine congrArg (fun t => (bw_px F (64 * i) ^^ t)) (bw_pxC (b + 1) (fun c hc => ?_))
      exact (hF i hi c (by omega)).symm
    refine pk_le 4 i (fun z => absurd z (by omega)) (fun _ => br_f (by decide) ⟨pk_in i 4 hi, br_t rfl ?_⟩)
    rw [nI_clamp (show i < 2 ^ 31 by omega)]
    refine bw_prefixXor (fun r hr => ?_)
    have p := px r hr
    have fin : ∀ r', (∀ b, b < 64 → bw_b r' b = bw_px F (64 * i + b + 1)) → wX_scan_64 post (wX_scan_4 post 8 f0 f1 f2 n) 8 (nI i) r' f0 f1 f2 a1 a2 a3 a4 s a6 := by
      intro r' hr'
      refine bw_scan64 hi ?_
      rw [hr' 63 (by omega), show 64 * i + 63 + 1 = 64 * (i + 1) by omega]
      exact hw _ (bw_put (R := fun j x => ∀ b, b < 64 → bw_b x b = bw_px F (64 * j + b + 1)) h hr')
    cases g : bw_px F (64 * i) with
    | false =>
      refine br_t rfl (fin r (fun b hb => ?_))
      rw [p b hb, g, Bool.false_xor]
    | true =>
      refine br_f (by decide) (nm_e (fin _ (fun b hb => ?_)))
      rw [p b hb, g, bw_not r hb, Bool.true_xor]
end
section
/-! AND, OR, XOR -/
theorem bw_andW {post : St1 → Prop} {f0 f1 f2 : Int32} {a1 : Nat → Int64} {a2 : Nat → Int32} {a3 a4 a5 a6 : Nat → Int64} {F G : Nat → Bool} (hF : bw_W a3 F) (hG : bw_W a4 G)
    (H : ∀ z, bw_W z (fun i => (F i && G i)) → post (f0, f1, f2, a1, a2, a3, a4, z, a6)) : ∃ n, wX_combineWords_46 post f0 f1 f2 n 0 a1 a2 a3 a4 a5 a6 := by
  refine pk_loop (fun n i s => wX_combineWords_46 post f0 f1 f2 n (nI i) a1 a2 a3 a4 s a6) (fun i s => ∀ j, j < i → ∀ b, b < 64 → bw_b (s j) b = (F (64 * j + b) && G (64 * j + b))) 4 0 a5 (by omega) (fun j hj => absurd hj (by omega)) ?_ ?_
  · intro n s h
    exact pk_le 4 4 (fun _ => H s h) (fun z => absurd z (by omega))
  · intro n i s hi h hw
    refine pk_le 4 i (fun z => absurd z (by omega)) (fun _ => ⟨pk_in i 4 hi, pk_in i 4 hi, pk_in i 4 hi, nm_e (nm_r (nI_1 i) ?_)⟩)
    rw [nI_clamp (show i < 2 ^ 31 by omega)]
    refine hw _ (bw_put (R := fun j x => ∀ b, b < 64 → bw_b x b = (F (64 * j + b) && G (64 * j + b))) h (fun b hb => ?_))
    rw [bw_and, hF i hi b hb, hG i hi b hb]
theorem bw_orW {post : St1 → Prop} {f0 f1 f2 : Int32} {a1 : Nat → Int64} {a2 : Nat → Int32} {a3 a4 a5 a6 : Nat → Int64} {F G : Nat → Bool} (hF : bw_W a3 F) (hG : bw_W a4 G)
    (H : ∀ z, bw_W z (fun i => (F i || G i)) → post (f0, f1, f2, a1, a2, a3, a4, z, a6)) : ∃ n, wX_combineWords_81 post f0 f1 f2 n 0 a1 a2 a3 a4 a5 a6 := by
  refine pk_loop (fun n i s => wX_combineWords_81 post f0 f1 f2 n (nI i) a1 a2 a3 a4 s a6) (fun i s => ∀ j, j < i → ∀ b, b < 64 → bw_b (s j) b = (F (64 * j + b) || G (64 * j + b))) 4 0 a5 (by omega) (fun j hj => absurd hj (by omega)) ?_ ?_
  · intro n s h
    exact pk_le 4 4 (fun _ => H s h) (fun z => absurd z (by omega))
  · intro n i s hi h hw
    refine pk_le 4 i (fun z => absurd z (by omega)) (fun _ => ⟨pk_in i 4 hi, pk_in i 4 hi, pk_in i 4 hi, nm_e (nm_r (nI_1 i) ?_)⟩)
    rw [nI_clamp (show i < 2 ^ 31 by omega)]
    refine hw _ (bw_put (R := fun j x => ∀ b, b < 64 → bw_b x b = (F (64 * j + b) || G (64 * j + b))) h (fun b hb => ?_))
    rw [bw_or, hF i hi b hb, hG i hi b hb]
theorem bw_xorW {post : St1 → Prop} {f0 f1 f2 : Int32} {a1 : Nat → Int64} {a2 : Nat → Int32} {a3 a4 a5 a6 : Nat → Int64} {F G : Nat → Bool} (hF : bw_W a3 F) (hG : bw_W a4 G)
    (H : ∀ z, bw_W z (fun i => (F i ^^ G i)) → post (f0, f1, f2, a1, a2, a3, a4, z, a6)) : ∃ n, wX_combineWords_116 post f0 f1 f2 n 0 a1 a2 a3 a4 a5 a6 := by
  refine pk_loop (fun n i s => wX_combineWords_116 post f0 f1 f2 n (nI i) a1 a2 a3 a4 s a6) (fun i s => ∀ j, j < i → ∀ b, b < 64 → bw_b (s j) b = (F (64 * j + b) ^^ G (64 * j + b))) 4 0 a5 (by omega) (fun j hj => absurd hj (by omega)) ?_ ?_
  · intro n s h
    exact pk_le 4 4 (fun _ => H s h) (fun z => absurd z (by omega))
  · intro n i s hi h hw
    refine pk_le 4 i (fun z => absurd z (by omega)) (fun _ => ⟨pk_in i 4 hi, pk_in i 4 hi, pk_in i 4 hi, nm_e (nm_r (nI_1 i) ?_)⟩)
    rw [nI_clamp (show i < 2 ^ 31 by omega)]
    refine hw _ (bw_put (R := fun j x => ∀ b, b < 64 → bw_b x b = (F (64 * j + b) ^^ G (64 * j + b))) h (fun b hb => ?_))
    rw [bw_xor, hF i hi b hb, hG i hi b hb]
/-! the ones of x, word by word -/
theorem bw_ct64 {w : Nat → Int64} {F : Nat → Bool} (hF : bw_W w F) {i p : Nat} (hi : i < 4) (hp : p ≤ 64) : bw_ct F (64 * i + p) = bw_ct F (64 * i) + bw_ct (bw_b (w i)) p := by
  rw [bw_ctA, bw_ctC p (fun b hb => (hF i hi b (by omega)).symm)]
theorem bw_ctI {w : Nat → Int64} {F : Nat → Bool} (hF : bw_W w F) {i : Nat} (hi : i < 4) : nI (bw_ct F (64 * i)) + nI (bw_ct (bw_b (w i)) 64) = nI (bw_ct F (64 * (i + 1))) := by
  rw [nI_add, ← bw_ct64 hF hi (Nat.le_refl 64), show 64 * i + 64 = 64 * (i + 1) by omega]
theorem bw_onesOfX {post : Int32 → Prop} {f0 f1 f2 : Int32} {a1 : Nat → Int64} {a2 : Nat → Int32} {a3 a4 a5 a6 : Nat → Int64} {F : Nat → Bool} (hF : bw_W a3 F)
    (H : post (nI (bw_ct F 256))) : wpX_onesOfX post (f0, f1, f2, a1, a2, a3, a4, a5, a6) := by
  refine pk_loop (σ := Unit) (fun n i _ => wX_onesOfX_4 post f0 f1 f2 a1 a2 a3 a4 a5 a6 n (nI (bw_ct F (64 * i))) (nI i)) (fun _ _ => True) 4 0 () (by omega) trivial ?_ ?_
  · intro n s h
    exact pk_le 4 4 (fun _ => H) (fun z => absurd z (by omega))
  · intro n i s hi h hw
    refine pk_le 4 i (fun z => absurd z (by omega)) (fun _ => ⟨pk_in i 4 hi, bw_ones ?_⟩)
    rw [nI_clamp (show i < 2 ^ 31 by omega)]
    exact nm_r (bw_ctI hF hi) (nm_r (nI_1 i) (hw () trivial))
/-! COMPRESS -/
def bw_CI (X Y : Nat → Bool) (i : Nat) (z : Nat → Int64) : Prop := ∃ Z : Nat → Bool, bw_W z Z ∧ (∀ p, p < 64 * i → X p = true → Z (bw_ct X p) = Y p) ∧ (∀ q, bw_ct X (64 * i) ≤ q → Z q = false)
theorem bw_compress {post : St1 → Prop} {f0 f1 f2 : Int32} {a1 : Nat → Int64} {a2 : Nat → Int32} {a3 a4 a5 a6 : Nat → Int64} {X Y : Nat → Bool} (hX : bw_W a3 X) (hY : bw_W a4 Y) (hz : bw_W a5 (fun _ => false))
    (H : ∀ z Z, bw_W z Z → (∀ p, p < 256 → X p = true → Z (bw_ct X p) = Y p) → post (f0, f1, nI (bw_ct X 256), a1, a2, a3, a4, z, a6)) : wpX_compress post (f0, f1, f2, a1, a2, a3, a4, a5, a6) := by
  refine pk_loop (fun n i s => wX_compress_4 post n (nI (bw_ct X (64 * i))) (nI i) f0 f1 f2 a1 a2 a3 a4 s a6) (bw_CI X Y) 4 0 a5 (by omega) ⟨fun _ => false, hz, fun p hp => absurd hp (by omega), fun _ _ => rfl⟩ ?_ ?_
  · intro n s h
    obtain ⟨Z, h1, h2, h3⟩ := h
    exact pk_le 4 4 (fun _ => H s Z h1 h2) (fun z => absurd z (by omega))
  · intro n i s hi h hw
    obtain ⟨Z, h1, h2, h3⟩ := h
    have hc : bw_ct X (64 * i) ≤ 64 * i := bw_ctL _ _
    refine pk_le 4 i (fun z => absurd z (by omega)) (fun _ => ⟨pk_in i 4 hi, pk_in i 4 hi, ?_⟩)
    rw [nI_clamp (show i < 2 ^ 31 by omega)]
    refine bw_gather (fun r g1 g2 => bw_orIntoZ h1 (by omega) (fun z hz => ⟨pk_in i 4 hi, bw_ones (nm_r (bw_ctI hX hi) (nm_r (nI_1 i) (hw z ⟨_, hz, fun p hp fp => ?_, fun q hq => ?_⟩)))⟩))
    · show (Z (bw_ct X p) || (decide (bw_ct X (64 * i) ≤ bw_ct X p) && bw_b r (bw_ct X p - bw_ct X (64 * i)))) = Y p
      rcases Nat.lt_or_ge p (64 * i) with e | e
      · have hlt : bw_ct X p < bw_ct X (64 * i) := bw_ctT e fp
        rw [h2 p e fp, decide_eq_false (show ¬ bw_ct X (64 * i) ≤ bw_ct X p by omega), Bool.false_and, Bool.or_false]
      · have hp' : p - 64 * i < 64 := by omega
        have e2 : bw_ct X p = bw_ct X (64 * i) + bw_ct (bw_b (a3 i)) (p - 64 * i) := by
          rw [← bw_ct64 hX hi (Nat.le_of_lt hp'), show 64 * i + (p - 64 * i) = p by omega]
        have e3 : bw_b (a3 i) (p - 64 * i) = true := by
          rw [hX i hi _ hp', show 64 * i + (p - 64 * i) = p by omega]
          exact fp
        have e4 := g1 (p - 64 * i) hp' e3
        rw [h3 _ (by omega), e2, decide_eq_true (Nat.le_add_right _ _), Nat.add_sub_cancel_left, e4, hY i hi _ hp', show 64 * i + (p - 64 * i) = p by omega]
        rfl
    · show (Z q || (decide (bw_ct X (64 * i) ≤ q) && bw_b r (q - bw_ct X (64 * i)))) = false
      have e2 := bw_ct64 hX hi (Nat.le_refl 64)
      rw [show 64 * i + 64 = 64 * (i + 1) by omega] at e2
      rw [h3 q (by omega), g2 _ (by omega), Bool.and_false]
      rfl
/-! EXPAND -/
theorem bw_expand {post : St1 → Prop} {f0 f1 f2 : Int32} {a1 : Nat → Int64} {a2 : Nat → Int32} {a3 a4 a5 a6 : Nat → Int64} {X Y : Nat → Bool} (hX : bw_W a3 X) (hY : bw_W a4 Y)
    (H : ∀ z w, bw_W z (fun p => (X p && Y (bw_ct X p))) → post (f0, f1, f2, a1, a2, a3, a4, z, w)) : wpX_expand post (f0, f1, f2, a1, a2, a3, a4, a5, a6) := by
  refine pk_loop (σ := (Nat → Int64) × (Nat → Int64)) (fun n i s => wX_expand_4 post n (nI (bw_ct X (64 * i))) (nI i) f0 f1 f2 a1 a2 a3 a4 s.1 s.2) (fun i s => ∀ j, j < i → ∀ b, b < 64 → bw_b (s.1 j) b = (X (64 * j + b) && Y (bw_ct X (64 * j + b)))) 4 0 (a5, a6) (by omega) (fun j hj => absurd hj (by omega)) ?_ ?_
  · intro n s h
    exact pk_le 4 4 (fun _ => H s.1 s.2 h) (fun z => absurd z (by omega))
  · intro n i s hi h hw
    have hc : bw_ct X (64 * i) ≤ 64 * i := bw_ctL _ _
    refine pk_le 4 i (fun z => absurd z (by omega)) (fun _ => bw_windowY hY (by omega) (fun r hr => ⟨pk_in i 4 hi, bw_scatter (fun r' w hr' => ⟨pk_in i 4 hi, nm_e ⟨pk_in i 4 hi, bw_ones ?_⟩⟩)⟩))
    rw [nI_clamp (show i < 2 ^ 31 by omega)] at hr' ⊢
    refine nm_r (bw_ctI hX hi) (nm_r (nI_1 i) (hw (_, _) ?_))
    refine bw_put (R := fun j x => ∀ b, b < 64 → bw_b x b = (X (64 * j + b) && Y (bw_ct X (64 * j + b)))) h (fun b hb => ?_)
    have e1 := bw_ct64 hX hi (Nat.le_of_lt hb)
    have e2 := bw_ctL X (64 * i + b)
    have e3 := bw_ctL (bw_b (a3 i)) b
    rw [hr' b hb, hX i hi b hb, hr _ (by omega), ← e1, decide_eq_true (show bw_ct X (64 * i + b) < 256 by omega), Bool.true_and]
end
section
/-! change -/
theorem bw_cw0 {post : St1 → Prop} {f0 f1 f2 p : Int32} {a1 : Nat → Int64} {a2 : Nat → Int32} {a3 a4 a5 a6 : Nat → Int64} {F : Nat → Bool} (hF : bw_W a3 F)
    (H : ∀ z, bw_W z (fun i => !F i) → post (f0, f1, f2, a1, a2, a3, a4, z, a6)) : wpX_changeWords post (f0, f1, f2, a1, a2, a3, a4, a5, a6) 0 p :=
  br_f (by decide) (br_f (by decide) (br_t rfl (bw_notW hF H)))
theorem bw_cw8 {post : St1 → Prop} {f0 f1 f2 p : Int32} {a1 : Nat → Int64} {a2 : Nat → Int32} {a3 a4 a5 a6 : Nat → Int64} {F : Nat → Bool} (hF : bw_W a3 F)
    (H : ∀ z, bw_W z (fun i => bw_px F (i + 1)) → post (f0, f1, f2, a1, a2, a3, a4, z, a6)) : wpX_changeWords post (f0, f1, f2, a1, a2, a3, a4, a5, a6) 8 p :=
  br_f (by decide) (br_t (by decide) (bw_scan hF H))
theorem bw_cw3 {post : St1 → Prop} {f0 f1 f2 : Int32} {a1 : Nat → Int64} {a2 : Nat → Int32} {a3 a4 a5 a6 : Nat → Int64} {F : Nat → Bool} (hF : bw_W a3 F)
    (H : ∀ z, bw_W z (fun i => (decide (1 ≤ i) && F (i - 1))) → post (f0, f1, f2, a1, a2, a3, a4, z, a6)) : wpX_changeWords post (f0, f1, f2, a1, a2, a3, a4, a5, a6) 3 (-1) :=
  br_f (by decide) (br_f (by decide) (br_f (by decide) (br_f (by decide) (br_f (by decide) (br_t rfl (br_f (by decide) (br_f (by decide) (bw_shiftM hF H))))))))
theorem bw_cw1 {post : St1 → Prop} {f1 f2 p : Int32} {a1 : Nat → Int64} {a2 : Nat → Int32} {a3 a4 a5 a6 : Nat → Int64} {F : Nat → Bool} {m : Nat} (hm : m ≤ 256) (hF : bw_W a3 F)
    (H : ∀ x z, bw_W z (fun i => (decide (i < m) && F (m - 1 - i))) → post (nI m, f1, f2, a1, a2, x, a4, z, a6)) : wpX_changeWords post (nI m, f1, f2, a1, a2, a3, a4, a5, a6) 1 p :=
  br_f (by decide) (br_f (by decide) (br_f (by decide) (br_t rfl (bw_reverse hm hF H))))
theorem bw_change {post : Int32 → St1 → Prop} {f0 f1 f2 K p : Int32} {a1 : Nat → Int64} {a2 : Nat → Int32} {a3 a4 a5 a6 : Nat → Int64} {t v n : Nat} {F G : Nat → Bool} (ht : t < 6) (hv : v < 6) (hV : bw_V a1 a2 v n F) (k0 : ¬ K < 0) (k8 : K ≤ 8) (k4 : ¬ K = 4) (k5 : ¬ K = 5)
    (hcw : ∀ (ψ : St1 → Prop) (x z : Nat → Int64), bw_W x F → (∀ x' z', bw_W z' G → ψ (nI n, f1, nI n, a1, a2, x', a4, z', a6)) → wpX_changeWords ψ (nI n, f1, nI n, a1, a2, x, a4, z, a6) K p)
    (H : ∀ b1 b2 x z, bw_V b1 b2 t n (fun i => (decide (i < n) && G i)) → bw_kp t a1 b1 a2 b2 → post (nI n) (nI n, f1, nI n, b1, b2, x, a4, z, a6)) : wpX_change post (f0, f1, f2, a1, a2, a3, a4, a5, a6) (nI t) K (nI v) p := by
  unfold wpX_change
  refine bw_bad ht (br_t rfl ?_)
  refine bw_bad hv (br_t rfl (br_f k0 (br_t k8 ?_)))
  refine bw_loadX hv hV (fun x hx => ?_)
  refine bw_clearZ (fun z hz => br_f k4 ?_)
  unfold wX_change_73
  refine br_f k5 ?_
  unfold wX_change_119
  refine hcw _ x z hx (fun x' z' hz' => ?_)
  exact bw_storeZ ht hV.2.1 hz' (fun b1 b2 h1 h2 => H b1 b2 x' z' h1 h2)
/-! combine -/
theorem bw_combine {post : Int32 → St1 → Prop} {f0 f1 f2 K : Int32} {a1 : Nat → Int64} {a2 : Nat → Int32} {a3 a4 a5 a6 : Nat → Int64} {t a b n n' : Nat} {X Y : Nat → Bool} (R : Nat → (Nat → Bool) → Prop) (ht : t < 6) (ha : a < 6) (hb : b < 6) (hX : bw_V a1 a2 a n X) (hY : bw_V a1 a2 b n' Y) (k0 : ¬ K < 0) (k7 : K ≤ 7)
    (hfit : ∀ (ψ : Int32 → Prop) (x y : Nat → Int64), bw_W x X → bw_W y Y → ψ 1 → wpX_lengthsFit ψ (nI n, nI n', f2, a1, a2, x, y, a5, a6) K)
    (hcw : ∀ (ψ : St1 → Prop) (x y z : Nat → Int64), bw_W x X → bw_W y Y → bw_W z (fun _ => false) → (∀ k Z z' w, k ≤ 256 → R k Z → bw_W z' Z → ψ (nI n, nI n', nI k, a1, a2, x, y, z', w)) → wpX_combineWords ψ (nI n, nI n', nI n, a1, a2, x, y, z, a6) K)
    (H : ∀ k Z b1 b2 x y z w, R k Z → bw_V b1 b2 t k (fun i => (decide (i < k) && Z i)) → bw_kp t a1 b1 a2 b2 → post (nI k) (nI n, nI n', nI k, b1, b2, x, y, z, w)) : wpX_combine post (f0, f1, f2, a1, a2, a3, a4, a5, a6) (nI t) K (nI a) (nI b) := by
  unfold wpX_combine
  refine bw_bad ht (br_t rfl ?_)
  refine bw_bad ha (br_t rfl ?_)
  refine bw_bad hb (br_t rfl (br_f k0 (br_t k7 ?_)))
  refine bw_loadX ha hX (fun x hx => ?_)
  refine bw_loadY hb hY (fun y hy => ?_)
  refine hfit _ x y hx hy (br_f (by decide) ?_)
  refine bw_clearZ (fun z hz => ?_)
  refine hcw _ x y z hx hy hz (fun k Z z' w hk hR hz' => ?_)
  exact bw_storeZ ht hk hz' (fun b1 b2 h1 h2 => H k Z b1 b2 x y z' w hR h1 h2)
theorem bw_fit {ψ : Int32 → Prop} {f2 K : Int32} {n : Nat} {a1 : Nat → Int64} {a2 : Nat → Int32} {a3 a4 a5 a6 : Nat → Int64} (k4 : ¬ K = 4) (k6 : ¬ K = 6) (k7 : ¬ K = 7) (h : ψ 1) : wpX_lengthsFit ψ (nI n, nI n, f2, a1, a2, a3, a4, a5, a6) K :=
  br_f k4 (br_f k6 (br_t rfl (br_f k7 h)))
theorem bw_fit6 {ψ : Int32 → Prop} {f0 f2 : Int32} {X : Nat → Bool} {a1 : Nat → Int64} {a2 : Nat → Int32} {a3 a4 a5 a6 : Nat → Int64} (hX : bw_W a3 X) (h : ψ 1) : wpX_lengthsFit ψ (f0, nI (bw_ct X 256), f2, a1, a2, a3, a4, a5, a6) 6 :=
  br_f (by decide) (br_t rfl (bw_onesOfX hX (br_t rfl h)))
theorem bw_combAnd {post : Int32 → St1 → Prop} {f0 f1 f2 : Int32} {a1 : Nat → Int64} {a2 : Nat → Int32} {a3 a4 a5 a6 : Nat → Int64} {t a b n : Nat} {X Y : Nat → Bool} (ht : t < 6) (ha : a < 6) (hb : b < 6) (hX : bw_V a1 a2 a n X) (hY : bw_V a1 a2 b n Y)
    (H : ∀ g0 g1 g2 b1 b2 x y z w, bw_V b1 b2 t n (fun i => (decide (i < n) && (X i && Y i))) → bw_kp t a1 b1 a2 b2 → post (nI n) (g0, g1, g2, b1, b2, x, y, z, w)) : wpX_combine post (f0, f1, f2, a1, a2, a3, a4, a5, a6) (nI t) 0 (nI a) (nI b) := by
  refine bw_combine (fun k Z => k = n ∧ Z = fun i => (X i && Y i)) ht ha hb hX hY (by decide) (by decide) (fun ψ x y hx hy h => bw_fit (by decide) (by decide) (by decide) h) (fun ψ x y z hx hy hz h => br_f (by decide) (br_f (by decide) (br_t rfl (bw_andW hx hy (fun z' hz' => h n _ z' a6 hX.2.1 ⟨rfl, rfl⟩ hz'))))) (fun k Z b1 b2 x y z w hR h1 h2 => ?_)
  obtain ⟨rfl, rfl⟩ := hR
  exact H _ _ _ b1 b2 x y z w h1 h2
theorem bw_combOr {post : Int32 → St1 → Prop} {f0 f1 f2 : Int32} {a1 : Nat → Int64} {a2 : Nat → Int32} {a3 a4 a5 a6 : Nat → Int64} {t a b n : Nat} {X Y : Nat → Bool} (ht : t < 6) (ha : a < 6) (hb : b < 6) (hX : bw_V a1 a2 a n X) (hY : bw_V a1 a2 b n Y)
    (H : ∀ g0 g1 g2 b1 b2 x y z w, bw_V b1 b2 t n (fun i => (decide (i < n) && (X i || Y i))) → bw_kp t a1 b1 a2 b2 → post (nI n) (g0, g1, g2, b1, b2, x, y, z, w)) : wpX_combine post (f0, f1, f2, a1, a2, a3, a4, a5, a6) (nI t) 1 (nI a) (nI b) := by
  refine bw_combine (fun k Z => k = n ∧ Z = fun i => (X i || Y i)) ht ha hb hX hY (by decide) (by decide) (fun ψ x y hx hy h => bw_fit (by decide) (by decide) (by decide) h) (fun ψ x y z hx hy hz h => br_f (by decide) (br_f (by decide) (br_f (by decide) (br_t rfl (bw_orW hx hy (fun z' hz' => h n _ z' a6 hX.2.1 ⟨rfl, rfl⟩ hz')))))) (fun k Z b1 b2 x y z w hR h1 h2 => ?_)
  obtain ⟨rfl, rfl⟩ := hR
  exact H _ _ _ b1 b2 x y z w h1 h2
theorem bw_combXor {post : Int32 → St1 → Prop} {f0 f1 f2 : Int32} {a1 : Nat → Int64} {a2 : Nat → Int32} {a3 a4 a5 a6 : Nat → Int64} {t a b n : Nat} {X Y : Nat → Bool} (ht : t < 6) (ha : a < 6) (hb : b < 6) (hX : bw_V a1 a2 a n X) (hY : bw_V a1 a2 b n Y)
    (H : ∀ g0 g1 g2 b1 b2 x y z w, bw_V b1 b2 t n (fun i => (decide (i < n) && (X i ^^ Y i))) → bw_kp t a1 b1 a2 b2 → post (nI n) (g0, g1, g2, b1, b2, x, y, z, w)) : wpX_combine post (f0, f1, f2, a1, a2, a3, a4, a5, a6) (nI t) 2 (nI a) (nI b) := by
  refine bw_combine (fun k Z => k = n ∧ Z = fun i => (X i ^^ Y i)) ht ha hb hX hY (by decide) (by decide) (fun ψ x y hx hy h => bw_fit (by decide) (by decide) (by decide) h) (fun ψ x y z hx hy hz h => br_f (by decide) (br_f (by decide) (br_f (by decide) (br_f (by decide) (br_t rfl (bw_xorW hx hy (fun z' hz' => h n _ z' a6 hX.2.1 ⟨rfl, rfl⟩ hz'))))))) (fun k Z b1 b2 x y z w hR h1 h2 => ?_)
  obtain ⟨rfl, rfl⟩ := hR
  exact H _ _ _ b1 b2 x y z w h1 h2
theorem bw_combCompress {post : Int32 → St1 → Prop} {f0 f1 f2 : Int32} {a1 : Nat → Int64} {a2 : Nat → Int32} {a3 a4 a5 a6 : Nat → Int64} {t a b n : Nat} {X Y : Nat → Bool} (ht : t < 6) (ha : a < 6) (hb : b < 6) (hX : bw_V a1 a2 a n X) (hY : bw_V a1 a2 b n Y)
    (H : ∀ g0 g1 g2 b1 b2 x y z w C, (∀ p, p < 256 → X p = true → C (bw_ct X p) = Y p) → bw_V b1 b2 t (bw_ct X 256) C → bw_kp t a1 b1 a2 b2 → post (nI (bw_ct X 256)) (g0, g1, g2, b1, b2, x, y, z, w)) : wpX_combine post (f0, f1, f2, a1, a2, a3, a4, a5, a6) (nI t) 5 (nI a) (nI b) := by
  refine bw_combine (fun k Z => k = bw_ct X 256 ∧ ∀ p, p < 256 → X p = true → Z (bw_ct X p) = Y p) ht ha hb hX hY (by decide) (by decide) (fun ψ x y hx hy h => bw_fit (by decide) (by decide) (by decide) h) (fun ψ x y z hx hy hz h => br_f (by decide) (br_f (by decide) (br_f (by decide) (br_f (by decide) (br_f (by decide) (br_f (by decide) (br_f (by decide) (br_t rfl (bw_compress hx hy hz (fun z' Z hz' hZ => h (bw_ct X 256) Z z' a6 (bw_ctL X 256) ⟨rfl, hZ⟩ hz')))))))))) (fun k Z b1 b2 x y z w hR h1 h2 => ?_)
  obtain ⟨rfl, hZ⟩ := hR
  refine H _ _ _ b1 b2 x y z w _ (fun p hp fp => ?_) h1 h2
  show (decide (bw_ct X p < bw_ct X 256) && Z (bw_ct X p)) = Y p
  rw [hZ p hp fp, decide_eq_true (bw_ctT hp fp), Bool.true_and]
theorem bw_combExpand {post : Int32 → St1 → Prop} {f0 f1 f2 : Int32} {a1 : Nat → Int64} {a2 : Nat → Int32} {a3 a4 a5 a6 : Nat → Int64} {t a b n : Nat} {X Y : Nat → Bool} (ht : t < 6) (ha : a < 6) (hb : b < 6) (hX : bw_V a1 a2 a n X) (hY : bw_V a1 a2 b (bw_ct X 256) Y)
    (H : ∀ g0 g1 g2 b1 b2 x y z w, bw_V b1 b2 t n (fun i => (decide (i < n) && (X i && Y (bw_ct X i)))) → bw_kp t a1 b1 a2 b2 → post (nI n) (g0, g1, g2, b1, b2, x, y, z, w)) : wpX_combine post (f0, f1, f2, a1, a2, a3, a4, a5, a6) (nI t) 6 (nI a) (nI b) := by
  refine bw_combine (fun k Z => k = n ∧ Z = fun i => (X i && Y (bw_ct X i))) ht ha hb hX hY (by decide) (by decide) (fun ψ x y hx hy h => bw_fit6 hx h) (fun ψ x y z hx hy hz h => br_f (by decide) (br_f (by decide) (br_f (by decide) (br_f (by decide) (br_f (by decide) (br_f (by decide) (br_f (by decide) (br_f (by decide) (br_t rfl (bw_expand hx hy (fun z' w hz' => h n _ z' w hX.2.1 ⟨rfl, rfl⟩ hz'))))))))))) (fun k Z b1 b2 x y z w hR h1 h2 => ?_)
  obtain ⟨rfl, rfl⟩ := hR
  exact H _ _ _ b1 b2 x y z w h1 h2
/-! make, put, fill -/
theorem bw_make {post : Int32 → St1 → Prop} {f0 f1 f2 : Int32} {a1 : Nat → Int64} {a2 : Nat → Int32} {a3 a4 a5 a6 : Nat → Int64} {v m : Nat} (hv : v < 6) (hm : m ≤ 256)
    (H : ∀ b1 b2 z, bw_V b1 b2 v m (fun _ => false) → bw_kp v a1 b1 a2 b2 → post (nI m) (f0, f1, nI m, b1, b2, a3, a4, z, a6)) : wpX_make post (f0, f1, f2, a1, a2, a3, a4, a5, a6) (nI v) (nI m) := by
  unfold wpX_make
  refine bw_bad hv (br_t rfl (pk_lt m 0 (fun z => absurd z (by omega)) (fun _ => pk_le m 256 (fun _ => ?_) (fun z => absurd z (by omega)))))
  refine bw_clearZ (fun z hz => ?_)
  exact bw_storeZ hv hm hz (fun b1 b2 h1 h2 => H b1 b2 z (bw_VC h1 (fun i => Bool.and_false _)) h2)
theorem bw_putW {post : Int32 → St1 → Prop} {f0 f1 f2 bits : Int32} {a1 : Nat → Int64} {a2 : Nat → Int32} {a3 a4 a5 a6 : Nat → Int64} {v m i c : Nat} (hv : v < 6) (hm : m ≤ 256) (h2 : a2 v = nI m) (hi : i < 8) (hc : 1 ≤ c) (hc2 : c ≤ 32) (hcm : 32 * i + c ≤ m)
    (H : ∀ b1 : Nat → Int64, (∀ k, k ≠ 4 * v + i / 2 → b1 k = a1 k) → (∀ b, b < 64 → m ≤ 64 * (i / 2) + b → bw_b (a1 (4 * v + i / 2)) b = false → bw_b (b1 (4 * v + i / 2)) b = false) → post (nI c) (f0, f1, f2, b1, a2, a3, a4, a5, a6)) :
    wpX_put post (f0, f1, f2, a1, a2, a3, a4, a5, a6) (nI v) (32 * nI i) (nI c) bits := by
  rw [show (32 : Int32) * nI i = nI (32 * i) from pk_mul 32 i]
  unfold wpX_put
  refine bw_bad hv (br_t rfl (pk_lt c 1 (fun z => absurd z (by omega)) (fun _ => pk_le c 32 (fun _ => pk_lt (32 * i) 0 (fun z => absurd z (by omega)) (fun _ => ⟨pk_in v 6 hv, ?_⟩)) (fun z => absurd z (by omega)))))
  rw [nI_clamp (show v < 2 ^ 31 by omega), h2, pk_sub (show c ≤ m by omega), bw_shift6 (show 32 * i < 2 ^ 31 by omega), bw_and63 (show 32 * i < 2 ^ 31 by omega), bw_ix]
  refine pk_le (32 * i) (m - c) (fun _ => bw_lowMask (by omega) (fun r hr => nm_e (nm_e (nm_e ⟨pk_in (4 * v + 32 * i / 64) 24 (by omega), pk_in (4 * v + 32 * i / 64) 24 (by omega), nm_e ?_⟩)))) (fun z => absurd z (by omega))
  rw [nI_clamp (show 4 * v + 32 * i / 64 < 2 ^ 31 by omega), nI_add, show 32 * i / 64 = i / 2 by omega]
  refine pk_le (32 * i % 64 + c) 64 (fun _ => H _ (fun k hk => pk_uLn hk) (fun b hb hbm h0 => ?_)) (fun z => absurd z (by omega))
  rw [pk_uLs, bw_or, bw_and, h0, Bool.false_and, Bool.false_or, bw_shl _ (show 32 * i % 64 < 64 by omega), bw_and]
  by_cases e : 32 * i % 64 ≤ b
  · rw [hr _ (show b - 32 * i % 64 < 64 by omega), decide_eq_false (show ¬ b - 32 * i % 64 < c by omega), Bool.and_false, Bool.and_false, Bool.and_false]
  · rw [decide_eq_false e, Bool.false_and, Bool.and_false]
theorem bw_cell {post : Int32 → Prop} {L : Nat} {xs : Nat → Int32} (hL : L ≤ 260) {k : Nat} (hk : k < 1000) (H : ∀ r, post r) : wpL_cell post L xs () (nI k) :=
  pk_le L k (fun _ => H _) (fun h => ⟨pk_in k L h, H _⟩)
theorem bw_fill {post : St1 → Prop} {L : Nat} {xs : Nat → Int32} (hL : L ≤ 260) {f0 f1 f2 : Int32} {a1 : Nat → Int64} {a2 : Nat → Int32} {a3 a4 a5 a6 : Nat → Int64} {v m c : Nat} (hv : v < 6) (hm : m ≤ 256) (hc : c < 100)
    (H : ∀ g0 g1 g2 b1 b2 x y z w F, bw_V b1 b2 v m F → bw_kp v a1 b1 a2 b2 → post (g0, g1, g2, b1, b2, x, y, z, w)) : wpL_fill post L xs (f0, f1, f2, a1, a2, a3, a4, a5, a6) (nI v) (nI m) (nI c) := by
  unfold wpL_fill
  refine bw_make hv hm (fun b1 b2 z hV hk => ?_)
  refine pk_loop (fun n i s => wL_fill_10 post L xs (nI v) (nI m) (nI c) n (nI i) f0 f1 (nI m) s b2 a3 a4 z a6) (fun _ s => (∀ j, j < 4 → ∀ b, b < 64 → m ≤ 64 * j + b → bw_b (s (4 * v + j)) b = false) ∧ ∀ k, k < 4 * v ∨ 4 * v + 4 ≤ k → s k = b1 k) 8 0 b1 (by omega) ⟨fun j hj b hb _ => hV.2.2.2 j hj b hb, fun _ _ => rfl⟩ ?_ ?_
  · intro n s h
    refine pk_le 8 8 (fun _ => H f0 f1 (nI m) s b2 a3 a4 z a6 (fun p => (decide (p < 256) && bw_b (s (4 * v + p / 64)) (p % 64))) ⟨hV.1, hm, fun p hp => ?_, fun j hj b hb => ?_⟩ (fun u hu => ⟨(hk u hu).1, fun j hj => ?_⟩)) (fun z => absurd z (by omega))
    · show (decide (p < 256) && bw_b (s (4 * v + p / 64)) (p % 64)) = false
      by_cases e : p < 256
      · rw [h.1 (p / 64) (by omega) (p % 64) (by omega) (by omega), Bool.and_false]
      · rw [decide_eq_false e, Bool.false_and]
    · show bw_b (s (4 * v + j)) b = (decide (64 * j + b < 256) && bw_b (s (4 * v + (64 * j + b) / 64)) ((64 * j + b) % 64))
      rw [decide_eq_true (show 64 * j + b < 256 by omega), Bool.true_and, show (64 * j + b) / 64 = j by omega, show (64 * j + b) % 64 = b by omega]
    · rw [h.2 _ (by omega)]
      exact (hk u hu).2 j hj
  · intro n i s hi h hw
    have e32 : (32 : Int32) * nI i = nI (32 * i) := pk_mul 32 i
    have put : ∀ d, 1 ≤ d → d ≤ 32 → 32 * i + d ≤ m → wL_fill_40 post L xs (wL_fill_10 post L xs (nI v) (nI m) (nI c) n) (nI v) (nI m) (nI c) (nI i) (nI d) f0 f1 (nI m) s b2 a3 a4 z a6 := by
      intro d hd hd2 hd3
      unfold wL_fill_40
      rw [nI_add]
      refine bw_cell hL (by omega) (fun r => pk_le d 0 (fun z => absurd z (by omega)) (fun _ => bw_putW hv hm hV.1 hi hd hd2 hd3 (fun s' g1 g2 => nm_r (nI_1 i) (hw s' ⟨fun j hj b hb hb2 => ?_, fun k hk' => ?_⟩))))
      · by_cases e : j = i / 2
        · rw [e]
          rw [e] at hb2
          exact g2 b hb hb2 (h.1 (i / 2) (by omega) b hb hb2)
        · rw [g1 _ (by omega)]
          exact h.1 j hj b hb hb2
      · rw [g1 _ (by omega)]
        exact h.2 k hk'
    refine pk_le 8 i (fun z => absurd z (by omega)) (fun _ => ?_)
    rw [e32]
    rcases Nat.lt_or_ge (32 * i) m with g | g
    · rw [pk_sub (show 32 * i ≤ m by omega)]
      exact nm_e (pk_le (m - 32 * i) 32 (fun k => put (m - 32 * i) (by omega) k (by omega)) (fun k => put 32 (by omega) (by omega) (by omega)))
    · have t := pk_sub_toInt (a := m) (b := 32 * i) (by omega) (by omega)
      have le : ∀ q : Nat, q < 100 → nI m - nI (32 * i) ≤ nI q := by
        intro q hq
        rw [Int32.le_iff_toInt_le, t, nI_toInt (by omega)]
        omega
      refine nm_e (br_t (le 32 (by omega)) ?_)
      unfold wL_fill_40
      rw [nI_add]
      exact bw_cell hL (by omega) (fun r => br_t (le 0 (by omega)) (nm_r (nI_1 i) (hw s h)))
/-! same -/
theorem bw_compare {post : Int32 → Prop} {f0 f1 f2 : Int32} {a1 : Nat → Int64} {a2 : Nat → Int32} {a3 a4 a5 a6 : Nat → Int64} {a b : Nat} (ha : a < 6) (hb : b < 6) (e : ∀ j, j < 4 → a1 (4 * a + j) = a1 (4 * b + j)) (H : post 0) : wpX_compare post (f0, f1, f2, a1, a2, a3, a4, a5, a6) (nI a) (nI b) := by
  have t : wX_compare_18 post (nI a) (nI b) f0 f1 f2 a1 a2 a3 a4 a5 a6 (4 + 1) (nI 4 + (-1)) := by
    refine pk_loopD (σ := Unit) (fun n i _ => wX_compare_18 post (nI a) (nI b) f0 f1 f2 a1 a2 a3 a4 a5 a6 n (nI i + (-1))) (fun i _ => i ≤ 4) ?_ ?_ 4 () (by omega)
    · intro n _ h
      exact br_t (by decide) H
    · intro n i _ h hw
      show wX_compare_18 post (nI a) (nI b) f0 f1 f2 a1 a2 a3 a4 a5 a6 (n + 1) (nI (i + 1) + (-1))
      rw [pk_m1 i]
      refine pk_lt i 0 (fun z => absurd z (by omega)) (fun _ => ⟨pk_in (4 * a + i) 24 (by omega) (bw_ix a i), nm_e ⟨pk_in (4 * b + i) 24 (by omega) (bw_ix b i), nm_e (br_t ?_ (nm_e (hw () (by omega))))⟩⟩)
      rw [bw_ix, bw_ix, nI_clamp (show 4 * a + i < 2 ^ 31 by omega), nI_clamp (show 4 * b + i < 2 ^ 31 by omega), e i (by omega)]
  rw [show nI 4 + (-1) = (3 : Int32) by decide] at t
  unfold wpX_compare
  refine bw_bad ha (br_t rfl ?_)
  exact bw_bad hb (br_t rfl ⟨_, t⟩)
theorem bw_same {post : Int32 → Prop} {f0 f1 f2 : Int32} {a1 : Nat → Int64} {a2 : Nat → Int32} {a3 a4 a5 a6 : Nat → Int64} {a b m : Nat} {F G : Nat → Bool} (ha : a < 6) (hb : b < 6) (hA : bw_V a1 a2 a m F) (hB : bw_V a1 a2 b m G) (e : ∀ i, i < 256 → F i = G i) (H : post 1) : wpL_same post (f0, f1, f2, a1, a2, a3, a4, a5, a6) (nI a) (nI b) (nI m) := by
  have ea : a2 (nI a).toNatClampNeg = nI m := by
    rw [nI_clamp (show a < 2 ^ 31 by omega)]
    exact hA.1
  have eb : a2 (nI b).toNatClampNeg = nI m := by
    rw [nI_clamp (show b < 2 ^ 31 by omega)]
    exact hB.1
  have ew : ∀ j, j < 4 → a1 (4 * a + j) = a1 (4 * b + j) := by
    refine fun j hj => bw_ext (fun c hc => ?_)
    rw [hA.2.2.2 j hj c hc, hB.2.2.2 j hj c hc]
    exact e _ (by omega)
  unfold wpL_same
  unfold wpX_length
  refine bw_bad ha (br_t rfl ⟨pk_in a 6 ha, br_t ea ?_⟩)
  refine bw_bad hb (br_t rfl ⟨pk_in b 6 hb, br_t eb ?_⟩)
  exact bw_compare ha hb ew (br_t rfl H)
end
section
/-! the law -/
theorem bw_init {post : St1 → Prop} {g0 g1 g2 : Int32} (H : post (g0, g1, 0, (fun _ => 0), (fun _ => 0), (fun _ => 0), (fun _ => 0), (fun _ => 0), (fun _ => 0))) : wpX_init post 6 48 (g0, g1, g2) :=
  And.intro (by decide) (And.intro (by decide) (And.intro (by decide) (And.intro (by decide) (And.intro (by decide) (And.intro (by decide) (And.intro (by decide) (And.intro (by decide) (And.intro (by decide) (And.intro (by decide) (And.intro (by decide) (And.intro (by decide) H)))))))))))
theorem bw_m257 (r : Int32) : ∃ m, m ≤ 256 ∧ (r &&& 2147483647) - (r &&& 2147483647) / 257 * 257 = nI m := by
  obtain ⟨j, hj, e⟩ := pk_andE r (m := 2147483647) 31 (by decide)
  refine ⟨j % 257, by omega, ?_⟩
  rw [e]
  exact pk_rem hj (by decide) (by decide)
/-- the ones of X and of its opposite below m make m -/
theorem bw_total {X : Nat → Bool} {m : Nat} (hm : m ≤ 256) (hX : ∀ i, m ≤ i → X i = false) : bw_ct X 256 + bw_ct (fun i => (decide (i < m) && !X i)) 256 = m := by
  have e1 := bw_ctZ m (256 - m) hX
  have e2 := bw_ctZ (f := fun i => (decide (i < m) && !X i)) m (256 - m) (fun i hi => by show (decide (i < m) && !X i) = false; rw [decide_eq_false (show ¬ i < m by omega), Bool.false_and])
  rw [show m + (256 - m) = 256 by omega] at e1 e2
  have e3 : bw_ct (fun i => (decide (i < m) && !X i)) m = bw_ct (fun i => !X i) m := bw_ctC m (fun i hi => by rw [decide_eq_true hi, Bool.true_and])
  have e4 := bw_ctN X m
  omega
theorem bw_back {X Y C : Nat → Bool} (hC : ∀ p, p < 256 → X p = true → C (bw_ct X p) = Y p) {i : Nat} (hi : i < 256) : (X i && C (bw_ct X i)) = (X i && Y i) := by
  cases g : X i with
  | false => rfl
  | true => rw [hC i hi g]
theorem bw_union {X Y : Nat → Bool} {m i : Nat} (hY : ∀ i, m ≤ i → Y i = false) : (decide (i < m) && ((decide (i < m) && (X i && Y i)) || (decide (i < m) && ((decide (i < m) && !X i) && Y i)))) = Y i := by
  by_cases h : i < m
  · rw [decide_eq_true h]
    cases X i <;> cases Y i <;> rfl
  · rw [decide_eq_false h, hY i (by omega)]
    rfl
theorem bw_cg {d p p' q q' : Bool} (h1 : p = p') (h2 : q = q') : (d && ((d && p) || (d && q))) = (d && ((d && p') || (d && q'))) := by rw [h1, h2]
theorem bw_diff {Y : Nat → Bool} {m i : Nat} (hY : ∀ i, m ≤ i → Y i = false) : (decide (i < m) && ((decide (i < m) && bw_px Y (i + 1)) ^^ (decide (i < m) && (decide (1 ≤ i) && (decide (i - 1 < m) && bw_px Y (i - 1 + 1)))))) = Y i := by
  by_cases h : i < m
  · rw [decide_eq_true h, decide_eq_true (show i - 1 < m by omega), bw_px1]
    by_cases h1 : 1 ≤ i
    · rw [decide_eq_true h1, show i - 1 + 1 = i by omega]
      cases bw_px Y i <;> cases Y i <;> rfl
    · rw [decide_eq_false h1, show i = 0 by omega]
      show (true && ((true && (false ^^ Y 0)) ^^ false)) = Y 0
      cases Y 0 <;> rfl
  · rw [decide_eq_false h, hY i (by omega)]
    rfl
theorem bw_twice {Y : Nat → Bool} {m i : Nat} (hY : ∀ i, m ≤ i → Y i = false) : (decide (i < m) && (decide (i < m) && (decide (m - 1 - i < m) && (decide (m - 1 - i < m) && Y (m - 1 - (m - 1 - i)))))) = Y i := by
  by_cases h : i < m
  · rw [decide_eq_true h, decide_eq_true (show m - 1 - i < m by omega), show m - 1 - (m - 1 - i) = i by omega]
    rfl
  · rw [decide_eq_false h, hY i (by omega)]
    rfl
theorem i_vc (xs : Nat → Int32) (L : Nat) (hL : L ≤ 260) : wpL_law (fun r => r = 1) L xs := by
  refine Exists.intro 6 (Exists.intro 48 (And.intro (by decide) (And.intro (by decide) (bw_init (bw_cell (k := 0) hL (by decide) (fun r => And.intro (by decide) ?_))))))
  obtain ⟨m, hm, em⟩ := bw_m257 r
  refine nm_r em ?_
  -- 0 and 1: the two operands
  refine bw_fill (v := 0) (c := 1) hL (by decide) hm (by decide) (fun _ _ _ _ _ _ _ _ _ X h0 _ => ?_)
  refine bw_fill (v := 1) (c := 9) hL (by decide) hm (by decide) (fun _ _ _ _ _ _ _ _ _ Y h1 k => ?_)
  have h0 := bw_kpV k (by decide) h0
  have hX := h0.2.2.1
  have hY := h1.2.2.1
  -- 2: NOT 0
  refine bw_change (t := 2) (v := 0) (G := fun i => !X i) (by decide) (by decide) h0 (by decide) (by decide) (by decide) (by decide) (fun ψ x z hx h => bw_cw0 hx (fun z' hz' => h x z' hz')) (fun _ _ _ _ h2 k => ?_)
  have h0 := bw_kpV k (by decide) h0
  have h1 := bw_kpV k (by decide) h1
  -- 3: COMPRESS 0 1, then EXPAND 0 3; 4: AND 0 1
  refine bw_combCompress (t := 3) (a := 0) (b := 1) (by decide) (by decide) (by decide) h0 h1 (fun _ _ _ _ _ _ _ _ _ C hC h3 k => ?_)
  have h0 := bw_kpV k (by decide) h0
  have h1 := bw_kpV k (by decide) h1
  have h2 := bw_kpV k (by decide) h2
  refine bw_combExpand (t := 3) (a := 0) (b := 3) (by decide) (by decide) (by decide) h0 h3 (fun _ _ _ _ _ _ _ _ _ h3 k => ?_)
  have h0 := bw_kpV k (by decide) h0
  have h1 := bw_kpV k (by decide) h1
  have h2 := bw_kpV k (by decide) h2
  refine bw_combAnd (t := 4) (a := 0) (b := 1) (by decide) (by decide) (by decide) h0 h1 (fun _ _ _ _ _ _ _ _ _ h4 k => ?_)
  have h0 := bw_kpV k (by decide) h0
  have h1 := bw_kpV k (by decide) h1
  have h2 := bw_kpV k (by decide) h2
  have h3 := bw_kpV k (by decide) h3
  refine bw_same (a := 3) (b := 4) (by decide) (by decide) h3 h4 (fun i hi => ?_) (br_f (by decide) ?_)
  · show (decide (i < m) && (X i && C (bw_ct X i))) = (decide (i < m) && (X i && Y i))
    rw [bw_back hC hi]
  -- 4: COMPRESS 2 1, then EXPAND 2 4; 5: AND 2 1
  refine bw_combCompress (t := 4) (a := 2) (b := 1) (by decide) (by decide) (by decide) h2 h1 (fun _ _ _ _ _ _ _ _ _ D hD h4 k => ?_)
  have h1 := bw_kpV k (by decide) h1
  have h2 := bw_kpV k (by decide) h2
  have h3 := bw_kpV k (by decide) h3
  refine bw_combExpand (t := 4) (a := 2) (b := 4) (by decide) (by decide) (by decide) h2 h4 (fun _ _ _ _ _ _ _ _ _ h4 k => ?_)
  have h1 := bw_kpV k (by decide) h1
  have h2 := bw_kpV k (by decide) h2
  have h3 := bw_kpV k (by decide) h3
  refine bw_combAnd (t := 5) (a := 2) (b := 1) (by decide) (by decide) (by decide) h2 h1 (fun _ _ _ _ _ _ _ _ _ h5 k => ?_)
  have h1 := bw_kpV k (by decide) h1
  have h3 := bw_kpV k (by decide) h3
  have h4 := bw_kpV k (by decide) h4
  refine bw_same (a := 4) (b := 5) (by decide) (by decide) h4 h5 (fun i hi => ?_) (br_f (by decide) (br_t ?_ ?_))
  · have t := bw_back hD hi
    exact congrArg (fun q => (decide (i < m) && q)) t
  · rw [nI_add, bw_total hm hX]
  -- 3: OR 3 4
  refine bw_combOr (t := 3) (a := 3) (b := 4) (by decide) (by decide) (by decide) h3 h4 (fun _ _ _ _ _ _ _ _ _ h3 k => ?_)
  have h1 := bw_kpV k (by decide) h1
  refine bw_same (a := 3) (b := 1) (by decide) (by decide) h3 h1 (fun i hi => ?_) (br_f (by decide) ?_)
  · have t1 := bw_back hC hi
    have t2 := bw_back hD hi
    refine Eq.trans ?_ (bw_union (X := X) (m := m) (i := i) hY)
    exact bw_cg t1 t2
  -- 3: SCAN_XOR 1; 4: SHIFT 3; 3: XOR 3 4
  refine bw_change (t := 3) (v := 1) (G := fun i => bw_px Y (i + 1)) (by decide) (by decide) h1 (by decide) (by decide) (by decide) (by decide) (fun ψ x z hx h => bw_cw8 hx (fun z' hz' => h x z' hz')) (fun _ _ _ _ h3 k => ?_)
  have h1 := bw_kpV k (by decide) h1
  refine bw_change (t := 4) (v := 3) (G := fun i => (decide (1 ≤ i) && (decide (i - 1 < m) && bw_px Y (i - 1 + 1)))) (by decide) (by decide) h3 (by decide) (by decide) (by decide) (by decide) (fun ψ x z hx h => bw_cw3 hx (fun z' hz' => h x z' hz')) (fun _ _ _ _ h4 k => ?_)
  have h1 := bw_kpV k (by decide) h1
  have h3 := bw_kpV k (by decide) h3
  refine bw_combXor (t := 3) (a := 3) (b := 4) (by decide) (by decide) (by decide) h3 h4 (fun _ _ _ _ _ _ _ _ _ h3 k => ?_)
  have h1 := bw_kpV k (by decide) h1
  refine bw_same (a := 3) (b := 1) (by decide) (by decide) h3 h1 (fun i hi => bw_diff hY) (br_f (by decide) ?_)
  -- 5: REVERSE 1, then REVERSE 5
  refine bw_change (t := 5) (v := 1) (G := fun i => (decide (i < m) && Y (m - 1 - i))) (by decide) (by decide) h1 (by decide) (by decide) (by decide) (by decide) (fun ψ x z hx h => bw_cw1 hm hx (fun x' z' hz' => h x' z' hz')) (fun _ _ _ _ h5 k => ?_)
  have h1 := bw_kpV k (by decide) h1
  refine bw_change (t := 5) (v := 5) (G := fun i => (decide (i < m) && (decide (m - 1 - i < m) && (decide (m - 1 - i < m) && Y (m - 1 - (m - 1 - i)))))) (by decide) (by decide) h5 (by decide) (by decide) (by decide) (by decide) (fun ψ x z hx h => bw_cw1 hm hx (fun x' z' hz' => h x' z' hz')) (fun _ _ _ _ h5 k => ?_)
  have h1 := bw_kpV k (by decide) h1
  exact bw_same (a := 5) (b := 1) (by decide) (by decide) h5 h1 (fun i hi => bw_twice hY) rfl
end
