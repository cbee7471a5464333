section
/-! ===== words of 32 and 64 bits by their bits ===== -/
def td_b (x : Int32) (i : Nat) : Bool := x.toBitVec.getLsbD i
theorem td_ext {x y : Int32} (h : ∀ i, i < 32 → td_b x i = td_b y i) : x = y := Int32.toBitVec_inj.mp (BitVec.eq_of_getLsbD_eq (fun i hi => h i hi))
theorem td_or (x y : Int32) (i : Nat) : td_b (x ||| y) i = (td_b x i || td_b y i) := by unfold td_b; rw [Int32.toBitVec_or, BitVec.getLsbD_or]
theorem td_and (x y : Int32) (i : Nat) : td_b (x &&& y) i = (td_b x i && td_b y i) := by unfold td_b; rw [Int32.toBitVec_and, BitVec.getLsbD_and]
theorem td_xor (x y : Int32) (i : Nat) : td_b (x ^^^ y) i = (td_b x i ^^ td_b y i) := by unfold td_b; rw [Int32.toBitVec_xor, BitVec.getLsbD_xor]
theorem td_0 (i : Nat) : td_b 0 i = false := BitVec.getLsbD_zero
theorem td_m1 : ∀ i, i < 32 → td_b (-1) i = true := by decide +kernel
theorem td_odd : ∀ i, i < 32 → td_b 43690 i = (decide (i % 2 = 1) && decide (i < 16)) := by decide +kernel
theorem td_even : ∀ i, i < 32 → td_b 87381 i = (decide (i % 2 = 0) && decide (i < 17)) := by decide +kernel
theorem td_all : ∀ i, i < 32 → td_b 131071 i = decide (i < 17) := by decide +kernel
theorem td_sl : ∀ n, n < 32 → ((nI n &&& 31).toBitVec.smod 32).toNat = n := by decide +kernel
theorem td_shl (n : Nat) (hn : n < 32) (x : Int32) {i : Nat} (hi : i < 32) : td_b (x <<< (nI n &&& 31)) i = (decide (n ≤ i) && td_b x (i - n)) := by
  unfold td_b
  rw [Int32.toBitVec_shiftLeft]
  show (x.toBitVec <<< ((nI n &&& 31).toBitVec.smod 32).toNat).getLsbD i = _
  rw [td_sl n hn, BitVec.getLsbD_shiftLeft]
  rcases Nat.lt_or_ge i n with h | h
  · simp [h, Nat.not_le.mpr h]
  · simp [hi, h, Nat.not_lt.mpr h]
theorem td_shr (n : Nat) (hn : n < 32) (x : Int32) {i : Nat} (hi : i < 32) : td_b (x >>> (nI n &&& 31)) i = if n + i < 32 then td_b x (n + i) else td_b x 31 := by
  unfold td_b
  rw [Int32.toBitVec_shiftRight]
  show (x.toBitVec.sshiftRight ((nI n &&& 31).toBitVec.smod 32).toNat).getLsbD i = _
  rw [td_sl n hn, BitVec.getLsbD_sshiftRight, BitVec.msb_eq_getLsbD_last]
  simp [hi]
theorem td_shl1 (x : Int32) {i : Nat} (hi : i < 32) : td_b (x <<< ((1 : Int32) &&& 31)) i = (decide (1 ≤ i) && td_b x (i - 1)) := td_shl 1 (by omega) x hi
theorem td_shl2 (x : Int32) {i : Nat} (hi : i < 32) : td_b (x <<< ((2 : Int32) &&& 31)) i = (decide (2 ≤ i) && td_b x (i - 2)) := td_shl 2 (by omega) x hi
theorem td_shr1 (x : Int32) {i : Nat} (hi : i < 32) : td_b (x >>> ((1 : Int32) &&& 31)) i = if 1 + i < 32 then td_b x (1 + i) else td_b x 31 := td_shr 1 (by omega) x hi
theorem td_shr2 (x : Int32) {i : Nat} (hi : i < 32) : td_b (x >>> ((2 : Int32) &&& 31)) i = if 2 + i < 32 then td_b x (2 + i) else td_b x 31 := td_shr 2 (by omega) x hi
theorem td_b1 : ∀ i, i < 32 → td_b 1 i = decide (i = 0) := by decide +kernel
/-- the test of one bit of an int -/
theorem td_bit (x : Int32) {k : Nat} (hk : k < 32) : (x >>> (nI k &&& 31)) &&& 1 = if td_b x k then 1 else 0 := by
  apply td_ext
  intro i hi
  rw [td_and, td_shr k hk x hi, td_b1 i hi]
  by_cases e : i = 0
  · subst e
    cases h : td_b x k
    · simp [hk, h, td_0]
    · simp [hk, h, td_b1 0 (by omega)]
  · cases h : td_b x k
    · simp [e, td_0]
    · simp [e, td_b1 i hi]
def td_l (x : Int64) (i : Nat) : Bool := x.toBitVec.getLsbD i
theorem td_lext {x y : Int64} (h : ∀ i, i < 64 → td_l x i = td_l y i) : x = y := Int64.toBitVec_inj.mp (BitVec.eq_of_getLsbD_eq (fun i hi => h i hi))
theorem td_lor (x y : Int64) (i : Nat) : td_l (x ||| y) i = (td_l x i || td_l y i) := by unfold td_l; rw [Int64.toBitVec_or, BitVec.getLsbD_or]
theorem td_land (x y : Int64) (i : Nat) : td_l (x &&& y) i = (td_l x i && td_l y i) := by unfold td_l; rw [Int64.toBitVec_and, BitVec.getLsbD_and]
theorem td_lxor (x y : Int64) (i : Nat) : td_l (x ^^^ y) i = (td_l x i ^^ td_l y i) := by unfold td_l; rw [Int64.toBitVec_xor, BitVec.getLsbD_xor]
theorem td_l0 (i : Nat) : td_l 0 i = false := BitVec.getLsbD_zero
theorem td_lm1 : ∀ i, i < 64 → td_l (-1) i = true := by decide +kernel
theorem td_l1 : ∀ i, i < 64 → td_l 1 i = decide (i = 0) := by decide +kernel
theorem td_lsl : ∀ n, n < 64 → (((nI n).toInt64 &&& 63).toBitVec.smod 64).toNat = n := by decide +kernel
theorem td_lshr (n : Nat) (hn : n < 64) (x : Int64) {i : Nat} (hi : i < 64) : td_l (x >>> ((nI n).toInt64 &&& 63)) i = if n + i < 64 then td_l x (n + i) else td_l x 63 := by
  unfold td_l
  rw [Int64.toBitVec_shiftRight]
  show (x.toBitVec.sshiftRight (((nI n).toInt64 &&& 63).toBitVec.smod 64).toNat).getLsbD i = _
  rw [td_lsl n hn, BitVec.getLsbD_sshiftRight, BitVec.msb_eq_getLsbD_last]
  simp [hi]
theorem td_lbit (x : Int64) {k : Nat} (hk : k < 64) : (x >>> ((nI k).toInt64 &&& 63)) &&& 1 = if td_l x k then 1 else 0 := by
  apply td_lext
  intro i hi
  rw [td_land, td_lshr k hk x hi, td_l1 i hi]
  by_cases e : i = 0
  · subst e
    cases h : td_l x k
    · simp [hk, h, td_l0]
    · simp [hk, h, td_l1 0 (by omega)]
  · cases h : td_l x k
    · simp [e, td_l0]
    · simp [e, td_l1 i hi]
theorem td_lone : ∀ k, k < 64 → ∀ i, i < 64 → td_l ((1 : Int64) <<< ((nI k).toInt64 &&& 63)) i = decide (i = k) := by decide +kernel
theorem td_lnot (S T : Int64) {i : Nat} (hi : i < 64) : td_l (S &&& (T ^^^ (-1))) i = (td_l S i && !td_l T i) := by
  rw [td_land, td_lxor, td_lm1 i hi, Bool.xor_true]
theorem td_bnot (x y : Int32) {i : Nat} (hi : i < 32) : td_b (x &&& (y ^^^ (-1))) i = (td_b x i && !td_b y i) := by
  rw [td_and, td_xor, td_m1 i hi, Bool.xor_true]
theorem td_lz {S : Int64} : S = 0 ↔ ∀ k, k < 64 → td_l S k = false :=
  ⟨fun h k _ => by rw [h]; exact td_l0 k, fun h => td_lext (fun i hi => by rw [h i hi, td_l0])⟩
theorem td_bz {w : Int32} : w = 0 ↔ ∀ k, k < 32 → td_b w k = false :=
  ⟨fun h k _ => by rw [h]; exact td_0 k, fun h => td_ext (fun i hi => by rw [h i hi, td_0])⟩
/-! ===== sums ===== -/
def td_sm (f : Nat → Nat) : Nat → Nat
  | 0 => 0
  | n + 1 => td_sm f n + f n
theorem td_sm_congr {f g : Nat → Nat} {n : Nat} (h : ∀ i, i < n → f i = g i) : td_sm f n = td_sm g n := by
  induction n with
  | zero => rfl
  | succ n ih =>
    show td_sm f n + f n = td_sm g n + g n
    rw [ih (fun i hi => h i (by omega)), h n (by omega)]
theorem td_sm_add (f : Nat → Nat) (a b : Nat) : td_sm f (a + b) = td_sm f a + td_sm (fun i => f (a + i)) b := by
  induction b with
  | zero => rfl
  | succ b ih =>
    show td_sm f (a + b) + f (a + b) = td_sm f a + (td_sm (fun i => f (a + i)) b + f (a + b))
    rw [ih, Nat.add_assoc]
theorem td_sm_first (f : Nat → Nat) (n : Nat) : td_sm f (n + 1) = f 0 + td_sm (fun i => f (i + 1)) n := by
  rw [Nat.add_comm n 1, td_sm_add f 1 n]
  show 0 + f 0 + td_sm (fun i => f (1 + i)) n = _
  rw [Nat.zero_add, td_sm_congr (g := fun i => f (i + 1)) (fun i _ => by rw [Nat.add_comm])]
theorem td_sm_plus (f g : Nat → Nat) (n : Nat) : td_sm (fun i => f i + g i) n = td_sm f n + td_sm g n := by
  induction n with
  | zero => rfl
  | succ n ih =>
    show td_sm (fun i => f i + g i) n + (f n + g n) = td_sm f n + f n + (td_sm g n + g n)
    rw [ih]
    omega
theorem td_sm_zero {f : Nat → Nat} {n : Nat} (h : ∀ i, i < n → f i = 0) : td_sm f n = 0 := by
  induction n with
  | zero => rfl
  | succ n ih =>
    show td_sm f n + f n = 0
    rw [ih (fun i hi => h i (by omega)), h n (by omega)]
theorem td_sm_le {f : Nat → Nat} {n : Nat} (c : Nat) (h : ∀ i, i < n → f i ≤ c) : td_sm f n ≤ c * n := by
  induction n with
  | zero => exact Nat.zero_le _
  | succ n ih =>
    show td_sm f n + f n ≤ c * (n + 1)
    have h1 := ih (fun i hi => h i (by omega))
    have h2 := h n (by omega)
    rw [Nat.mul_succ]
    omega
theorem td_sm_pos {f : Nat → Nat} {n k : Nat} (hk : k < n) (h : 0 < f k) : 0 < td_sm f n := by
  induction n with
  | zero => omega
  | succ n ih =>
    show 0 < td_sm f n + f n
    by_cases e : k = n
    · subst e; omega
    · have := ih (by omega); omega
theorem td_sm_swap (f : Nat → Nat → Nat) (a b : Nat) : td_sm (fun x => td_sm (fun y => f x y) b) a = td_sm (fun y => td_sm (fun x => f x y) a) b := by
  induction a with
  | zero => exact (td_sm_zero (fun _ _ => rfl)).symm
  | succ a ih =>
    show td_sm (fun x => td_sm (fun y => f x y) b) a + td_sm (fun y => f a y) b = td_sm (fun y => td_sm (fun x => f x y) a + f a y) b
    rw [ih, td_sm_plus]
theorem td_sm_8 (f : Nat → Nat) (n : Nat) : td_sm f (8 * n) = td_sm (fun x => td_sm (fun y => f (8 * x + y)) 8) n := by
  induction n with
  | zero => rfl
  | succ n ih =>
    show td_sm f (8 * n + 8) = td_sm (fun x => td_sm (fun y => f (8 * x + y)) 8) n + td_sm (fun y => f (8 * n + y)) 8
    rw [td_sm_add f (8 * n) 8, ih]
theorem td_sm_odd (f : Nat → Nat) (n : Nat) : td_sm (fun i => if i % 2 = 1 then f ((i + 1) / 2) else 0) (2 * n) = td_sm (fun x => f (x + 1)) n := by
  induction n with
  | zero => rfl
  | succ n ih =>
    show td_sm (fun i => if i % 2 = 1 then f ((i + 1) / 2) else 0) (2 * n) + (if 2 * n % 2 = 1 then f ((2 * n + 1) / 2) else 0) + (if (2 * n + 1) % 2 = 1 then f ((2 * n + 1 + 1) / 2) else 0) = td_sm (fun x => f (x + 1)) n + f (n + 1)
    rw [ih, if_neg (by omega), if_pos (by omega), show (2 * n + 1 + 1) / 2 = n + 1 by omega, Nat.add_zero]
theorem td_sm_even (f : Nat → Nat) (n : Nat) : td_sm (fun i => if i % 2 = 0 then f (i / 2) else 0) (2 * n) = td_sm f n := by
  induction n with
  | zero => rfl
  | succ n ih =>
    show td_sm (fun i => if i % 2 = 0 then f (i / 2) else 0) (2 * n) + (if 2 * n % 2 = 0 then f (2 * n / 2) else 0) + (if (2 * n + 1) % 2 = 0 then f ((2 * n + 1) / 2) else 0) = td_sm f n + f n
    rw [ih, if_pos (by omega), if_neg (by omega), show 2 * n / 2 = n by omega, Nat.add_zero]
/-! ===== how many bits: the loop that takes the last one away ===== -/
def td_pop (w : Int32) : Nat := td_sm (fun i => (td_b w i).toNat) 32
def td_pc : Nat → Nat → Nat
  | 0, _ => 0
  | k + 1, n => n % 2 + td_pc k (n / 2)
theorem td_pc_sm (k : Nat) : ∀ n, td_pc k n = td_sm (fun i => (n.testBit i).toNat) k := by
  induction k with
  | zero => intro n; rfl
  | succ k ih =>
    intro n
    rw [td_sm_first]
    show n % 2 + td_pc k (n / 2) = _
    rw [ih (n / 2)]
    congr 1
    · rw [Nat.testBit_zero]
      rcases Nat.mod_two_eq_zero_or_one n with h | h <;> simp [h]
    · exact td_sm_congr (fun i _ => by rw [Nat.testBit_div_two])
theorem td_pc_step (k : Nat) : ∀ n, 0 < n → n < 2 ^ k → td_pc k (n &&& (n - 1)) + 1 = td_pc k n := by
  induction k with
  | zero => intro n h h2; simp at h2; omega
  | succ k ih =>
    intro n h h2
    show (n &&& (n - 1)) % 2 + td_pc k ((n &&& (n - 1)) / 2) + 1 = n % 2 + td_pc k (n / 2)
    have hm : (n &&& (n - 1)) % 2 = 0 := by
      rcases Nat.mod_two_eq_zero_or_one (n &&& (n - 1)) with z | z
      · exact z
      · have := Nat.and_mod_two_eq_one.mp z
        omega
    rw [hm, Nat.and_div_two]
    rcases Nat.mod_two_eq_zero_or_one n with z | z
    · have e : (n - 1) / 2 = n / 2 - 1 := by omega
      rw [Nat.pow_succ] at h2
      have t := ih (n / 2) (by omega) (by omega)
      rw [e, z]
      omega
    · have e : (n - 1) / 2 = n / 2 := by omega
      rw [e, Nat.and_self, z]
      omega
theorem td_pop_pc (w : Int32) : td_pop w = td_pc 32 w.toBitVec.toNat := by
  rw [td_pc_sm]
  rfl
theorem td_pop_step {w : Int32} (h : ¬ w = 0) : td_pop (w &&& (w - 1)) + 1 = td_pop w := by
  have h0 : w.toBitVec.toNat ≠ 0 := fun z => h (Int32.toBitVec_inj.mp (BitVec.eq_of_toNat_eq z))
  have hl := w.toBitVec.isLt
  have e : (w &&& (w - 1)).toBitVec.toNat = w.toBitVec.toNat &&& (w.toBitVec.toNat - 1) := by
    rw [Int32.toBitVec_and, BitVec.toNat_and, Int32.toBitVec_sub]
    have e1 : (w.toBitVec - (1 : Int32).toBitVec).toNat = w.toBitVec.toNat - 1 := by
      rw [BitVec.toNat_sub]
      show (2 ^ 32 - 1 + w.toBitVec.toNat) % 2 ^ 32 = _
      omega
    rw [e1]
  rw [td_pop_pc, td_pop_pc, e]
  exact td_pc_step 32 _ (by omega) hl
theorem td_pop_0 : td_pop 0 = 0 := td_sm_zero (fun i _ => by rw [td_0]; rfl)
theorem td_pop_17 {w : Int32} (h : ∀ i, 17 ≤ i → i < 32 → td_b w i = false) : td_pop w = td_sm (fun i => (td_b w i).toNat) 17 := by
  unfold td_pop
  rw [show (32 : Nat) = 17 + 15 from rfl, td_sm_add, td_sm_zero (n := 15) (fun i hi => by rw [h (17 + i) (by omega) (by omega)]; rfl), Nat.add_zero]
theorem td_tn1 (b : Bool) : b.toNat ≤ 1 := by cases b <;> decide
theorem td_pop_le {w : Int32} (h : ∀ i, 17 ≤ i → i < 32 → td_b w i = false) : td_pop w ≤ 17 := by
  rw [td_pop_17 h]
  have := td_sm_le (f := fun i => (td_b w i).toNat) (n := 17) 1 (fun i _ => td_tn1 _)
  omega
end
section
/-! ===== the picture: cells of a set (X, Y from 1 to 8), elements (i, j) of the grid of half steps ===== -/
def td_g (S : Int64) (X Y : Nat) : Bool := decide (1 ≤ X ∧ X ≤ 8 ∧ 1 ≤ Y ∧ Y ≤ 8) && td_l S (8 * (X - 1) + (Y - 1))
theorem td_g_in (S : Int64) {x y : Nat} (hx : x < 8) (hy : y < 8) : td_g S (x + 1) (y + 1) = td_l S (8 * x + y) := by
  unfold td_g
  rw [decide_eq_true (by omega), Bool.true_and, Nat.add_sub_cancel, Nat.add_sub_cancel]
theorem td_g_k (S : Int64) {k : Nat} (hk : k < 64) : td_g S (k / 8 + 1) (k % 8 + 1) = td_l S k := by
  rw [td_g_in S (by omega) (by omega), show 8 * (k / 8) + k % 8 = k by omega]
theorem td_g_out {S : Int64} {X Y : Nat} (h : ¬ (1 ≤ X ∧ X ≤ 8 ∧ 1 ≤ Y ∧ Y ≤ 8)) : td_g S X Y = false := by
  unfold td_g
  rw [decide_eq_false h, Bool.false_and]
theorem td_g_t {S : Int64} {X Y : Nat} (h : td_g S X Y = true) : (1 ≤ X ∧ X ≤ 8 ∧ 1 ≤ Y ∧ Y ≤ 8) ∧ td_l S (8 * (X - 1) + (Y - 1)) = true := by
  by_cases e : 1 ≤ X ∧ X ≤ 8 ∧ 1 ≤ Y ∧ Y ≤ 8
  · refine ⟨e, ?_⟩
    unfold td_g at h
    rw [decide_eq_true e, Bool.true_and] at h
    exact h
  · rw [td_g_out e] at h
    exact absurd h (by decide)
theorem td_g_or (S T : Int64) (X Y : Nat) : td_g (S ||| T) X Y = (td_g S X Y || td_g T X Y) := by
  unfold td_g
  rw [td_lor]
  cases decide (1 ≤ X ∧ X ≤ 8 ∧ 1 ≤ Y ∧ Y ≤ 8) <;> rfl
theorem td_g_and (S T : Int64) (X Y : Nat) : td_g (S &&& T) X Y = (td_g S X Y && td_g T X Y) := by
  unfold td_g
  rw [td_land]
  cases decide (1 ≤ X ∧ X ≤ 8 ∧ 1 ≤ Y ∧ Y ≤ 8) <;> rfl
theorem td_g_xor (S T : Int64) (X Y : Nat) : td_g (S ^^^ T) X Y = (td_g S X Y ^^ td_g T X Y) := by
  unfold td_g
  rw [td_lxor]
  cases decide (1 ≤ X ∧ X ≤ 8 ∧ 1 ≤ Y ∧ Y ≤ 8) <;> rfl
theorem td_g_not (S T : Int64) (X Y : Nat) : td_g (S &&& (T ^^^ (-1))) X Y = (td_g S X Y && !td_g T X Y) := by
  by_cases e : 1 ≤ X ∧ X ≤ 8 ∧ 1 ≤ Y ∧ Y ≤ 8
  · unfold td_g
    rw [td_lnot S T (by omega), decide_eq_true e]
    rfl
  · rw [td_g_out e, td_g_out e, td_g_out e]
    rfl
theorem td_g_0 (X Y : Nat) : td_g 0 X Y = false := by
  unfold td_g
  rw [td_l0, Bool.and_false]
/-- a shape's own elements -/
def td_e (S : Int64) (i j : Nat) : Bool := decide (i % 2 = 1 ∧ j % 2 = 1) && td_g S ((i + 1) / 2) ((j + 1) / 2)
/-- inside, body, rim -/
def td_in (S : Int64) (i j : Nat) : Bool := (td_g S ((i + 1) / 2) ((j + 1) / 2) && td_g S (i / 2 + 1) ((j + 1) / 2)) && (td_g S ((i + 1) / 2) (j / 2 + 1) && td_g S (i / 2 + 1) (j / 2 + 1))
def td_an (S : Int64) (i j : Nat) : Bool := (td_g S ((i + 1) / 2) ((j + 1) / 2) || td_g S (i / 2 + 1) ((j + 1) / 2)) || (td_g S ((i + 1) / 2) (j / 2 + 1) || td_g S (i / 2 + 1) (j / 2 + 1))
def td_ri (S : Int64) (i j : Nat) : Bool := td_an S i j && !td_in S i j
theorem td_an_split (S : Int64) (i j : Nat) : (td_in S i j || td_ri S i j) = td_an S i j := by
  unfold td_ri td_in td_an
  generalize td_g S ((i + 1) / 2) ((j + 1) / 2) = a
  generalize td_g S (i / 2 + 1) ((j + 1) / 2) = b
  generalize td_g S ((i + 1) / 2) (j / 2 + 1) = c
  generalize td_g S (i / 2 + 1) (j / 2 + 1) = d
  revert a b c d
  decide
theorem td_an_iff {S : Int64} {i j : Nat} : td_an S i j = true ↔ ∃ a b, (a = (i + 1) / 2 ∨ a = i / 2 + 1) ∧ (b = (j + 1) / 2 ∨ b = j / 2 + 1) ∧ td_g S a b = true := by
  unfold td_an
  constructor
  · intro h
    rcases (Bool.or_eq_true _ _).mp h with h | h <;> rcases (Bool.or_eq_true _ _).mp h with h | h
    · exact ⟨_, _, .inl rfl, .inl rfl, h⟩
    · exact ⟨_, _, .inr rfl, .inl rfl, h⟩
    · exact ⟨_, _, .inl rfl, .inr rfl, h⟩
    · exact ⟨_, _, .inr rfl, .inr rfl, h⟩
  · rintro ⟨a, b, ha, hb, h⟩
    rcases ha with rfl | rfl <;> rcases hb with rfl | rfl <;> rw [h] <;> simp
theorem td_in_t {S : Int64} {i j : Nat} (h : td_in S i j = true) : td_g S ((i + 1) / 2) ((j + 1) / 2) = true := by
  unfold td_in at h
  exact ((Bool.and_eq_true _ _).mp ((Bool.and_eq_true _ _).mp h).1).1
theorem td_an_c (S : Int64) (x y : Nat) : td_an S (2 * x + 1) (2 * y + 1) = td_g S (x + 1) (y + 1) := by
  unfold td_an
  rw [show (2 * x + 1 + 1) / 2 = x + 1 by omega, show (2 * x + 1) / 2 = x by omega, show (2 * y + 1 + 1) / 2 = y + 1 by omega, show (2 * y + 1) / 2 = y by omega]
  cases td_g S (x + 1) (y + 1) <;> rfl
theorem td_in_c (S : Int64) (x y : Nat) : td_in S (2 * x + 1) (2 * y + 1) = td_g S (x + 1) (y + 1) := by
  unfold td_in
  rw [show (2 * x + 1 + 1) / 2 = x + 1 by omega, show (2 * x + 1) / 2 = x by omega, show (2 * y + 1 + 1) / 2 = y + 1 by omega, show (2 * y + 1) / 2 = y by omega]
  cases td_g S (x + 1) (y + 1) <;> rfl
theorem td_an_out {S : Int64} {i j : Nat} (h : 17 ≤ i) : td_an S i j = false := by
  unfold td_an
  rw [td_g_out (by omega), td_g_out (by omega), td_g_out (by omega), td_g_out (by omega)]
  rfl
theorem td_ri_out {S : Int64} {i j : Nat} (h : 17 ≤ i) : td_ri S i j = false := by
  unfold td_ri
  rw [td_an_out h]
  rfl
theorem td_in_out {S : Int64} {i j : Nat} (h : 17 ≤ i) : td_in S i j = false := by
  unfold td_in
  rw [td_g_out (by omega)]
  rfl
/-! ===== rows of cells ===== -/
/-- a word that holds the cells of row Y -/
def td_Row (S : Int64) (Y : Nat) (w : Int32) : Prop := ∀ i, i < 32 → td_b w i = (decide (i % 2 = 1) && td_g S ((i + 1) / 2) Y)
/-- a shape's seventeen words -/
def td_R (S : Int64) (B : Nat) (r : Nat → Int32) : Prop := ∀ j, j < 17 → ∀ i, i < 32 → td_b (r (B + j)) i = td_e S i j
def td_rw (r : Nat → Int32) (B J : Nat) : Int32 := if 2 ≤ J ∧ J < 19 then r (B + (J - 2)) else 0
theorem td_rw_Row {S : Int64} {B : Nat} {r : Nat → Int32} (h : td_R S B r) (Y : Nat) : td_Row S Y (td_rw r B (2 * Y + 1)) := by
  intro i hi
  unfold td_rw
  by_cases e : 2 ≤ 2 * Y + 1 ∧ 2 * Y + 1 < 19
  · rw [if_pos e, h _ (by omega) i hi]
    unfold td_e
    rw [show (2 * Y + 1 - 2 + 1) / 2 = Y by omega]
    congr 1
    by_cases z : i % 2 = 1
    · rw [decide_eq_true z, decide_eq_true (by omega)]
    · rw [decide_eq_false z, decide_eq_false (by omega)]
  · rw [if_neg e, td_0, td_g_out (by omega), Bool.and_false]
theorem td_Row_e {S : Int64} {Y : Nat} {w : Int32} (h : td_Row S Y w) {x : Nat} (hx : x < 16) : td_b w (2 * x) = false := by
  rw [h _ (by omega), decide_eq_false (by omega), Bool.false_and]
theorem td_Row_o {S : Int64} {Y : Nat} {w : Int32} (h : td_Row S Y w) {x : Nat} (hx : x < 16) : td_b w (2 * x + 1) = td_g S (x + 1) Y := by
  rw [h _ (by omega), decide_eq_true (by omega), Bool.true_and, show (2 * x + 1 + 1) / 2 = x + 1 by omega]
theorem td_Row_31 {S : Int64} {Y : Nat} {w : Int32} (h : td_Row S Y w) : td_b w 31 = false := by
  rw [h _ (by omega), td_g_out (by omega), Bool.and_false]
theorem td_L1e {S : Int64} {Y : Nat} {w : Int32} (h : td_Row S Y w) {x : Nat} (hx : x < 16) : td_b (w <<< ((1 : Int32) &&& 31)) (2 * x) = td_g S x Y := by
  rw [td_shl1 w (by omega)]
  cases x with
  | zero => rw [td_g_out (by omega)]; rfl
  | succ x =>
    rw [decide_eq_true (by omega), Bool.true_and, show 2 * (x + 1) - 1 = 2 * x + 1 by omega]
    exact td_Row_o h (by omega)
theorem td_L1o {S : Int64} {Y : Nat} {w : Int32} (h : td_Row S Y w) {x : Nat} (hx : x < 16) : td_b (w <<< ((1 : Int32) &&& 31)) (2 * x + 1) = false := by
  rw [td_shl1 w (by omega), Nat.add_sub_cancel, td_Row_e h hx, Bool.and_false]
theorem td_R1e {S : Int64} {Y : Nat} {w : Int32} (h : td_Row S Y w) {x : Nat} (hx : x < 16) : td_b (w >>> ((1 : Int32) &&& 31)) (2 * x) = td_g S (x + 1) Y := by
  rw [td_shr1 w (by omega), if_pos (by omega), Nat.add_comm 1, td_Row_o h hx]
theorem td_R1o {S : Int64} {Y : Nat} {w : Int32} (h : td_Row S Y w) {x : Nat} (hx : x < 16) : td_b (w >>> ((1 : Int32) &&& 31)) (2 * x + 1) = false := by
  rw [td_shr1 w (by omega)]
  by_cases e : 1 + (2 * x + 1) < 32
  · rw [if_pos e, show 1 + (2 * x + 1) = 2 * (x + 1) by omega, td_Row_e h (by omega)]
  · rw [if_neg e, td_Row_31 h]
/-! ===== the words that 'lay' lays down ===== -/
def td_iw (r : Nat → Int32) (B j : Nat) : Int32 :=
  if j % 2 = 1 then td_rw r B (j + 2) ||| ((td_rw r B (j + 2) <<< ((1 : Int32) &&& 31)) &&& (td_rw r B (j + 2) >>> ((1 : Int32) &&& 31)))
  else (td_rw r B (j + 3) &&& td_rw r B (j + 1)) ||| ((((td_rw r B (j + 3) <<< ((1 : Int32) &&& 31)) &&& (td_rw r B (j + 3) >>> ((1 : Int32) &&& 31))) &&& (td_rw r B (j + 1) <<< ((1 : Int32) &&& 31))) &&& (td_rw r B (j + 1) >>> ((1 : Int32) &&& 31)))
def td_mw (r : Nat → Int32) (B j : Nat) : Int32 :=
  if j % 2 = 1 then (td_rw r B (j + 2) <<< ((1 : Int32) &&& 31)) ^^^ (td_rw r B (j + 2) >>> ((1 : Int32) &&& 31))
  else (td_rw r B (j + 3) ^^^ td_rw r B (j + 1)) ||| (((((td_rw r B (j + 3) <<< ((1 : Int32) &&& 31)) ||| (td_rw r B (j + 3) >>> ((1 : Int32) &&& 31))) ||| (td_rw r B (j + 1) <<< ((1 : Int32) &&& 31))) ||| (td_rw r B (j + 1) >>> ((1 : Int32) &&& 31))) &&& (((((td_rw r B (j + 3) <<< ((1 : Int32) &&& 31)) &&& (td_rw r B (j + 3) >>> ((1 : Int32) &&& 31))) &&& (td_rw r B (j + 1) <<< ((1 : Int32) &&& 31))) &&& (td_rw r B (j + 1) >>> ((1 : Int32) &&& 31))) ^^^ (-1)))
theorem td_par (n : Nat) : ∃ x, n = 2 * x ∨ n = 2 * x + 1 := ⟨n / 2, by omega⟩
theorem td_h0 (x : Nat) : (2 * x + 1) / 2 = x := by omega
theorem td_h1 (x : Nat) : (2 * x + 1 + 1) / 2 = x + 1 := by omega
theorem td_h2 (x : Nat) : 2 * x / 2 = x := by omega
theorem td_iw_b {S : Int64} {B : Nat} {r : Nat → Int32} (h : td_R S B r) {i j : Nat} (hi : i < 32) : td_b (td_iw r B j) i = td_in S i j := by
  obtain ⟨y, rfl | rfl⟩ := td_par j <;> obtain ⟨x, rfl | rfl⟩ := td_par i
  · have u : td_Row S (y + 1) (td_rw r B (2 * y + 3)) := td_rw_Row h (y + 1)
    have d : td_Row S y (td_rw r B (2 * y + 1)) := td_rw_Row h y
    unfold td_iw td_in
    rw [if_neg (by omega), td_or, td_and, td_and, td_and, td_and, td_Row_e u (by omega), td_Row_e d (by omega), td_L1e u (by omega), td_R1e u (by omega), td_L1e d (by omega), td_R1e d (by omega), td_h0, td_h0, td_h2, td_h2]
    cases td_g S x y <;> cases td_g S (x + 1) y <;> cases td_g S x (y + 1) <;> cases td_g S (x + 1) (y + 1) <;> rfl
  · have u : td_Row S (y + 1) (td_rw r B (2 * y + 3)) := td_rw_Row h (y + 1)
    have d : td_Row S y (td_rw r B (2 * y + 1)) := td_rw_Row h y
    unfold td_iw td_in
    rw [if_neg (by omega), td_or, td_and, td_and, td_and, td_and, td_Row_o u (by omega), td_Row_o d (by omega), td_L1o u (by omega), td_h0, td_h1, td_h0, td_h2]
    cases td_g S (x + 1) y <;> cases td_g S (x + 1) (y + 1) <;> rfl
  · have u : td_Row S (y + 1) (td_rw r B (2 * y + 1 + 2)) := td_rw_Row h (y + 1)
    unfold td_iw td_in
    rw [if_pos (by omega), td_or, td_and, td_Row_e u (by omega), td_L1e u (by omega), td_R1e u (by omega), td_h0, td_h2, td_h1, td_h0]
    cases td_g S x (y + 1) <;> cases td_g S (x + 1) (y + 1) <;> rfl
  · have u : td_Row S (y + 1) (td_rw r B (2 * y + 1 + 2)) := td_rw_Row h (y + 1)
    rw [td_in_c]
    unfold td_iw
    rw [if_pos (by omega), td_or, td_and, td_Row_o u (by omega), td_L1o u (by omega)]
    cases td_g S (x + 1) (y + 1) <;> rfl
theorem td_mw_b {S : Int64} {B : Nat} {r : Nat → Int32} (h : td_R S B r) {i j : Nat} (hi : i < 32) : td_b (td_mw r B j) i = td_ri S i j := by
  obtain ⟨y, rfl | rfl⟩ := td_par j <;> obtain ⟨x, rfl | rfl⟩ := td_par i
  · have u : td_Row S (y + 1) (td_rw r B (2 * y + 3)) := td_rw_Row h (y + 1)
    have d : td_Row S y (td_rw r B (2 * y + 1)) := td_rw_Row h y
    unfold td_mw td_ri td_in td_an
    rw [if_neg (by omega), td_or, td_xor, td_bnot _ _ hi, td_or, td_or, td_or, td_and, td_and, td_and, td_Row_e u (by omega), td_Row_e d (by omega), td_L1e u (by omega), td_R1e u (by omega), td_L1e d (by omega), td_R1e d (by omega), td_h0, td_h0, td_h2, td_h2]
    cases td_g S x y <;> cases td_g S (x + 1) y <;> cases td_g S x (y + 1) <;> cases td_g S (x + 1) (y + 1) <;> rfl
  · have u : td_Row S (y + 1) (td_rw r B (2 * y + 3)) := td_rw_Row h (y + 1)
    have d : td_Row S y (td_rw r B (2 * y + 1)) := td_rw_Row h y
    unfold td_mw td_ri td_in td_an
    rw [if_neg (by omega), td_or, td_xor, td_bnot _ _ hi, td_or, td_or, td_or, td_Row_o u (by omega), td_Row_o d (by omega), td_L1o u (by omega), td_R1o u (by omega), td_L1o d (by omega), td_R1o d (by omega), td_h0, td_h1, td_h0, td_h2]
    cases td_g S (x + 1) y <;> cases td_g S (x + 1) (y + 1) <;> rfl
  · have u : td_Row S (y + 1) (td_rw r B (2 * y + 1 + 2)) := td_rw_Row h (y + 1)
    unfold td_mw td_ri td_in td_an
    rw [if_pos (by omega), td_xor, td_L1e u (by omega), td_R1e u (by omega), td_h0, td_h2, td_h1, td_h0]
    cases td_g S x (y + 1) <;> cases td_g S (x + 1) (y + 1) <;> rfl
  · have u : td_Row S (y + 1) (td_rw r B (2 * y + 1 + 2)) := td_rw_Row h (y + 1)
    unfold td_ri
    rw [td_in_c, td_an_c]
    unfold td_mw
    rw [if_pos (by omega), td_xor, td_L1o u (by omega), td_R1o u (by omega)]
    cases td_g S (x + 1) (y + 1) <;> rfl
end
section
/-! ===== how many cells ===== -/
def td_n (S : Int64) : Nat := td_sm (fun k => (td_l S k).toNat) 64
theorem td_n_le (S : Int64) : td_n S ≤ 64 := by
  have := td_sm_le (f := fun k => (td_l S k).toNat) (n := 64) 1 (fun i _ => td_tn1 _)
  unfold td_n
  omega
theorem td_n_0 {S : Int64} : td_n S = 0 ↔ S = 0 := by
  constructor
  · intro h
    apply td_lz.mpr
    intro k hk
    cases e : td_l S k
    · rfl
    · have := td_sm_pos (f := fun k => (td_l S k).toNat) hk (by show 0 < (td_l S k).toNat; rw [e]; decide)
      unfold td_n at h
      omega
  · intro h
    exact td_sm_zero (fun k hk => by rw [td_lz.mp h k hk]; rfl)
theorem td_n_g (S : Int64) : td_n S = td_sm (fun y => td_sm (fun x => (td_g S (x + 1) (y + 1)).toNat) 8) 8 :=
  (td_sm_8 (fun k => (td_l S k).toNat) 8).trans ((td_sm_swap (fun x y => (td_l S (8 * x + y)).toNat) 8 8).trans (td_sm_congr (fun y hy => td_sm_congr (fun x hx => by rw [td_g_in S hx hy]))))
theorem td_tail {f : Nat → Nat} (a b : Nat) (h : ∀ i, i < b → f (a + i) = 0) : td_sm f (a + b) = td_sm f a := by
  rw [td_sm_add, td_sm_zero h, Nat.add_zero]
theorem td_cnt_row (S : Int64) (j : Nat) : td_sm (fun i => (td_e S i j).toNat) 32 = if j % 2 = 1 then td_sm (fun x => (td_g S (x + 1) ((j + 1) / 2)).toNat) 8 else 0 := by
  by_cases e : j % 2 = 1
  · rw [if_pos e]
    have t1 : td_sm (fun i => (td_e S i j).toNat) 32 = td_sm (fun i => if i % 2 = 1 then (fun X => (td_g S X ((j + 1) / 2)).toNat) ((i + 1) / 2) else 0) (2 * 16) := by
      apply td_sm_congr
      intro i _
      show (td_e S i j).toNat = if i % 2 = 1 then (td_g S ((i + 1) / 2) ((j + 1) / 2)).toNat else 0
      unfold td_e
      by_cases z : i % 2 = 1
      · rw [decide_eq_true ⟨z, e⟩, if_pos z, Bool.true_and]
      · rw [decide_eq_false (fun t => z t.1), if_neg z, Bool.false_and]
        rfl
    rw [t1, td_sm_odd (fun X => (td_g S X ((j + 1) / 2)).toNat) 16]
    exact td_tail 8 8 (fun i _ => by show (td_g S (8 + i + 1) ((j + 1) / 2)).toNat = 0; rw [td_g_out (by omega)]; rfl)
  · rw [if_neg e]
    apply td_sm_zero
    intro i _
    unfold td_e
    rw [decide_eq_false (fun t => e t.2), Bool.false_and]
    rfl
theorem td_cnt {S : Int64} {B : Nat} {r : Nat → Int32} (h : td_R S B r) : td_sm (fun j => td_pop (r (B + j))) 17 = td_n S := by
  have t1 : td_sm (fun j => td_pop (r (B + j))) 17 = td_sm (fun j => if j % 2 = 1 then (fun Y => td_sm (fun x => (td_g S (x + 1) Y).toNat) 8) ((j + 1) / 2) else 0) (2 * 8 + 1) := by
    apply td_sm_congr
    intro j hj
    show td_pop (r (B + j)) = if j % 2 = 1 then td_sm (fun x => (td_g S (x + 1) ((j + 1) / 2)).toNat) 8 else 0
    rw [← td_cnt_row]
    exact td_sm_congr (fun i hi => by rw [h j hj i hi])
  rw [t1, td_tail (2 * 8) 1 (fun i hi => by show (if (2 * 8 + i) % 2 = 1 then _ else 0) = 0; rw [if_neg (by omega)]), td_sm_odd (fun Y => td_sm (fun x => (td_g S (x + 1) Y).toNat) 8) 8, td_n_g]
theorem td_hz {S : Int64} {B : Nat} {r : Nat → Int32} (h : td_R S B r) : ∀ j, j < 17 → ∀ i, 17 ≤ i → i < 32 → td_b (r (B + j)) i = false := by
  intro j hj i h1 h2
  rw [h j hj i h2]
  unfold td_e
  rw [td_g_out (by omega), Bool.and_false]
/-! ===== how many edges of the rim ===== -/
def td_q (a b c : Bool) : Nat := if a then (!b).toNat + (!c).toNat else 0
def td_rk (S : Int64) (k : Nat) : Nat := td_q (td_g S (k / 8 + 1) (k % 8 + 1)) (td_g S (k / 8 + 2) (k % 8 + 1)) (td_g S (k / 8) (k % 8 + 1)) + td_q (td_g S (k / 8 + 1) (k % 8 + 1)) (td_g S (k / 8 + 1) (k % 8 + 2)) (td_g S (k / 8 + 1) (k % 8))
def td_rn (S : Int64) : Nat := td_sm (td_rk S) 64
theorem td_q_le (a b c : Bool) : td_q a b c ≤ 2 := by revert a b c; decide
theorem td_rk_le (S : Int64) (k : Nat) : td_rk S k ≤ 4 := by
  have h1 := td_q_le (td_g S (k / 8 + 1) (k % 8 + 1)) (td_g S (k / 8 + 2) (k % 8 + 1)) (td_g S (k / 8) (k % 8 + 1))
  have h2 := td_q_le (td_g S (k / 8 + 1) (k % 8 + 1)) (td_g S (k / 8 + 1) (k % 8 + 2)) (td_g S (k / 8 + 1) (k % 8))
  unfold td_rk
  omega
theorem td_rn_le (S : Int64) (n : Nat) : td_sm (td_rk S) n ≤ 4 * n := td_sm_le 4 (fun i _ => td_rk_le S i)
theorem td_line (h : Nat → Bool) (h0 : h 0 = false) (h9 : h 9 = false) : td_sm (fun y => (h y ^^ h (y + 1)).toNat) 9 = td_sm (fun y => td_q (h (y + 1)) (h (y + 2)) (h y)) 8 := by
  have key : ∀ a1 a2 a3 a4 a5 a6 a7 a8 : Bool, 0 + (false ^^ a1).toNat + (a1 ^^ a2).toNat + (a2 ^^ a3).toNat + (a3 ^^ a4).toNat + (a4 ^^ a5).toNat + (a5 ^^ a6).toNat + (a6 ^^ a7).toNat + (a7 ^^ a8).toNat + (a8 ^^ false).toNat = 0 + td_q a1 a2 false + td_q a2 a3 a1 + td_q a3 a4 a2 + td_q a4 a5 a3 + td_q a5 a6 a4 + td_q a6 a7 a5 + td_q a7 a8 a6 + td_q a8 false a7 := by decide +kernel
  have t := key (h 1) (h 2) (h 3) (h 4) (h 5) (h 6) (h 7) (h 8)
  show 0 + (h 0 ^^ h 1).toNat + (h 1 ^^ h 2).toNat + (h 2 ^^ h 3).toNat + (h 3 ^^ h 4).toNat + (h 4 ^^ h 5).toNat + (h 5 ^^ h 6).toNat + (h 6 ^^ h 7).toNat + (h 7 ^^ h 8).toNat + (h 8 ^^ h 9).toNat = 0 + td_q (h 1) (h 2) (h 0) + td_q (h 2) (h 3) (h 1) + td_q (h 3) (h 4) (h 2) + td_q (h 4) (h 5) (h 3) + td_q (h 5) (h 6) (h 4) + td_q (h 6) (h 7) (h 5) + td_q (h 7) (h 8) (h 6) + td_q (h 8) (h 9) (h 7)
  rw [h0, h9]
  exact t
theorem td_ri_eo (S : Int64) (x y : Nat) : td_ri S (2 * x) (2 * y + 1) = (td_g S x (y + 1) ^^ td_g S (x + 1) (y + 1)) := by
  unfold td_ri td_in td_an
  rw [td_h0, td_h2, td_h1, td_h0]
  cases td_g S x (y + 1) <;> cases td_g S (x + 1) (y + 1) <;> rfl
theorem td_ri_oe (S : Int64) (x y : Nat) : td_ri S (2 * x + 1) (2 * y) = (td_g S (x + 1) y ^^ td_g S (x + 1) (y + 1)) := by
  unfold td_ri td_in td_an
  rw [td_h0, td_h2, td_h1, td_h0]
  cases td_g S (x + 1) y <;> cases td_g S (x + 1) (y + 1) <;> rfl
def td_mk (j : Nat) : Int32 := if j % 2 = 0 then 43690 else 87381
def td_A (S : Int64) (Y : Nat) : Nat := td_sm (fun x => (td_g S x Y ^^ td_g S (x + 1) Y).toNat) 9
def td_Bf (S : Int64) (y : Nat) : Nat := td_sm (fun x => (td_g S (x + 1) y ^^ td_g S (x + 1) (y + 1)).toNat) 8
theorem td_rimo {S : Int64} {w : Int32} {y : Nat} (hw : ∀ i, i < 32 → td_b w i = td_ri S i (2 * y + 1)) : td_pop (w &&& 87381) = td_A S (y + 1) := by
  have t1 : td_pop (w &&& 87381) = td_sm (fun i => if i % 2 = 0 then (fun x => (td_g S x (y + 1) ^^ td_g S (x + 1) (y + 1)).toNat) (i / 2) else 0) (2 * 16) := by
    apply td_sm_congr
    intro i hi
    show (td_b (w &&& 87381) i).toNat = if i % 2 = 0 then (td_g S (i / 2) (y + 1) ^^ td_g S (i / 2 + 1) (y + 1)).toNat else 0
    rw [td_and, td_even i hi, hw i hi]
    obtain ⟨x, rfl | rfl⟩ := td_par i
    · rw [if_pos (by omega), td_ri_eo, td_h2, decide_eq_true (by omega), Bool.true_and]
      by_cases z : 2 * x < 17
      · rw [decide_eq_true z, Bool.and_true]
      · rw [decide_eq_false z, Bool.and_false, td_g_out (by omega), td_g_out (by omega)]
        rfl
    · rw [if_neg (by omega), decide_eq_false (by omega), Bool.false_and, Bool.and_false]
      rfl
  rw [t1, td_sm_even (fun x => (td_g S x (y + 1) ^^ td_g S (x + 1) (y + 1)).toNat) 16]
  exact td_tail 9 7 (fun i _ => by show (td_g S (9 + i) (y + 1) ^^ td_g S (9 + i + 1) (y + 1)).toNat = 0; rw [td_g_out (by omega), td_g_out (by omega)]; rfl)
theorem td_rime {S : Int64} {w : Int32} {y : Nat} (hw : ∀ i, i < 32 → td_b w i = td_ri S i (2 * y)) : td_pop (w &&& 43690) = td_Bf S y := by
  have t1 : td_pop (w &&& 43690) = td_sm (fun i => if i % 2 = 1 then (fun X => (td_g S X y ^^ td_g S X (y + 1)).toNat) ((i + 1) / 2) else 0) (2 * 16) := by
    apply td_sm_congr
    intro i hi
    show (td_b (w &&& 43690) i).toNat = if i % 2 = 1 then (td_g S ((i + 1) / 2) y ^^ td_g S ((i + 1) / 2) (y + 1)).toNat else 0
    rw [td_and, td_odd i hi, hw i hi]
    obtain ⟨x, rfl | rfl⟩ := td_par i
    · rw [if_neg (by omega), decide_eq_false (by omega), Bool.false_and, Bool.and_false]
      rfl
    · rw [if_pos (by omega), td_ri_oe, td_h1, decide_eq_true (by omega), Bool.true_and]
      by_cases z : 2 * x + 1 < 16
      · rw [decide_eq_true z, Bool.and_true]
      · rw [decide_eq_false z, Bool.and_false, td_g_out (by omega), td_g_out (by omega)]
        rfl
  rw [t1, td_sm_odd (fun X => (td_g S X y ^^ td_g S X (y + 1)).toNat) 16]
  exact td_tail 8 8 (fun i _ => by show (td_g S (8 + i + 1) y ^^ td_g S (8 + i + 1) (y + 1)).toNat = 0; rw [td_g_out (by omega), td_g_out (by omega)]; rfl)
theorem td_rim_sum {S : Int64} {W : Nat → Int32} (hW : ∀ j, j < 17 → ∀ i, i < 32 → td_b (W j) i = td_ri S i j) : td_sm (fun j => td_pop (W j &&& td_mk j)) 17 = td_rn S := by
  have t1 : td_sm (fun j => td_pop (W j &&& td_mk j)) 17 = td_sm (fun j => (if j % 2 = 1 then td_A S ((j + 1) / 2) else 0) + (if j % 2 = 0 then td_Bf S (j / 2) else 0)) 17 := by
    apply td_sm_congr
    intro j hj
    have hw := hW j hj
    unfold td_mk
    obtain ⟨y, rfl | rfl⟩ := td_par j
    · rw [if_pos (by omega), if_neg (by omega), if_pos (by omega), td_rime hw, td_h2, Nat.zero_add]
    · rw [if_neg (by omega), if_pos (by omega), if_neg (by omega), td_rimo hw, td_h1]
      rfl
  have t2 : td_sm (fun j => if j % 2 = 1 then td_A S ((j + 1) / 2) else 0) 17 = td_sm (fun y => td_A S (y + 1)) 8 := by
    rw [show (17 : Nat) = 2 * 8 + 1 from rfl, td_tail (2 * 8) 1 (fun i hi => by show (if (2 * 8 + i) % 2 = 1 then _ else 0) = 0; rw [if_neg (by omega)]), td_sm_odd]
  have t3 : td_sm (fun j => if j % 2 = 0 then td_Bf S (j / 2) else 0) 17 = td_sm (td_Bf S) 9 := by
    rw [← td_sm_even (td_Bf S) 9, show 2 * 9 = 17 + 1 from rfl, td_tail 17 1 (fun i hi => by show (if (17 + i) % 2 = 0 then _ else 0) = 0; rw [if_neg (by omega)])]
  have t4 : td_sm (fun y => td_A S (y + 1)) 8 = td_sm (fun x => td_sm (fun y => td_q (td_g S (x + 1) (y + 1)) (td_g S (x + 2) (y + 1)) (td_g S x (y + 1))) 8) 8 :=
    (td_sm_congr (fun y _ => td_line (fun x => td_g S x (y + 1)) (td_g_out (by omega)) (td_g_out (by omega)))).trans (td_sm_swap (fun y x => td_q (td_g S (x + 1) (y + 1)) (td_g S (x + 2) (y + 1)) (td_g S x (y + 1))) 8 8)
  have t5 : td_sm (td_Bf S) 9 = td_sm (fun x => td_sm (fun y => td_q (td_g S (x + 1) (y + 1)) (td_g S (x + 1) (y + 2)) (td_g S (x + 1) y)) 8) 8 :=
    (td_sm_swap (fun y x => (td_g S (x + 1) y ^^ td_g S (x + 1) (y + 1)).toNat) 9 8).trans (td_sm_congr (fun x _ => td_line (fun y => td_g S (x + 1) y) (td_g_out (by omega)) (td_g_out (by omega))))
  have t6 : td_rn S = td_sm (fun x => td_sm (fun y => td_q (td_g S (x + 1) (y + 1)) (td_g S (x + 2) (y + 1)) (td_g S x (y + 1)) + td_q (td_g S (x + 1) (y + 1)) (td_g S (x + 1) (y + 2)) (td_g S (x + 1) y)) 8) 8 := by
    refine (td_sm_8 (td_rk S) 8).trans (td_sm_congr (fun x hx => td_sm_congr (fun y hy => ?_)))
    unfold td_rk
    rw [show (8 * x + y) / 8 = x by omega, show (8 * x + y) % 8 = y by omega]
  rw [t1, td_sm_plus, t2, t3, t4, t5, t6, ← td_sm_plus]
  exact td_sm_congr (fun x _ => (td_sm_plus _ _ 8).symm)
/-! ===== how two shapes lie ===== -/
theorem td_sub {S T : Int64} : (T &&& (S ^^^ (-1))) = 0 ↔ ∀ X Y, td_g T X Y = true → td_g S X Y = true := by
  constructor
  · intro h X Y e
    obtain ⟨hr, hl⟩ := td_g_t e
    have t := td_g_not T S X Y
    rw [h, td_g_0, e, Bool.true_and] at t
    cases z : td_g S X Y
    · rw [z] at t
      exact absurd t (by decide)
    · rfl
  · intro h
    apply td_lz.mpr
    intro k hk
    rw [← td_g_k _ hk, td_g_not]
    cases z : td_g T (k / 8 + 1) (k % 8 + 1)
    · rfl
    · rw [h _ _ z]
      rfl
theorem td_disj {S T : Int64} : (S &&& T) = 0 ↔ ∀ X Y, td_g S X Y = true → td_g T X Y = false := by
  constructor
  · intro h X Y e
    have t := td_g_and S T X Y
    rw [h, td_g_0, e, Bool.true_and] at t
    exact t.symm
  · intro h
    apply td_lz.mpr
    intro k hk
    rw [← td_g_k _ hk, td_g_and]
    cases z : td_g S (k / 8 + 1) (k % 8 + 1)
    · rfl
    · rw [h _ _ z]
      rfl
theorem td_eqg {S T : Int64} (h : ∀ X Y, td_g S X Y = td_g T X Y) : S = T :=
  td_lext (fun k hk => by rw [← td_g_k S hk, ← td_g_k T hk]; exact h _ _)
theorem td_cell {S : Int64} {X Y : Nat} (h : td_g S X Y = true) : ∃ x y, x < 8 ∧ y < 8 ∧ X = x + 1 ∧ Y = y + 1 := by
  obtain ⟨hr, -⟩ := td_g_t h
  exact ⟨X - 1, Y - 1, by omega, by omega, by omega, by omega⟩
/-- the second in the first -/
theorem td_is4 {S T : Int64} : (∀ j, j < 17 → ∀ i, i < 17 → td_an T i j = true → td_an S i j = true) ↔ (T &&& (S ^^^ (-1))) = 0 := by
  rw [td_sub]
  constructor
  · intro h X Y e
    obtain ⟨x, y, hx, hy, rfl, rfl⟩ := td_cell e
    rw [← td_an_c] at e ⊢
    exact h _ (by omega) _ (by omega) e
  · intro h j _ i _ e
    obtain ⟨a, b, ha, hb, hg⟩ := td_an_iff.mp e
    exact td_an_iff.mpr ⟨a, b, ha, hb, h a b hg⟩
/-- the same bodies -/
theorem td_is0 {S T : Int64} : (∀ j, j < 17 → ∀ i, i < 17 → td_an S i j = td_an T i j) ↔ S = T := by
  constructor
  · intro h
    apply td_eqg
    intro X Y
    by_cases e : 1 ≤ X ∧ X ≤ 8 ∧ 1 ≤ Y ∧ Y ≤ 8
    · have t := h (2 * (Y - 1) + 1) (by omega) (2 * (X - 1) + 1) (by omega)
      rw [td_an_c, td_an_c, show X - 1 + 1 = X by omega, show Y - 1 + 1 = Y by omega] at t
      exact t
    · rw [td_g_out e, td_g_out e]
  · intro h j _ i _
    rw [h]
/-- an inside of the first beyond the second -/
theorem td_is6 {S T : Int64} : (∀ j, j < 17 → ∀ i, i < 17 → td_in S i j = true → td_an T i j = true) ↔ (S &&& (T ^^^ (-1))) = 0 := by
  rw [td_sub]
  constructor
  · intro h X Y e
    obtain ⟨x, y, hx, hy, rfl, rfl⟩ := td_cell e
    rw [← td_in_c] at e
    rw [← td_an_c]
    exact h _ (by omega) _ (by omega) e
  · intro h j _ i _ e
    exact td_an_iff.mpr ⟨_, _, .inl rfl, .inl rfl, h _ _ (td_in_t e)⟩
/-- insides that have a cell in common -/
theorem td_is3 {S T : Int64} : (∃ j, j < 17 ∧ j % 2 = 1 ∧ ∃ i, i < 16 ∧ i % 2 = 1 ∧ td_in S i j = true ∧ td_in T i j = true) ↔ ¬ (S &&& T) = 0 := by
  rw [td_disj]
  constructor
  · rintro ⟨j, _, _, i, _, _, h1, h2⟩ h
    have t := h _ _ (td_in_t h1)
    rw [td_in_t h2] at t
    exact absurd t (by decide)
  · intro h
    apply Classical.byContradiction
    intro h'
    apply h
    intro X Y e
    cases z : td_g T X Y
    · rfl
    · obtain ⟨x, y, hx, hy, rfl, rfl⟩ := td_cell e
      exact absurd ⟨2 * y + 1, by omega, by omega, 2 * x + 1, by omega, by omega, by rw [td_in_c]; exact e, by rw [td_in_c]; exact z⟩ h'
def td_ex (f : Nat → Bool) : Nat → Bool
  | 0 => false
  | n + 1 => td_ex f n || f n
theorem td_ex_iff {f : Nat → Bool} {n : Nat} : td_ex f n = true ↔ ∃ q, q < n ∧ f q = true := by
  induction n with
  | zero => exact ⟨fun h => absurd h Bool.false_ne_true, fun ⟨q, h, _⟩ => absurd h (by omega)⟩
  | succ n ih =>
    show (td_ex f n || f n) = true ↔ _
    rw [Bool.or_eq_true, ih]
    constructor
    · rintro (⟨q, h, e⟩ | h)
      · exact ⟨q, by omega, e⟩
      · exact ⟨n, by omega, h⟩
    · rintro ⟨q, h, e⟩
      by_cases z : q = n
      · subst z; exact .inr e
      · exact .inl ⟨q, by omega, e⟩
/-- a cell or one of its neighbours -/
def td_nr (S : Int64) (x y : Nat) : Bool := td_ex (fun q => td_g S (x + q / 3) (y + q % 3)) 9
theorem td_is1 {S T G : Int64} (hG : ∀ k, k < 64 → td_l G k = td_nr S (k / 8) (k % 8)) : (∀ j, j < 17 → ∀ i, i < 17 → (td_an S i j && td_an T i j) = false) ↔ (G &&& T) = 0 := by
  constructor
  · intro h
    apply td_lz.mpr
    intro k hk
    rw [td_land, hG k hk]
    cases z : td_nr S (k / 8) (k % 8)
    · rfl
    cases z2 : td_l T k
    · rfl
    exfalso
    obtain ⟨q, hq, e⟩ := td_ex_iff.mp z
    have e2 : td_g T (k / 8 + 1) (k % 8 + 1) = true := by rw [td_g_k T hk]; exact z2
    have hr := (td_g_t e).1
    have t := h (k % 8 + q % 3 + (k % 8 + 1) - 1) (by omega) (k / 8 + q / 3 + (k / 8 + 1) - 1) (by omega)
    rw [td_an_iff.mpr ⟨_, _, by omega, by omega, e⟩, td_an_iff.mpr ⟨_, _, by omega, by omega, e2⟩] at t
    exact absurd t (by decide)
  · intro h j _ i _
    cases z : td_an S i j
    · rfl
    cases z2 : td_an T i j
    · rfl
    exfalso
    obtain ⟨a, b, ha, hb, e⟩ := td_an_iff.mp z
    obtain ⟨a', b', ha', hb', e'⟩ := td_an_iff.mp z2
    obtain ⟨x, y, hx, hy, rfl, rfl⟩ := td_cell e'
    have hr := (td_g_t e).1
    have hk : 8 * x + y < 64 := by omega
    have t := td_lz.mp h (8 * x + y) hk
    rw [td_land, hG _ hk, ← td_g_in T hx hy, e', show (8 * x + y) / 8 = x by omega, show (8 * x + y) % 8 = y by omega, Bool.and_true] at t
    have t2 : td_nr S x y = true := td_ex_iff.mpr ⟨3 * (a - x) + (b - y), by omega, by
      show td_g S (x + (3 * (a - x) + (b - y)) / 3) (y + (3 * (a - x) + (b - y)) % 3) = true
      rw [show x + (3 * (a - x) + (b - y)) / 3 = a by omega, show y + (3 * (a - x) + (b - y)) % 3 = b by omega]
      exact e⟩
    rw [t2] at t
    exact absurd t (by decide)
end
section
/-! ===== shapes that are changed ===== -/
theorem td_e_or (S T : Int64) (i j : Nat) : td_e (S ||| T) i j = (td_e S i j || td_e T i j) := by
  unfold td_e
  rw [td_g_or]
  cases decide (i % 2 = 1 ∧ j % 2 = 1) <;> rfl
theorem td_e_and (S T : Int64) (i j : Nat) : td_e (S &&& T) i j = (td_e S i j && td_e T i j) := by
  unfold td_e
  rw [td_g_and]
  cases decide (i % 2 = 1 ∧ j % 2 = 1) <;> rfl
theorem td_e_xor (S T : Int64) (i j : Nat) : td_e (S ^^^ T) i j = (td_e S i j ^^ td_e T i j) := by
  unfold td_e
  rw [td_g_xor]
  cases decide (i % 2 = 1 ∧ j % 2 = 1) <;> rfl
theorem td_e_not (S T : Int64) (i j : Nat) : td_e (S &&& (T ^^^ (-1))) i j = (td_e S i j && !td_e T i j) := by
  unfold td_e
  rw [td_g_not]
  cases decide (i % 2 = 1 ∧ j % 2 = 1) <;> rfl
theorem td_e_0 (i j : Nat) : td_e 0 i j = false := by
  unfold td_e
  rw [td_g_0, Bool.and_false]
theorem td_R_0 {B : Nat} {r : Nat → Int32} (h : ∀ j, j < 17 → r (B + j) = 0) : td_R 0 B r := by
  intro j hj i hi
  rw [h j hj, td_0, td_e_0]
theorem td_R_keep {S : Int64} {B : Nat} {r r' : Nat → Int32} (h : td_R S B r) (e : ∀ j, j < 17 → r' (B + j) = r (B + j)) : td_R S B r' := by
  intro j hj i hi
  rw [e j hj]
  exact h j hj i hi
/-- the cells of a rectangle -/
def td_C (x0 x1 y0 y1 : Nat) (C : Int64) : Prop := ∀ k, k < 64 → td_l C k = decide (x0 ≤ k / 8 ∧ k / 8 < x1 ∧ y0 ≤ k % 8 ∧ k % 8 < y1)
theorem td_C_e {x0 x1 y0 y1 : Nat} {C : Int64} (h : td_C x0 x1 y0 y1 C) (hx : x1 ≤ 8) (hy : y1 ≤ 8) (i j : Nat) : td_e C i j = (decide (i % 2 = 1 ∧ 2 * x0 ≤ i ∧ i < 2 * x1) && decide (j % 2 = 1 ∧ 2 * y0 ≤ j ∧ j < 2 * y1)) := by
  unfold td_e
  by_cases e : i % 2 = 1 ∧ j % 2 = 1
  · rw [decide_eq_true e, Bool.true_and]
    obtain ⟨x, hx'⟩ := td_par i
    obtain ⟨y, hy'⟩ := td_par j
    have hi : i = 2 * x + 1 := by omega
    have hj : j = 2 * y + 1 := by omega
    subst hi hj
    rw [td_h1, td_h1]
    by_cases z : x < 8 ∧ y < 8
    · rw [td_g_in C z.1 z.2, h _ (by omega), show (8 * x + y) / 8 = x by omega, show (8 * x + y) % 8 = y by omega, ← Bool.decide_and]
      apply decide_eq_decide.mpr
      omega
    · rw [td_g_out (by omega), ← Bool.decide_and]
      exact (decide_eq_false (by omega)).symm
  · rw [decide_eq_false e, Bool.false_and, ← Bool.decide_and]
    exact (decide_eq_false (by omega)).symm
theorem td_rect {S C : Int64} {x0 x1 y0 y1 B : Nat} {r r' : Nat → Int32} {w : Int32} (h : td_R S B r) (hC : td_C x0 x1 y0 y1 C) (hx : x1 ≤ 8) (hy : y1 ≤ 8)
    (hw : ∀ i, i < 32 → td_b w i = decide (i % 2 = 1 ∧ 2 * x0 ≤ i ∧ i < 2 * x1))
    (h' : ∀ j, j < 17 → r' (B + j) = if j % 2 = 1 ∧ 2 * y0 ≤ j ∧ j < 2 * y1 then r (B + j) ||| w else r (B + j)) : td_R (S ||| C) B r' := by
  intro j hj i hi
  rw [h' j hj, td_e_or, td_C_e hC hx hy]
  by_cases z : j % 2 = 1 ∧ 2 * y0 ≤ j ∧ j < 2 * y1
  · rw [if_pos z, td_or, h j hj i hi, hw i hi, decide_eq_true z, Bool.and_true]
  · rw [if_neg z, h j hj i hi, decide_eq_false z, Bool.and_false, Bool.or_false]
theorem td_cutR {S C : Int64} {x0 x1 y0 y1 B : Nat} {r r' : Nat → Int32} {w : Int32} (h : td_R S B r) (hC : td_C x0 x1 y0 y1 C) (hx : x1 ≤ 8) (hy : y1 ≤ 8)
    (hw : ∀ i, i < 32 → td_b w i = decide (i % 2 = 1 ∧ 2 * x0 ≤ i ∧ i < 2 * x1))
    (h' : ∀ j, j < 17 → r' (B + j) = if j % 2 = 1 ∧ 2 * y0 ≤ j ∧ j < 2 * y1 then r (B + j) &&& (w ^^^ (-1)) else r (B + j)) : td_R (S &&& (C ^^^ (-1))) B r' := by
  intro j hj i hi
  rw [h' j hj, td_e_not, td_C_e hC hx hy]
  by_cases z : j % 2 = 1 ∧ 2 * y0 ≤ j ∧ j < 2 * y1
  · rw [if_pos z, td_bnot _ _ hi, h j hj i hi, hw i hi, decide_eq_true z, Bool.and_true]
  · rw [if_neg z, h j hj i hi, decide_eq_false z, Bool.and_false, Bool.not_false, Bool.and_true]
/-- the columns of a rectangle -/
theorem td_span : ∀ a, a < 9 → ∀ b, b < 9 → a ≤ b → ∀ i, i < 32 → td_b ((((1 : Int32) <<< ((nI (2 * b) + 1) &&& 31)) - ((1 : Int32) <<< (nI (2 * a) &&& 31))) &&& 43690) i = decide (i % 2 = 1 ∧ 2 * a ≤ i ∧ i < 2 * b) := by decide +kernel
/-- combine -/
def td_op (how : Nat) (S T : Int64) : Int64 := if how = 0 then S ||| T else if how = 1 then S &&& T else if how = 2 then S &&& (T ^^^ (-1)) else S ^^^ T
def td_opw (how : Nat) (a b : Int32) : Int32 := if how = 0 then a ||| b else if how = 1 then a &&& b else if how = 2 then a &&& (b ^^^ (-1)) else a ^^^ b
theorem td_comb {S T : Int64} {how B D : Nat} {r r' : Nat → Int32} (h : td_R S B r) (hT : td_R T D r)
    (h' : ∀ j, j < 17 → r' (B + j) = td_opw how (r (B + j)) (r (D + j))) : td_R (td_op how S T) B r' := by
  intro j hj i hi
  rw [h' j hj]
  unfold td_opw td_op
  by_cases h0 : how = 0
  · rw [if_pos h0, if_pos h0, td_or, td_e_or, h j hj i hi, hT j hj i hi]
  · rw [if_neg h0, if_neg h0]
    by_cases h1 : how = 1
    · rw [if_pos h1, if_pos h1, td_and, td_e_and, h j hj i hi, hT j hj i hi]
    · rw [if_neg h1, if_neg h1]
      by_cases h2 : how = 2
      · rw [if_pos h2, if_pos h2, td_bnot _ _ hi, td_e_not, h j hj i hi, hT j hj i hi]
      · rw [if_neg h2, if_neg h2, td_xor, td_e_xor, h j hj i hi, hT j hj i hi]
/-- grow: a row out of three -/
def td_gw (s : Int32) : Int32 := ((s ||| (s <<< ((2 : Int32) &&& 31))) ||| (s >>> ((2 : Int32) &&& 31))) &&& 43690
theorem td_9 : ∀ a b c d e f g h i : Bool, ((((d || e) || f) || ((a || b) || c)) || ((g || h) || i)) = (((((((((false || a) || b) || c) || d) || e) || f) || g) || h) || i) := by decide +kernel
theorem td_grow_row {S G : Int64} (hG : ∀ k, k < 64 → td_l G k = td_nr S (k / 8) (k % 8)) {y : Nat} (hy : y < 8) {w0 w1 w2 : Int32} (h0 : td_Row S y w0) (h1 : td_Row S (y + 1) w1) (h2 : td_Row S (y + 2) w2) :
    td_Row G (y + 1) (td_gw ((w0 ||| w1) ||| w2)) := by
  intro i hi
  unfold td_gw
  rw [td_and, td_odd i hi]
  obtain ⟨x, rfl | rfl⟩ := td_par i
  · rw [decide_eq_false (by omega), Bool.false_and, Bool.and_false, Bool.false_and]
  · rw [decide_eq_true (by omega), Bool.true_and, Bool.true_and, td_h1]
    by_cases z : 2 * x + 1 < 16
    · have hx : x < 8 := by omega
      have s : ∀ X, X < 16 → td_b ((w0 ||| w1) ||| w2) (2 * X + 1) = ((td_g S (X + 1) y || td_g S (X + 1) (y + 1)) || td_g S (X + 1) (y + 2)) := by
        intro X hX
        rw [td_or, td_or, td_Row_o h0 hX, td_Row_o h1 hX, td_Row_o h2 hX]
      have sl : td_b (((w0 ||| w1) ||| w2) <<< ((2 : Int32) &&& 31)) (2 * x + 1) = ((td_g S x y || td_g S x (y + 1)) || td_g S x (y + 2)) := by
        rw [td_shl2 _ hi]
        cases x with
        | zero => rw [td_g_out (by omega), td_g_out (by omega), td_g_out (by omega)]; rfl
        | succ x => rw [decide_eq_true (by omega), Bool.true_and, show 2 * (x + 1) + 1 - 2 = 2 * x + 1 by omega, s x (by omega)]
      have sr : td_b (((w0 ||| w1) ||| w2) >>> ((2 : Int32) &&& 31)) (2 * x + 1) = ((td_g S (x + 2) y || td_g S (x + 2) (y + 1)) || td_g S (x + 2) (y + 2)) := by
        rw [td_shr2 _ hi, if_pos (by omega), show 2 + (2 * x + 1) = 2 * (x + 1) + 1 by omega, s (x + 1) (by omega)]
      rw [decide_eq_true z, Bool.and_true, td_or, td_or, s x (by omega), sl, sr, td_g_in G hx hy, hG _ (by omega), show (8 * x + y) / 8 = x by omega, show (8 * x + y) % 8 = y by omega]
      exact td_9 (td_g S x y) (td_g S x (y + 1)) (td_g S x (y + 2)) (td_g S (x + 1) y) (td_g S (x + 1) (y + 1)) (td_g S (x + 1) (y + 2)) (td_g S (x + 2) y) (td_g S (x + 2) (y + 1)) (td_g S (x + 2) (y + 2))
    · rw [decide_eq_false z, Bool.and_false, td_g_out (by omega)]
theorem td_growR {S G : Int64} (hG : ∀ k, k < 64 → td_l G k = td_nr S (k / 8) (k % 8)) {B : Nat} {r r' : Nat → Int32} (h : td_R S B r)
    (h' : ∀ j, j < 17 → r' (B + j) = if j % 2 = 1 then td_gw ((td_rw r B j ||| td_rw r B (j + 2)) ||| td_rw r B (j + 4)) else r (B + j)) : td_R G B r' := by
  intro j hj i hi
  rw [h' j hj]
  obtain ⟨y, rfl | rfl⟩ := td_par j
  · rw [if_neg (by omega), h _ hj i hi]
    unfold td_e
    rw [decide_eq_false (by omega), Bool.false_and, Bool.false_and]
  · rw [if_pos (by omega)]
    have w0 : td_Row S y (td_rw r B (2 * y + 1)) := td_rw_Row h y
    have w1 : td_Row S (y + 1) (td_rw r B (2 * y + 1 + 2)) := td_rw_Row h (y + 1)
    have w2 : td_Row S (y + 2) (td_rw r B (2 * y + 1 + 4)) := td_rw_Row h (y + 2)
    rw [td_grow_row hG (by omega) w0 w1 w2 i hi]
    unfold td_e
    rw [td_h1]
    congr 1
    by_cases z : i % 2 = 1
    · rw [decide_eq_true z, decide_eq_true (by omega)]
    · rw [decide_eq_false z, decide_eq_false (by omega)]
end
section
/-! ===== the methods of the component, one lemma each ===== -/
theorem td_ad (s j : Nat) : (17 * nI s) + nI j = nI (17 * s + j) := by
  rw [show (17 : Int32) = nI 17 from rfl, pk_mul, nI_add]
theorem td_cl {s j : Nat} (hs : s < 12) (hj : j < 17) : ((17 * nI s) + nI j).toNatClampNeg = 17 * s + j := by
  rw [td_ad, nI_clamp (by omega)]
theorem td_vin {s j : Nat} (hs : s < 12) (hj : j < 17) : vp_in ((17 * nI s) + nI j) 204 := by
  rw [td_ad]
  exact vp_in_nI (by omega) (by omega)
theorem td_up {s j : Nat} (hs : s < 12) (hj : j < 17) (f : Nat → Int32) (x : Int32) : upd f ((17 * nI s) + nI j).toNatClampNeg x = upd f (17 * s + j) x := by
  rw [td_cl hs hj]
theorem td_u1 {s : Nat} (hs : s < 1000) (f : Nat → Int32) (x : Int32) : upd f (nI s).toNatClampNeg x = upd f s x := by
  rw [nI_clamp (by omega)]
/-- an array filled from B on, i places of it done -/
def td_P (B i : Nat) (F a r : Nat → Int32) : Prop := (∀ j, j < i → r (B + j) = F j) ∧ (∀ q, (q < B ∨ B + i ≤ q) → r q = a q)
theorem td_P_0 (B : Nat) (F a : Nat → Int32) : td_P B 0 F a a := ⟨fun j h => absurd h (by omega), fun q _ => rfl⟩
theorem td_P_s {B i : Nat} {F a r : Nat → Int32} {x : Int32} (h : td_P B i F a r) (hx : x = F i) : td_P B (i + 1) F a (upd r (B + i) x) := by
  refine ⟨fun j hj => ?_, fun q hq => ?_⟩
  · by_cases e : j = i
    · rw [e, pk_us, hx]
    · rw [pk_un (by omega)]
      exact h.1 j (by omega)
  · rw [pk_un (by omega)]
    exact h.2 q (by omega)
/-- an array whose odd places from B + 2 lo on to B + 2 t are done -/
def td_O (B lo t : Nat) (F a r : Nat → Int32) : Prop := ∀ q, r q = if B + 2 * lo ≤ q ∧ (q - B) % 2 = 1 ∧ q < B + 2 * t then F (q - B) else a q
theorem td_O_0 (B lo : Nat) (F a : Nat → Int32) : td_O B lo lo F a a := fun q => by rw [if_neg (by omega)]
theorem td_O_s {B lo t : Nat} {F a r : Nat → Int32} {x : Int32} (h : td_O B lo t F a r) (hl : lo ≤ t) (hx : x = F (2 * t + 1)) : td_O B lo (t + 1) F a (upd r (B + (2 * t + 1)) x) := by
  intro q
  by_cases e : q = B + (2 * t + 1)
  · rw [e, pk_us, if_pos (by omega), hx, Nat.add_sub_cancel_left]
  · rw [pk_un e, h q]
    by_cases z : B + 2 * lo ≤ q ∧ (q - B) % 2 = 1 ∧ q < B + 2 * t
    · rw [if_pos z, if_pos (by omega)]
    · rw [if_neg z, if_neg (by omega)]
theorem td_isSlot {post : Int32 → Prop} {s : Nat} (hs : s < 12) (h : post 1) : wpX_isSlot post () (nI s) :=
  br_f (nI_pos (by omega)) (br_f (nI_ge (b := 12) hs (by decide)) h)
theorem td_empty {post : St1 → Prop} {s : Nat} {a1 a2 a3 a4 a5 a6 : Nat → Int32} (hs : s < 12)
    (H : ∀ r, td_P (17 * s) 17 (fun _ => 0) a2 r → post (upd a1 s 0, r, a3, a4, a5, a6)) : wpX_empty post (a1, a2, a3, a4, a5, a6) (nI s) :=
  ⟨vp_in_nI hs (by decide), nm_r (td_u1 (by omega) _ _) (pk_loop (fun n i r => wX_empty_9 post (nI s) n (nI i) (upd a1 s 0) r a3 a4 a5 a6) (fun i r => td_P (17 * s) i (fun _ => 0) a2 r) 17 0 a2 (by omega) (td_P_0 _ _ _)
    (fun n r h => pk_le 17 17 (fun _ => H r h) (fun z => absurd z (by omega)))
    (fun n i r hi h hw => pk_le 17 i (fun z => absurd z (by omega)) (fun _ => ⟨td_vin hs hi, nm_r (td_up hs hi _ _) (nm_r (nI_1 i) (hw _ (td_P_s h rfl)))⟩)))⟩
theorem td_clear {post : Int32 → St1 → Prop} {s : Nat} {a1 a2 a3 a4 a5 a6 : Nat → Int32} (hs : s < 12)
    (H : ∀ r, td_P (17 * s) 17 (fun _ => 0) a2 r → post (a1 s) (upd a1 s 0, r, a3, a4, a5, a6)) : wpX_clear post (a1, a2, a3, a4, a5, a6) (nI s) := by
  unfold wpX_clear
  dsimp only
  refine td_isSlot hs (br_f (by decide) ⟨vp_in_nI hs (by decide), nm_r (e' := a1 s) (by rw [nI_clamp (by omega)]) ?_⟩)
  exact td_empty hs H
theorem td_ones {post : Int32 → Prop} {w : Int32} (hw : td_pop w ≤ 17) (h : post (nI (td_pop w))) : wpX_ones post () w :=
  pk_loop (fun n i r => wX_ones_6 post n (nI i) r (nI i)) (fun i r => i + td_pop r = td_pop w) 17 0 w (by omega) (Nat.zero_add _)
    (fun n r (h1 : 17 + td_pop r = td_pop w) => pk_le 17 17 (fun _ => by rw [show td_pop w = 17 by omega] at h; exact h) (fun z => absurd z (by omega)))
    (fun n i r hi (h1 : i + td_pop r = td_pop w) hW => pk_le 17 i (fun z => absurd z (by omega)) (fun _ => br_c
      (fun e => by rw [e, td_pop_0, Nat.add_zero] at h1; rw [h1]; exact h)
      (fun e => nm_e (nm_r (nI_1 i) (nm_r (nI_1 i) (hW _ (by have := td_pop_step e; show i + 1 + td_pop (r &&& (r - 1)) = td_pop w; omega)))))))
theorem td_count {post : Int32 → Prop} {s : Nat} {a1 a2 a3 a4 a5 a6 : Nat → Int32} (hs : s < 12) (hz : ∀ j, j < 17 → td_pop (a2 (17 * s + j)) ≤ 17)
    (h : post (nI (td_sm (fun j => td_pop (a2 (17 * s + j))) 17))) : wpX_count post (a1, a2, a3, a4, a5, a6) (nI s) :=
  pk_loop (σ := Unit) (fun n i _ => wX_count_4 post (nI s) a1 a2 a3 a4 a5 a6 n (nI (td_sm (fun j => td_pop (a2 (17 * s + j))) i)) (nI i)) (fun _ _ => True) 17 0 () (by omega) trivial
    (fun n _ _ => pk_le 17 17 (fun _ => h) (fun z => absurd z (by omega)))
    (fun n i _ hi _ hW => pk_le 17 i (fun z => absurd z (by omega)) (fun _ => ⟨td_vin hs hi, by
      rw [td_cl hs hi]
      exact td_ones (hz i hi) (nm_r (nI_add _ _) (nm_r (nI_1 i) (hW () trivial)))⟩))
theorem td_countR {post : Int32 → Prop} {S : Int64} {s : Nat} {a1 a2 a3 a4 a5 a6 : Nat → Int32} (hs : s < 12) (hR : td_R S (17 * s) a2) (h : post (nI (td_n S))) : wpX_count post (a1, a2, a3, a4, a5, a6) (nI s) :=
  td_count hs (fun j hj => td_pop_le (td_hz hR j hj)) (by rw [td_cnt hR]; exact h)
theorem td_size {post : Int32 → Prop} {S : Int64} {s : Nat} {a1 a2 a3 a4 a5 a6 : Nat → Int32} (hs : s < 12) (hR : td_R S (17 * s) a2) (h : post (nI (td_n S))) : wpX_size post (a1, a2, a3, a4, a5, a6) (nI s) := by
  unfold wpX_size
  dsimp only
  exact td_isSlot hs (br_f (by decide) (td_countR hs hR h))
theorem td_kind {post : Int32 → Prop} {s : Nat} {a1 a2 a3 a4 a5 a6 : Nat → Int32} (hs : s < 12) (h : post (a1 s)) : wpX_kind post (a1, a2, a3, a4, a5, a6) (nI s) := by
  unfold wpX_kind
  dsimp only
  refine td_isSlot hs (br_f (by decide) ⟨vp_in_nI hs (by decide), ?_⟩)
  rw [nI_clamp (by omega)]
  exact h
theorem td_ref0 {post : Int32 → Prop} {s : Nat} {a1 a2 a3 a4 a5 a6 : Nat → Int32} (hs : s < 12) (hk : a1 s = 3) (h : post 0) : wpX_areaRefusal post (a1, a2, a3, a4, a5, a6) (nI s) := by
  unfold wpX_areaRefusal
  dsimp only
  refine td_isSlot hs (br_f (by decide) ⟨vp_in_nI hs (by decide), ?_⟩)
  rw [nI_clamp (by omega), hk]
  exact br_f (by decide) ⟨vp_in_nI hs (by decide), br_t rfl h⟩
theorem td_ref2 {post : Int32 → Prop} {s : Nat} {a1 a2 a3 a4 a5 a6 : Nat → Int32} (hs : s < 12) (hk : a1 s = 0) (h : post (-2)) : wpX_areaRefusal post (a1, a2, a3, a4, a5, a6) (nI s) := by
  unfold wpX_areaRefusal
  dsimp only
  refine td_isSlot hs (br_f (by decide) ⟨vp_in_nI hs (by decide), ?_⟩)
  rw [nI_clamp (by omega), hk]
  exact br_t rfl h
theorem td_pair0 {post : Int32 → Prop} {s o : Nat} {a1 a2 a3 a4 a5 a6 : Nat → Int32} (hs : s < 12) (ho : o < 12) (hk : a1 s = 3) (hk' : a1 o = 3) (h : post 0) : wpX_pairRefusal post (a1, a2, a3, a4, a5, a6) (nI s) (nI o) := by
  unfold wpX_pairRefusal
  dsimp only
  refine td_isSlot hs (br_f (by decide) (td_isSlot ho (br_f (by decide) ⟨vp_in_nI hs (by decide), ?_⟩)))
  rw [nI_clamp (show s < 2 ^ 31 by omega), nI_clamp (show o < 2 ^ 31 by omega), hk, hk']
  exact br_f (by decide) ⟨vp_in_nI ho (by decide), br_f (by decide) h⟩
theorem td_pair2 {post : Int32 → Prop} {s o : Nat} {a1 a2 a3 a4 a5 a6 : Nat → Int32} (hs : s < 12) (ho : o < 12) (hk : a1 s = 0 ∨ a1 o = 0) (h : post (-2)) : wpX_pairRefusal post (a1, a2, a3, a4, a5, a6) (nI s) (nI o) := by
  unfold wpX_pairRefusal
  dsimp only
  refine td_isSlot hs (br_f (by decide) (td_isSlot ho (br_f (by decide) ⟨vp_in_nI hs (by decide), ?_⟩)))
  rw [nI_clamp (show s < 2 ^ 31 by omega), nI_clamp (show o < 2 ^ 31 by omega)]
  exact br_c (fun _ => h) (fun z => ⟨vp_in_nI ho (by decide), br_c (fun _ => h) (fun z2 => absurd hk (fun t => t.elim z z2))⟩)
theorem td_p2 (j : Nat) : nI j = nI (j + 2) - nI 2 := by rw [pk_sub (by omega), Nat.add_sub_cancel]
theorem td_p3 (j : Nat) : nI j + 1 = nI (j + 3) - nI 2 := (nI_1 j).trans (td_p2 (j + 1))
theorem td_p4 (j : Nat) : nI j + 2 = nI (j + 4) - nI 2 := (nI_add j 2).trans (td_p2 (j + 2))
theorem td_p1 (j : Nat) : nI j - 1 = nI (j + 1) - nI 2 := by
  cases j with
  | zero => decide
  | succ j => exact (nI_pred j).trans (td_p2 j)
theorem td_row {post : Int32 → Prop} {s J : Nat} {p : Int32} {a1 a2 a3 a4 a5 a6 : Nat → Int32} (hs : s < 12) (hp : p = nI J - nI 2) (hJ : J < 100) (h : post (td_rw a2 (17 * s) J)) : wpX_row post (a1, a2, a3, a4, a5, a6) (nI s) p := by
  unfold wpX_row
  dsimp only
  unfold td_rw at h
  by_cases e : J < 2
  · rw [if_neg (by omega)] at h
    refine br_t ?_ h
    rw [hp]
    exact pk_sneg (by omega) e
  · rw [pk_sub (by omega)] at hp
    subst hp
    refine br_f (nI_pos (by omega)) ?_
    refine pk_lt (J - 2) 17 (fun z => ⟨td_vin hs z, ?_⟩) (fun z => ?_)
    · rw [td_cl hs z]
      rw [if_pos (by omega)] at h
      exact h
    · rw [if_neg (by omega)] at h
      exact h
theorem td_layArea {post : St1 → Prop} {s j q : Nat} {a1 a2 a3 a4 a5 a6 : Nat → Int32} (hs : s < 12) (hj : j < 17) (hq : q < 34)
    (h : post (a1, a2, upd a3 q (td_iw a2 (17 * s) j), upd a4 q (td_mw a2 (17 * s) j), a5, a6)) : wpX_layArea post (a1, a2, a3, a4, a5, a6) (nI s) (nI j) (nI q) := by
  unfold wpX_layArea
  dsimp only
  refine ⟨by decide, ?_⟩
  have hr : nI j - nI j / 2 * 2 = nI (j % 2) := pk_rem (d := 2) (by omega) (by omega) (by omega)
  rw [hr]
  unfold td_iw td_mw at h
  by_cases e : j % 2 = 1
  · rw [if_pos e, if_pos e] at h
    rw [e]
    refine br_t rfl (td_row hs (td_p2 j) (by omega) ?_)
    exact nm_e (nm_e ⟨vp_in_nI hq (by decide), nm_r (td_u1 (by omega) _ _) ⟨vp_in_nI hq (by decide), nm_r (td_u1 (by omega) _ _) h⟩⟩)
  · rw [if_neg e, if_neg e] at h
    rw [show j % 2 = 0 by omega]
    refine br_f (by decide) (td_row hs (td_p3 j) (by omega) ?_)
    refine td_row hs (td_p1 j) (by omega) ?_
    exact nm_e (nm_e ⟨vp_in_nI hq (by decide), nm_r (td_u1 (by omega) _ _) ⟨vp_in_nI hq (by decide), nm_r (td_u1 (by omega) _ _) h⟩⟩)
theorem td_lay {post : St1 → Prop} {s w : Nat} {a1 a2 a3 a4 a5 a6 : Nat → Int32} (hs : s < 12) (hw : w < 2) (hk : a1 s = 3)
    (H : ∀ i m, td_P (17 * w) 17 (td_iw a2 (17 * s)) a3 i → td_P (17 * w) 17 (td_mw a2 (17 * s)) a4 m → post (a1, a2, i, m, a5, a6)) : wpX_lay post (a1, a2, a3, a4, a5, a6) (nI s) (nI w) :=
  pk_loop (σ := (Nat → Int32) × (Nat → Int32)) (fun n i t => wX_lay_2 post (nI s) (nI w) n (nI i) a1 a2 t.1 t.2 a5 a6) (fun i t => td_P (17 * w) i (td_iw a2 (17 * s)) a3 t.1 ∧ td_P (17 * w) i (td_mw a2 (17 * s)) a4 t.2) 17 0 (a3, a4) (by omega) ⟨td_P_0 _ _ _, td_P_0 _ _ _⟩
    (fun n t h => pk_le 17 17 (fun _ => H t.1 t.2 h.1 h.2) (fun z => absurd z (by omega)))
    (fun n i t hi h hW => pk_le 17 i (fun z => absurd z (by omega)) (fun _ => nm_r (td_ad w i) ⟨vp_in_nI hs (by decide), br_t (by rw [nI_clamp (by omega)]; exact hk)
      (td_layArea hs hi (by omega) (nm_r (nI_1 i) (hW (upd t.1 (17 * w + i) (td_iw a2 (17 * s) i), upd t.2 (17 * w + i) (td_mw a2 (17 * s) i)) ⟨td_P_s h.1 rfl, td_P_s h.2 rfl⟩)))⟩))
end
section
/-! ===== what is laid down; rim, part ===== -/
def td_L (S : Int64) (B : Nat) (i m : Nat → Int32) : Prop := ∀ j, j < 17 → ∀ b, b < 32 → td_b (i (B + j)) b = td_in S b j ∧ td_b (m (B + j)) b = td_ri S b j
theorem td_layR {post : St1 → Prop} {S : Int64} {s w : Nat} {a1 a2 a3 a4 a5 a6 : Nat → Int32} (hs : s < 12) (hw : w < 2) (hk : a1 s = 3) (hR : td_R S (17 * s) a2)
    (H : ∀ i m, td_L S (17 * w) i m → (∀ q, (q < 17 * w ∨ 17 * w + 17 ≤ q) → i q = a3 q ∧ m q = a4 q) → post (a1, a2, i, m, a5, a6)) : wpX_lay post (a1, a2, a3, a4, a5, a6) (nI s) (nI w) :=
  td_lay hs hw hk (fun i m hi hm => H i m (fun j hj b hb => ⟨by rw [hi.1 j hj]; exact td_iw_b hR hb, by rw [hm.1 j hj]; exact td_mw_b hR hb⟩) (fun q hq => ⟨hi.2 q hq, hm.2 q hq⟩))
theorem td_L0 {S : Int64} {i m : Nat → Int32} (h : td_L S (17 * 0) i m) : ∀ j, j < 17 → ∀ b, b < 32 → td_b (i j) b = td_in S b j ∧ td_b (m j) b = td_ri S b j := by
  intro j hj b hb
  have t := h j hj b hb
  rw [show 17 * 0 + j = j by omega] at t
  exact t
theorem td_rimw {S : Int64} {w k : Int32} {j : Nat} (h : ∀ b, b < 32 → td_b w b = td_ri S b j) : td_pop (w &&& k) ≤ 17 :=
  td_pop_le (fun i h1 h2 => by rw [td_and, h i h2, td_ri_out h1, Bool.false_and])
theorem td_r2 {j : Nat} (hj : j < 17) : nI j - nI j / 2 * 2 = nI (j % 2) := pk_rem (d := 2) (by omega) (by omega) (by omega)
theorem td_rim0 {post : Int32 → St1 → Prop} {s : Nat} {a1 a2 a3 a4 a5 a6 : Nat → Int32} (hs : s < 12) (hk : a1 s = 0) (h : post (-2) (a1, a2, a3, a4, a5, a6)) : wpX_rim post (a1, a2, a3, a4, a5, a6) (nI s) := by
  unfold wpX_rim
  dsimp only
  exact td_ref2 hs hk (br_f (by decide) h)
theorem td_rim {post : Int32 → St1 → Prop} {S : Int64} {s : Nat} {a1 a2 a3 a4 a5 a6 : Nat → Int32} (hs : s < 12) (hk : a1 s = 3) (hR : td_R S (17 * s) a2)
    (H : ∀ i m, post (nI (td_rn S)) (a1, a2, i, m, a5, a6)) : wpX_rim post (a1, a2, a3, a4, a5, a6) (nI s) := by
  unfold wpX_rim
  dsimp only
  refine td_ref0 hs hk (br_t rfl (td_layR (w := 0) hs (by omega) hk hR (fun i m hL _ => ?_)))
  have hm : ∀ j, j < 17 → ∀ b, b < 32 → td_b (m j) b = td_ri S b j := fun j hj b hb => (td_L0 hL j hj b hb).2
  refine pk_loop (σ := Unit) (fun n j _ => wX_rim_23 post a1 a2 i m a5 a6 n (nI (td_sm (fun j => td_pop (m j &&& td_mk j)) j)) (nI j)) (fun _ _ => True) 17 0 () (by omega) trivial
    (fun n _ _ => pk_le 17 17 (fun _ => ?_) (fun z => absurd z (by omega)))
    (fun n j _ hj _ hW => pk_le 17 j (fun z => absurd z (by omega)) (fun _ => ⟨vp_in_nI (by omega) (by decide), by decide, ?_⟩))
  · show post (nI (td_sm (fun j => td_pop (m j &&& td_mk j)) 17)) (a1, a2, i, m, a5, a6)
    rw [td_rim_sum hm]
    exact H i m
  · have t : wX_rim_23 post a1 a2 i m a5 a6 n (nI (td_sm (fun j => td_pop (m j &&& td_mk j)) j + td_pop (m j &&& td_mk j))) (nI (j + 1)) := hW () trivial
    rw [td_r2 hj, nI_clamp (show j < 2 ^ 31 by omega)]
    by_cases e : j % 2 = 0
    · rw [show td_mk j = 43690 from if_pos e] at t
      rw [e]
      refine br_t rfl ?_
      unfold wX_rim_52
      exact td_ones (td_rimw (hm j hj)) (nm_r (nI_add _ _) (nm_r (nI_1 j) t))
    · rw [show td_mk j = 87381 from if_neg e] at t
      rw [show j % 2 = 1 by omega]
      refine br_f (by decide) ?_
      unfold wX_rim_52
      exact td_ones (td_rimw (hm j hj)) (nm_r (nI_add _ _) (nm_r (nI_1 j) t))
theorem td_bit1 (x : Int32) {k : Nat} (hk : k < 32) : ((x >>> (nI k &&& 31)) &&& 1) = 1 ↔ td_b x k = true := by
  rw [td_bit x hk]
  cases td_b x k
  · exact ⟨fun h => absurd h (by decide), fun h => absurd h (by decide)⟩
  · exact ⟨fun _ => rfl, fun _ => rfl⟩
theorem td_part {post : Int32 → St1 → Prop} {S : Int64} {s i j : Nat} {a1 a2 a3 a4 a5 a6 : Nat → Int32} (hs : s < 12) (hk : a1 s = 3) (hR : td_R S (17 * s) a2) (hi : i < 17) (hj : j < 17)
    (H : ∀ x y, post (if td_in S i j = true then 0 else if td_ri S i j = true then 1 else 2) (a1, a2, x, y, a5, a6)) : wpX_part post (a1, a2, a3, a4, a5, a6) (nI s) (nI i) (nI j) := by
  unfold wpX_part
  dsimp only
  refine td_isSlot hs (br_f (by decide) ⟨vp_in_nI hs (by decide), ?_⟩)
  rw [nI_clamp (show s < 2 ^ 31 by omega), hk]
  refine br_f (by decide) (br_f (nI_pos (by omega)) (br_f (nI_ge (b := 17) hi (by decide)) (br_f (nI_pos (by omega)) (br_t (nI_lt (b := 17) hj (by decide)) (td_layR (w := 0) hs (by omega) hk hR (fun x y hL _ => ?_))))))
  have t := td_L0 hL j hj i (by omega)
  have H' := H x y
  refine ⟨vp_in_nI (by omega) (by decide), ?_⟩
  rw [nI_clamp (show j < 2 ^ 31 by omega)]
  refine ek_if (td_bit1 _ (by omega)) (fun z => ?_) (fun z => ⟨vp_in_nI (by omega) (by decide), ek_if (td_bit1 _ (by omega)) (fun z2 => ?_) (fun z2 => ?_)⟩)
  · rw [t.1] at z
    rw [if_pos z] at H'
    exact H'
  · rw [t.1] at z
    rw [t.2] at z2
    rw [if_neg z, if_pos z2] at H'
    exact H'
  · rw [t.1] at z
    rw [t.2] at z2
    rw [if_neg z, if_neg z2] at H'
    exact H'
/-! ===== meetings ===== -/
def td_pw (p : Nat) (x y : Int32) : Int32 := if p = 0 then x else if p = 1 then y else 131071 &&& ((x ||| y) ^^^ (-1))
theorem td_partOf {post : Int32 → Prop} {p w j : Nat} {a1 a2 a3 a4 a5 a6 : Nat → Int32} (hp : p < 3) (hw : w < 2) (hj : j < 17) (h : post (td_pw p (a3 (17 * w + j)) (a4 (17 * w + j)))) : wpX_partOf post (a1, a2, a3, a4, a5, a6) (nI w) (nI p) (nI j) := by
  unfold wpX_partOf
  dsimp only
  refine nm_r (td_ad w j) ?_
  rw [nI_clamp (show 17 * w + j < 2 ^ 31 by omega)]
  unfold td_pw at h
  refine pk_eq p 0 (fun z => ⟨vp_in_nI (by omega) (by decide), ?_⟩) (fun z => pk_eq p 1 (fun z2 => ⟨vp_in_nI (by omega) (by decide), ?_⟩) (fun z2 => ?_))
  · rw [if_pos z] at h
    exact h
  · rw [if_neg z, if_pos z2] at h
    exact h
  · rw [if_neg z, if_neg z2] at h
    unfold wpX_outside
    dsimp only
    unfold wpX_body
    dsimp only
    rw [nI_clamp (show 17 * w + j < 2 ^ 31 by omega)]
    exact ⟨vp_in_nI (by omega) (by decide), vp_in_nI (by omega) (by decide), h⟩
def td_dm (c : Int32) (j : Nat) : Nat := if c = 0 then 0 else if j % 2 = 1 then (if (c &&& 43690) = 0 then 2 else 3) else (if (c &&& 43690) = 0 then 1 else 2)
theorem td_dimIn {post : Int32 → Prop} {c : Int32} {j : Nat} (hj : j < 17) (h : post (nI (td_dm c j))) : wpX_dimensionIn post () c (nI j) := by
  unfold wpX_dimensionIn
  unfold td_dm at h
  refine br_c (fun z => ?_) (fun z => ⟨by decide, ?_⟩)
  · rw [if_pos z] at h
    exact h
  · rw [if_neg z] at h
    rw [td_r2 hj]
    refine pk_eq (j % 2) 1 (fun e => br_c (fun z2 => ?_) (fun z2 => ?_)) (fun e => br_c (fun z2 => ?_) (fun z2 => ?_))
    · rw [if_pos e, if_pos z2] at h
      exact h
    · rw [if_pos e, if_neg z2] at h
      exact h
    · rw [if_neg e, if_pos z2] at h
      exact h
    · rw [if_neg e, if_neg z2] at h
      exact h
theorem td_dm_le (c : Int32) (j : Nat) : td_dm c j ≤ 3 := by
  unfold td_dm
  by_cases h : c = 0
  · rw [if_pos h]; omega
  · rw [if_neg h]
    by_cases h1 : j % 2 = 1 <;> by_cases h2 : (c &&& 43690) = 0
    · rw [if_pos h1, if_pos h2]; omega
    · rw [if_pos h1, if_neg h2]; omega
    · rw [if_neg h1, if_pos h2]; omega
    · rw [if_neg h1, if_neg h2]; omega
theorem td_dm_0 {c : Int32} {j : Nat} : td_dm c j = 0 ↔ c = 0 := by
  unfold td_dm
  by_cases h : c = 0
  · rw [if_pos h]
    exact ⟨fun _ => h, fun _ => rfl⟩
  · rw [if_neg h]
    refine ⟨fun z => ?_, fun z => absurd z h⟩
    by_cases h1 : j % 2 = 1 <;> by_cases h2 : (c &&& 43690) = 0
    · rw [if_pos h1, if_pos h2] at z; omega
    · rw [if_pos h1, if_neg h2] at z; omega
    · rw [if_neg h1, if_pos h2] at z; omega
    · rw [if_neg h1, if_neg h2] at z; omega
theorem td_dm_3 {c : Int32} {j : Nat} : td_dm c j = 3 ↔ j % 2 = 1 ∧ ¬ (c &&& 43690) = 0 := by
  unfold td_dm
  by_cases h : c = 0
  · rw [if_pos h]
    refine ⟨fun z => absurd z (by omega), fun z => absurd ?_ z.2⟩
    rw [h]
    decide
  · rw [if_neg h]
    by_cases h1 : j % 2 = 1 <;> by_cases h2 : (c &&& 43690) = 0
    · rw [if_pos h1, if_pos h2]
      exact ⟨fun z => absurd z (by omega), fun z => absurd h2 z.2⟩
    · rw [if_pos h1, if_neg h2]
      exact ⟨fun _ => ⟨h1, h2⟩, fun _ => rfl⟩
    · rw [if_neg h1, if_pos h2]
      exact ⟨fun z => absurd z (by omega), fun z => absurd h2 z.2⟩
    · rw [if_neg h1, if_neg h2]
      exact ⟨fun z => absurd z (by omega), fun z => absurd z.1 h1⟩
def td_mt (c : Nat → Int32) : Nat → Nat
  | 0 => 0
  | n + 1 => if td_dm (c n) n ≤ td_mt c n then td_mt c n else td_dm (c n) n
theorem td_mt_s (c : Nat → Int32) (n : Nat) : td_mt c (n + 1) = if td_dm (c n) n ≤ td_mt c n then td_mt c n else td_dm (c n) n := rfl
theorem td_mt_le (c : Nat → Int32) (n : Nat) : td_mt c n ≤ 3 := by
  induction n with
  | zero => exact Nat.zero_le _
  | succ n ih =>
    have := td_dm_le (c n) n
    rw [td_mt_s]
    by_cases h : td_dm (c n) n ≤ td_mt c n
    · rw [if_pos h]; exact ih
    · rw [if_neg h]; exact this
theorem td_mt_0 {c : Nat → Int32} {n : Nat} : td_mt c n = 0 ↔ ∀ j, j < n → c j = 0 := by
  induction n with
  | zero => exact ⟨fun _ j h => absurd h (by omega), fun _ => rfl⟩
  | succ n ih =>
    have d := td_dm_0 (c := c n) (j := n)
    rw [td_mt_s]
    constructor
    · intro h j hj
      have h2 : td_dm (c n) n = 0 ∧ td_mt c n = 0 := by
        by_cases z : td_dm (c n) n ≤ td_mt c n
        · rw [if_pos z] at h; omega
        · rw [if_neg z] at h; omega
      by_cases e : j = n
      · rw [e]; exact d.mp h2.1
      · exact ih.mp h2.2 j (by omega)
    · intro h
      have h1 := d.mpr (h n (by omega))
      have h2 := ih.mpr (fun j hj => h j (by omega))
      rw [h1, h2]
      rfl
theorem td_mt_3 {c : Nat → Int32} {n : Nat} : td_mt c n = 3 ↔ ∃ j, j < n ∧ j % 2 = 1 ∧ ¬ (c j &&& 43690) = 0 := by
  induction n with
  | zero => exact ⟨fun z => absurd (show (0 : Nat) = 3 from z) (by decide), fun ⟨j, h, _⟩ => absurd h (by omega)⟩
  | succ n ih =>
    have d := td_dm_3 (c := c n) (j := n)
    have l1 := td_dm_le (c n) n
    have l2 := td_mt_le c n
    rw [td_mt_s]
    constructor
    · intro h
      by_cases z : td_dm (c n) n ≤ td_mt c n
      · rw [if_pos z] at h
        obtain ⟨j, hj, e⟩ := ih.mp h
        exact ⟨j, by omega, e⟩
      · rw [if_neg z] at h
        exact ⟨n, by omega, d.mp h⟩
    · rintro ⟨j, hj, e⟩
      by_cases ej : j = n
      · subst ej
        have h3 := d.mpr e
        by_cases z : td_dm (c j) j ≤ td_mt c j
        · rw [if_pos z]; omega
        · rw [if_neg z]; exact h3
      · have h3 := ih.mpr ⟨j, by omega, e⟩
        rw [if_pos (by omega)]
        exact h3
def td_cm (p q : Nat) (i m : Nat → Int32) (j : Nat) : Int32 := td_pw p (i j) (m j) &&& td_pw q (i (17 + j)) (m (17 + j))
theorem td_meeting {post : Int32 → Prop} {p q : Nat} {a1 a2 a3 a4 a5 a6 : Nat → Int32} (hp : p < 3) (hq : q < 3) (hpq : ¬ (p = 2 ∧ q = 2)) (h : post (nI (td_mt (td_cm p q a3 a4) 17))) : wpX_meeting post (a1, a2, a3, a4, a5, a6) (nI p) (nI q) := by
  have key : ∃ n, wX_meeting_17 post (nI p) (nI q) a1 a2 a3 a4 a5 a6 n 0 0 := by
    refine pk_loop (σ := Unit) (fun n j _ => wX_meeting_17 post (nI p) (nI q) a1 a2 a3 a4 a5 a6 n (nI (td_mt (td_cm p q a3 a4) j)) (nI j)) (fun _ _ => True) 17 0 () (by omega) trivial
      (fun n _ _ => pk_le 17 17 (fun _ => h) (fun z => absurd z (by omega)))
      (fun n j _ hj _ hW => pk_le 17 j (fun z => absurd z (by omega)) (fun _ => td_partOf (w := 0) hp (by omega) hj (td_partOf (w := 1) hq (by omega) hj (nm_r (e' := td_cm p q a3 a4 j) ?_ (td_dimIn hj ?_)))))
    · unfold td_cm
      rw [show 17 * 0 + j = j by omega]
    · have t : wX_meeting_17 post (nI p) (nI q) a1 a2 a3 a4 a5 a6 n (nI (td_mt (td_cm p q a3 a4) (j + 1))) (nI (j + 1)) := hW () trivial
      rw [td_mt_s] at t
      have l1 := td_dm_le (td_cm p q a3 a4 j) j
      have l2 := td_mt_le (td_cm p q a3 a4) j
      refine pk_le (td_dm (td_cm p q a3 a4 j) j) (td_mt (td_cm p q a3 a4) j) (fun z => nm_r (nI_1 j) ?_) (fun z => nm_r (nI_1 j) ?_) rfl rfl (by omega) (by omega)
      · rw [if_pos z] at t
        exact t
      · rw [if_neg (by omega)] at t
        exact t
  unfold wpX_meeting
  dsimp only
  exact pk_eq p 2 (fun z => pk_eq q 2 (fun z2 => absurd ⟨z, z2⟩ hpq) (fun _ => key)) (fun _ => key)
end
section
/-! ===== what the meetings say ===== -/
def td_pb (p : Nat) (S : Int64) (b j : Nat) : Bool := if p = 0 then td_in S b j else if p = 1 then td_ri S b j else decide (b < 17) && !td_an S b j
theorem td_pb0 (S : Int64) (b j : Nat) : td_pb 0 S b j = td_in S b j := rfl
theorem td_pb1 (S : Int64) (b j : Nat) : td_pb 1 S b j = td_ri S b j := rfl
theorem td_pb2 (S : Int64) {b : Nat} (j : Nat) (hb : b < 17) : td_pb 2 S b j = !td_an S b j := by
  show (decide (b < 17) && !td_an S b j) = _
  rw [decide_eq_true hb, Bool.true_and]
theorem td_pb_out {p : Nat} {S : Int64} {b j : Nat} (hb : 17 ≤ b) : td_pb p S b j = false := by
  unfold td_pb
  by_cases h0 : p = 0
  · rw [if_pos h0, td_in_out hb]
  · rw [if_neg h0]
    by_cases h1 : p = 1
    · rw [if_pos h1, td_ri_out hb]
    · rw [if_neg h1, decide_eq_false (by omega), Bool.false_and]
theorem td_pw_b {p : Nat} {S : Int64} {x y : Int32} {b j : Nat} (hb : b < 32) (hx : td_b x b = td_in S b j) (hy : td_b y b = td_ri S b j) : td_b (td_pw p x y) b = td_pb p S b j := by
  unfold td_pw td_pb
  by_cases h0 : p = 0
  · rw [if_pos h0, if_pos h0, hx]
  · rw [if_neg h0, if_neg h0]
    by_cases h1 : p = 1
    · rw [if_pos h1, if_pos h1, hy]
    · rw [if_neg h1, if_neg h1, td_bnot _ _ hb, td_all b hb, td_or, hx, hy, td_an_split]
theorem td_cm_b {S T : Int64} {i m : Nat → Int32} (h1 : td_L S (17 * 0) i m) (h2 : td_L T (17 * 1) i m) (p q : Nat) {j : Nat} (hj : j < 17) {b : Nat} (hb : b < 32) : td_b (td_cm p q i m j) b = (td_pb p S b j && td_pb q T b j) := by
  have u := td_L0 h1 j hj b hb
  have v : td_b (i (17 + j)) b = td_in T b j ∧ td_b (m (17 + j)) b = td_ri T b j := h2 j hj b hb
  unfold td_cm
  rw [td_and, td_pw_b hb u.1 u.2, td_pw_b hb v.1 v.2]
theorem td_cm0 {S T : Int64} {i m : Nat → Int32} (h1 : td_L S (17 * 0) i m) (h2 : td_L T (17 * 1) i m) (p q : Nat) : td_mt (td_cm p q i m) 17 = 0 ↔ ∀ j, j < 17 → ∀ b, b < 17 → (td_pb p S b j && td_pb q T b j) = false := by
  rw [td_mt_0]
  constructor
  · intro h j hj b hb
    rw [← td_cm_b h1 h2 p q hj (by omega)]
    exact td_bz.mp (h j hj) b (by omega)
  · intro h j hj
    apply td_bz.mpr
    intro b hb
    rw [td_cm_b h1 h2 p q hj hb]
    rcases Nat.lt_or_ge b 17 with z | z
    · exact h j hj b z
    · rw [td_pb_out z, Bool.false_and]
theorem td_oddbit {w : Int32} : ¬ (w &&& 43690) = 0 ↔ ∃ b, b < 16 ∧ b % 2 = 1 ∧ td_b w b = true := by
  constructor
  · intro h
    apply Classical.byContradiction
    intro h'
    apply h
    apply td_bz.mpr
    intro b hb
    rw [td_and, td_odd b hb]
    cases z : td_b w b
    · rfl
    · by_cases e : b % 2 = 1 ∧ b < 16
      · exact absurd ⟨b, e.2, e.1, z⟩ h'
      · rw [← Bool.decide_and, decide_eq_false e, Bool.and_false]
  · rintro ⟨b, h1, h2, h3⟩ h
    have t := td_bz.mp h b (by omega)
    rw [td_and, td_odd b (by omega), h3, decide_eq_true h1, decide_eq_true h2] at t
    exact absurd t (by decide)
theorem td_cm3 {S T : Int64} {i m : Nat → Int32} (h1 : td_L S (17 * 0) i m) (h2 : td_L T (17 * 1) i m) : td_mt (td_cm 0 0 i m) 17 = 3 ↔ ¬ (S &&& T) = 0 := by
  rw [td_mt_3, ← td_is3]
  constructor
  · rintro ⟨j, hj, ho, h⟩
    obtain ⟨b, hb, hb2, e⟩ := td_oddbit.mp h
    rw [td_cm_b h1 h2 0 0 hj (by omega), td_pb0, td_pb0, Bool.and_eq_true] at e
    exact ⟨j, hj, ho, b, hb, hb2, e.1, e.2⟩
  · rintro ⟨j, hj, ho, b, hb, hb2, e1, e2⟩
    refine ⟨j, hj, ho, td_oddbit.mpr ⟨b, hb, hb2, ?_⟩⟩
    rw [td_cm_b h1 h2 0 0 hj (by omega), td_pb0, td_pb0, e1, e2]
    rfl
theorem td_bl1 : ∀ A I R : Bool, (!A && I) = false → (!A && R) = false → (I || R) = true → A = true := by decide
theorem td_bl2 : ∀ A I R : Bool, ((I || R) = true → A = true) → (!A && I) = false ∧ (!A && R) = false := by decide
theorem td_bl3 : ∀ I A : Bool, (I && !A) = false ↔ (I = true → A = true) := by decide
theorem td_bl4 : ∀ I A : Bool, (!A && I) = false ↔ (I = true → A = true) := by decide
theorem td_bl5 : ∀ I R J Q : Bool, ((I && J) = false ∧ (I && Q) = false ∧ (R && J) = false ∧ (R && Q) = false) ↔ ((I || R) && (J || Q)) = false := by decide
theorem td_m4 {S T : Int64} {i m : Nat → Int32} (h1 : td_L S (17 * 0) i m) (h2 : td_L T (17 * 1) i m) : (td_mt (td_cm 2 0 i m) 17 = 0 ∧ td_mt (td_cm 2 1 i m) 17 = 0) ↔ (T &&& (S ^^^ (-1))) = 0 := by
  rw [td_cm0 h1 h2, td_cm0 h1 h2, ← td_is4]
  constructor
  · rintro ⟨u, v⟩ j hj b hb e
    have u' := u j hj b hb
    have v' := v j hj b hb
    rw [td_pb2 S j hb, td_pb0] at u'
    rw [td_pb2 S j hb, td_pb1] at v'
    rw [← td_an_split] at e
    exact td_bl1 _ _ _ u' v' e
  · intro h
    have k : ∀ j, j < 17 → ∀ b, b < 17 → (!td_an S b j && td_in T b j) = false ∧ (!td_an S b j && td_ri T b j) = false := by
      intro j hj b hb
      apply td_bl2
      rw [td_an_split]
      exact h j hj b hb
    constructor
    · intro j hj b hb
      rw [td_pb2 S j hb, td_pb0]
      exact (k j hj b hb).1
    · intro j hj b hb
      rw [td_pb2 S j hb, td_pb1]
      exact (k j hj b hb).2
theorem td_m02 {S T : Int64} {i m : Nat → Int32} (h1 : td_L S (17 * 0) i m) (h2 : td_L T (17 * 1) i m) : td_mt (td_cm 0 2 i m) 17 = 0 ↔ (S &&& (T ^^^ (-1))) = 0 := by
  rw [td_cm0 h1 h2, ← td_is6]
  constructor
  · intro h j hj b hb
    have t := h j hj b hb
    rw [td_pb2 T j hb, td_pb0] at t
    exact (td_bl3 _ _).mp t
  · intro h j hj b hb
    rw [td_pb2 T j hb, td_pb0]
    exact (td_bl3 _ _).mpr (h j hj b hb)
theorem td_m20 {S T : Int64} {i m : Nat → Int32} (h1 : td_L S (17 * 0) i m) (h2 : td_L T (17 * 1) i m) : td_mt (td_cm 2 0 i m) 17 = 0 ↔ (T &&& (S ^^^ (-1))) = 0 := by
  rw [td_cm0 h1 h2, ← td_is6]
  constructor
  · intro h j hj b hb
    have t := h j hj b hb
    rw [td_pb2 S j hb, td_pb0] at t
    exact (td_bl4 _ _).mp t
  · intro h j hj b hb
    rw [td_pb2 S j hb, td_pb0]
    exact (td_bl4 _ _).mpr (h j hj b hb)
theorem td_mg1 {S T G : Int64} {i m : Nat → Int32} (h1 : td_L S (17 * 0) i m) (h2 : td_L T (17 * 1) i m) (hG : ∀ k, k < 64 → td_l G k = td_nr S (k / 8) (k % 8)) :
    (td_mt (td_cm 0 0 i m) 17 = 0 ∧ td_mt (td_cm 0 1 i m) 17 = 0 ∧ td_mt (td_cm 1 0 i m) 17 = 0 ∧ td_mt (td_cm 1 1 i m) 17 = 0) ↔ (G &&& T) = 0 := by
  rw [td_cm0 h1 h2, td_cm0 h1 h2, td_cm0 h1 h2, td_cm0 h1 h2, ← td_is1 hG]
  constructor
  · rintro ⟨u, v, w, z⟩ j hj b hb
    rw [← td_an_split, ← td_an_split]
    exact (td_bl5 _ _ _ _).mp ⟨u j hj b hb, v j hj b hb, w j hj b hb, z j hj b hb⟩
  · intro h
    have k : ∀ j, j < 17 → ∀ b, b < 17 → ((td_in S b j && td_in T b j) = false ∧ (td_in S b j && td_ri T b j) = false ∧ (td_ri S b j && td_in T b j) = false ∧ (td_ri S b j && td_ri T b j) = false) := by
      intro j hj b hb
      apply (td_bl5 _ _ _ _).mpr
      rw [td_an_split, td_an_split]
      exact h j hj b hb
    exact ⟨fun j hj b hb => (k j hj b hb).1, fun j hj b hb => (k j hj b hb).2.1, fun j hj b hb => (k j hj b hb).2.2.1, fun j hj b hb => (k j hj b hb).2.2.2⟩
theorem td_m0 {S T : Int64} {i m : Nat → Int32} (h1 : td_L S (17 * 0) i m) (h2 : td_L T (17 * 1) i m) : (∀ j, j < 17 → (i j ||| m j) = (i (17 + j) ||| m (17 + j))) ↔ S = T := by
  rw [← td_is0]
  have u : ∀ j, j < 17 → ∀ b, b < 32 → td_b (i j ||| m j) b = td_an S b j := fun j hj b hb => by
    have t := td_L0 h1 j hj b hb
    rw [td_or, t.1, t.2, td_an_split]
  have v : ∀ j, j < 17 → ∀ b, b < 32 → td_b (i (17 + j) ||| m (17 + j)) b = td_an T b j := fun j hj b hb => by
    have t : td_b (i (17 + j)) b = td_in T b j ∧ td_b (m (17 + j)) b = td_ri T b j := h2 j hj b hb
    rw [td_or, t.1, t.2, td_an_split]
  constructor
  · intro h j hj b hb
    rw [← u j hj b (by omega), ← v j hj b (by omega), h j hj]
  · intro h j hj
    apply td_ext
    intro b hb
    rw [u j hj b hb, v j hj b hb]
    rcases Nat.lt_or_ge b 17 with z | z
    · exact h j hj b z
    · rw [td_an_out z, td_an_out z]
/-! ===== the walks ===== -/
theorem td_or0 {x y : Int32} : (x ||| y) = 0 ↔ x = 0 ∧ y = 0 := by
  constructor
  · intro h
    have t : ∀ k, k < 32 → td_b x k = false ∧ td_b y k = false := by
      intro k hk
      have t := td_bz.mp h k hk
      rw [td_or] at t
      exact (Bool.or_eq_false_iff).mp t
    exact ⟨td_bz.mpr (fun k hk => (t k hk).1), td_bz.mpr (fun k hk => (t k hk).2)⟩
  · rintro ⟨h1, h2⟩
    rw [h1, h2]
    decide
theorem td_mz (c : Nat → Int32) : nI (td_mt c 17) = 0 ↔ td_mt c 17 = 0 := by
  have := td_mt_le c 17
  rw [← nI_0]
  exact nI_eq (by omega) (by omega)
theorem td_m3 (c : Nat → Int32) : nI (td_mt c 17) = 3 ↔ td_mt c 17 = 3 := by
  have := td_mt_le c 17
  exact nI_eq (b := 3) (by omega) (by omega)
theorem td_sameBodies {post : Int32 → Prop} {a1 a2 a3 a4 a5 a6 : Nat → Int32} (H1 : (∀ j, j < 17 → (a3 j ||| a4 j) = (a3 (17 + j) ||| a4 (17 + j))) → post 1) (H0 : ¬ (∀ j, j < 17 → (a3 j ||| a4 j) = (a3 (17 + j) ||| a4 (17 + j))) → post 0) : wpX_sameBodies post (a1, a2, a3, a4, a5, a6) := by
  unfold wpX_sameBodies
  dsimp only
  refine pk_loop (σ := Unit) (fun n j _ => wX_sameBodies_2 post a1 a2 a3 a4 a5 a6 n (nI j)) (fun j _ => ∀ j', j' < j → (a3 j' ||| a4 j') = (a3 (17 + j') ||| a4 (17 + j'))) 17 0 () (by omega) (fun j h => absurd h (by omega))
    (fun n _ h => pk_le 17 17 (fun _ => H1 h) (fun z => absurd z (by omega)))
    (fun n j _ hj h hW => pk_le 17 j (fun z => absurd z (by omega)) (fun _ => ?_))
  unfold wpX_body
  dsimp only
  rw [show (17 : Int32) + nI j = nI (17 + j) from nI_add 17 j, nI_clamp (show j < 2 ^ 31 by omega), nI_clamp (show 17 + j < 2 ^ 31 by omega)]
  refine ⟨vp_in_nI (by omega) (by decide), vp_in_nI (by omega) (by decide), vp_in_nI (by omega) (by decide), vp_in_nI (by omega) (by decide), br_c (fun e => nm_r (nI_1 j) (hW () ?_)) (fun e => H0 (fun t => e (t j hj)))⟩
  exact lt_s h e
theorem td_bodiesMeet {post : Int32 → Prop} {a1 a2 a3 a4 a5 a6 : Nat → Int32}
    (H0 : (td_mt (td_cm 0 0 a3 a4) 17 = 0 ∧ td_mt (td_cm 0 1 a3 a4) 17 = 0 ∧ td_mt (td_cm 1 0 a3 a4) 17 = 0 ∧ td_mt (td_cm 1 1 a3 a4) 17 = 0) → post 0)
    (H1 : ¬ (td_mt (td_cm 0 0 a3 a4) 17 = 0 ∧ td_mt (td_cm 0 1 a3 a4) 17 = 0 ∧ td_mt (td_cm 1 0 a3 a4) 17 = 0 ∧ td_mt (td_cm 1 1 a3 a4) 17 = 0) → post 1) : wpX_bodiesMeet post (a1, a2, a3, a4, a5, a6) := by
  unfold wpX_bodiesMeet
  dsimp only
  refine td_meeting (p := 0) (q := 0) (by omega) (by omega) (by omega) ?_
  refine td_meeting (p := 0) (q := 1) (by omega) (by omega) (by omega) ?_
  refine td_meeting (p := 1) (q := 0) (by omega) (by omega) (by omega) ?_
  refine td_meeting (p := 1) (q := 1) (by omega) (by omega) (by omega) ?_
  refine nm_e ?_
  refine ek_if (d := (td_mt (td_cm 0 0 a3 a4) 17 = 0 ∧ td_mt (td_cm 0 1 a3 a4) 17 = 0 ∧ td_mt (td_cm 1 0 a3 a4) 17 = 0 ∧ td_mt (td_cm 1 1 a3 a4) 17 = 0)) ?_ H0 H1
  rw [td_or0, td_or0, td_or0, td_mz, td_mz, td_mz, td_mz, and_assoc, and_assoc]
theorem td_secondInFirst {post : Int32 → Prop} {a1 a2 a3 a4 a5 a6 : Nat → Int32}
    (H1 : (td_mt (td_cm 2 0 a3 a4) 17 = 0 ∧ td_mt (td_cm 2 1 a3 a4) 17 = 0) → post 1) (H0 : ¬ (td_mt (td_cm 2 0 a3 a4) 17 = 0 ∧ td_mt (td_cm 2 1 a3 a4) 17 = 0) → post 0) : wpX_secondInFirst post (a1, a2, a3, a4, a5, a6) := by
  unfold wpX_secondInFirst
  dsimp only
  refine td_meeting (p := 2) (q := 0) (by omega) (by omega) (by omega) ?_
  refine td_meeting (p := 2) (q := 1) (by omega) (by omega) (by omega) ?_
  refine nm_e ?_
  refine ek_if (d := (td_mt (td_cm 2 0 a3 a4) 17 = 0 ∧ td_mt (td_cm 2 1 a3 a4) 17 = 0)) ?_ H1 H0
  rw [td_or0, td_mz, td_mz]
theorem td_holds0 {post : Int32 → Prop} {S T : Int64} {a1 a2 a3 a4 a5 a6 : Nat → Int32} {k k' : Int32} (h1 : td_L S (17 * 0) a3 a4) (h2 : td_L T (17 * 1) a3 a4) (H1 : S = T → post 1) (H0 : ¬ S = T → post 0) : wpX_holds post (a1, a2, a3, a4, a5, a6) 0 k k' := by
  unfold wpX_holds
  dsimp only
  refine td_meeting (p := 0) (q := 0) (by omega) (by omega) (by omega) ?_
  refine br_f (by decide) (br_f (by decide) (br_t rfl ?_))
  exact td_sameBodies (fun h => ⟨rfl, H1 ((td_m0 h1 h2).mp h)⟩) (fun h => ⟨rfl, H0 (fun e => h ((td_m0 h1 h2).mpr e))⟩)
theorem td_holds1 {post : Int32 → Prop} {S T G : Int64} {a1 a2 a3 a4 a5 a6 : Nat → Int32} {k k' : Int32} (h1 : td_L S (17 * 0) a3 a4) (h2 : td_L T (17 * 1) a3 a4) (hG : ∀ k, k < 64 → td_l G k = td_nr S (k / 8) (k % 8)) (H1 : (G &&& T) = 0 → post 1) (H0 : ¬ (G &&& T) = 0 → post 0) : wpX_holds post (a1, a2, a3, a4, a5, a6) 1 k k' := by
  unfold wpX_holds
  dsimp only
  refine td_meeting (p := 0) (q := 0) (by omega) (by omega) (by omega) ?_
  refine br_f (by decide) (br_f (by decide) (br_f (by decide) (br_t rfl ?_)))
  exact td_bodiesMeet (fun h => br_t rfl (H1 ((td_mg1 h1 h2 hG).mp h))) (fun h => br_f (by decide) (H0 (fun e => h ((td_mg1 h1 h2 hG).mpr e))))
theorem td_holds4 {post : Int32 → Prop} {S T : Int64} {a1 a2 a3 a4 a5 a6 : Nat → Int32} {k k' : Int32} (h1 : td_L S (17 * 0) a3 a4) (h2 : td_L T (17 * 1) a3 a4) (H1 : (T &&& (S ^^^ (-1))) = 0 → post 1) (H0 : ¬ (T &&& (S ^^^ (-1))) = 0 → post 0) : wpX_holds post (a1, a2, a3, a4, a5, a6) 4 k k' := by
  unfold wpX_holds
  dsimp only
  refine td_meeting (p := 0) (q := 0) (by omega) (by omega) (by omega) ?_
  refine br_f (by decide) (br_f (by decide) (br_f (by decide) (br_f (by decide) (br_f (by decide) (br_f (by decide) (br_t rfl ?_))))))
  exact td_secondInFirst (fun h => ⟨rfl, H1 ((td_m4 h1 h2).mp h)⟩) (fun h => ⟨rfl, H0 (fun e => h ((td_m4 h1 h2).mpr e))⟩)
theorem td_holds6 {post : Int32 → Prop} {S T : Int64} {a1 a2 a3 a4 a5 a6 : Nat → Int32} (h1 : td_L S (17 * 0) a3 a4) (h2 : td_L T (17 * 1) a3 a4)
    (H1 : (¬ (S &&& T) = 0 ∧ ¬ (S &&& (T ^^^ (-1))) = 0 ∧ ¬ (T &&& (S ^^^ (-1))) = 0) → post 1) (H0 : ¬ (¬ (S &&& T) = 0 ∧ ¬ (S &&& (T ^^^ (-1))) = 0 ∧ ¬ (T &&& (S ^^^ (-1))) = 0) → post 0) : wpX_holds post (a1, a2, a3, a4, a5, a6) 6 3 3 := by
  unfold wpX_holds
  dsimp only
  refine td_meeting (p := 0) (q := 0) (by omega) (by omega) (by omega) ?_
  refine br_f (by decide) (br_t (by decide) ?_)
  refine td_meeting (p := 0) (q := 2) (by omega) (by omega) (by omega) ?_
  refine td_meeting (p := 2) (q := 0) (by omega) (by omega) (by omega) ?_
  refine br_t rfl ?_
  refine ek_if ((td_m3 _).trans (td_cm3 h1 h2)) (fun x => ?_) (fun x => H0 (fun t => x t.1))
  refine ek_if ((td_mz _).trans (td_m02 h1 h2)) (fun y => H0 (fun t => t.2.1 y)) (fun y => ?_)
  exact ek_if ((td_mz _).trans (td_m20 h1 h2)) (fun z => H0 (fun t => t.2.2 z)) (fun z => H1 ⟨x, y, z⟩)
theorem td_isG {post : Int32 → St1 → Prop} {S T : Int64} {s o : Nat} {name : Int32} {a1 a2 a3 a4 a5 a6 : Nat → Int32} (hs : s < 12) (ho : o < 12) (hn : ¬ name < 0) (hn6 : name ≤ 6) (hk : a1 s = 3) (hk' : a1 o = 3) (hR : td_R S (17 * s) a2) (hR' : td_R T (17 * o) a2)
    (H : ∀ i m, td_L S (17 * 0) i m → td_L T (17 * 1) i m → wpX_holds (fun r => (r = 0 → post 0 (a1, a2, i, m, a5, a6)) ∧ (¬ r = 0 → post 1 (a1, a2, i, m, a5, a6))) (a1, a2, i, m, a5, a6) name 3 3) : wpX_is post (a1, a2, a3, a4, a5, a6) (nI s) (nI o) name := by
  unfold wpX_is
  dsimp only
  refine td_pair0 hs ho hk hk' (br_t rfl (br_f hn (br_t hn6 ?_)))
  refine td_layR (w := 0) hs (by omega) hk hR (fun i m h1 _ => ?_)
  refine td_layR (w := 1) ho (by omega) hk' hR' (fun i' m' h2 e => ?_)
  have h1' : td_L S (17 * 0) i' m' := fun j hj b hb => by
    have t := e (17 * 0 + j) (by omega)
    rw [t.1, t.2]
    exact h1 j hj b hb
  have t := H i' m' h1' h2
  refine ⟨vp_in_nI hs (by decide), vp_in_nI ho (by decide), ?_⟩
  dsimp only
  rw [nI_clamp (show s < 2 ^ 31 by omega), nI_clamp (show o < 2 ^ 31 by omega), hk, hk']
  exact t
theorem td_isN {post : Int32 → St1 → Prop} {s o : Nat} {name : Int32} {a1 a2 a3 a4 a5 a6 : Nat → Int32} (hs : s < 12) (ho : o < 12) (hk : a1 s = 0 ∨ a1 o = 0) (h : post (-2) (a1, a2, a3, a4, a5, a6)) : wpX_is post (a1, a2, a3, a4, a5, a6) (nI s) (nI o) name := by
  unfold wpX_is
  dsimp only
  exact td_pair2 hs ho hk (br_f (by decide) h)
end
section
/-! ===== the methods that change a shape ===== -/
def td_kd (S : Int64) : Int32 := if S = 0 then 0 else 3
theorem td_kd0 {S : Int64} (h : S = 0) : td_kd S = 0 := if_pos h
theorem td_kd3 {S : Int64} (h : ¬ S = 0) : td_kd S = 3 := if_neg h
/-- two slots and the sets that they hold -/
def td_J (S T : Int64) (s o : Nat) (k r : Nat → Int32) : Prop := k s = td_kd S ∧ k o = td_kd T ∧ td_R S (17 * s) r ∧ td_R T (17 * o) r
theorem td_J_swap {S T : Int64} {s o : Nat} {k r : Nat → Int32} (h : td_J S T s o k r) : td_J T S o s k r := ⟨h.2.1, h.1, h.2.2.2, h.2.2.1⟩
theorem td_settle {post : Int32 → St1 → Prop} {S : Int64} {s : Nat} {a1 a2 a3 a4 a5 a6 : Nat → Int32} (hs : s < 12) (hk : a1 s = 3) (hR : td_R S (17 * s) a2)
    (H : ∀ k, k s = td_kd S → (∀ q, q ≠ s → k q = a1 q) → post (nI (td_n S)) (k, a2, a3, a4, a5, a6)) : wpX_settle post (a1, a2, a3, a4, a5, a6) (nI s) := by
  unfold wpX_settle
  dsimp only
  refine td_countR hs hR ?_
  have hn := td_n_le S
  refine pk_eq (td_n S) 0 (fun z => ⟨vp_in_nI hs (by decide), nm_r (td_u1 (by omega) _ _) (H _ ?_ (fun q hq => pk_un hq))⟩) (fun z => H _ ?_ (fun q _ => rfl))
  · rw [pk_us, td_kd0 (td_n_0.mp z)]
  · rw [hk, td_kd3 (fun e => z (td_n_0.mpr e))]
theorem td_clearJ {post : Int32 → St1 → Prop} {S T : Int64} {s o : Nat} {a1 a2 a3 a4 a5 a6 : Nat → Int32} (hs : s < 12) (ho : o < 12) (hso : s ≠ o) (hJ : td_J S T s o a1 a2)
    (H : ∀ k r, td_J 0 T s o k r → post (td_kd S) (k, r, a3, a4, a5, a6)) : wpX_clear post (a1, a2, a3, a4, a5, a6) (nI s) := by
  refine td_clear hs (fun r hr => ?_)
  rw [hJ.1]
  refine H _ r ⟨?_, ?_, td_R_0 hr.1, td_R_keep hJ.2.2.2 (fun j hj => hr.2 _ (by omega))⟩
  · rw [pk_us, td_kd0 rfl]
  · rw [pk_un (fun e => hso e.symm), hJ.2.1]
/-! == vertices, columns == -/
theorem td_d9 {f : Nat} (h : f < 81) : nI f / 9 = nI (f / 9) := pk_div (d := 9) (by omega) (by omega) (by omega)
theorem td_m9 {f : Nat} (h : f < 81) : nI f - nI f / 9 * 9 = nI (f % 9) := pk_rem (d := 9) (by omega) (by omega) (by omega)
theorem td_isVertex {post : Int32 → Prop} {v : Nat} (hv : v < 81) (h : post 1) : wpX_isVertex post () (nI v) :=
  br_f (nI_pos (by omega)) (br_f (nI_ge (b := 81) hv (by decide)) h)
theorem td_flat {post : Int32 → Prop} {f t : Nat} (hf : f < 81) (ht : t < 81) (H1 : (f / 9 = t / 9 ∨ f % 9 = t % 9) → post 1) (H0 : ¬ (f / 9 = t / 9 ∨ f % 9 = t % 9) → post 0) : wpX_flat post () (nI f) (nI t) := by
  unfold wpX_flat
  rw [td_m9 hf, td_m9 ht, td_d9 hf, td_d9 ht]
  exact ⟨by decide, by decide, pk_eq (f / 9) (t / 9) (fun z => H1 (.inl z)) (fun z => ⟨by decide, by decide, pk_eq (f % 9) (t % 9) (fun z2 => H1 (.inr z2)) (fun z2 => H0 (fun e => e.elim z z2))⟩)⟩
theorem td_lesser {post : Int32 → Prop} {a b : Nat} (ha : a < 81) (hb : b < 81) (h : post (nI (min a b))) : wpX_lesser post () (nI a) (nI b) :=
  pk_le b a (fun z => by rw [Nat.min_eq_right z] at h; exact h) (fun z => by rw [Nat.min_eq_left (by omega)] at h; exact h)
theorem td_greater {post : Int32 → Prop} {a b : Nat} (ha : a < 81) (hb : b < 81) (h : post (nI (max a b))) : wpX_greater post () (nI a) (nI b) :=
  pk_le a b (fun z => by rw [Nat.max_eq_right z] at h; exact h) (fun z => by rw [Nat.max_eq_left (by omega)] at h; exact h)
theorem td_columns {post : Int32 → Prop} {f t : Nat} (hf : f < 81) (ht : t < 81) (h : ∀ w, (∀ i, i < 32 → td_b w i = decide (i % 2 = 1 ∧ 2 * min (f / 9) (t / 9) ≤ i ∧ i < 2 * max (f / 9) (t / 9))) → post w) : wpX_columns post () (nI f) (nI t) := by
  unfold wpX_columns
  rw [td_d9 hf, td_d9 ht]
  refine ⟨by decide, by decide, td_lesser (by omega) (by omega) ⟨by decide, by decide, td_greater (by omega) (by omega) ?_⟩⟩
  unfold wpX_span
  rw [show (2 : Int32) * nI (min (f / 9) (t / 9)) = nI (2 * min (f / 9) (t / 9)) from pk_mul 2 _, show (2 : Int32) * nI (max (f / 9) (t / 9)) = nI (2 * max (f / 9) (t / 9)) from pk_mul 2 _]
  refine br_t (nI_le (by omega) (by omega)) (h _ ?_)
  exact td_span _ (by omega) _ (by omega) (by omega)
theorem td_2 (t : Nat) : nI (2 * t + 1) + 2 = nI (2 * (t + 1) + 1) := nI_add (2 * t + 1) 2
theorem td_O_at {B lo t : Nat} {F a r : Nat → Int32} (h : td_O B lo t F a r) (j : Nat) : r (B + j) = if j % 2 = 1 ∧ 2 * lo ≤ j ∧ j < 2 * t then F j else a (B + j) := by
  rw [h (B + j), Nat.add_sub_cancel_left]
  by_cases z : j % 2 = 1 ∧ 2 * lo ≤ j ∧ j < 2 * t
  · rw [if_pos z, if_pos (by omega)]
  · rw [if_neg z, if_neg (by omega)]
theorem td_O_out {B lo t : Nat} {F a r : Nat → Int32} (h : td_O B lo t F a r) (ht : t ≤ 8) {q : Nat} (hq : q < B ∨ B + 17 ≤ q) : r q = a q := by
  rw [h q, if_neg (by omega)]
theorem td_rect_loop {post : Int32 → St1 → Prop} {s y0 y1 : Nat} {w : Int32} {a1 a2 a3 a4 a5 a6 : Nat → Int32} (hs : s < 12) (hy : y0 ≤ y1) (hy1 : y1 ≤ 8)
    (H : ∀ r, td_O (17 * s) y0 y1 (fun u => a2 (17 * s + u) ||| w) a2 r → wpX_count (fun c => post c (a1, r, a3, a4, a5, a6)) (a1, r, a3, a4, a5, a6) (nI s)) :
    ∃ n, wX_rectangle_95 post (nI s) w (nI (2 * y1)) n (nI (2 * y0 + 1)) a1 a2 a3 a4 a5 a6 :=
  pk_loop (fun n t r => wX_rectangle_95 post (nI s) w (nI (2 * y1)) n (nI (2 * t + 1)) a1 r a3 a4 a5 a6) (fun t r => y0 ≤ t ∧ td_O (17 * s) y0 t (fun u => a2 (17 * s + u) ||| w) a2 r) y1 y0 a2 hy ⟨Nat.le_refl _, td_O_0 _ _ _ _⟩
    (fun n r h => pk_le (2 * y1) (2 * y1 + 1) (fun _ => H r h.2) (fun z => absurd z (by omega)))
    (fun n t r ht h hW => pk_le (2 * y1) (2 * t + 1) (fun z => absurd z (by omega)) (fun _ => ⟨td_vin hs (by omega), td_vin hs (by omega), nm_r (e' := upd r (17 * s + (2 * t + 1)) (r (17 * s + (2 * t + 1)) ||| w)) (by rw [td_cl hs (by omega)]) (nm_r (td_2 t) (hW _ ⟨Nat.le_succ_of_le h.1, td_O_s h.2 h.1 (by
      have e := h.2 (17 * s + (2 * t + 1))
      rw [if_neg (by omega)] at e
      rw [e])⟩))⟩))
theorem td_cut_loop {post : Int32 → St1 → Prop} {s y0 y1 : Nat} {w : Int32} {a1 a2 a3 a4 a5 a6 : Nat → Int32} (hs : s < 12) (hy : y0 ≤ y1) (hy1 : y1 ≤ 8)
    (H : ∀ r, td_O (17 * s) y0 y1 (fun u => a2 (17 * s + u) &&& (w ^^^ (-1))) a2 r → wpX_settle post (a1, r, a3, a4, a5, a6) (nI s)) :
    ∃ n, wX_cut_82 post (nI s) w (nI (2 * y1)) n (nI (2 * y0 + 1)) a1 a2 a3 a4 a5 a6 :=
  pk_loop (fun n t r => wX_cut_82 post (nI s) w (nI (2 * y1)) n (nI (2 * t + 1)) a1 r a3 a4 a5 a6) (fun t r => y0 ≤ t ∧ td_O (17 * s) y0 t (fun u => a2 (17 * s + u) &&& (w ^^^ (-1))) a2 r) y1 y0 a2 hy ⟨Nat.le_refl _, td_O_0 _ _ _ _⟩
    (fun n r h => pk_le (2 * y1) (2 * y1 + 1) (fun _ => H r h.2) (fun z => absurd z (by omega)))
    (fun n t r ht h hW => pk_le (2 * y1) (2 * t + 1) (fun z => absurd z (by omega)) (fun _ => ⟨td_vin hs (by omega), td_vin hs (by omega), nm_r (e' := upd r (17 * s + (2 * t + 1)) (r (17 * s + (2 * t + 1)) &&& (w ^^^ (-1)))) (by rw [td_cl hs (by omega)]) (nm_r (td_2 t) (hW _ ⟨Nat.le_succ_of_le h.1, td_O_s h.2 h.1 (by
      have e := h.2 (17 * s + (2 * t + 1))
      rw [if_neg (by omega)] at e
      rw [e])⟩))⟩))
theorem td_C_ne {x0 x1 y0 y1 : Nat} {C : Int64} (h : td_C x0 x1 y0 y1 C) (hx : x0 < x1) (hy : y0 < y1) (hx1 : x1 ≤ 8) (hy1 : y1 ≤ 8) (S : Int64) : ¬ (S ||| C) = 0 := by
  intro e
  have t := td_lz.mp e (8 * x0 + y0) (by omega)
  rw [td_lor, h _ (by omega), decide_eq_true (by omega), Bool.or_true] at t
  exact absurd t (by decide)
theorem td_rectangle {post : Int32 → St1 → Prop} {S T C : Int64} {s o f t : Nat} {a1 a2 a3 a4 a5 a6 : Nat → Int32} (hs : s < 12) (ho : o < 12) (hso : s ≠ o) (hf : f < 81) (ht : t < 81) (hJ : td_J S T s o a1 a2)
    (hC : td_C (min (f / 9) (t / 9)) (max (f / 9) (t / 9)) (min (f % 9) (t % 9)) (max (f % 9) (t % 9)) C)
    (Hf : (f / 9 = t / 9 ∨ f % 9 = t % 9) → post (-5) (a1, a2, a3, a4, a5, a6))
    (H : ¬ (f / 9 = t / 9 ∨ f % 9 = t % 9) → ∀ k r, td_J (S ||| C) T s o k r → post (nI (td_n (S ||| C))) (k, r, a3, a4, a5, a6)) : wpX_rectangle post (a1, a2, a3, a4, a5, a6) (nI s) (nI f) (nI t) := by
  unfold wpX_rectangle
  dsimp only
  refine td_isSlot hs (br_f (by decide) ?_)
  have tk : ∀ P : Int32 → Prop, P 1 → wpX_takes P (a1, a2, a3, a4, a5, a6) (nI s) 3 := by
    intro P hP
    unfold wpX_takes
    dsimp only
    rw [nI_clamp (show s < 2 ^ 31 by omega), hJ.1]
    refine ⟨vp_in_nI hs (by decide), br_c (fun _ => hP) (fun z => ⟨vp_in_nI hs (by decide), br_t ?_ hP⟩)⟩
    by_cases e : S = 0
    · exact absurd (td_kd0 e) z
    · exact td_kd3 e
  refine tk _ (br_f (by decide) (td_isVertex hf (br_f (by decide) (td_isVertex ht (br_f (by decide) (td_flat hf ht (fun z => br_f (by decide) (Hf z)) (fun z => br_t rfl ⟨vp_in_nI hs (by decide), nm_r (td_u1 (by omega) _ _) ?_⟩)))))))
  refine td_columns hf ht (fun w hw => ⟨by decide, by decide, ?_⟩)
  rw [td_m9 hf, td_m9 ht]
  refine td_greater (by omega) (by omega) (nm_r (pk_mul 2 _) ⟨by decide, by decide, td_lesser (by omega) (by omega) (nm_r (e' := nI (2 * min (f % 9) (t % 9) + 1)) (by rw [← nI_1, ← pk_mul]; rfl) ?_)⟩)
  refine td_rect_loop hs (by omega) (by omega) (fun r hr => ?_)
  have hR : td_R (S ||| C) (17 * s) r := td_rect hJ.2.2.1 hC (by omega) (by omega) hw (fun j _ => td_O_at hr j)
  refine td_countR hs hR (H z _ r ⟨?_, ?_, hR, td_R_keep hJ.2.2.2 (fun j hj => td_O_out hr (by omega) (by omega))⟩)
  · rw [pk_us, td_kd3 (td_C_ne hC (by omega) (by omega) (by omega) (by omega) S)]
  · rw [pk_un (fun e => hso e.symm), hJ.2.1]
theorem td_cut {post : Int32 → St1 → Prop} {S T C : Int64} {s o f t : Nat} {a1 a2 a3 a4 a5 a6 : Nat → Int32} (hs : s < 12) (ho : o < 12) (hso : s ≠ o) (hf : f < 81) (ht : t < 81) (hJ : td_J S T s o a1 a2)
    (hC : td_C (min (f / 9) (t / 9)) (max (f / 9) (t / 9)) (min (f % 9) (t % 9)) (max (f % 9) (t % 9)) C)
    (H2 : S = 0 → post (-2) (a1, a2, a3, a4, a5, a6))
    (Hf : ¬ S = 0 → (f / 9 = t / 9 ∨ f % 9 = t % 9) → post (-5) (a1, a2, a3, a4, a5, a6))
    (H : ¬ S = 0 → ¬ (f / 9 = t / 9 ∨ f % 9 = t % 9) → ∀ k r, td_J (S &&& (C ^^^ (-1))) T s o k r → post (nI (td_n (S &&& (C ^^^ (-1))))) (k, r, a3, a4, a5, a6)) : wpX_cut post (a1, a2, a3, a4, a5, a6) (nI s) (nI f) (nI t) := by
  unfold wpX_cut
  dsimp only
  by_cases hS : S = 0
  · exact td_ref2 hs (hJ.1.trans (td_kd0 hS)) (br_f (by decide) (H2 hS))
  have hk : a1 s = 3 := hJ.1.trans (td_kd3 hS)
  refine td_ref0 hs hk (br_t rfl (td_isVertex hf (br_f (by decide) (td_isVertex ht (br_f (by decide) (td_flat hf ht (fun z => br_f (by decide) (Hf hS z)) (fun z => br_t rfl ?_)))))))
  refine td_columns hf ht (fun w hw => ⟨by decide, by decide, ?_⟩)
  rw [td_m9 hf, td_m9 ht]
  refine td_greater (by omega) (by omega) (nm_r (pk_mul 2 _) ⟨by decide, by decide, td_lesser (by omega) (by omega) (nm_r (e' := nI (2 * min (f % 9) (t % 9) + 1)) (by rw [← nI_1, ← pk_mul]; rfl) ?_)⟩)
  refine td_cut_loop hs (by omega) (by omega) (fun r hr => ?_)
  have hR : td_R (S &&& (C ^^^ (-1))) (17 * s) r := td_cutR hJ.2.2.1 hC (by omega) (by omega) hw (fun j _ => td_O_at hr j)
  exact td_settle hs hk hR (fun k h1 h2 => H hS z k r ⟨h1, (h2 o (fun e => hso e.symm)).trans hJ.2.1, hR, td_R_keep hJ.2.2.2 (fun j hj => td_O_out hr (by omega) (by omega))⟩)
/-! == combine == -/
theorem td_combine {post : Int32 → St1 → Prop} {S T : Int64} {s o how : Nat} {a1 a2 a3 a4 a5 a6 : Nat → Int32} (hs : s < 12) (ho : o < 12) (hso : s ≠ o) (hh : how < 4) (hJ : td_J S T s o a1 a2)
    (H2 : (S = 0 ∨ T = 0) → post (-2) (a1, a2, a3, a4, a5, a6))
    (H : ¬ S = 0 → ¬ T = 0 → ∀ k r, td_J (td_op how S T) T s o k r → post (nI (td_n (td_op how S T))) (k, r, a3, a4, a5, a6)) : wpX_combine post (a1, a2, a3, a4, a5, a6) (nI s) (nI o) (nI how) := by
  unfold wpX_combine
  dsimp only
  by_cases hS : S = 0
  · exact td_pair2 hs ho (.inl (hJ.1.trans (td_kd0 hS))) (br_f (by decide) (H2 (.inl hS)))
  by_cases hT : T = 0
  · exact td_pair2 hs ho (.inr (hJ.2.1.trans (td_kd0 hT))) (br_f (by decide) (H2 (.inr hT)))
  have hk : a1 s = 3 := hJ.1.trans (td_kd3 hS)
  have hk' : a1 o = 3 := hJ.2.1.trans (td_kd3 hT)
  refine td_pair0 hs ho hk hk' (br_t rfl ⟨vp_in_nI hs (by decide), vp_in_nI ho (by decide), br_t ?_ (br_f (nI_pos (by omega)) (br_t (nI_le (b := 3) (by omega) (by decide)) ?_))⟩)
  · rw [nI_clamp (show s < 2 ^ 31 by omega), nI_clamp (show o < 2 ^ 31 by omega), hk, hk']
  · refine pk_loop (fun n i r => wX_combine_49 post (nI s) (nI o) (nI how) n (nI i) a1 r a3 a4 a5 a6) (fun i r => td_P (17 * s) i (fun j => td_opw how (a2 (17 * s + j)) (a2 (17 * o + j))) a2 r) 17 0 a2 (by omega) (td_P_0 _ _ _)
      (fun n r h => pk_le 17 17 (fun _ => ?_) (fun z => absurd z (by omega)))
      (fun n i r hi h hW => pk_le 17 i (fun z => absurd z (by omega)) (fun _ => ⟨td_vin hs hi, nm_r (e' := a2 (17 * s + i)) ?_ ⟨td_vin ho hi, nm_r (e' := a2 (17 * o + i)) ?_ ?_⟩⟩))
    · have h' : td_P (17 * s) 17 (fun j => td_opw how (a2 (17 * s + j)) (a2 (17 * o + j))) a2 r := h
      have hR : td_R (td_op how S T) (17 * s) r := td_comb hJ.2.2.1 hJ.2.2.2 h'.1
      exact td_settle hs hk hR (fun k h1 h2 => H hS hT k r ⟨h1, (h2 o (fun e => hso e.symm)).trans hJ.2.1, hR, td_R_keep hJ.2.2.2 (fun j hj => h'.2 _ (by omega))⟩)
    · rw [td_cl hs hi]
      exact h.2 _ (by omega)
    · rw [td_cl ho hi]
      exact h.2 _ (by omega)
    · have t : ∀ x, x = td_opw how (a2 (17 * s + i)) (a2 (17 * o + i)) → wX_combine_49 post (nI s) (nI o) (nI how) n (nI (i + 1)) a1 (upd r (17 * s + i) x) a3 a4 a5 a6 := fun x hx => hW _ (td_P_s h hx)
      unfold td_opw at t
      refine pk_eq how 0 (fun z => ⟨td_vin hs hi, nm_r (td_up hs hi _ _) (nm_r (nI_1 i) (t _ ?_))⟩) (fun z => pk_eq how 1 (fun z1 => ⟨td_vin hs hi, nm_r (td_up hs hi _ _) (nm_r (nI_1 i) (t _ ?_))⟩) (fun z1 => pk_eq how 2 (fun z2 => ⟨td_vin hs hi, nm_r (td_up hs hi _ _) (nm_r (nI_1 i) (t _ ?_))⟩) (fun z2 => ⟨td_vin hs hi, nm_r (td_up hs hi _ _) (nm_r (nI_1 i) (t _ ?_))⟩)))
      · rw [if_pos z]
      · rw [if_neg z, if_pos z1]
      · rw [if_neg z, if_neg z1, if_pos z2]
      · rw [if_neg z, if_neg z1, if_neg z2]
/-! == grow == -/
theorem td_nr_self {S : Int64} {k : Nat} (hk : k < 64) (h : td_l S k = true) : td_nr S (k / 8) (k % 8) = true :=
  td_ex_iff.mpr ⟨4, by omega, by show td_g S (k / 8 + 1) (k % 8 + 1) = true; rw [td_g_k S hk]; exact h⟩
theorem td_grown_ne {S G : Int64} (hG : ∀ k, k < 64 → td_l G k = td_nr S (k / 8) (k % 8)) (hS : ¬ S = 0) : ¬ G = 0 := by
  intro e
  apply hS
  apply td_lz.mpr
  intro k hk
  cases z : td_l S k
  · rfl
  · have t := hG k hk
    rw [td_nr_self hk z, e, td_l0] at t
    exact absurd t (by decide)
theorem td_grown_0 {G : Int64} (hG : ∀ k, k < 64 → td_l G k = td_nr 0 (k / 8) (k % 8)) : G = 0 := by
  apply td_lz.mpr
  intro k hk
  rw [hG k hk]
  cases z : td_nr 0 (k / 8) (k % 8)
  · rfl
  · obtain ⟨q, _, e⟩ := td_ex_iff.mp z
    rw [td_g_0] at e
    exact e.symm
def td_gF (r : Nat → Int32) (B j : Nat) : Int32 := td_gw ((td_rw r B j ||| td_rw r B (j + 2)) ||| td_rw r B (j + 4))
theorem td_grow75 {post : Int32 → St1 → Prop} {s : Nat} {a1 a2 a3 a4 a5 a6 : Nat → Int32} (hs : s < 12)
    (H : ∀ r, td_O (17 * s) 0 8 a5 a2 r → wpX_count (fun c => post c (a1, r, a3, a4, a5, a6)) (a1, r, a3, a4, a5, a6) (nI s)) : ∃ n, wX_grow_75 post (nI s) n 1 a1 a2 a3 a4 a5 a6 :=
  pk_loop (fun n t r => wX_grow_75 post (nI s) n (nI (2 * t + 1)) a1 r a3 a4 a5 a6) (fun t r => td_O (17 * s) 0 t a5 a2 r) 8 0 a2 (by omega) (td_O_0 _ _ _ _)
    (fun n r h => pk_le 17 (2 * 8 + 1) (fun _ => H r h) (fun z => absurd z (by omega)))
    (fun n t r ht h hW => pk_le 17 (2 * t + 1) (fun z => absurd z (by omega)) (fun _ => ⟨vp_in_nI (by omega) (by decide), td_vin hs (by omega), nm_r (e' := upd r (17 * s + (2 * t + 1)) (a5 (2 * t + 1))) (by rw [td_cl hs (by omega), nI_clamp (by omega)]) (nm_r (td_2 t) (hW _ (td_O_s h (Nat.zero_le _) rfl)))⟩))
theorem td_grow14 {post : Int32 → St1 → Prop} {s : Nat} {a1 a2 a3 a4 a5 a6 : Nat → Int32} (hs : s < 12)
    (H : ∀ g, td_O 0 0 8 (td_gF a2 (17 * s)) a5 g → ∃ n, wX_grow_75 post (nI s) n 1 a1 a2 a3 a4 g a6) : ∃ n, wX_grow_14 post (nI s) n 1 a1 a2 a3 a4 a5 a6 :=
  pk_loop (fun n t g => wX_grow_14 post (nI s) n (nI (2 * t + 1)) a1 a2 a3 a4 g a6) (fun t g => td_O 0 0 t (td_gF a2 (17 * s)) a5 g) 8 0 a5 (by omega) (td_O_0 _ _ _ _)
    (fun n g h => pk_le 17 (2 * 8 + 1) (fun _ => H g h) (fun z => absurd z (by omega)))
    (fun n t g ht h hW => pk_le 17 (2 * t + 1) (fun z => absurd z (by omega)) (fun _ => td_row hs (J := 2 * t + 1) rfl (by omega) (td_row hs (td_p2 (2 * t + 1)) (by omega) (td_row hs (td_p4 (2 * t + 1)) (by omega)
      (nm_e ⟨vp_in_nI (by omega) (by decide), nm_r (e' := upd g (0 + (2 * t + 1)) (td_gF a2 (17 * s) (2 * t + 1))) (by rw [nI_clamp (by omega), Nat.zero_add]; rfl) (nm_r (td_2 t) (hW _ (td_O_s h (Nat.zero_le _) rfl)))⟩)))))
theorem td_grow {post : Int32 → St1 → Prop} {S T G : Int64} {s o : Nat} {a1 a2 a3 a4 a5 a6 : Nat → Int32} (hs : s < 12) (ho : o < 12) (hso : s ≠ o) (hJ : td_J S T s o a1 a2) (hG : ∀ k, k < 64 → td_l G k = td_nr S (k / 8) (k % 8))
    (H2 : S = 0 → post (-2) (a1, a2, a3, a4, a5, a6))
    (H : ¬ S = 0 → ∀ r g, td_J G T s o a1 r → post (nI (td_n G)) (a1, r, a3, a4, g, a6)) : wpX_grow post (a1, a2, a3, a4, a5, a6) (nI s) := by
  unfold wpX_grow
  dsimp only
  by_cases hS : S = 0
  · exact td_ref2 hs (hJ.1.trans (td_kd0 hS)) (br_f (by decide) (H2 hS))
  have hk : a1 s = 3 := hJ.1.trans (td_kd3 hS)
  refine td_ref0 hs hk (br_t rfl (td_grow14 hs (fun g hg => td_grow75 hs (fun r hr => ?_))))
  have hR : td_R G (17 * s) r := td_growR hG hJ.2.2.1 (fun j hj => by
    rw [td_O_at hr j]
    by_cases e : j % 2 = 1
    · have t := td_O_at hg j
      rw [if_pos (by omega), Nat.zero_add] at t
      rw [if_pos (by omega), if_pos e, t]
      rfl
    · rw [if_neg (by omega), if_neg e])
  refine td_countR hs hR (H hS r g ⟨?_, hJ.2.1, hR, td_R_keep hJ.2.2.2 (fun j hj => td_O_out hr (by omega) (by omega))⟩)
  rw [hk, td_kd3 (td_grown_ne hG hS)]
/-! == outline == -/
theorem td_outline {post : Int32 → St1 → Prop} {S T : Int64} {s o : Nat} {a1 a2 a3 a4 a5 a6 : Nat → Int32} (hs : s < 12) (ho : o < 12) (hs1 : s ≠ 1) (ho1 : o ≠ 1) (hJ : td_J S T s o a1 a2)
    (H2 : S = 0 → post (-2) (a1, a2, a3, a4, a5, a6))
    (H : ¬ S = 0 → ∀ k r i m, td_J S T s o k r → post (nI (td_rn S)) (k, r, i, m, a5, a6)) : wpX_outline post (a1, a2, a3, a4, a5, a6) (nI s) (nI 1) := by
  unfold wpX_outline
  dsimp only
  refine td_isSlot (s := 1) (by omega) (br_f (by decide) ?_)
  by_cases hS : S = 0
  · exact td_ref2 hs (hJ.1.trans (td_kd0 hS)) (br_f (by decide) (H2 hS))
  have hk : a1 s = 3 := hJ.1.trans (td_kd3 hS)
  refine td_ref0 hs hk (br_t rfl (td_layR (w := 0) hs (by omega) hk hJ.2.2.1 (fun i m hL _ => ⟨vp_in_nI (by omega) (by decide), nm_r (td_u1 (by omega) _ _) ?_⟩)))
  have hm : ∀ j, j < 17 → ∀ b, b < 32 → td_b (m j) b = td_ri S b j := fun j hj b hb => (td_L0 hL j hj b hb).2
  refine pk_loop (fun n j r => wX_outline_37 post (nI 1) n (nI j) (upd a1 1 2) r i m a5 a6) (fun j r => td_P (17 * 1) j (fun j => m j &&& td_mk j) a2 r) 17 0 a2 (by omega) (td_P_0 _ _ _)
    (fun n r h => pk_le 17 17 (fun _ => ?_) (fun z => absurd z (by omega)))
    (fun n j r hj h hW => pk_le 17 j (fun z => absurd z (by omega)) (fun _ => ⟨vp_in_nI (by omega) (by decide), by decide, ?_⟩))
  · have h' : td_P (17 * 1) 17 (fun j => m j &&& td_mk j) a2 r := h
    refine td_count (s := 1) (by omega) (fun j hj => by rw [h'.1 j hj]; exact td_rimw (hm j hj)) ?_
    rw [td_sm_congr (g := fun j => td_pop (m j &&& td_mk j)) (fun j hj => by rw [h'.1 j hj]), td_rim_sum hm]
    refine H hS _ r i m ⟨?_, ?_, td_R_keep hJ.2.2.1 (fun j hj => h'.2 _ (by omega)), td_R_keep hJ.2.2.2 (fun j hj => h'.2 _ (by omega))⟩
    · rw [pk_un hs1, hJ.1]
    · rw [pk_un ho1, hJ.2.1]
  · have t : ∀ x, x = m j &&& td_mk j → wX_outline_37 post (nI 1) n (nI (j + 1)) (upd a1 1 2) (upd r (17 * 1 + j) x) i m a5 a6 := fun x hx => hW _ (td_P_s h hx)
    rw [td_r2 hj, nI_clamp (show j < 2 ^ 31 by omega)]
    by_cases e : j % 2 = 0
    · rw [show td_mk j = 43690 from if_pos e] at t
      rw [e]
      exact br_t rfl ⟨td_vin (by omega) hj, nm_r (td_up (by omega) hj _ _) (nm_r (nI_1 j) (t _ rfl))⟩
    · rw [show td_mk j = 87381 from if_neg e] at t
      rw [show j % 2 = 1 by omega]
      exact br_f (by decide) ⟨td_vin (by omega) hj, nm_r (td_up (by omega) hj _ _) (nm_r (nI_1 j) (t _ rfl))⟩
end
section
/-! ===== the law's own functions ===== -/
theorem td_lo {S : Int64} {k : Nat} (hk : k < 64) : ((S >>> ((nI k).toInt64 &&& 63)) &&& 1).toInt32 = nI (td_l S k).toNat := by
  rw [td_lbit S hk]
  cases td_l S k <;> rfl
theorem td_wOnes {post : Int32 → Prop} {S : Int64} (h : post (nI (td_n S))) : wpL_ones post () S :=
  pk_loop (σ := Unit) (fun n k _ => wL_ones_4 post S n (nI (td_sm (fun k => (td_l S k).toNat) k)) (nI k)) (fun _ _ => True) 64 0 () (by omega) trivial
    (fun n _ _ => pk_le 64 64 (fun _ => h) (fun z => absurd z (by omega)))
    (fun n k _ hk _ hW => pk_le 64 k (fun z => absurd z (by omega)) (fun _ => nm_r (e' := nI (td_sm (fun k => (td_l S k).toNat) k + (td_l S k).toNat)) (by rw [td_lo hk, nI_add]) (nm_r (nI_1 k) (hW () trivial))))
theorem td_lb1 (S : Int64) {k : Nat} (hk : k < 64) : ((S >>> ((nI k).toInt64 &&& 63)) &&& 1) = 1 ↔ td_l S k = true := by
  rw [td_lbit S hk]
  cases td_l S k
  · exact ⟨fun h => absurd h (by decide), fun h => absurd h (by decide)⟩
  · exact ⟨fun _ => rfl, fun _ => rfl⟩
/-- 'in' at (X - 1, Y - 1) -/
theorem td_wIn {post : Int32 → Prop} {S : Int64} {X Y : Nat} {p q : Int32} (hp : p = nI X - nI 1) (hq : q = nI Y - nI 1) (hX : X < 100) (hY : Y < 100) (h1 : td_g S X Y = true → post 1) (h0 : td_g S X Y = false → post 0) : wpL_in post () S p q := by
  unfold wpL_in
  by_cases e1 : X < 1
  · refine br_t ?_ (h0 (td_g_out (by omega)))
    rw [hp]
    exact pk_sneg (by omega) e1
  rw [pk_sub (by omega)] at hp
  subst hp
  refine br_f (nI_pos (by omega)) (pk_le 8 (X - 1) (fun z => h0 (td_g_out (by omega))) (fun z1 => ?_))
  by_cases e2 : Y < 1
  · refine br_t ?_ (h0 (td_g_out (by omega)))
    rw [hq]
    exact pk_sneg (by omega) e2
  rw [pk_sub (by omega)] at hq
  subst hq
  refine br_f (nI_pos (by omega)) (pk_le 8 (Y - 1) (fun z => h0 (td_g_out (by omega))) (fun z2 => ?_))
  have e : (8 : Int32) * nI (X - 1) + nI (Y - 1) = nI (8 * (X - 1) + (Y - 1)) := by
    rw [show (8 : Int32) = nI 8 from rfl, pk_mul, nI_add]
  have g : td_g S X Y = td_l S (8 * (X - 1) + (Y - 1)) := by
    unfold td_g
    rw [decide_eq_true (by omega), Bool.true_and]
  rw [g] at h1 h0
  rw [e]
  refine ek_if (td_lb1 S (by omega)) h1 (fun z => h0 ?_)
  cases y : td_l S (8 * (X - 1) + (Y - 1))
  · rfl
  · exact absurd y z
theorem td_i1 (x : Nat) : nI x = nI (x + 1) - nI 1 := (nI_pred x).symm
theorem td_i2 (x : Nat) : nI x + 1 = nI (x + 2) - nI 1 := (nI_1 x).trans (td_i1 (x + 1))
theorem td_i0 (x : Nat) : nI x - 1 = nI x - nI 1 := rfl
theorem td_d8 {k : Nat} (h : k < 64) : nI k / 8 = nI (k / 8) := pk_div (d := 8) (by omega) (by omega) (by omega)
theorem td_m8 {k : Nat} (h : k < 64) : nI k - nI k / 8 * 8 = nI (k % 8) := pk_rem (d := 8) (by omega) (by omega) (by omega)
/-! == cells == -/
theorem td_low {out : Int64} {P : Nat → Bool} {k : Nat} (hk : k < 64) (h : ∀ j, j < 64 → td_l out j = (decide (j < k) && P j)) {b : Bool} (hb : P k = b) {out' : Int64} (ho : out' = if b then out ||| ((1 : Int64) <<< ((nI k).toInt64 &&& 63)) else out ||| 0) : ∀ j, j < 64 → td_l out' j = (decide (j < k + 1) && P j) := by
  intro j hj
  subst ho
  by_cases e : j = k
  · subst e
    rw [decide_eq_true (by omega), Bool.true_and, hb]
    cases b
    · rw [if_neg (by decide), td_lor, h j hj, decide_eq_false (by omega), td_l0]
      rfl
    · rw [if_pos rfl, td_lor, td_lone j hk j hj, decide_eq_true rfl, Bool.or_true]
  · have e2 : decide (j < k + 1) = decide (j < k) := by
      apply decide_eq_decide.mpr
      omega
    rw [e2, ← h j hj]
    cases b
    · rw [if_neg (by decide), td_lor, td_l0, Bool.or_false]
    · rw [if_pos rfl, td_lor, td_lone k hk j hj, decide_eq_false e, Bool.or_false]
theorem td_mkset (P : Nat → Bool) : ∃ G : Int64, ∀ k, k < 64 → td_l G k = P k := by
  have key : ∀ n, n ≤ 64 → ∃ G : Int64, ∀ j, j < 64 → td_l G j = (decide (j < n) && P j) := by
    intro n
    induction n with
    | zero => exact fun _ => ⟨0, fun j _ => by rw [td_l0]; rfl⟩
    | succ n ih =>
      intro hn
      obtain ⟨G, hG⟩ := ih (by omega)
      exact ⟨_, td_low (by omega) hG rfl rfl⟩
  obtain ⟨G, hG⟩ := key 64 (by omega)
  exact ⟨G, fun k hk => by rw [hG k hk, decide_eq_true hk, Bool.true_and]⟩
theorem td_cells79 {post : Int64 → Prop} {x0 x1 y0 y1 : Nat} (h0 : x0 < 100) (h1 : x1 < 100) (h2 : y0 < 100) (h3 : y1 < 100) (H : ∀ C, td_C x0 x1 y0 y1 C → post C) : ∃ n, wL_cells_79 post (nI x0) (nI x1) (nI y0) (nI y1) n 0 0 := by
  refine pk_loop (fun n k out => wL_cells_79 post (nI x0) (nI x1) (nI y0) (nI y1) n out (nI k)) (fun k out => ∀ j, j < 64 → td_l out j = (decide (j < k) && decide (x0 ≤ j / 8 ∧ j / 8 < x1 ∧ y0 ≤ j % 8 ∧ j % 8 < y1))) 64 0 0 (by omega) (fun j _ => by rw [td_l0]; rfl)
    (fun n out h => pk_le 64 64 (fun _ => H out (fun j hj => by rw [h j hj, decide_eq_true hj, Bool.true_and])) (fun z => absurd z (by omega)))
    (fun n k out hk h hW => pk_le 64 k (fun z => absurd z (by omega)) (fun _ => ⟨by decide, ?_⟩))
  have no : ¬ (x0 ≤ k / 8 ∧ k / 8 < x1 ∧ y0 ≤ k % 8 ∧ k % 8 < y1) → wL_cells_79 post (nI x0) (nI x1) (nI y0) (nI y1) n (out ||| 0) (nI (k + 1)) := fun z => hW _ (td_low (P := fun j => decide (x0 ≤ j / 8 ∧ j / 8 < x1 ∧ y0 ≤ j % 8 ∧ j % 8 < y1)) hk h (b := false) (decide_eq_false z) rfl)
  have yes : (x0 ≤ k / 8 ∧ k / 8 < x1 ∧ y0 ≤ k % 8 ∧ k % 8 < y1) → wL_cells_79 post (nI x0) (nI x1) (nI y0) (nI y1) n (out ||| ((1 : Int64) <<< ((nI k).toInt64 &&& 63))) (nI (k + 1)) := fun z => hW _ (td_low (P := fun j => decide (x0 ≤ j / 8 ∧ j / 8 < x1 ∧ y0 ≤ j % 8 ∧ j % 8 < y1)) hk h (b := true) (decide_eq_true z) rfl)
  rw [td_m8 hk, td_d8 hk]
  refine pk_lt (k / 8) x0 (fun z => nm_e (nm_r (nI_1 k) (no (by omega)))) (fun z => ⟨by decide, ?_⟩)
  refine pk_le x1 (k / 8) (fun z => nm_e (nm_r (nI_1 k) (no (by omega)))) (fun z => ⟨by decide, ?_⟩)
  refine pk_lt (k % 8) y0 (fun z => nm_e (nm_r (nI_1 k) (no (by omega)))) (fun z => ⟨by decide, ?_⟩)
  exact pk_le y1 (k % 8) (fun z => nm_e (nm_r (nI_1 k) (no (by omega)))) (fun z => nm_e (nm_r (nI_1 k) (yes (by omega))))
theorem td_cells57 {post : Int64 → Prop} {f t x0 x1 y0 : Nat} (hf : f < 81) (ht : t < 81) (h0 : x0 < 100) (h1 : x1 < 100) (hy : y0 = min (f % 9) (t % 9)) (H : ∀ C, td_C x0 x1 y0 (max (f % 9) (t % 9)) C → post C) : wL_cells_57 post (nI f) (nI t) (nI x0) (nI x1) (nI y0) := by
  unfold wL_cells_57
  rw [td_m9 hf, td_m9 ht]
  refine ⟨by decide, by decide, nm_r (e' := nI (max (f % 9) (t % 9))) ?_ (td_cells79 h0 h1 (by omega) (by omega) H)⟩
  rw [nI_add, pk_sub (by omega)]
  congr 1
  omega
theorem td_cells22 {post : Int64 → Prop} {f t x0 : Nat} (hf : f < 81) (ht : t < 81) (hx : x0 = min (f / 9) (t / 9)) (H : ∀ C, td_C x0 (max (f / 9) (t / 9)) (min (f % 9) (t % 9)) (max (f % 9) (t % 9)) C → post C) : wL_cells_22 post (nI f) (nI t) (nI x0) := by
  unfold wL_cells_22
  rw [td_m9 hf, td_m9 ht, td_d9 hf, td_d9 ht]
  refine ⟨by decide, by decide, nm_r (e' := nI (max (f / 9) (t / 9))) ?_ ⟨by decide, by decide, pk_le (t % 9) (f % 9) (fun z => ⟨by decide, ?_⟩) (fun z => ⟨by decide, ?_⟩)⟩⟩
  · rw [nI_add, pk_sub (by omega)]
    congr 1
    omega
  · refine td_cells57 hf ht (by omega) (by omega) (by omega) ?_
    have e : t % 9 = min (f % 9) (t % 9) := by omega
    exact fun C h => H C (by rw [← e]; exact h)
  · refine td_cells57 hf ht (by omega) (by omega) (by omega) ?_
    have e : f % 9 = min (f % 9) (t % 9) := by omega
    exact fun C h => H C (by rw [← e]; exact h)
theorem td_wCells {post : Int64 → Prop} {f t : Nat} (hf : f < 81) (ht : t < 81) (H : ∀ C, td_C (min (f / 9) (t / 9)) (max (f / 9) (t / 9)) (min (f % 9) (t % 9)) (max (f % 9) (t % 9)) C → post C) : wpL_cells post () (nI f) (nI t) := by
  unfold wpL_cells
  rw [td_d9 hf, td_d9 ht]
  refine ⟨by decide, by decide, pk_le (t / 9) (f / 9) (fun z => ⟨by decide, td_cells22 hf ht (by omega) ?_⟩) (fun z => ⟨by decide, td_cells22 hf ht (by omega) ?_⟩)⟩
  · have e : t / 9 = min (f / 9) (t / 9) := by omega
    exact fun C h => H C (by rw [← e]; exact h)
  · have e : f / 9 = min (f / 9) (t / 9) := by omega
    exact fun C h => H C (by rw [← e]; exact h)
/-! == grown == -/
theorem td_d3 {q : Nat} (h : q < 9) : nI q / 3 = nI (q / 3) := pk_div (d := 3) (by omega) (by omega) (by omega)
theorem td_m3' {q : Nat} (h : q < 9) : nI q - nI q / 3 * 3 = nI (q % 3) := pk_rem (d := 3) (by omega) (by omega) (by omega)
def td_nI (b : Bool) : Int32 := if b then 1 else 0
theorem td_grown18 {post : Int64 → Prop} {J : Int64 → Int32 → Prop} {S out : Int64} {k : Nat} (hk : k < 64)
    (H : J (if td_nr S (k / 8) (k % 8) then out ||| ((1 : Int64) <<< ((nI k).toInt64 &&& 63)) else out ||| 0) (nI (k + 1))) : ∃ n, wL_grown_18 post J S out (nI k) n 0 0 := by
  refine pk_loop (σ := Unit) (fun n q _ => wL_grown_18 post J S out (nI k) n (td_nI (td_ex (fun q => td_g S (k / 8 + q / 3) (k % 8 + q % 3)) q)) (nI q)) (fun _ _ => True) 9 0 () (by omega) trivial
    (fun n _ _ => pk_le 9 9 (fun _ => ?_) (fun z => absurd z (by omega)))
    (fun n q _ hq _ hW => pk_le 9 q (fun z => absurd z (by omega)) (fun _ => ?_))
  · show (td_nI (td_nr S (k / 8) (k % 8)) = 0 → _) ∧ (¬ td_nI (td_nr S (k / 8) (k % 8)) = 0 → _)
    cases z : td_nr S (k / 8) (k % 8)
    · rw [z, if_neg (by decide)] at H
      exact br_t rfl (nm_e (nm_r (nI_1 k) H))
    · rw [z, if_pos rfl] at H
      exact br_f (by decide) (nm_e (nm_r (nI_1 k) H))
  · have t : wL_grown_18 post J S out (nI k) n (td_nI (td_ex (fun q => td_g S (k / 8 + q / 3) (k % 8 + q % 3)) q || td_g S (k / 8 + q / 3) (k % 8 + q % 3))) (nI (q + 1)) := hW () trivial
    cases z : td_ex (fun q => td_g S (k / 8 + q / 3) (k % 8 + q % 3)) q
    · rw [z] at t
      refine br_t rfl ⟨by decide, by decide, by decide, by decide, ?_⟩
      rw [td_m8 hk, td_d8 hk, td_m3' hq, td_d3 hq, nI_add, nI_add]
      refine td_wIn (X := k / 8 + q / 3) (Y := k % 8 + q % 3) rfl rfl (by omega) (by omega) (fun y => ?_) (fun y => ?_)
      · rw [y] at t
        exact br_f (by decide) (nm_r (nI_1 q) t)
      · rw [y] at t
        exact br_t rfl (nm_r (nI_1 q) t)
    · rw [z] at t
      exact br_f (by decide) (nm_r (nI_1 q) t)
theorem td_wGrown {post : Int64 → Prop} {S : Int64} (H : ∀ G, (∀ k, k < 64 → td_l G k = td_nr S (k / 8) (k % 8)) → post G) : wpL_grown post () S := by
  unfold wpL_grown
  refine pk_loop (fun n k out => wL_grown_5 post S n out (nI k)) (fun k out => ∀ j, j < 64 → td_l out j = (decide (j < k) && td_nr S (j / 8) (j % 8))) 64 0 0 (by omega) (fun j _ => by rw [td_l0]; rfl)
    (fun n out h => pk_le 64 64 (fun _ => H out (fun j hj => by rw [h j hj, decide_eq_true hj, Bool.true_and])) (fun z => absurd z (by omega)))
    (fun n k out hk h hW => pk_le 64 k (fun z => absurd z (by omega)) (fun _ => td_grown18 hk (hW _ (td_low (P := fun j => td_nr S (j / 8) (j % 8)) hk h rfl rfl))))
/-! == rim == -/
theorem td_add4 {n a b c d m : Nat} (h : m = n + (a + b + c + d)) : nI n + (((nI a + nI b) + nI c) + nI d) = nI m := by
  rw [nI_add, nI_add, nI_add, nI_add, h]
theorem td_wRim {post : Int32 → Prop} {S : Int64} (h : post (nI (td_rn S))) : wpL_rim post () S := by
  unfold wpL_rim
  refine pk_loop (σ := Unit) (fun n k _ => wL_rim_4 post S n (nI (td_sm (td_rk S) k)) (nI k)) (fun _ _ => True) 64 0 () (by omega) trivial
    (fun n _ _ => pk_le 64 64 (fun _ => h) (fun z => absurd z (by omega)))
    (fun n k _ hk _ hW => pk_le 64 k (fun z => absurd z (by omega)) (fun _ => ⟨by decide, nm_r (td_d8 hk) ⟨by decide, nm_r (td_m8 hk) ?_⟩⟩))
  have t : wL_rim_4 post S n (nI (td_sm (td_rk S) k + td_rk S k)) (nI (k + 1)) := hW () trivial
  refine td_wIn (td_i1 _) (td_i1 _) (by omega) (by omega) (fun e => ?_) (fun e => ?_)
  · have hr : td_rk S k = (!td_g S (k / 8 + 2) (k % 8 + 1)).toNat + (!td_g S (k / 8) (k % 8 + 1)).toNat + (!td_g S (k / 8 + 1) (k % 8 + 2)).toNat + (!td_g S (k / 8 + 1) (k % 8)).toNat := by
      unfold td_rk td_q
      rw [e, if_pos rfl, if_pos rfl]
      omega
    rw [hr] at t
    refine br_f (by decide) (td_wIn (td_i2 _) (td_i1 _) (by omega) (by omega) (fun e1 => br_f (by decide) ?_) (fun e1 => br_t rfl ?_)) <;>
      (unfold wL_rim_52; refine td_wIn (td_i0 _) (td_i1 _) (by omega) (by omega) (fun e2 => br_f (by decide) ?_) (fun e2 => br_t rfl ?_)) <;>
      (unfold wL_rim_70; refine td_wIn (td_i1 _) (td_i2 _) (by omega) (by omega) (fun e3 => br_f (by decide) ?_) (fun e3 => br_t rfl ?_)) <;>
      (unfold wL_rim_89; refine td_wIn (td_i1 _) (td_i0 _) (by omega) (by omega) (fun e4 => br_f (by decide) ?_) (fun e4 => br_t rfl ?_)) <;>
      (rw [e1, e2, e3, e4] at t; exact nm_r (td_add4 rfl) (nm_r (nI_1 k) t))
  · have hr : td_rk S k = 0 := by
      unfold td_rk td_q
      rw [e]
      rfl
    rw [hr] at t
    exact br_t rfl (nm_r (nI_1 k) t)
end
section
/-! ===== the law's 'fits' ===== -/
theorem td_partV {post : Int32 → St1 → Prop} {S : Int64} {s i j : Nat} {p q v : Int32} {a1 a2 a3 a4 a5 a6 : Nat → Int32} (hs : s < 12) (hk : a1 s = 3) (hR : td_R S (17 * s) a2) (hi : i < 17) (hj : j < 17) (hp : p = nI i) (hq : q = nI j)
    (hv : (if td_in S i j = true then (0 : Int32) else if td_ri S i j = true then 1 else 2) = v) (H : ∀ x y, post v (a1, a2, x, y, a5, a6)) : wpX_part post (a1, a2, a3, a4, a5, a6) (nI s) p q := by
  subst hp hq
  exact td_part hs hk hR hi hj (fun x y => by rw [hv]; exact H x y)
theorem td_x2 (x : Nat) : (2 : Int32) * nI x = nI (2 * x) := pk_mul 2 x
theorem td_x21 (x : Nat) : (2 : Int32) * nI x + 1 = nI (2 * x + 1) := by rw [td_x2, nI_1]
theorem td_fits200 {post : Int32 → St1 → Prop} {S : Int64} {s x y n : Nat} {a1 a2 a3 a4 a5 a6 : Nat → Int32} (hs : s < 12) (hk : a1 s = 3) (hR : td_R S (17 * s) a2) (hn : 0 < n) (hn2 : n ≤ 64) (hx : x < 9) (hy : y < 9)
    (H : ∀ i m, post 1 (a1, a2, i, m, a5, a6)) : wL_fits_200 post (nI s) S (nI n) (nI x) (nI y) a1 a2 a3 a4 a5 a6 := by
  unfold wL_fits_200
  refine br_f (nI_ne0 hn (by omega)) (pk_lt 7 x (fun _ => H _ _) (fun z => pk_lt 7 y (fun _ => H _ _) (fun z2 => ?_)))
  cases e : td_g S (x + 1) (y + 1)
  · refine td_partV hs hk hR (i := 2 * x + 1) (j := 2 * y + 1) (by omega) (by omega) (td_x21 x) (td_x21 y) (v := 2) ?_ (fun i m => ?_)
    · unfold td_ri
      rw [td_in_c, td_an_c, e]
      rfl
    · refine td_wIn (td_i1 x) (td_i1 y) (by omega) (by omega) (fun t => ?_) (fun _ => br_t rfl ?_)
      · rw [e] at t
        exact absurd t (by decide)
      · unfold wL_fits_252
        exact br_t rfl (H _ _)
  · refine td_partV hs hk hR (i := 2 * x + 1) (j := 2 * y + 1) (by omega) (by omega) (td_x21 x) (td_x21 y) (v := 0) ?_ (fun i m => ?_)
    · rw [td_in_c, e]
      rfl
    · refine td_wIn (td_i1 x) (td_i1 y) (by omega) (by omega) (fun _ => br_f (by decide) ?_) (fun t => ?_)
      · unfold wL_fits_252
        exact br_t rfl (H _ _)
      · rw [e] at t
        exact absurd t (by decide)
theorem td_val4 : ∀ a b c d : Bool, (if ((a && b) && (c && d)) = true then (0 : Int32) else if (((a || b) || (c || d)) && !((a && b) && (c && d))) = true then 1 else 2) = if d.toNat + c.toNat + b.toNat + a.toNat = 4 then 0 else if d.toNat + c.toNat + b.toNat + a.toNat = 0 then 2 else 1 := by decide
theorem td_fits154 {post : Int32 → St1 → Prop} {S : Int64} {s x y n : Nat} {z0 z1 : Int32} {a1 a2 a3 a4 a5 a6 : Nat → Int32} (hs : s < 12) (hk : a1 s = 3) (hR : td_R S (17 * s) a2) (hn : 0 < n) (hn2 : n ≤ 64) (hx : x < 9) (hy : y < 9)
    (hm : z1 + z0 = nI ((td_g S (x + 1) (y + 1)).toNat + (td_g S x (y + 1)).toNat + (td_g S (x + 1) y).toNat + (td_g S x y).toNat))
    (H : ∀ i m, post 1 (a1, a2, i, m, a5, a6)) : wL_fits_154 post (nI s) S (nI n) (nI x) (nI y) z0 z1 a1 a2 a3 a4 a5 a6 := by
  unfold wL_fits_154
  refine nm_r hm (br_f (nI_nle hn (by omega)) ?_)
  have hv := td_val4 (td_g S x y) (td_g S (x + 1) y) (td_g S x (y + 1)) (td_g S (x + 1) (y + 1))
  have l1 := td_tn1 (td_g S x y)
  have l2 := td_tn1 (td_g S (x + 1) y)
  have l3 := td_tn1 (td_g S x (y + 1))
  have l4 := td_tn1 (td_g S (x + 1) (y + 1))
  refine td_partV hs hk hR (i := 2 * x) (j := 2 * y) (by omega) (by omega) (td_x2 x) (td_x2 y) (v := if (td_g S (x + 1) (y + 1)).toNat + (td_g S x (y + 1)).toNat + (td_g S (x + 1) y).toNat + (td_g S x y).toNat = 4 then 0 else if (td_g S (x + 1) (y + 1)).toNat + (td_g S x (y + 1)).toNat + (td_g S (x + 1) y).toNat + (td_g S x y).toNat = 0 then 2 else 1) ?_ (fun i m => ?_)
  · rw [← hv]
    unfold td_ri td_in td_an
    rw [td_h0, td_h0, td_h2, td_h2]
  · have lw : (td_g S (x + 1) (y + 1)).toNat + (td_g S x (y + 1)).toNat + (td_g S (x + 1) y).toNat + (td_g S x y).toNat ≤ 4 := by omega
    generalize (td_g S (x + 1) (y + 1)).toNat + (td_g S x (y + 1)).toNat + (td_g S (x + 1) y).toNat + (td_g S x y).toNat = w at *
    have t : wL_fits_200 post (nI s) S (nI n) (nI x) (nI y) a1 a2 i m a5 a6 := td_fits200 hs hk hR hn hn2 hx hy H
    refine pk_eq w 4 (fun z => ?_) (fun z => pk_eq w 0 (fun z2 => ?_) (fun z2 => ?_) rfl rfl (by omega) (by omega)) rfl rfl (by omega) (by omega)
    · unfold wL_fits_195
      rw [if_pos z]
      exact br_t rfl t
    · unfold wL_fits_195
      rw [if_neg z, if_pos z2]
      exact br_t rfl t
    · unfold wL_fits_195
      rw [if_neg z, if_neg z2]
      exact br_t rfl t
theorem td_fits75 {post : Int32 → St1 → Prop} {S : Int64} {s x y n : Nat} {z : Int32} {a1 a2 a3 a4 a5 a6 : Nat → Int32} (hs : s < 12) (hk : a1 s = 3) (hR : td_R S (17 * s) a2) (hn : 0 < n) (hn2 : n ≤ 64) (hx : x < 9) (hy : y < 9)
    (H : ∀ i m, post 1 (a1, a2, i, m, a5, a6)) : wL_fits_75 post (nI s) S (nI n) (nI x) (nI y) z z a1 a2 a3 a4 a5 a6 := by
  unfold wL_fits_75
  refine br_t rfl ?_
  refine td_wIn (td_i1 x) (td_i1 y) (by omega) (by omega) (fun e1 => br_f (by decide) ?_) (fun e1 => br_t rfl ?_) <;>
    (unfold wL_fits_96; refine td_wIn (td_i0 x) (td_i1 y) (by omega) (by omega) (fun e2 => br_f (by decide) ?_) (fun e2 => br_t rfl ?_)) <;>
    (unfold wL_fits_114; refine td_wIn (td_i1 x) (td_i0 y) (by omega) (by omega) (fun e3 => br_f (by decide) ?_) (fun e3 => br_t rfl ?_)) <;>
    (unfold wL_fits_133; refine td_wIn (td_i0 x) (td_i0 y) (by omega) (by omega) (fun e4 => br_f (by decide) ?_) (fun e4 => br_t rfl ?_)) <;>
    exact td_fits154 hs hk hR hn hn2 hx hy (by rw [e1, e2, e3, e4]; rfl) H
theorem td_fits75z {post : Int32 → St1 → Prop} {S : Int64} {s x y : Nat} {z : Int32} {a1 a2 a3 a4 a5 a6 : Nat → Int32} (hx : x < 9) (hy : y < 9)
    (H : ∀ i m, post 1 (a1, a2, i, m, a5, a6)) : wL_fits_75 post (nI s) S (nI 0) (nI x) (nI y) z z a1 a2 a3 a4 a5 a6 := by
  have t : ∀ z0 z1, wL_fits_154 post (nI s) S (nI 0) (nI x) (nI y) z0 z1 a1 a2 a3 a4 a5 a6 := by
    intro z0 z1
    unfold wL_fits_154
    refine nm_e (br_t (by decide) ?_)
    unfold wL_fits_200
    exact br_t rfl (H _ _)
  unfold wL_fits_75
  refine br_t rfl ?_
  refine td_wIn (td_i1 x) (td_i1 y) (by omega) (by omega) (fun e1 => br_f (by decide) ?_) (fun e1 => br_t rfl ?_) <;>
    (unfold wL_fits_96; refine td_wIn (td_i0 x) (td_i1 y) (by omega) (by omega) (fun e2 => br_f (by decide) ?_) (fun e2 => br_t rfl ?_)) <;>
    (unfold wL_fits_114; refine td_wIn (td_i1 x) (td_i0 y) (by omega) (by omega) (fun e3 => br_f (by decide) ?_) (fun e3 => br_t rfl ?_)) <;>
    (unfold wL_fits_133; refine td_wIn (td_i0 x) (td_i0 y) (by omega) (by omega) (fun e4 => br_f (by decide) (t _ _)) (fun e4 => br_t rfl (t _ _)))
theorem td_fits {post : Int32 → St1 → Prop} {S : Int64} {s : Nat} {c : Int32} {a1 a2 a3 a4 a5 a6 : Nat → Int32} (hs : s < 12) (hk : a1 s = td_kd S) (hR : td_R S (17 * s) a2)
    (H : ∀ i m, post 1 (a1, a2, i, m, a5, a6)) : wpL_fits post (a1, a2, a3, a4, a5, a6) (nI s) S c := by
  unfold wpL_fits
  dsimp only
  obtain ⟨x, hx, ex⟩ := pk_andE c (m := 15) 4 (by decide)
  obtain ⟨y, hy, ey⟩ := pk_andE (c >>> ((4 : Int32) &&& 31)) (m := 15) 4 (by decide)
  rw [ex, ey]
  refine td_wOnes ⟨by decide, nm_r (td_m9 (by omega)) ⟨by decide, nm_r (td_m9 (by omega)) (td_size hs hR (br_t rfl (td_kind hs ?_)))⟩⟩
  rw [hk]
  have hn2 := td_n_le S
  by_cases hS : S = 0
  · rw [td_n_0.mpr hS, td_kd0 hS]
    refine br_t (by decide) ?_
    unfold wL_fits_53
    exact br_t rfl (td_rim0 hs (hk.trans (td_kd0 hS)) (br_t (by decide) (td_fits75z (by omega) (by omega) H)))
  · have hn : 0 < td_n S := Nat.pos_of_ne_zero (fun e => hS (td_n_0.mp e))
    rw [td_kd3 hS]
    refine br_f (nI_nle hn (by omega)) ?_
    unfold wL_fits_53
    exact br_t rfl (td_rim hs (hk.trans (td_kd3 hS)) hR (fun i m => br_f (nI_nle hn (by omega)) (td_wRim (td_fits75 hs (hk.trans (td_kd3 hS)) hR hn hn2 (by omega) (by omega) H))))
end
section
/-! ===== the law's checks behind each step ===== -/
theorem td_law824 {post : Int32 → Prop} {L : Nat} {xs : Nat → Int32} {J16 : Int64 → Int64 → Int32 → (Nat → Int32) → (Nat → Int32) → (Nat → Int32) → (Nat → Int32) → (Nat → Int32) → (Nat → Int32) → Prop} {x2 x4 : Int64} {x6 z : Int32} {kc ks : Nat} {a1 a2 a3 a4 a5 a6 : Nat → Int32}
    (H : ∀ i m, J16 x2 x4 (x6 + 2) a1 a2 i m a5 a6) : wL_law_824 post L xs J16 x2 x4 x6 z z kc ks a1 a2 a3 a4 a5 a6 := by
  unfold wL_law_824
  exact br_t rfl (nm_e (H _ _))
theorem td_law786 {post : Int32 → Prop} {L : Nat} {xs : Nat → Int32} {J16 : Int64 → Int64 → Int32 → (Nat → Int32) → (Nat → Int32) → (Nat → Int32) → (Nat → Int32) → (Nat → Int32) → (Nat → Int32) → Prop} {x2 x4 : Int64} {x6 z : Int32} {kc ks : Nat} {a1 a2 a3 a4 a5 a6 : Nat → Int32}
    (hJ : td_J x2 x4 8 3 a1 a2) (h2 : ¬ x2 = 0) (h4 : ¬ x4 = 0) (H : ∀ i m, J16 x2 x4 (x6 + 2) a1 a2 i m a5 a6) : wL_law_786 post L xs J16 x2 x4 x6 1 z z kc ks a1 a2 a3 a4 a5 a6 := by
  unfold wL_law_786
  obtain ⟨G, hG⟩ := td_mkset (fun k => td_nr x2 (k / 8) (k % 8))
  refine br_t rfl (td_isG (s := 8) (o := 3) (by omega) (by omega) (by decide) (by decide) (hJ.1.trans (td_kd3 h2)) (hJ.2.1.trans (td_kd3 h4)) hJ.2.2.1 hJ.2.2.2 (fun i m l1 l2 => td_holds1 l1 l2 hG (fun e => br_f (by decide) (br_f (by decide) (td_wGrown (fun G' hG' => ?_)))) (fun e => br_t rfl (br_f (by decide) (td_wGrown (fun G' hG' => ?_))))))
  · have t : G' = G := td_lext (fun k hk => by rw [hG k hk, hG' k hk])
    rw [t]
    exact br_t e (td_law824 H)
  · have t : G' = G := td_lext (fun k hk => by rw [hG k hk, hG' k hk])
    rw [t]
    exact br_f e (td_law824 H)
theorem td_law751 {post : Int32 → Prop} {L : Nat} {xs : Nat → Int32} {J16 : Int64 → Int64 → Int32 → (Nat → Int32) → (Nat → Int32) → (Nat → Int32) → (Nat → Int32) → (Nat → Int32) → (Nat → Int32) → Prop} {x2 x4 : Int64} {x6 z : Int32} {kc ks : Nat} {a1 a2 a3 a4 a5 a6 : Nat → Int32}
    (hJ : td_J x2 x4 8 3 a1 a2) (h2 : ¬ x2 = 0) (h4 : ¬ x4 = 0) (H : ∀ i m, J16 x2 x4 (x6 + 2) a1 a2 i m a5 a6) : wL_law_751 post L xs J16 x2 x4 x6 1 z z kc ks a1 a2 a3 a4 a5 a6 := by
  unfold wL_law_751
  exact br_t rfl (td_isG (s := 8) (o := 3) (by omega) (by omega) (by decide) (by decide) (hJ.1.trans (td_kd3 h2)) (hJ.2.1.trans (td_kd3 h4)) hJ.2.2.1 hJ.2.2.2 (fun i m l1 l2 => td_holds0 l1 l2 (fun e => br_f (by decide) (br_f (by decide) (br_t e (td_law786 hJ h2 h4 H)))) (fun e => br_t rfl (br_f (by decide) (br_f e (td_law786 hJ h2 h4 H))))))
theorem td_law689 {post : Int32 → Prop} {L : Nat} {xs : Nat → Int32} {J16 : Int64 → Int64 → Int32 → (Nat → Int32) → (Nat → Int32) → (Nat → Int32) → (Nat → Int32) → (Nat → Int32) → (Nat → Int32) → Prop} {x2 x4 : Int64} {x6 z : Int32} {kc ks : Nat} {a1 a2 a3 a4 a5 a6 : Nat → Int32}
    (hJ : td_J x2 x4 8 3 a1 a2) (h2 : ¬ x2 = 0) (h4 : ¬ x4 = 0) (H : ∀ i m, J16 x2 x4 (x6 + 2) a1 a2 i m a5 a6) : wL_law_689 post L xs J16 x2 x4 x6 1 z z kc ks a1 a2 a3 a4 a5 a6 := by
  unfold wL_law_689
  refine br_t rfl (td_isG (s := 8) (o := 3) (by omega) (by omega) (by decide) (by decide) (hJ.1.trans (td_kd3 h2)) (hJ.2.1.trans (td_kd3 h4)) hJ.2.2.1 hJ.2.2.2 (fun i m l1 l2 => td_holds6 l1 l2 (fun e => br_f (by decide) (br_f (by decide) (br_f e.1 (br_f e.2.1 (br_f e.2.2 (td_law751 hJ h2 h4 H)))))) (fun e => br_t rfl (br_f (by decide) ?_))))
  have t : wL_law_750 post L xs J16 x2 x4 x6 1 0 kc ks a1 a2 i m a5 a6 := by
    unfold wL_law_750
    exact td_law751 hJ h2 h4 H
  exact br_c (fun _ => t) (fun z1 => br_c (fun _ => t) (fun z2 => br_c (fun _ => t) (fun z3 => absurd ⟨z1, z2, z3⟩ e)))
theorem td_law651 {post : Int32 → Prop} {L : Nat} {xs : Nat → Int32} {J16 : Int64 → Int64 → Int32 → (Nat → Int32) → (Nat → Int32) → (Nat → Int32) → (Nat → Int32) → (Nat → Int32) → (Nat → Int32) → Prop} {x2 x4 : Int64} {x6 : Int32} {kc ks : Nat} {a1 a2 a3 a4 a5 a6 : Nat → Int32}
    (hJ : td_J x2 x4 8 3 a1 a2) (h2 : ¬ x2 = 0) (h4 : ¬ x4 = 0) (H : ∀ i m, J16 x2 x4 (x6 + 2) a1 a2 i m a5 a6) : wL_law_651 post L xs J16 x2 x4 x6 1 kc ks a1 a2 a3 a4 a5 a6 := by
  unfold wL_law_651
  exact td_isG (s := 8) (o := 3) (by omega) (by omega) (by decide) (by decide) (hJ.1.trans (td_kd3 h2)) (hJ.2.1.trans (td_kd3 h4)) hJ.2.2.1 hJ.2.2.2 (fun i m l1 l2 => td_holds4 l1 l2 (fun e => br_f (by decide) (br_f (by decide) (br_t e (td_law689 hJ h2 h4 H)))) (fun e => br_t rfl (br_f (by decide) (br_f e (td_law689 hJ h2 h4 H)))))
theorem td_law650 {post : Int32 → Prop} {L : Nat} {xs : Nat → Int32} {J16 : Int64 → Int64 → Int32 → (Nat → Int32) → (Nat → Int32) → (Nat → Int32) → (Nat → Int32) → (Nat → Int32) → (Nat → Int32) → Prop} {x2 x4 : Int64} {x6 : Int32} {kc ks : Nat} {a1 a2 a3 a4 a5 a6 : Nat → Int32}
    (hJ : td_J x2 x4 8 3 a1 a2) (h0 : x2 = 0 ∨ x4 = 0) (H : ∀ i m, J16 x2 x4 (x6 + 2) a1 a2 i m a5 a6) : wL_law_650 post L xs J16 x2 x4 x6 kc ks a1 a2 a3 a4 a5 a6 := by
  have hk : a1 8 = 0 ∨ a1 3 = 0 := h0.elim (fun e => .inl (hJ.1.trans (td_kd0 e))) (fun e => .inr (hJ.2.1.trans (td_kd0 e)))
  unfold wL_law_650 wL_law_651
  refine td_isN (s := 8) (o := 3) (by omega) (by omega) hk (br_t rfl ?_)
  unfold wL_law_689
  refine br_t rfl (td_isN (s := 8) (o := 3) (by omega) (by omega) hk (br_t rfl ?_))
  unfold wL_law_751
  refine br_t rfl (td_isN (s := 8) (o := 3) (by omega) (by omega) hk (br_t rfl ?_))
  unfold wL_law_786
  exact br_t rfl (td_isN (s := 8) (o := 3) (by omega) (by omega) hk (br_t rfl (td_law824 H)))
theorem td_law599 {post : Int32 → Prop} {L : Nat} {xs : Nat → Int32} {J16 : Int64 → Int64 → Int32 → (Nat → Int32) → (Nat → Int32) → (Nat → Int32) → (Nat → Int32) → (Nat → Int32) → (Nat → Int32) → Prop} {x2 x4 : Int64} {x6 x8 : Int32} {kc ks : Nat} {a1 a2 a3 a4 a5 a6 : Nat → Int32}
    (hJ : td_J x2 x4 8 3 a1 a2) (H : ∀ i m, J16 x2 x4 (x6 + 2) a1 a2 i m a5 a6) : wL_law_599 post L xs J16 x2 x6 x8 x4 kc ks a1 a2 a3 a4 a5 a6 := by
  unfold wL_law_599
  refine td_fits (s := 8) (by omega) hJ.1 hJ.2.2.1 (fun i m => br_f (by decide) ?_)
  refine td_fits (s := 3) (by omega) hJ.2.1 hJ.2.2.2 (fun i m => br_f (by decide) ?_)
  exact br_c (fun e => td_law650 hJ (.inl e) H) (fun e => br_c (fun e2 => td_law650 hJ (.inr e2) H) (fun e2 => td_law651 hJ e e2 H))
/-- the step is done: slot s holds the new set -/
theorem td_law575a {post : Int32 → Prop} {L : Nat} {xs : Nat → Int32} {J16 : Int64 → Int64 → Int32 → (Nat → Int32) → (Nat → Int32) → (Nat → Int32) → (Nat → Int32) → (Nat → Int32) → (Nat → Int32) → Prop} {x2 x4 x15 : Int64} {x6 x8 : Int32} {kc ks : Nat} {a1 a2 a3 a4 a5 a6 : Nat → Int32}
    (hJ : td_J x15 x4 8 3 a1 a2) (H : ∀ i m, J16 x15 x4 (x6 + 2) a1 a2 i m a5 a6) : wL_law_575 post L xs J16 x2 x4 x6 x8 1 x15 kc ks a1 a2 a3 a4 a5 a6 := by
  unfold wL_law_575
  refine br_f (by decide) ?_
  unfold wL_law_586
  exact br_f (by decide) (td_law599 hJ H)
theorem td_law575b {post : Int32 → Prop} {L : Nat} {xs : Nat → Int32} {J16 : Int64 → Int64 → Int32 → (Nat → Int32) → (Nat → Int32) → (Nat → Int32) → (Nat → Int32) → (Nat → Int32) → (Nat → Int32) → Prop} {x2 x4 x15 : Int64} {x6 x8 : Int32} {kc ks : Nat} {a1 a2 a3 a4 a5 a6 : Nat → Int32}
    (hJ : td_J x15 x2 3 8 a1 a2) (H : ∀ i m, J16 x2 x15 (x6 + 2) a1 a2 i m a5 a6) : wL_law_575 post L xs J16 x2 x4 x6 x8 0 x15 kc ks a1 a2 a3 a4 a5 a6 := by
  unfold wL_law_575
  refine br_t rfl ?_
  unfold wL_law_586
  exact br_t rfl (td_law599 (td_J_swap hJ) H)
end
section
/-! ===== one step of the law ===== -/
theorem td_and0 {S C : Int64} (h : S = 0) : S &&& (C ^^^ (-1)) = S := by
  apply td_lext
  intro k hk
  rw [td_land, h, td_l0, Bool.false_and]
theorem td_stClear {post : Int32 → Prop} {L : Nat} {xs : Nat → Int32} {J16 : Int64 → Int64 → Int32 → (Nat → Int32) → (Nat → Int32) → (Nat → Int32) → (Nat → Int32) → (Nat → Int32) → (Nat → Int32) → Prop} {x2 x4 S : Int64} {x6 x8 x11 : Int32} {kc ks : Nat} {a1 a2 a3 a4 a5 a6 : Nat → Int32}
    (F : wL_law_575 post L xs J16 x2 x4 x6 x8 x11 0 kc ks a1 a2 a3 a4 a5 a6) : (S = 0 → wL_law_567 post L xs J16 x2 x4 x6 x8 x11 0 (td_kd S) kc ks a1 a2 a3 a4 a5 a6) ∧ (¬ S = 0 → wL_law_567 post L xs J16 x2 x4 x6 x8 x11 3 (td_kd S) kc ks a1 a2 a3 a4 a5 a6) := by
  unfold wL_law_567
  exact br_c (fun e => br_t (td_kd0 e) F) (fun e => br_t (td_kd3 e) F)
theorem td_st398 {post : Int32 → Prop} {L : Nat} {xs : Nat → Int32} {J16 : Int64 → Int64 → Int32 → (Nat → Int32) → (Nat → Int32) → (Nat → Int32) → (Nat → Int32) → (Nat → Int32) → (Nat → Int32) → Prop} {x2 x4 S T : Int64} {x6 x8 x11 : Int32} {s o how : Nat} {kc ks : Nat} {a1 a2 a3 a4 a5 a6 : Nat → Int32}
    (hs : s < 12) (ho : o < 12) (hso : s ≠ o) (hh : how < 4) (hJ : td_J S T s o a1 a2)
    (F : ∀ S' k r i m g n, td_J S' T s o k r → wL_law_575 post L xs J16 x2 x4 x6 x8 x11 S' kc ks k r i m g n) : wL_law_398 post L xs J16 x2 x4 x6 x8 x11 (nI s) (nI o) S T (nI how) (td_op how S T) kc ks a1 a2 a3 a4 a5 a6 := by
  unfold wL_law_398
  refine td_combine hs ho hso hh hJ (fun e => ?_) (fun e1 e2 k r h => br_f e1 (br_f e2 (td_wOnes ?_)))
  · have t3 : wL_law_453 post L xs J16 x2 x4 x6 x8 x11 S kc ks a1 a2 a3 a4 a5 a6 := by
      unfold wL_law_453 wL_law_460
      exact F S _ _ _ _ _ _ hJ
    have t4 : wL_law_424 post L xs J16 x2 x4 x6 x8 x11 S T (td_op how S T) (-2) kc ks a1 a2 a3 a4 a5 a6 := by
      unfold wL_law_424 wL_law_434
      exact br_t rfl (br_c (fun _ => t3) (fun z => br_c (fun _ => t3) (fun z2 => absurd e (fun t => t.elim z z2))))
    exact br_c (fun _ => t4) (fun z => br_c (fun _ => t4) (fun z2 => absurd e (fun t => t.elim z z2)))
  · unfold wL_law_434
    refine br_t rfl (br_f e1 (br_f e2 ?_))
    unfold wL_law_460
    exact F _ _ _ _ _ _ _ h
theorem td_law172 {post : Int32 → Prop} {L : Nat} {xs : Nat → Int32} {J16 : Int64 → Int64 → Int32 → (Nat → Int32) → (Nat → Int32) → (Nat → Int32) → (Nat → Int32) → (Nat → Int32) → (Nat → Int32) → Prop} {x2 x4 S T : Int64} {x6 x8 x11 x12 : Int32} {s o op f t : Nat} {kc ks : Nat} {a1 a2 a3 a4 a5 a6 : Nat → Int32}
    (hs : s < 12) (ho : o < 12) (hso : s ≠ o) (hs1 : s ≠ 1) (ho1 : o ≠ 1) (hop : op < 16) (hf : f < 81) (ht : t < 81)
    (hfl : (x12 = 1 ∧ (f / 9 = t / 9 ∨ f % 9 = t % 9)) ∨ (x12 = 0 ∧ ¬ (f / 9 = t / 9 ∨ f % 9 = t % 9))) (hJ : td_J S T s o a1 a2)
    (F : ∀ S' k r i m g n, td_J S' T s o k r → wL_law_575 post L xs J16 x2 x4 x6 x8 x11 S' kc ks k r i m g n) : wL_law_172 post L xs J16 x2 x4 x6 (nI op) x8 (nI f) (nI t) x11 x12 (nI s) (nI o) S T kc ks a1 a2 a3 a4 a5 a6 := by
  unfold wL_law_172
  refine pk_le 7 op (fun _ => pk_le 9 op (fun _ => pk_le 13 op (fun _ => pk_le 14 op (fun _ => pk_le 15 op (fun _ => ?_) (fun _ => ?_)) (fun _ => ?_)) (fun _ => ?_)) (fun _ => ?_)) (fun _ => ?_)
  · exact td_clearJ hs ho hso hJ (fun k r h => td_stClear (F 0 k r _ _ _ _ h))
  · refine td_outline hs ho hs1 ho1 hJ (fun e => br_t e ?_) (fun e k r i m h => br_f e (td_wRim ?_))
    · unfold wL_law_544
      exact br_t rfl (F S _ _ _ _ _ _ hJ)
    · unfold wL_law_544
      exact br_t rfl (F S _ _ _ _ _ _ h)
  · obtain ⟨G, hG⟩ := td_mkset (fun k => td_nr S (k / 8) (k % 8))
    refine td_grow hs ho hso hJ hG (fun e => br_t e ?_) (fun e r g h => br_f e (td_wGrown (fun G' hG' => td_wOnes ?_)))
    · unfold wL_law_498
      refine br_t rfl (td_wGrown (fun G' hG' => ?_))
      rw [e] at hG'
      have t : G' = S := by rw [td_grown_0 hG', e]
      rw [t]
      exact F S _ _ _ _ _ _ hJ
    · have t : G' = G := td_lext (fun k hk => by rw [hG k hk, hG' k hk])
      rw [t]
      unfold wL_law_498
      refine br_t rfl (td_wGrown (fun G2 hG2 => ?_))
      have t2 : G2 = G := td_lext (fun k hk => by rw [hG k hk, hG2 k hk])
      rw [t2]
      exact F G _ _ _ _ _ _ h
  · obtain ⟨how, hh, eh⟩ := pk_andE (x8 >>> ((15 : Int32) &&& 31)) (m := 3) 2 (by decide)
    refine nm_r eh ?_
    have t := td_st398 (a3 := a3) (a4 := a4) (a5 := a5) (a6 := a6) hs ho hso hh hJ F
    unfold td_op at t
    refine pk_eq how 0 (fun z => ?_) (fun z => pk_eq how 1 (fun z1 => ?_) (fun z1 => pk_eq how 2 (fun z2 => ?_) (fun z2 => ?_)))
    · rw [if_pos z] at t
      exact t
    · rw [if_neg z, if_pos z1] at t
      exact t
    · rw [if_neg z, if_neg z1, if_pos z2] at t
      exact t
    · rw [if_neg z, if_neg z1, if_neg z2] at t
      exact t
  · refine td_wCells hf ht (fun C hC => td_cut hs ho hso hf ht hJ hC (fun e => br_t e ?_) (fun e fl => br_f e ?_) (fun e fl k r h => br_f e ?_))
    · unfold wL_law_303
      refine br_t rfl ?_
      unfold wL_law_327
      rw [td_and0 e]
      exact br_c (fun _ => F S _ _ _ _ _ _ hJ) (fun _ => F S _ _ _ _ _ _ hJ)
    · rcases hfl with ⟨e12, _⟩ | ⟨_, nf⟩
      · rw [e12]
        refine br_f (by decide) ?_
        unfold wL_law_303
        refine br_t rfl (br_f (by decide) ?_)
        unfold wL_law_327
        exact F S _ _ _ _ _ _ hJ
      · exact absurd fl nf
    · rcases hfl with ⟨_, yf⟩ | ⟨e12, _⟩
      · exact absurd yf fl
      · rw [e12]
        refine br_t rfl (td_wOnes ?_)
        unfold wL_law_303
        refine br_t rfl (br_t rfl ?_)
        unfold wL_law_327
        exact F _ _ _ _ _ _ _ h
  · refine td_wCells hf ht (fun C hC => td_rectangle hs ho hso hf ht hJ hC (fun fl => ?_) (fun fl k r h => ?_))
    · rcases hfl with ⟨e12, _⟩ | ⟨_, nf⟩
      · rw [e12]
        refine br_f (by decide) ?_
        unfold wL_law_218
        refine br_t rfl (br_f (by decide) ?_)
        unfold wL_law_238
        exact F S _ _ _ _ _ _ hJ
      · exact absurd fl nf
    · rcases hfl with ⟨_, yf⟩ | ⟨e12, _⟩
      · exact absurd yf fl
      · rw [e12]
        refine br_t rfl (td_wOnes ?_)
        unfold wL_law_218
        refine br_t rfl (br_t rfl ?_)
        unfold wL_law_238
        exact F _ _ _ _ _ _ _ h
theorem td_law120a {post : Int32 → Prop} {L : Nat} {xs : Nat → Int32} {J16 : Int64 → Int64 → Int32 → (Nat → Int32) → (Nat → Int32) → (Nat → Int32) → (Nat → Int32) → (Nat → Int32) → (Nat → Int32) → Prop} {x2 x4 : Int64} {x6 x8 x12 : Int32} {op f t : Nat} {kc ks : Nat} {a1 a2 a3 a4 a5 a6 : Nat → Int32}
    (hop : op < 16) (hf : f < 81) (ht : t < 81) (hfl : (x12 = 1 ∧ (f / 9 = t / 9 ∨ f % 9 = t % 9)) ∨ (x12 = 0 ∧ ¬ (f / 9 = t / 9 ∨ f % 9 = t % 9))) (hJ : td_J x2 x4 8 3 a1 a2)
    (H : ∀ S T k r i m g n, td_J S T 8 3 k r → J16 S T (x6 + 2) k r i m g n) : wL_law_120 post L xs J16 x2 x4 x6 (nI op) x8 (nI f) (nI t) 1 x12 kc ks a1 a2 a3 a4 a5 a6 := by
  unfold wL_law_120
  refine br_f (by decide) ?_
  unfold wL_law_133
  refine br_f (by decide) ?_
  unfold wL_law_146
  refine br_f (by decide) ?_
  unfold wL_law_159
  refine br_f (by decide) ?_
  exact td_law172 (s := 8) (o := 3) (by omega) (by omega) (by omega) (by omega) (by omega) hop hf ht hfl hJ (fun S' k r i m g n h => td_law575a h (fun i m => H _ _ _ _ _ _ _ _ h))
theorem td_law120b {post : Int32 → Prop} {L : Nat} {xs : Nat → Int32} {J16 : Int64 → Int64 → Int32 → (Nat → Int32) → (Nat → Int32) → (Nat → Int32) → (Nat → Int32) → (Nat → Int32) → (Nat → Int32) → Prop} {x2 x4 : Int64} {x6 x8 x12 : Int32} {op f t : Nat} {kc ks : Nat} {a1 a2 a3 a4 a5 a6 : Nat → Int32}
    (hop : op < 16) (hf : f < 81) (ht : t < 81) (hfl : (x12 = 1 ∧ (f / 9 = t / 9 ∨ f % 9 = t % 9)) ∨ (x12 = 0 ∧ ¬ (f / 9 = t / 9 ∨ f % 9 = t % 9))) (hJ : td_J x2 x4 8 3 a1 a2)
    (H : ∀ S T k r i m g n, td_J S T 8 3 k r → J16 S T (x6 + 2) k r i m g n) : wL_law_120 post L xs J16 x2 x4 x6 (nI op) x8 (nI f) (nI t) 0 x12 kc ks a1 a2 a3 a4 a5 a6 := by
  unfold wL_law_120
  refine br_t rfl ?_
  unfold wL_law_133
  refine br_t rfl ?_
  unfold wL_law_146
  refine br_t rfl ?_
  unfold wL_law_159
  refine br_t rfl ?_
  exact td_law172 (s := 3) (o := 8) (by omega) (by omega) (by omega) (by omega) (by omega) hop hf ht hfl (td_J_swap hJ) (fun S' k r i m g n h => td_law575b h (fun i m => H _ _ _ _ _ _ _ _ (td_J_swap h)))
theorem td_law87 {post : Int32 → Prop} {L : Nat} {xs : Nat → Int32} {J16 : Int64 → Int64 → Int32 → (Nat → Int32) → (Nat → Int32) → (Nat → Int32) → (Nat → Int32) → (Nat → Int32) → (Nat → Int32) → Prop} {x2 x4 : Int64} {x6 x8 x11 : Int32} {op f t : Nat} {kc ks : Nat} {a1 a2 a3 a4 a5 a6 : Nat → Int32}
    (hop : op < 16) (hf : f < 81) (ht : t < 81) (h11 : x11 = 1 ∨ x11 = 0) (hJ : td_J x2 x4 8 3 a1 a2)
    (H : ∀ S T k r i m g n, td_J S T 8 3 k r → J16 S T (x6 + 2) k r i m g n) : wL_law_87 post L xs J16 x2 x4 x6 (nI op) x8 (nI f) (nI t) x11 kc ks a1 a2 a3 a4 a5 a6 := by
  have t120 : ∀ x12, ((x12 = 1 ∧ (f / 9 = t / 9 ∨ f % 9 = t % 9)) ∨ (x12 = 0 ∧ ¬ (f / 9 = t / 9 ∨ f % 9 = t % 9))) → wL_law_120 post L xs J16 x2 x4 x6 (nI op) x8 (nI f) (nI t) x11 x12 kc ks a1 a2 a3 a4 a5 a6 := by
    intro x12 hfl
    rcases h11 with e | e
    · rw [e]
      exact td_law120a hop hf ht hfl hJ H
    · rw [e]
      exact td_law120b hop hf ht hfl hJ H
  unfold wL_law_87 wL_law_115
  rw [td_m9 hf, td_m9 ht, td_d9 hf, td_d9 ht]
  exact ⟨by decide, by decide, pk_eq (f / 9) (t / 9) (fun z => t120 1 (.inl ⟨rfl, .inl z⟩)) (fun z => ⟨by decide, by decide, pk_eq (f % 9) (t % 9) (fun z2 => t120 1 (.inl ⟨rfl, .inr z2⟩)) (fun z2 => t120 0 (.inr ⟨rfl, fun e => e.elim z z2⟩))⟩)⟩
end
section
/-! ===== the law's loop ===== -/
theorem td_m81 {f : Nat} (h : f < 128) : nI f - nI f / 81 * 81 = nI (f % 81) := pk_rem (d := 81) (by omega) (by omega) (by omega)
theorem td_law16 {post : Int32 → Prop} {L : Nat} {xs : Nat → Int32} {kc ks n t : Nat} {x2 x4 : Int64} {a1 a2 a3 a4 a5 a6 : Nat → Int32} (hL : L ≤ 260) (hp : post 1) (ht : t < 30) (hJ : td_J x2 x4 8 3 a1 a2)
    (H : ∀ S T k r i m g q, td_J S T 8 3 k r → wL_law_16 post L xs kc ks n S T (nI (2 * t) + 2) k r i m g q) : wL_law_16 post L xs kc ks (n + 1) x2 x4 (nI (2 * t)) a1 a2 a3 a4 a5 a6 := by
  refine pk_lt L (2 * t + 2) (fun _ => hp) (fun z => pk_le 60 (2 * t) (fun z => absurd z (by omega)) (fun _ => ⟨vp_in_nI (by omega) (by omega), ?_⟩)) rfl (nI_add (2 * t) 2)
  obtain ⟨op, hop, eop⟩ := pk_andE (xs (nI (2 * t)).toNatClampNeg) (m := 15) 4 (by decide)
  refine nm_r eop ⟨?_, fun x8 _ => ?_⟩
  · rw [nI_1]
    exact vp_in_nI (by omega) (by omega)
  obtain ⟨f, hf, ef⟩ := pk_andE x8 (m := 127) 7 (by decide)
  obtain ⟨u, hu, eu⟩ := pk_andE (x8 >>> ((7 : Int32) &&& 31)) (m := 127) 7 (by decide)
  rw [ef, eu]
  exact ⟨by decide, nm_r (td_m81 (by omega)) ⟨by decide, nm_r (td_m81 (by omega)) (br_c (fun _ => td_law87 (by omega) (by omega) (by omega) (.inl rfl) hJ H) (fun _ => td_law87 (by omega) (by omega) (by omega) (.inr rfl) hJ H))⟩⟩
theorem i_vc (xs : Nat → Int32) (L : Nat) (hL : L ≤ 260) : wpL_law (fun r => r = 1) L xs := by
  unfold wpL_law
  refine ⟨6, 318, by omega, by omega, ?_⟩
  unfold wpX_init
  refine ⟨by omega, by omega, by omega, by omega, by omega, by omega, by omega, by omega, by omega, by omega, by omega, by omega, nm_e ?_⟩
  have h0 : td_J 0 0 8 3 (upd (fun _ => 0) 0 0) (fun _ => 0) := ⟨by rw [pk_un (by omega), td_kd0 rfl], by rw [pk_un (by omega), td_kd0 rfl], td_R_0 (fun _ _ => rfl), td_R_0 (fun _ _ => rfl)⟩
  exact pk_loop (σ := Int64 × Int64 × (Nat → Int32) × (Nat → Int32) × (Nat → Int32) × (Nat → Int32) × (Nat → Int32) × (Nat → Int32)) (fun n t u => wL_law_16 (fun r => r = 1) L xs (1 + 6) (6 + 318) n u.1 u.2.1 (nI (2 * t)) u.2.2.1 u.2.2.2.1 u.2.2.2.2.1 u.2.2.2.2.2.1 u.2.2.2.2.2.2.1 u.2.2.2.2.2.2.2) (fun _ u => td_J u.1 u.2.1 8 3 u.2.2.1 u.2.2.2.1) 30 0
    (0, 0, upd (fun _ => 0) 0 0, fun _ => 0, fun _ => 0, fun _ => 0, fun _ => 0, fun _ => 0) (by omega) h0
    (fun n u _ => br_c (fun _ => rfl) (fun _ => br_t (by decide) rfl))
    (fun n t u ht h hW => td_law16 hL rfl ht h (fun S T k r i m g q hJ => by
      rw [show nI (2 * t) + 2 = nI (2 * (t + 1)) from nI_add (2 * t) 2]
      exact hW (S, T, k, r, i, m, g, q) hJ))
end
