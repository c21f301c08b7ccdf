section
/-! ===== bits of an Int32 (began as a family of the kit's BITS rows) ===== -/
def bg_t (x : Int32) (i : Nat) : Bool := x.toBitVec.getLsbD i
theorem bg_ext {x y : Int32} (h : ∀ i, i < 32 → bg_t x i = bg_t y i) : x = y := Int32.toBitVec_inj.mp (BitVec.eq_of_getLsbD_eq (fun i hi => h i hi))
theorem bg_or (x y : Int32) (i : Nat) : bg_t (x ||| y) i = (bg_t x i || bg_t y i) := by unfold bg_t; rw [Int32.toBitVec_or, BitVec.getLsbD_or]
theorem bg_and (x y : Int32) (i : Nat) : bg_t (x &&& y) i = (bg_t x i && bg_t y i) := by unfold bg_t; rw [Int32.toBitVec_and, BitVec.getLsbD_and]
theorem bg_xor (x y : Int32) (i : Nat) : bg_t (x ^^^ y) i = (bg_t x i ^^ bg_t y i) := by unfold bg_t; rw [Int32.toBitVec_xor, BitVec.getLsbD_xor]
theorem bg_m1 : ∀ i, i < 32 → bg_t (-1) i = true := by decide +kernel
theorem bg_0 (i : Nat) : bg_t 0 i = false := BitVec.getLsbD_zero
theorem bg_t1 : ∀ i, i < 32 → bg_t 1 i = decide (i = 0) := by decide +kernel
theorem bg_sl : ∀ n, n < 32 → ((nI n &&& 31).toBitVec.smod 32).toNat = n := by decide +kernel
theorem bg_su : ∀ n, n < 32 → (((nI n).toUInt32 &&& Int32.toUInt32 31).toBitVec % 32).toNat = n := by decide +kernel
theorem bg_shl (n : Nat) (hn : n < 32) (x : Int32) {i : Nat} (hi : i < 32) : bg_t (x <<< (nI n &&& 31)) i = (decide (n ≤ i) && bg_t x (i - n)) := by
  unfold bg_t
  rw [Int32.toBitVec_shiftLeft]
  show (x.toBitVec <<< ((nI n &&& 31).toBitVec.smod 32).toNat).getLsbD i = _
  rw [bg_sl n hn, BitVec.getLsbD_shiftLeft]
  rcases Nat.lt_or_ge i n with h | h
  · simp [h, Nat.not_le.mpr h]
  · simp [hi, h, Nat.not_lt.mpr h]
theorem bg_ushr (n : Nat) (hn : n < 32) (x : Int32) (i : Nat) : bg_t ((x.toUInt32 >>> ((nI n).toUInt32 &&& Int32.toUInt32 31)).toInt32) i = bg_t x (n + i) := by
  show (x.toUInt32 >>> ((nI n).toUInt32 &&& Int32.toUInt32 31)).toBitVec.getLsbD i = x.toUInt32.toBitVec.getLsbD (n + i)
  rw [UInt32.toBitVec_shiftRight]
  show (x.toUInt32.toBitVec >>> (((nI n).toUInt32 &&& Int32.toUInt32 31).toBitVec % 32).toNat).getLsbD i = _
  rw [bg_su n hn, BitVec.getLsbD_ushiftRight]
theorem bg_and1 (y : Int32) : y &&& 1 = if bg_t y 0 then 1 else 0 := by
  apply bg_ext
  intro i hi
  rw [bg_and, bg_t1 i hi]
  by_cases h : i = 0
  · subst h
    cases hb : bg_t y 0
    · simp [bg_0]
    · simp [bg_t1]
  · rw [decide_eq_false h, Bool.and_false]
    cases hb : bg_t y 0
    · simp [bg_0]
    · simp [bg_t1 i hi, h]
theorem bg_bv (x : Int32) {p : Nat} (hp : p < 32) : ((x.toUInt32 >>> ((nI p).toUInt32 &&& Int32.toUInt32 31)).toInt32 &&& 1) = if bg_t x p then 1 else 0 := by
  rw [bg_and1, bg_ushr p hp, Nat.add_zero]
theorem bg_b1 (x : Int32) {p : Nat} (hp : p < 32) : ((x.toUInt32 >>> ((nI p).toUInt32 &&& Int32.toUInt32 31)).toInt32 &&& 1) = 1 ↔ bg_t x p = true := by
  rw [bg_bv x hp]
  cases bg_t x p
  · exact ⟨fun z => absurd z (by decide), fun z => absurd z (by decide)⟩
  · exact ⟨fun _ => rfl, fun _ => rfl⟩
theorem bg_b0 (x : Int32) {p : Nat} (hp : p < 32) : ((x.toUInt32 >>> ((nI p).toUInt32 &&& Int32.toUInt32 31)).toInt32 &&& 1) = 0 ↔ bg_t x p = false := by
  rw [bg_bv x hp]
  cases bg_t x p
  · exact ⟨fun _ => rfl, fun _ => rfl⟩
  · exact ⟨fun z => absurd z (by decide), fun z => absurd z (by decide)⟩
/-- one bit -/
def bg_e (p : Nat) : Int32 := (1 : Int32) <<< (nI p &&& 31)
theorem bg_te {p : Nat} (hp : p < 32) {i : Nat} (hi : i < 32) : bg_t (bg_e p) i = decide (i = p) := by
  unfold bg_e
  rw [bg_shl p hp 1 hi]
  rcases Nat.lt_or_ge i p with h | h
  · rw [decide_eq_false (by omega), decide_eq_false (by omega), Bool.false_and]
  · rw [decide_eq_true h, Bool.true_and, bg_t1 _ (by omega)]
    by_cases e : i = p
    · rw [decide_eq_true (by omega), decide_eq_true e]
    · rw [decide_eq_false (by omega), decide_eq_false e]
theorem bg_x3 (a b c : Int32) : a ^^^ b ^^^ (a ^^^ c) = b ^^^ c := by
  apply bg_ext; intro i _; simp only [bg_xor]; cases bg_t a i <;> cases bg_t b i <;> cases bg_t c i <;> rfl
theorem bg_x4 (a b c d : Int32) : (a ^^^ b) ^^^ (c ^^^ d) = (a ^^^ c) ^^^ (b ^^^ d) := by
  apply bg_ext; intro i _; simp only [bg_xor]; cases bg_t a i <;> cases bg_t b i <;> cases bg_t c i <;> cases bg_t d i <;> rfl
theorem bg_xx (a b : Int32) : a ^^^ (a ^^^ b) = b := by
  rw [← Int32.xor_assoc, Int32.xor_self, Int32.zero_xor]
theorem bg_xz {a b : Int32} (h : a ^^^ b = 0) : a = b := Int32.xor_eq_zero_iff.mp h
theorem bg_if (a b : Bool) (c : Int32) : (if (a ^^ b) = true then c else 0) = (if a = true then c else 0) ^^^ (if b = true then c else 0) := by
  cases a <;> cases b <;> simp
theorem bg_nz {x : Int32} (h : x ≠ 0) : ∃ i, i < 32 ∧ bg_t x i = true := by
  apply Classical.byContradiction
  intro hn
  apply h
  apply bg_ext
  intro i hi
  rw [bg_0]
  cases hb : bg_t x i
  · rfl
  · exact absurd ⟨i, hi, hb⟩ hn
/-! ===== linear maps, by what they make of the bits ===== -/
def bg_L (c : Nat → Int32) (x : Int32) : Nat → Int32
  | 0 => 0
  | n + 1 => bg_L c x n ^^^ (if bg_t x n = true then c n else 0)
theorem bg_Lx (c : Nat → Int32) (x y : Int32) (n : Nat) : bg_L c (x ^^^ y) n = bg_L c x n ^^^ bg_L c y n := by
  induction n with
  | zero => exact (Int32.xor_self (a := 0)).symm
  | succ n ih =>
    show bg_L c (x ^^^ y) n ^^^ _ = (bg_L c x n ^^^ _) ^^^ (bg_L c y n ^^^ _)
    rw [ih, bg_xor, bg_if, bg_x4]
theorem bg_L0 (c : Nat → Int32) (n : Nat) : bg_L c 0 n = 0 := by
  induction n with
  | zero => rfl
  | succ n ih =>
    show bg_L c 0 n ^^^ (if bg_t 0 n = true then c n else 0) = 0
    rw [ih, bg_0]
    simp
theorem bg_Le (c : Nat → Int32) {p n : Nat} (hp : p < 32) (hn : n ≤ 32) : bg_L c (bg_e p) n = if p < n then c p else 0 := by
  induction n with
  | zero => rfl
  | succ n ih =>
    show bg_L c (bg_e p) n ^^^ (if bg_t (bg_e p) n = true then c n else 0) = _
    rw [ih (by omega), bg_te hp (by omega)]
    by_cases e : n = p
    · subst e
      rw [if_neg (by omega), if_pos (by simp), if_pos (by omega), Int32.zero_xor]
    · rw [if_neg (show ¬ (decide (n = p) = true) by simpa using e), Int32.xor_zero]
      by_cases h : p < n
      · rw [if_pos h, if_pos (by omega)]
      · rw [if_neg h, if_neg (by omega)]
theorem bg_Le' (c : Nat → Int32) {p : Nat} (hp : p < 32) : bg_L c (bg_e p) 32 = c p := by
  rw [bg_Le c hp (Nat.le_refl _), if_pos hp]
/-- what is closed under sums and holds the images of x's bits holds the image of x -/
theorem bg_LP {P : Int32 → Prop} (h0 : P 0) (hx : ∀ x y, P x → P y → P (x ^^^ y)) (c : Nat → Int32) (x : Int32) (n : Nat) (hc : ∀ p, p < n → bg_t x p = true → P (c p)) : P (bg_L c x n) := by
  induction n with
  | zero => exact h0
  | succ n ih =>
    show P (bg_L c x n ^^^ (if bg_t x n = true then c n else 0))
    refine hx _ _ (ih (fun p hp h => hc p (by omega) h)) ?_
    by_cases h : bg_t x n = true
    · rw [if_pos h]
      exact hc n (by omega) h
    · rw [if_neg h]
      exact h0
theorem bg_Lb (x : Int32) {n : Nat} (hn : n ≤ 32) {i : Nat} (hi : i < 32) : bg_t (bg_L bg_e x n) i = (decide (i < n) && bg_t x i) := by
  induction n with
  | zero => 
    show bg_t 0 i = _
    rw [bg_0, decide_eq_false (by omega)]
    rfl
  | succ n ih =>
    show bg_t (bg_L bg_e x n ^^^ (if bg_t x n = true then bg_e n else 0)) i = _
    rw [bg_xor, ih (by omega)]
    by_cases e : i = n
    · subst e
      rw [decide_eq_false (by omega), decide_eq_true (by omega), Bool.false_and, Bool.true_and, Bool.false_xor]
      by_cases h : bg_t x i = true
      · rw [if_pos h, bg_te hi hi, h]
        simp
      · rw [if_neg h, bg_0]
        simpa using h
    · have hz : bg_t (if bg_t x n = true then bg_e n else 0) i = false := by
        by_cases h : bg_t x n = true
        · rw [if_pos h, bg_te (by omega) hi]
          simpa using e
        · rw [if_neg h, bg_0]
      rw [hz, Bool.xor_false]
      by_cases h : i < n
      · rw [decide_eq_true h, decide_eq_true (by omega)]
      · rw [decide_eq_false h, decide_eq_false (by omega)]
theorem bg_Lid (x : Int32) : bg_L bg_e x 32 = x := by
  apply bg_ext
  intro i hi
  rw [bg_Lb x (Nat.le_refl _) hi, decide_eq_true hi, Bool.true_and]
/-- a law of sums: it holds of every x if it holds of the bits of x -/
theorem bg_lin {P : Int32 → Prop} (h0 : P 0) (hx : ∀ x y, P x → P y → P (x ^^^ y)) (x : Int32) (he : ∀ p, p < 32 → bg_t x p = true → P (bg_e p)) : P x := by
  have h := bg_LP h0 hx bg_e x 32 he
  rw [bg_Lid] at h
  exact h
theorem bg_Lc {c d : Nat → Int32} (x : Int32) {n : Nat} (h : ∀ p, p < n → bg_t x p = true → c p = d p) : bg_L c x n = bg_L d x n := by
  induction n with
  | zero => rfl
  | succ n ih =>
    show bg_L c x n ^^^ (if bg_t x n = true then c n else 0) = bg_L d x n ^^^ (if bg_t x n = true then d n else 0)
    rw [ih (fun p hp hb => h p (by omega) hb)]
    by_cases hb : bg_t x n = true
    · rw [if_pos hb, if_pos hb, h n (by omega) hb]
    · rw [if_neg hb, if_neg hb]
/-- the highest bit -/
def bg_hn (x : Int32) : Nat → Nat
  | 0 => 0
  | n + 1 => if bg_t x (n + 1) = true then n + 1 else bg_hn x n
def bg_hi (x : Int32) : Nat := bg_hn x 31
theorem bg_hn_le (x : Int32) (n : Nat) : bg_hn x n ≤ n := by
  induction n with
  | zero => exact Nat.le_refl _
  | succ n ih =>
    show (if bg_t x (n + 1) = true then n + 1 else bg_hn x n) ≤ n + 1
    by_cases h : bg_t x (n + 1) = true
    · rw [if_pos h]; exact Nat.le_refl _
    · rw [if_neg h]; omega
theorem bg_hi_lt (x : Int32) : bg_hi x < 32 := by
  have := bg_hn_le x 31
  unfold bg_hi
  omega
theorem bg_hn_top (x : Int32) (n : Nat) : ∀ i, bg_hn x n < i → i ≤ n → bg_t x i = false := by
  induction n with
  | zero => intro i h1 h2; exact absurd h1 (by omega)
  | succ n ih =>
    intro i h1 h2
    by_cases h : bg_t x (n + 1) = true
    · have e : bg_hn x (n + 1) = n + 1 := if_pos h
      omega
    · have e : bg_hn x (n + 1) = bg_hn x n := if_neg h
      by_cases e2 : i = n + 1
      · rw [e2]; simpa using h
      · exact ih i (by omega) (by omega)
theorem bg_hn_bit (x : Int32) (n : Nat) (h : ∃ i, i ≤ n ∧ bg_t x i = true) : bg_t x (bg_hn x n) = true := by
  induction n with
  | zero =>
    obtain ⟨i, hi, hb⟩ := h
    have : i = 0 := by omega
    subst this
    exact hb
  | succ n ih =>
    by_cases h1 : bg_t x (n + 1) = true
    · have e : bg_hn x (n + 1) = n + 1 := if_pos h1
      rw [e]; exact h1
    · have e : bg_hn x (n + 1) = bg_hn x n := if_neg h1
      rw [e]
      obtain ⟨i, hi, hb⟩ := h
      refine ih ⟨i, ?_, hb⟩
      by_cases e2 : i = n + 1
      · subst e2; exact absurd hb h1
      · omega
theorem bg_hi_top (x : Int32) {i : Nat} (h : bg_hi x < i) (hi : i < 32) : bg_t x i = false := bg_hn_top x 31 i h (by omega)
theorem bg_hi_bit {x : Int32} (h : x ≠ 0) : bg_t x (bg_hi x) = true := by
  obtain ⟨i, hi, hb⟩ := bg_nz h
  exact bg_hn_bit x 31 ⟨i, by omega, hb⟩
theorem bg_hi_eq {x : Int32} {p : Nat} (hp : p < 32) (hb : bg_t x p = true) (ht : ∀ i, p < i → i < 32 → bg_t x i = false) : bg_hi x = p := by
  have hx : x ≠ 0 := by
    intro e
    rw [e, bg_0] at hb
    exact absurd hb (by decide)
  have h1 := bg_hi_bit hx
  have h2 := bg_hi_lt x
  rcases Nat.lt_trichotomy (bg_hi x) p with h | h | h
  · rw [bg_hi_top x h hp] at hb
    exact absurd hb (by decide)
  · exact h
  · rw [ht _ h h2] at h1
    exact absurd h1 (by decide)
end
section
/-! ===== the order of the monomials: pl (place of a monomial), mon (monomial at a place), W (a weight: a sum over the variables) ===== -/
def bg_O (pl mon W : Nat → Nat) : Prop :=
  (∀ m, m < 32 → pl m < 32 ∧ mon (pl m) = m) ∧ (∀ p, p < 32 → mon p < 32 ∧ pl (mon p) = p) ∧
  (∀ p, p < 32 → ∀ q, q < 32 → (p < q ↔ W (mon p) < W (mon q))) ∧
  (∀ s, s < 32 → ∀ t, t < 32 → W (s ||| t) ≤ W s + W t) ∧
  (∀ s, s < 32 → ∀ t, t < 32 → s &&& t = 0 → W (s ||| t) = W s + W t) ∧
  (∀ v, v < 32 → v ≠ 0 → 0 < W v)
def bg_ones (m : Nat) : Nat := m % 2 + m / 2 % 2 + m / 4 % 2 + m / 8 % 2 + m / 16 % 2
def bg_mon (kd p : Nat) : Nat := if kd = 1 then p else [0,1,2,4,8,16,3,5,6,9,10,12,17,18,20,24,7,11,13,14,19,21,22,25,26,28,15,23,27,29,30,31].getD p 0
def bg_pl (kd m : Nat) : Nat := if kd = 1 then m else [0,1,2,6,3,7,8,16,4,9,10,17,11,18,19,26,5,12,13,20,14,21,22,27,15,23,24,28,25,29,30,31].getD m 0
def bg_W (kd m : Nat) : Nat := if kd = 1 then m else m + 32 * bg_ones m
theorem bg_O0 : bg_O (bg_pl 0) (bg_mon 0) (bg_W 0) := by
  refine ⟨?_, ?_, ?_, ?_, ?_, ?_⟩ <;> decide +kernel
theorem bg_O1 : bg_O (bg_pl 1) (bg_mon 1) (bg_W 1) := by
  refine ⟨?_, ?_, ?_, ?_, ?_, ?_⟩ <;> decide +kernel
theorem bg_Ok {kd : Nat} (h : kd < 2) : bg_O (bg_pl kd) (bg_mon kd) (bg_W kd) := by
  match kd, h with
  | 0, _ => exact bg_O0
  | 1, _ => exact bg_O1
/-! subsets of the variables -/
def bg_d (a b : Nat) : Bool := decide (a ||| b = b)
theorem bg_d_iff {a b : Nat} : bg_d a b = true ↔ a ||| b = b := by
  unfold bg_d
  exact decide_eq_true_iff
theorem bg_d_refl (a : Nat) : bg_d a a = true := bg_d_iff.mpr (Nat.or_self a)
theorem bg_d_trans {a b c : Nat} (h1 : bg_d a b = true) (h2 : bg_d b c = true) : bg_d a c = true := by
  rw [bg_d_iff] at *
  rw [← h2, ← Nat.or_assoc, h1]
theorem bg_d_le {a b : Nat} (h : bg_d a b = true) : a ≤ b := by
  rw [bg_d_iff] at h
  rw [← h]
  exact Nat.left_le_or
theorem bg_d_or {a b c : Nat} : bg_d (a ||| b) c = (bg_d a c && bg_d b c) := by
  cases h1 : bg_d a c
  · rw [Bool.false_and]
    cases h2 : bg_d (a ||| b) c
    · rfl
    · have : bg_d a c = true := by
        refine bg_d_trans ?_ h2
        rw [bg_d_iff, ← Nat.or_assoc, Nat.or_self]
      rw [this] at h1
      exact absurd h1 (by decide)
  · rw [Bool.true_and]
    cases h2 : bg_d b c
    · cases h3 : bg_d (a ||| b) c
      · rfl
      · have : bg_d b c = true := by
          refine bg_d_trans ?_ h3
          rw [bg_d_iff, Nat.or_comm a b, ← Nat.or_assoc, Nat.or_self]
        rw [this] at h2
        exact absurd h2 (by decide)
    · rw [bg_d_iff] at *
      rw [Nat.or_assoc, h2, h1]
theorem bg_or32 {a b : Nat} (ha : a < 32) (hb : b < 32) : a ||| b < 32 := Nat.or_lt_two_pow (n := 5) ha hb
theorem bg_xor32 {a b : Nat} (ha : a < 32) (hb : b < 32) : a ^^^ b < 32 := Nat.xor_lt_two_pow (n := 5) ha hb
/-- the rest of b beyond a -/
theorem bg_rest : ∀ a, a < 32 → ∀ b, b < 32 → bg_d a b = true → (b ^^^ a) ||| a = b ∧ (b ^^^ a) &&& a = 0 := by decide +kernel
theorem bg_split1 : ∀ t, t < 32 → ∀ a, a < 32 → t &&& a ≠ 0 → ∃ v, v < 5 ∧ t.testBit v = true ∧ a.testBit v = true := by decide +kernel
theorem bg_split2 : ∀ t, t < 32 → ∀ v, v < 5 → t.testBit v = true → (t ^^^ 2 ^ v) ||| 2 ^ v = t ∧ (t ^^^ 2 ^ v) &&& 2 ^ v = 0 ∧ 2 ^ v < 32 ∧ 2 ^ v ≠ 0 ∧ t ||| 2 ^ v = t := by decide +kernel
/-- t + a = m, b in m: t and m - b as multiples of one u -/
def bg_s3 (t a b : Nat) : Bool := !(t &&& a == 0) || (!(bg_d b (t ||| a)) || ((((t ||| a) ^^^ (a ||| b)) ||| ((a ||| b) ^^^ a) == t) && ((((t ||| a) ^^^ (a ||| b)) ||| ((a ||| b) ^^^ b) == (t ||| a) ^^^ b) && bg_d (a ||| b) (t ||| a))))
theorem bg_s3k : ∀ t, t < 32 → ∀ a, a < 32 → ∀ b, b < 32 → bg_s3 t a b = true := by decide +kernel
theorem bg_split3 {t a b : Nat} (ht : t < 32) (ha : a < 32) (hb : b < 32) (h : t &&& a = 0) (hd : bg_d b (t ||| a) = true) :
    (((t ||| a) ^^^ (a ||| b)) ||| ((a ||| b) ^^^ a) = t) ∧ (((t ||| a) ^^^ (a ||| b)) ||| ((a ||| b) ^^^ b) = (t ||| a) ^^^ b) ∧ bg_d (a ||| b) (t ||| a) = true := by
  have k := bg_s3k t ht a ha b hb
  unfold bg_s3 at k
  rw [h, hd] at k
  simpa using k
theorem bg_d_l (a b : Nat) : bg_d a (a ||| b) = true := by
  rw [bg_d_iff, ← Nat.or_assoc, Nat.or_self]
theorem bg_d_r (a b : Nat) : bg_d b (a ||| b) = true := by
  rw [Nat.or_comm]
  exact bg_d_l b a
/-! ===== a polynomial times a monomial ===== -/
def bg_ti (pl mon : Nat → Nat) (x : Int32) (t : Nat) : Int32 := bg_L (fun p => bg_e (pl (mon p ||| t))) x 32
theorem bg_tix (pl mon : Nat → Nat) (x y : Int32) (t : Nat) : bg_ti pl mon (x ^^^ y) t = bg_ti pl mon x t ^^^ bg_ti pl mon y t := bg_Lx _ _ _ _
theorem bg_ti0 (pl mon : Nat → Nat) (t : Nat) : bg_ti pl mon 0 t = 0 := bg_L0 _ _
theorem bg_tie (pl mon : Nat → Nat) {p : Nat} (hp : p < 32) (t : Nat) : bg_ti pl mon (bg_e p) t = bg_e (pl (mon p ||| t)) := bg_Le' _ hp
theorem bg_titi {pl mon W : Nat → Nat} (O : bg_O pl mon W) (x : Int32) {s t : Nat} (hs : s < 32) : bg_ti pl mon (bg_ti pl mon x s) t = bg_ti pl mon x (s ||| t) := by
  refine bg_lin (P := fun x => bg_ti pl mon (bg_ti pl mon x s) t = bg_ti pl mon x (s ||| t)) ?_ ?_ x ?_
  · simp only [bg_ti0]
  · intro x y hx hy
    rw [bg_tix, bg_tix, bg_tix, hx, hy]
  · intro p hp _
    have h1 : mon p ||| s < 32 := bg_or32 (O.2.1 p hp).1 hs
    rw [bg_tie _ _ hp, bg_tie _ _ (O.1 _ h1).1, bg_tie _ _ hp, (O.1 _ h1).2, Nat.or_assoc]
theorem bg_ti1 {pl mon W : Nat → Nat} (O : bg_O pl mon W) (x : Int32) : bg_ti pl mon x 0 = x := by
  refine bg_lin (P := fun x => bg_ti pl mon x 0 = x) (bg_ti0 _ _ _) ?_ x ?_
  · intro x y hx hy
    rw [bg_tix, hx, hy]
  · intro p hp _
    rw [bg_tie _ _ hp, Nat.or_zero, (O.2.1 p hp).2]
/-- every bit of x weighs less than c -/
def bg_wl (mon W : Nat → Nat) (x : Int32) (c : Nat) : Prop := ∀ p, p < 32 → bg_t x p = true → W (mon p) < c
theorem bg_wl0 (mon W : Nat → Nat) (c : Nat) : bg_wl mon W 0 c := by
  intro p _ h
  rw [bg_0] at h
  exact absurd h (by decide)
theorem bg_wlx {mon W : Nat → Nat} {x y : Int32} {c : Nat} (hx : bg_wl mon W x c) (hy : bg_wl mon W y c) : bg_wl mon W (x ^^^ y) c := by
  intro p hp h
  rw [bg_xor] at h
  cases h1 : bg_t x p
  · rw [h1, Bool.false_xor] at h
    exact hy p hp h
  · exact hx p hp h1
theorem bg_wle {mon W : Nat → Nat} {q c : Nat} (hq : q < 32) (h : W (mon q) < c) : bg_wl mon W (bg_e q) c := by
  intro p hp hb
  rw [bg_te hq hp] at hb
  rw [of_decide_eq_true hb]
  exact h
theorem bg_wlm {mon W : Nat → Nat} {x : Int32} {c d : Nat} (h : bg_wl mon W x c) (hc : c ≤ d) : bg_wl mon W x d := fun p hp hb => Nat.lt_of_lt_of_le (h p hp hb) hc
theorem bg_wlt {pl mon W : Nat → Nat} (O : bg_O pl mon W) {x : Int32} {c t : Nat} (ht : t < 32) (h : ∀ p, p < 32 → bg_t x p = true → W (mon p ||| t) < c) : bg_wl mon W (bg_ti pl mon x t) c := by
  refine bg_LP (P := fun y => bg_wl mon W y c) (bg_wl0 _ _ _) (fun x y => bg_wlx) _ x 32 ?_
  intro p hp hb
  have h1 : mon p ||| t < 32 := bg_or32 (O.2.1 p hp).1 ht
  refine bg_wle (O.1 _ h1).1 ?_
  rw [(O.1 _ h1).2]
  exact h p hp hb
theorem bg_wlt' {pl mon W : Nat → Nat} (O : bg_O pl mon W) {x : Int32} {c t : Nat} (ht : t < 32) (h : bg_wl mon W x c) : bg_wl mon W (bg_ti pl mon x t) (c + W t) := by
  refine bg_wlt O ht (fun p hp hb => ?_)
  have h1 := h p hp hb
  have h2 := O.2.2.2.1 _ (O.2.1 p hp).1 t ht
  omega
/-- a polynomial is its leading monomial and a lighter rest -/
theorem bg_lead {pl mon W : Nat → Nat} (O : bg_O pl mon W) {x : Int32} (hx : x ≠ 0) : bg_wl mon W (x ^^^ bg_e (bg_hi x)) (W (mon (bg_hi x))) := by
  intro p hp hb
  rw [bg_xor, bg_te (bg_hi_lt x) hp] at hb
  rw [← O.2.2.1 p hp _ (bg_hi_lt x)]
  rcases Nat.lt_trichotomy p (bg_hi x) with h | h | h
  · exact h
  · rw [h, bg_hi_bit hx] at hb
    simp at hb
  · rw [bg_hi_top x h hp, decide_eq_false (by omega)] at hb
    exact absurd hb (by decide)
/-- an admissible multiple: its leading monomial, and a lighter rest -/
theorem bg_adm {pl mon W : Nat → Nat} (O : bg_O pl mon W) {x : Int32} (hx : x ≠ 0) {t : Nat} (ht : t < 32) (hd : t &&& mon (bg_hi x) = 0) :
    bg_wl mon W (bg_ti pl mon x t ^^^ bg_e (pl (mon (bg_hi x) ||| t))) (W (mon (bg_hi x) ||| t)) := by
  have h := bg_wlt' O ht (bg_lead O hx)
  rw [bg_tix, bg_tie _ _ (bg_hi_lt x)] at h
  rw [O.2.2.2.2.1 _ (O.2.1 _ (bg_hi_lt x)).1 t ht (by rw [Nat.and_comm]; exact hd)]
  exact h
theorem bg_top {pl mon W : Nat → Nat} (O : bg_O pl mon W) {y : Int32} {q : Nat} (hq : q < 32) (h : bg_wl mon W (y ^^^ bg_e q) (W (mon q))) : bg_t y q = true ∧ ∀ i, q < i → i < 32 → bg_t y i = false := by
  constructor
  · cases hb : bg_t y q
    · have h1 := h q hq (by rw [bg_xor, hb, bg_te hq hq]; simp)
      omega
    · rfl
  · intro i h1 h2
    cases hb : bg_t y i
    · rfl
    · have h3 := h i h2 (by rw [bg_xor, hb, bg_te hq h2, decide_eq_false (by omega)]; rfl)
      have h4 := (O.2.2.1 q hq i h2).mp h1
      omega
end
section
/-! ===== reduction by a family b: b k is 0 or has its highest bit at k ===== -/
def bg_T (b : Nat → Int32) : Prop := ∀ k, k < 32 → b k = 0 ∨ (bg_t (b k) k = true ∧ ∀ i, k < i → i < 32 → bg_t (b k) i = false)
def bg_st (b : Nat → Int32) (k : Nat) (x : Int32) : Int32 := x ^^^ (if bg_t x k = true then b k else 0)
def bg_r (b : Nat → Int32) : Nat → Int32 → Int32
  | 0, x => x
  | k + 1, x => bg_r b k (bg_st b k x)
theorem bg_stx (b : Nat → Int32) (k : Nat) (x y : Int32) : bg_st b k (x ^^^ y) = bg_st b k x ^^^ bg_st b k y := by
  unfold bg_st
  rw [bg_xor, bg_if, bg_x4]
theorem bg_rx (b : Nat → Int32) (k : Nat) : ∀ x y, bg_r b k (x ^^^ y) = bg_r b k x ^^^ bg_r b k y := by
  induction k with
  | zero => intro x y; rfl
  | succ k ih =>
    intro x y
    show bg_r b k (bg_st b k (x ^^^ y)) = bg_r b k (bg_st b k x) ^^^ bg_r b k (bg_st b k y)
    rw [bg_stx, ih]
theorem bg_r0 (b : Nat → Int32) (k : Nat) : bg_r b k 0 = 0 := by
  have h := bg_rx b k 0 0
  rw [Int32.xor_self, Int32.xor_self] at h
  exact h
theorem bg_st_n {b : Nat → Int32} {k : Nat} {x : Int32} (h : bg_t x k = false) : bg_st b k x = x := by
  unfold bg_st
  rw [h, if_neg (by decide), Int32.xor_zero]
theorem bg_st_y {b : Nat → Int32} {k : Nat} {x : Int32} (h : bg_t x k = true) : bg_st b k x = x ^^^ b k := by
  unfold bg_st
  rw [if_pos h]
theorem bg_st_z {b : Nat → Int32} {k : Nat} {x : Int32} (h : b k = 0) : bg_st b k x = x := by
  unfold bg_st
  rw [h, ite_self, Int32.xor_zero]
/-- bits at or above k stay -/
theorem bg_r_hi {b : Nat → Int32} (T : bg_T b) (k : Nat) (hk : k ≤ 32) : ∀ x i, k ≤ i → i < 32 → bg_t (bg_r b k x) i = bg_t x i := by
  induction k with
  | zero => intro x i _ _; rfl
  | succ k ih =>
    intro x i h1 h2
    show bg_t (bg_r b k (bg_st b k x)) i = _
    rw [ih (by omega) _ i (by omega) h2]
    rcases T k (by omega) with h | h
    · rw [bg_st_z h]
    · cases hb : bg_t x k
      · rw [bg_st_n hb]
      · rw [bg_st_y hb, bg_xor, h.2 i (by omega) h2, Bool.xor_false]
/-- no bit is left where b is not 0 -/
theorem bg_r_no {b : Nat → Int32} (T : bg_T b) (k : Nat) (hk : k ≤ 32) : ∀ x i, i < k → b i ≠ 0 → bg_t (bg_r b k x) i = false := by
  induction k with
  | zero => intro x i h; exact absurd h (by omega)
  | succ k ih =>
    intro x i h1 h2
    show bg_t (bg_r b k (bg_st b k x)) i = _
    by_cases e : i = k
    · subst e
      rw [bg_r_hi T i (by omega) _ i (Nat.le_refl _) (by omega)]
      cases hb : bg_t x i
      · rw [bg_st_n hb, hb]
      · rcases T i (by omega) with h | h
        · exact absurd h h2
        · rw [bg_st_y hb, bg_xor, hb, h.1]
          rfl
    · exact ih (by omega) _ i (by omega) h2
/-- what has no such bit stays -/
theorem bg_r_id {b : Nat → Int32} (k : Nat) (x : Int32) (h : ∀ i, i < k → bg_t x i = true → b i = 0) : bg_r b k x = x := by
  induction k with
  | zero => rfl
  | succ k ih =>
    show bg_r b k (bg_st b k x) = x
    have e : bg_st b k x = x := by
      cases hb : bg_t x k
      · exact bg_st_n hb
      · exact bg_st_z (h k (by omega) hb)
    rw [e]
    exact ih (fun i hi hb => h i (by omega) hb)
theorem bg_rr {b : Nat → Int32} (T : bg_T b) (x : Int32) : bg_r b 32 (bg_r b 32 x) = bg_r b 32 x := by
  refine bg_r_id 32 _ (fun i hi hb => ?_)
  apply Classical.byContradiction
  intro hz
  rw [bg_r_no T 32 (Nat.le_refl _) x i hi hz] at hb
  exact absurd hb (by decide)
/-- bits that x doesn't have above c are passed by -/
theorem bg_r_sk {b : Nat → Int32} {c : Nat} (n : Nat) (x : Int32) (h : ∀ i, c ≤ i → i < c + n → bg_t x i = false) : bg_r b (c + n) x = bg_r b c x := by
  induction n with
  | zero => rfl
  | succ n ih =>
    show bg_r b (c + n) (bg_st b (c + n) x) = _
    rw [bg_st_n (h (c + n) (by omega) (by omega))]
    exact ih (fun i h1 h2 => h i h1 (by omega))
/-- each member reduces to 0 -/
theorem bg_r_b {b : Nat → Int32} (T : bg_T b) {j : Nat} (hj : j < 32) : bg_r b 32 (b j) = 0 := by
  rcases T j hj with h | h
  · rw [h, bg_r0]
  · have e := bg_r_sk (b := b) (c := j + 1) (32 - (j + 1)) (b j) (fun i h1 h2 => h.2 i (by omega) (by omega))
    rw [show j + 1 + (32 - (j + 1)) = 32 by omega] at e
    rw [e]
    show bg_r b j (bg_st b j (b j)) = 0
    rw [bg_st_y h.1, Int32.xor_self, bg_r0]
/-- what reduction takes away is a sum of members, none above x -/
theorem bg_r_sp {b : Nat → Int32} (T : bg_T b) {P : Int32 → Prop} (h0 : P 0) (hx : ∀ x y, P x → P y → P (x ^^^ y)) {Q : Nat → Prop} (hQ : ∀ i j, i ≤ j → j < 32 → Q j → Q i) (k : Nat) (hk : k ≤ 32) (hP : ∀ j, j < k → Q j → P (b j)) :
    ∀ x, (∀ p, p < 32 → bg_t x p = true → Q p) → P (x ^^^ bg_r b k x) := by
  induction k with
  | zero =>
    intro x _
    show P (x ^^^ x)
    rw [Int32.xor_self]
    exact h0
  | succ k ih =>
    intro x hq
    show P (x ^^^ bg_r b k (bg_st b k x))
    cases hb : bg_t x k
    · rw [bg_st_n hb]
      exact ih (by omega) (fun j hj => hP j (by omega)) x hq
    · rw [bg_st_y hb]
      have qk := hq k (by omega) hb
      have h1 := ih (by omega) (fun j hj => hP j (by omega)) (x ^^^ b k) (by
        intro p hp hbp
        rw [bg_xor] at hbp
        cases hxp : bg_t x p
        · rw [hxp, Bool.false_xor] at hbp
          rcases T k (by omega) with h | h
          · rw [h, bg_0] at hbp
            exact absurd hbp (by decide)
          · by_cases hl : p ≤ k
            · exact hQ p k hl (by omega) qk
            · rw [h.2 p (by omega) hp] at hbp
              exact absurd hbp (by decide)
        · exact hq p hp hxp)
      have h2 := hx _ _ (hP k (by omega) qk) h1
      have e : b k ^^^ (x ^^^ b k ^^^ bg_r b k (x ^^^ b k)) = x ^^^ bg_r b k (x ^^^ b k) := by
        rw [Int32.xor_comm x (b k), Int32.xor_assoc (b k), bg_xx]
      rw [e] at h2
      exact h2
theorem bg_r_s {b : Nat → Int32} (T : bg_T b) {P : Int32 → Prop} (h0 : P 0) (hx : ∀ x y, P x → P y → P (x ^^^ y)) (hP : ∀ j, j < 32 → P (b j)) (x : Int32) : P (x ^^^ bg_r b 32 x) :=
  bg_r_sp T h0 hx (Q := fun _ => True) (fun _ _ _ _ _ => trivial) 32 (Nat.le_refl _) (fun j hj _ => hP j hj) x (fun _ _ _ => trivial)
theorem bg_r_z {b : Nat → Int32} (T : bg_T b) {P : Int32 → Prop} (h0 : P 0) (hx : ∀ x y, P x → P y → P (x ^^^ y)) (hP : ∀ j, j < 32 → P (b j)) {x : Int32} (h : bg_r b 32 x = 0) : P x := by
  have k := bg_r_s T h0 hx hP x
  rw [h, Int32.xor_zero] at k
  exact k
/-! ===== the family of a work list G of n polynomials ===== -/
def bg_fd (hd : Nat → Nat) (m : Nat) : Nat → Nat
  | 0 => 0
  | n + 1 => if bg_fd hd m n < n then bg_fd hd m n else if bg_d (hd n) m = true then n else n + 1
theorem bg_fd_le (hd : Nat → Nat) (m n : Nat) : bg_fd hd m n ≤ n := by
  induction n with
  | zero => exact Nat.le_refl _
  | succ n ih =>
    unfold bg_fd
    split
    · omega
    · split <;> omega
theorem bg_fd_no (hd : Nat → Nat) (m n : Nat) : ∀ i, i < bg_fd hd m n → bg_d (hd i) m = false := by
  induction n with
  | zero => intro i h; exact absurd h (by unfold bg_fd; omega)
  | succ n ih =>
    intro i h
    unfold bg_fd at h
    have hl := bg_fd_le hd m n
    by_cases h1 : bg_fd hd m n < n
    · rw [if_pos h1] at h
      exact ih i h
    · rw [if_neg h1] at h
      by_cases h2 : bg_d (hd n) m = true
      · rw [if_pos h2] at h
        exact ih i (by omega)
      · rw [if_neg h2] at h
        by_cases e : i = n
        · rw [e]; simpa using h2
        · exact ih i (by omega)
theorem bg_fd_yes (hd : Nat → Nat) (m n : Nat) (h : bg_fd hd m n < n) : bg_d (hd (bg_fd hd m n)) m = true := by
  induction n with
  | zero => exact absurd h (by omega)
  | succ n ih =>
    unfold bg_fd at h ⊢
    by_cases h1 : bg_fd hd m n < n
    · rw [if_pos h1]
      exact ih h1
    · rw [if_neg h1] at h ⊢
      by_cases h2 : bg_d (hd n) m = true
      · rw [if_pos h2]; exact h2
      · rw [if_neg h2] at h
        exact absurd h (by omega)
theorem bg_fd_ex (hd : Nat → Nat) {m n i : Nat} (hi : i < n) (h : bg_d (hd i) m = true) : bg_fd hd m n < n := by
  rcases Nat.lt_or_ge (bg_fd hd m n) n with k | k
  · exact k
  · have := bg_fd_no hd m n i (by omega)
    rw [this] at h
    exact absurd h (by decide)
theorem bg_fd_eq (hd : Nat → Nat) {m n i : Nat} (hi : i < n) (h : bg_d (hd i) m = true) (hn : ∀ j, j < i → bg_d (hd j) m = false) : bg_fd hd m n = i := by
  have h1 := bg_fd_ex hd hi h
  rcases Nat.lt_trichotomy (bg_fd hd m n) i with k | k | k
  · have a := hn _ k
    rw [bg_fd_yes hd m n h1] at a
    exact absurd a (by decide)
  · exact k
  · have a := bg_fd_no hd m n i k
    rw [a] at h
    exact absurd h (by decide)
theorem bg_fd_app (hd : Nat → Nat) {m n : Nat} (h : bg_fd hd m n < n) : bg_fd hd m (n + 1) = bg_fd hd m n := by
  show (if bg_fd hd m n < n then bg_fd hd m n else if bg_d (hd n) m = true then n else n + 1) = _
  rw [if_pos h]
theorem bg_fd_c {hd hd' : Nat → Nat} {m n : Nat} (h : ∀ i, i < n → hd i = hd' i) : bg_fd hd m n = bg_fd hd' m n := by
  induction n with
  | zero => rfl
  | succ n ih =>
    unfold bg_fd
    rw [ih (fun i hi => h i (by omega)), h n (by omega)]
/-- the leading monomial of the i-th -/
def bg_ld (mon : Nat → Nat) (G : Nat → Int32) (i : Nat) : Nat := mon (bg_hi (G i))
def bg_b (pl mon : Nat → Nat) (G : Nat → Int32) (n k : Nat) : Int32 :=
  if bg_fd (bg_ld mon G) (mon k) n < n then bg_ti pl mon (G (bg_fd (bg_ld mon G) (mon k) n)) (mon k ^^^ bg_ld mon G (bg_fd (bg_ld mon G) (mon k) n)) else 0
/-- reduction by the list -/
def bg_R (pl mon : Nat → Nat) (G : Nat → Int32) (n : Nat) (x : Int32) : Int32 := bg_r (bg_b pl mon G n) 32 x
theorem bg_b_c {pl mon : Nat → Nat} {G G' : Nat → Int32} {n : Nat} (h : ∀ i, i < n → G i = G' i) (k : Nat) : bg_b pl mon G n k = bg_b pl mon G' n k := by
  have e : bg_fd (bg_ld mon G) (mon k) n = bg_fd (bg_ld mon G') (mon k) n := bg_fd_c (fun i hi => by unfold bg_ld; rw [h i hi])
  unfold bg_b
  rw [e]
  by_cases hl : bg_fd (bg_ld mon G') (mon k) n < n
  · rw [if_pos hl, if_pos hl]
    unfold bg_ld at *
    rw [h _ hl]
  · rw [if_neg hl, if_neg hl]
theorem bg_R_c {pl mon : Nat → Nat} {G G' : Nat → Int32} {n : Nat} (h : ∀ i, i < n → G i = G' i) (x : Int32) : bg_R pl mon G n x = bg_R pl mon G' n x := by
  unfold bg_R
  rw [show bg_b pl mon G n = bg_b pl mon G' n from funext (fun k => bg_b_c h k)]
theorem bg_ld_lt {pl mon W : Nat → Nat} (O : bg_O pl mon W) (G : Nat → Int32) (i : Nat) : bg_ld mon G i < 32 := (O.2.1 _ (bg_hi_lt _)).1
theorem bg_b_wl {pl mon W : Nat → Nat} (O : bg_O pl mon W) {G : Nat → Int32} {n : Nat} (hG : ∀ i, i < n → G i ≠ 0) {k : Nat} (hk : k < 32) (hl : bg_fd (bg_ld mon G) (mon k) n < n) : bg_wl mon W (bg_b pl mon G n k ^^^ bg_e k) (W (mon k)) := by
  have hy := bg_fd_yes _ _ _ hl
  unfold bg_b
  rw [if_pos hl]
  generalize bg_fd (bg_ld mon G) (mon k) n = j at hl hy
  have hm := (O.2.1 k hk)
  have hj := bg_ld_lt O G j
  obtain ⟨r1, r2⟩ := bg_rest _ hj _ hm.1 hy
  have a := bg_adm O (hG j hl) (t := mon k ^^^ bg_ld mon G j) (bg_xor32 hm.1 hj) r2
  have e : mon (bg_hi (G j)) ||| (mon k ^^^ bg_ld mon G j) = mon k := by
    rw [Nat.or_comm]
    exact r1
  rw [e, hm.2] at a
  exact a
theorem bg_bT {pl mon W : Nat → Nat} (O : bg_O pl mon W) {G : Nat → Int32} {n : Nat} (hG : ∀ i, i < n → G i ≠ 0) : bg_T (bg_b pl mon G n) := by
  intro k hk
  by_cases hl : bg_fd (bg_ld mon G) (mon k) n < n
  · exact Or.inr (bg_top O hk (bg_b_wl O hG hk hl))
  · refine Or.inl ?_
    unfold bg_b
    rw [if_neg hl]
/-- b k isn't 0 where a lead divides -/
theorem bg_b_nz {pl mon W : Nat → Nat} (O : bg_O pl mon W) {G : Nat → Int32} {n : Nat} (hG : ∀ i, i < n → G i ≠ 0) {k i : Nat} (hk : k < 32) (hi : i < n) (hd : bg_d (bg_ld mon G i) (mon k) = true) : bg_b pl mon G n k ≠ 0 := by
  intro e
  have h := (bg_top O hk (bg_b_wl O hG hk (bg_fd_ex _ hi hd))).1
  rw [e, bg_0] at h
  exact absurd h (by decide)
theorem bg_b_z {pl mon : Nat → Nat} {G : Nat → Int32} {n : Nat} {k : Nat} (h : ∀ i, i < n → bg_d (bg_ld mon G i) (mon k) = false) : bg_b pl mon G n k = 0 := by
  unfold bg_b
  rw [if_neg]
  intro hl
  have := bg_fd_yes _ _ _ hl
  rw [h _ hl] at this
  exact absurd this (by decide)
/-- what is closed under sums and multiples and holds the list holds the family -/
theorem bg_b_P {pl mon W : Nat → Nat} (O : bg_O pl mon W) {G : Nat → Int32} {n : Nat} {P : Int32 → Prop} (h0 : P 0) (hm : ∀ i t, i < n → t < 32 → P (bg_ti pl mon (G i) t)) {k : Nat} (hk : k < 32) : P (bg_b pl mon G n k) := by
  unfold bg_b
  by_cases hl : bg_fd (bg_ld mon G) (mon k) n < n
  · rw [if_pos hl]
    exact hm _ _ hl (bg_xor32 (O.2.1 k hk).1 (bg_ld_lt O G _))
  · rw [if_neg hl]
    exact h0
end
section
/-! ===== the completed list: all its multiples reduce to 0 ===== -/
theorem bg_Rx (pl mon : Nat → Nat) (G : Nat → Int32) (n : Nat) (x y : Int32) : bg_R pl mon G n (x ^^^ y) = bg_R pl mon G n x ^^^ bg_R pl mon G n y := bg_rx _ _ _ _
theorem bg_R0 (pl mon : Nat → Nat) (G : Nat → Int32) (n : Nat) : bg_R pl mon G n 0 = 0 := bg_r0 _ _
theorem bg_Rxz {pl mon : Nat → Nat} {G : Nat → Int32} {n : Nat} {x y : Int32} (hx : bg_R pl mon G n x = 0) (hy : bg_R pl mon G n y = 0) : bg_R pl mon G n (x ^^^ y) = 0 := by
  rw [bg_Rx, hx, hy, Int32.xor_self]
/-- from multiples of the list to multiples of all that reduces to 0 -/
theorem bg_mB {pl mon W : Nat → Nat} (O : bg_O pl mon W) {G : Nat → Int32} {n : Nat} (hG : ∀ i, i < n → G i ≠ 0) {w : Nat}
    (A : ∀ i t, i < n → t < 32 → W t + W (bg_ld mon G i) < w → bg_R pl mon G n (bg_ti pl mon (G i) t) = 0)
    {x : Int32} {t c : Nat} (ht : t < 32) (hx : bg_R pl mon G n x = 0) (hw : bg_wl mon W x c) (hc : c + W t ≤ w) : bg_R pl mon G n (bg_ti pl mon x t) = 0 := by
  have T := bg_bT O hG
  have k := bg_r_sp T (P := fun y => bg_R pl mon G n (bg_ti pl mon y t) = 0) (by show bg_R pl mon G n (bg_ti pl mon 0 t) = 0; rw [bg_ti0, bg_R0])
    (fun x y h1 h2 => by show bg_R pl mon G n (bg_ti pl mon (x ^^^ y) t) = 0; rw [bg_tix]; exact bg_Rxz h1 h2)
    (Q := fun j => W (mon j) < c) (fun i j h1 h2 h3 => by
      rcases Nat.lt_or_ge i j with h | h
      · have := (O.2.2.1 i (by omega) j h2).mp h
        show W (mon i) < c
        omega
      · have e : i = j := by omega
        rw [e]; exact h3) 32 (Nat.le_refl _) (fun j hj hq => by
      show bg_R pl mon G n (bg_ti pl mon (bg_b pl mon G n j) t) = 0
      unfold bg_b
      by_cases hl : bg_fd (bg_ld mon G) (mon j) n < n
      · rw [if_pos hl]
        have hy := bg_fd_yes _ _ _ hl
        generalize bg_fd (bg_ld mon G) (mon j) n = i at hl hy
        have hi := bg_ld_lt O G i
        have hm := (O.2.1 j hj).1
        obtain ⟨r1, r2⟩ := bg_rest _ hi _ hm hy
        have hs := bg_xor32 hm hi
        rw [bg_titi O _ hs]
        refine A i _ hl (bg_or32 hs ht) ?_
        have e1 := O.2.2.2.1 _ hs t ht
        have e2 := O.2.2.2.2.1 _ hs _ hi r2
        rw [r1] at e2
        omega
      · rw [if_neg hl, bg_ti0, bg_R0]) x hw
  have e : bg_r (bg_b pl mon G n) 32 x = 0 := hx
  rw [e, Int32.xor_zero] at k
  exact k
theorem bg_main {pl mon W : Nat → Nat} (O : bg_O pl mon W) {G : Nat → Int32} {n : Nat} (hG : ∀ i, i < n → G i ≠ 0)
    (hV : ∀ i v, i < n → v < 5 → (bg_ld mon G i).testBit v = true → bg_R pl mon G n (bg_ti pl mon (G i) (2 ^ v)) = 0)
    (hP : ∀ i j, i < n → j < i → bg_R pl mon G n (bg_ti pl mon (G i) ((bg_ld mon G i ||| bg_ld mon G j) ^^^ bg_ld mon G i) ^^^ bg_ti pl mon (G j) ((bg_ld mon G i ||| bg_ld mon G j) ^^^ bg_ld mon G j)) = 0) :
    ∀ w i t, i < n → t < 32 → W t + W (bg_ld mon G i) < w → bg_R pl mon G n (bg_ti pl mon (G i) t) = 0 := by
  have hP' : ∀ i j, i < n → j < n → i ≠ j → bg_R pl mon G n (bg_ti pl mon (G i) ((bg_ld mon G i ||| bg_ld mon G j) ^^^ bg_ld mon G i) ^^^ bg_ti pl mon (G j) ((bg_ld mon G i ||| bg_ld mon G j) ^^^ bg_ld mon G j)) = 0 := by
    intro i j hi hj hn
    rcases Nat.lt_or_ge j i with h | h
    · exact hP i j hi h
    · have := hP j i hj (by omega)
      rw [Nat.or_comm, Int32.xor_comm] at this
      exact this
  intro w
  induction w with
  | zero => intro i t _ _ h; exact absurd h (by omega)
  | succ w A =>
    intro i t hi ht hw
    have hl := bg_ld_lt O G i
    by_cases hd : t &&& bg_ld mon G i = 0
    · -- admissible: compare with the family's member
      have hm : t ||| bg_ld mon G i < 32 := bg_or32 ht hl
      have hp := O.1 _ hm
      have T := bg_bT O hG
      have hb := bg_r_b T hp.1
      have hf : bg_fd (bg_ld mon G) (mon (pl (t ||| bg_ld mon G i))) n < n := bg_fd_ex _ hi (by rw [hp.2]; exact bg_d_r _ _)
      have hy := bg_fd_yes _ _ _ hf
      unfold bg_b at hb
      rw [if_pos hf] at hb
      rw [hp.2] at hb hf hy
      generalize bg_fd (bg_ld mon G) (t ||| bg_ld mon G i) n = j at hb hf hy
      have hlj := bg_ld_lt O G j
      by_cases e : i = j
      · subst e
        have e2 : (t ||| bg_ld mon G i) ^^^ bg_ld mon G i = t := by
          have := (bg_split3 ht hl hl hd (bg_d_r _ _)).1
          rw [Nat.or_self, Nat.xor_self, Nat.or_zero] at this
          exact this
        rw [e2] at hb
        exact hb
      · have hS := hP' i j hi hf e
        obtain ⟨s1, s2, s3⟩ := bg_split3 ht hl hlj hd hy
        have hbo : bg_ld mon G i ||| bg_ld mon G j < 32 := bg_or32 hl hlj
        have hu := bg_xor32 hm hbo
        have h1 := bg_xor32 hbo hl
        have h2 := bg_xor32 hbo hlj
        obtain ⟨p1, p2⟩ := bg_rest _ hl _ hbo (bg_d_l _ _)
        obtain ⟨q1, q2⟩ := bg_rest _ hlj _ hbo (bg_d_r _ _)
        obtain ⟨u1, u2⟩ := bg_rest _ hbo _ hm s3
        have w1 := bg_adm O (hG i hi) h1 p2
        have w2 := bg_adm O (hG j hf) h2 q2
        have c1 : mon (bg_hi (G i)) ||| ((bg_ld mon G i ||| bg_ld mon G j) ^^^ bg_ld mon G i) = bg_ld mon G i ||| bg_ld mon G j := by
          rw [Nat.or_comm]; exact p1
        have c2 : mon (bg_hi (G j)) ||| ((bg_ld mon G i ||| bg_ld mon G j) ^^^ bg_ld mon G j) = bg_ld mon G i ||| bg_ld mon G j := by
          rw [Nat.or_comm]; exact q1
        rw [c1] at w1
        rw [c2] at w2
        have w3 := bg_wlx w1 w2
        rw [bg_x4, Int32.xor_self, Int32.xor_zero] at w3
        have k := bg_mB O hG A hu hS w3 (by
          have a1 := O.2.2.2.2.1 _ hu _ hbo u2
          rw [u1] at a1
          have a2 := O.2.2.2.2.1 _ ht _ hl hd
          omega)
        rw [bg_tix, bg_titi O _ h1, bg_titi O _ h2, Nat.or_comm _ ((t ||| bg_ld mon G i) ^^^ _), Nat.or_comm _ ((t ||| bg_ld mon G i) ^^^ _), s1, s2] at k
        rw [bg_Rx] at k
        have hb' : bg_R pl mon G n (bg_ti pl mon (G j) ((t ||| bg_ld mon G i) ^^^ bg_ld mon G j)) = 0 := hb
        rw [hb', Int32.xor_zero] at k
        exact k
    · -- a variable of the lead
      obtain ⟨v, hv, v1, v2⟩ := bg_split1 t ht _ hl hd
      obtain ⟨t1, t2, t3, t4, _⟩ := bg_split2 t ht v hv v1
      obtain ⟨_, _, _, _, l5⟩ := bg_split2 _ hl v hv v2
      have ht' := bg_xor32 ht t3
      have h1 := hV i v hi hv v2
      have w1 : bg_wl mon W (bg_ti pl mon (G i) (2 ^ v)) (W (bg_ld mon G i) + W (2 ^ v)) := by
        refine bg_wlt O t3 (fun p hp hb => ?_)
        have o4 := O.2.2.2.1 _ (O.2.1 p hp).1 _ t3
        have o6 := O.2.2.2.2.2 _ t3 t4
        rcases Nat.lt_trichotomy p (bg_hi (G i)) with h | h | h
        · have := (O.2.2.1 p hp _ (bg_hi_lt (G i))).mp h
          unfold bg_ld
          omega
        · rw [h]
          have : mon (bg_hi (G i)) ||| 2 ^ v = mon (bg_hi (G i)) := l5
          rw [this]
          unfold bg_ld
          omega
        · rw [bg_hi_top _ h hp] at hb
          exact absurd hb (by decide)
      have k := bg_mB O hG A ht' h1 w1 (by
        have a1 := O.2.2.2.2.1 _ ht' _ t3 t2
        rw [t1] at a1
        omega)
      rw [bg_titi O _ t3, Nat.or_comm, t1] at k
      exact k
/-- so what reduces to 0 is an ideal -/
theorem bg_ideal {pl mon W : Nat → Nat} (O : bg_O pl mon W) {G : Nat → Int32} {n : Nat} (hG : ∀ i, i < n → G i ≠ 0)
    (hM : ∀ i t, i < n → t < 32 → bg_R pl mon G n (bg_ti pl mon (G i) t) = 0) {x : Int32} (hx : bg_R pl mon G n x = 0) {t : Nat} (ht : t < 32) : bg_R pl mon G n (bg_ti pl mon x t) = 0 := by
  refine bg_r_z (bg_bT O hG) (P := fun y => bg_R pl mon G n (bg_ti pl mon y t) = 0) ?_ ?_ ?_ hx
  · rw [bg_ti0, bg_R0]
  · intro x y h1 h2
    rw [bg_tix]
    exact bg_Rxz h1 h2
  · intro k hk
    refine bg_b_P O (P := fun y => bg_R pl mon G n (bg_ti pl mon y t) = 0) ?_ ?_ hk
    · rw [bg_ti0, bg_R0]
    · intro i s hi hs
      rw [bg_titi O _ hs]
      exact hM i _ hi (bg_or32 hs ht)
end
section
/-! ===== values at points; in order and out of it ===== -/
def bg_v1 (pt m : Nat) : Int32 := if bg_d m pt = true then 1 else 0
def bg_va (f : Int32) (pt : Nat) : Int32 := bg_L (bg_v1 pt) f 32
def bg_ev (mon : Nat → Nat) (x : Int32) (pt : Nat) : Int32 := bg_L (fun p => bg_v1 pt (mon p)) x 32
def bg_out (mon : Nat → Nat) (x : Int32) : Int32 := bg_L (fun p => bg_e (mon p)) x 32
def bg_in (pl : Nat → Nat) (f : Int32) : Int32 := bg_L (fun m => bg_e (pl m)) f 32
theorem bg_evx (mon : Nat → Nat) (x y : Int32) (pt : Nat) : bg_ev mon (x ^^^ y) pt = bg_ev mon x pt ^^^ bg_ev mon y pt := bg_Lx _ _ _ _
theorem bg_ev0 (mon : Nat → Nat) (pt : Nat) : bg_ev mon 0 pt = 0 := bg_L0 _ _
theorem bg_eve (mon : Nat → Nat) {p : Nat} (hp : p < 32) (pt : Nat) : bg_ev mon (bg_e p) pt = bg_v1 pt (mon p) := bg_Le' _ hp
theorem bg_inx (pl : Nat → Nat) (x y : Int32) : bg_in pl (x ^^^ y) = bg_in pl x ^^^ bg_in pl y := bg_Lx _ _ _ _
theorem bg_outx (mon : Nat → Nat) (x y : Int32) : bg_out mon (x ^^^ y) = bg_out mon x ^^^ bg_out mon y := bg_Lx _ _ _ _
theorem bg_in0 (pl : Nat → Nat) : bg_in pl 0 = 0 := bg_L0 _ _
theorem bg_out0 (mon : Nat → Nat) : bg_out mon 0 = 0 := bg_L0 _ _
theorem bg_ine (pl : Nat → Nat) {m : Nat} (hm : m < 32) : bg_in pl (bg_e m) = bg_e (pl m) := bg_Le' _ hm
theorem bg_oute (mon : Nat → Nat) {p : Nat} (hp : p < 32) : bg_out mon (bg_e p) = bg_e (mon p) := bg_Le' _ hp
theorem bg_inout {pl mon W : Nat → Nat} (O : bg_O pl mon W) (x : Int32) : bg_in pl (bg_out mon x) = x := by
  refine bg_lin (P := fun x => bg_in pl (bg_out mon x) = x) ?_ ?_ x ?_
  · rw [bg_out0, bg_in0]
  · intro x y hx hy
    rw [bg_outx, bg_inx, hx, hy]
  · intro p hp _
    rw [bg_oute _ hp, bg_ine _ (O.2.1 p hp).1, (O.2.1 p hp).2]
theorem bg_outin {pl mon W : Nat → Nat} (O : bg_O pl mon W) (x : Int32) : bg_out mon (bg_in pl x) = x := by
  refine bg_lin (P := fun x => bg_out mon (bg_in pl x) = x) ?_ ?_ x ?_
  · rw [bg_in0, bg_out0]
  · intro x y hx hy
    rw [bg_inx, bg_outx, hx, hy]
  · intro p hp _
    rw [bg_ine _ hp, bg_oute _ (O.1 p hp).1, (O.1 p hp).2]
theorem bg_out_t {pl mon W : Nat → Nat} (O : bg_O pl mon W) (x : Int32) {m : Nat} (hm : m < 32) : bg_t (bg_out mon x) m = bg_t x (pl m) := by
  refine bg_lin (P := fun x => bg_t (bg_out mon x) m = bg_t x (pl m)) ?_ ?_ x ?_
  · rw [bg_out0, bg_0, bg_0]
  · intro x y hx hy
    rw [bg_outx, bg_xor, bg_xor, hx, hy]
  · intro p hp _
    rw [bg_oute _ hp, bg_te (O.2.1 p hp).1 hm, bg_te hp (O.1 m hm).1]
    by_cases e : m = mon p
    · rw [decide_eq_true e, e, decide_eq_true (O.2.1 p hp).2]
    · rw [decide_eq_false e, decide_eq_false]
      intro h
      apply e
      rw [← h, (O.1 m hm).2]
theorem bg_in_t {pl mon W : Nat → Nat} (O : bg_O pl mon W) (x : Int32) {p : Nat} (hp : p < 32) : bg_t (bg_in pl x) p = bg_t x (mon p) := by
  have h := bg_out_t O (bg_in pl x) (O.2.1 p hp).1
  rw [bg_outin O, (O.2.1 p hp).2] at h
  exact h.symm
theorem bg_vaout {pl mon W : Nat → Nat} (O : bg_O pl mon W) (x : Int32) (pt : Nat) : bg_va (bg_out mon x) pt = bg_ev mon x pt := by
  refine bg_lin (P := fun x => bg_va (bg_out mon x) pt = bg_ev mon x pt) ?_ ?_ x ?_
  · rw [bg_out0, bg_ev0]
    exact bg_L0 _ _
  · intro x y hx hy
    rw [bg_outx, bg_evx, ← hx, ← hy]
    exact bg_Lx _ _ _ _
  · intro p hp _
    rw [bg_oute _ hp, bg_eve _ hp]
    exact bg_Le' _ (O.2.1 p hp).1
theorem bg_evin {pl mon W : Nat → Nat} (O : bg_O pl mon W) (f : Int32) (pt : Nat) : bg_ev mon (bg_in pl f) pt = bg_va f pt := by
  rw [← bg_vaout O, bg_outin O]
theorem bg_ev01 (mon : Nat → Nat) (x : Int32) (pt : Nat) : bg_ev mon x pt = 0 ∨ bg_ev mon x pt = 1 := by
  refine bg_LP (P := fun y => y = 0 ∨ y = 1) (Or.inl rfl) ?_ _ x 32 ?_
  · intro x y hx hy
    rcases hx with hx | hx <;> rcases hy with hy | hy <;> rw [hx, hy] <;> decide
  · intro p _ _
    show bg_v1 pt (mon p) = 0 ∨ bg_v1 pt (mon p) = 1
    unfold bg_v1
    split
    · exact Or.inr rfl
    · exact Or.inl rfl
theorem bg_evt {pl mon W : Nat → Nat} (O : bg_O pl mon W) (x : Int32) {t : Nat} (ht : t < 32) (pt : Nat) : bg_ev mon (bg_ti pl mon x t) pt = if bg_d t pt = true then bg_ev mon x pt else 0 := by
  refine bg_lin (P := fun x => bg_ev mon (bg_ti pl mon x t) pt = if bg_d t pt = true then bg_ev mon x pt else 0) ?_ ?_ x ?_
  · rw [bg_ti0, bg_ev0, ite_self]
  · intro x y hx hy
    rw [bg_tix, bg_evx, hx, hy, bg_evx]
    split
    · rfl
    · rw [Int32.xor_self]
  · intro p hp _
    have h1 : mon p ||| t < 32 := bg_or32 (O.2.1 p hp).1 ht
    rw [bg_tie _ _ hp, bg_eve _ (O.1 _ h1).1, bg_eve _ hp, (O.1 _ h1).2]
    unfold bg_v1
    rw [bg_d_or]
    cases bg_d (mon p) pt <;> cases bg_d t pt <;> rfl
theorem bg_evt0 {pl mon W : Nat → Nat} (O : bg_O pl mon W) {x : Int32} {t : Nat} (ht : t < 32) {pt : Nat} (h : bg_ev mon x pt = 0) : bg_ev mon (bg_ti pl mon x t) pt = 0 := by
  rw [bg_evt O x ht, h, ite_self]
/-! products -/
def bg_mu (pl mon : Nat → Nat) (x y : Int32) : Int32 := bg_L (fun p => bg_ti pl mon x (mon p)) y 32
theorem bg_andx (a b c : Int32) : a &&& (b ^^^ c) = (a &&& b) ^^^ (a &&& c) := by
  apply bg_ext; intro i _; simp only [bg_xor, bg_and]; cases bg_t a i <;> cases bg_t b i <;> cases bg_t c i <;> rfl
theorem bg_evm {pl mon W : Nat → Nat} (O : bg_O pl mon W) (x y : Int32) (pt : Nat) : bg_ev mon (bg_mu pl mon x y) pt = bg_ev mon x pt &&& bg_ev mon y pt := by
  refine bg_lin (P := fun y => bg_ev mon (bg_mu pl mon x y) pt = bg_ev mon x pt &&& bg_ev mon y pt) ?_ ?_ y ?_
  · have e : bg_mu pl mon x 0 = 0 := bg_L0 _ _
    rw [e, bg_ev0, Int32.and_zero]
  · intro y z hy hz
    have e : bg_mu pl mon x (y ^^^ z) = bg_mu pl mon x y ^^^ bg_mu pl mon x z := bg_Lx _ _ _ _
    rw [e, bg_evx, hy, hz, bg_evx, bg_andx]
  · intro p hp _
    have e : bg_mu pl mon x (bg_e p) = bg_ti pl mon x (mon p) := bg_Le' _ hp
    rw [e, bg_evt O x (O.2.1 p hp).1, bg_eve _ hp]
    unfold bg_v1
    split
    · rcases bg_ev01 mon x pt with h | h <;> rw [h] <;> decide
    · rw [Int32.and_zero]
/-! a polynomial is known by its values -/
theorem bg_inj {pl mon W : Nat → Nat} (O : bg_O pl mon W) {z : Int32} (h : ∀ pt, pt < 32 → bg_ev mon z pt = 0) : z = 0 := by
  have key : ∀ m, m < 32 → bg_t z (pl m) = false := by
    intro m
    induction m using Nat.strongRecOn with
    | ind m ih =>
      intro hm
      cases hb : bg_t z (pl m)
      · rfl
      · exfalso
        have hp := O.1 m hm
        have h1 : bg_ev mon (z ^^^ bg_e (pl m)) m = 0 := by
          refine bg_LP (P := fun y => y = 0) rfl (fun x y hx hy => by rw [hx, hy, Int32.xor_self]) _ _ 32 ?_
          intro p hpp hbp
          show bg_v1 m (mon p) = 0
          unfold bg_v1
          rw [if_neg]
          intro hd
          rw [bg_xor, bg_te hp.1 hpp] at hbp
          by_cases e : p = pl m
          · rw [e, hb] at hbp
            simp at hbp
          · rw [decide_eq_false e, Bool.xor_false] at hbp
            have hle := bg_d_le hd
            have hne : mon p ≠ m := by
              intro e2
              apply e
              rw [← e2, (O.2.1 p hpp).2]
            have := ih (mon p) (by omega) (by omega)
            rw [(O.2.1 p hpp).2] at this
            rw [this] at hbp
            exact absurd hbp (by decide)
        rw [bg_evx, h m hm, bg_eve _ hp.1, hp.2] at h1
        unfold bg_v1 at h1
        rw [if_pos (bg_d_refl m)] at h1
        exact absurd h1 (by decide)
  apply bg_ext
  intro i hi
  have := key (mon i) (O.2.1 i hi).1
  rw [(O.2.1 i hi).2] at this
  rw [this, bg_0]
/-- and any values are some polynomial's -/
theorem bg_sur {pl mon W : Nat → Nat} (O : bg_O pl mon W) (φ : Nat → Bool) : ∃ x, ∀ pt, pt < 32 → bg_ev mon x pt = if φ pt = true then 1 else 0 := by
  have key : ∀ k, k ≤ 32 → ∃ x, ∀ pt, pt < k → bg_ev mon x pt = if φ pt = true then 1 else 0 := by
    intro k
    induction k with
    | zero => intro _; exact ⟨0, fun pt h => absurd h (by omega)⟩
    | succ k ih =>
      intro hk
      obtain ⟨x, hx⟩ := ih (by omega)
      by_cases h : bg_ev mon x k = if φ k = true then 1 else 0
      · refine ⟨x, fun pt hpt => ?_⟩
        by_cases e : pt = k
        · rw [e]; exact h
        · exact hx pt (by omega)
      · have hp := O.1 k (by omega)
        refine ⟨x ^^^ bg_e (pl k), fun pt hpt => ?_⟩
        rw [bg_evx, bg_eve _ hp.1, hp.2]
        unfold bg_v1
        by_cases e : pt = k
        · rw [e, if_pos (bg_d_refl k)]
          rcases bg_ev01 mon x k with h1 | h1 <;> rw [h1] at h ⊢ <;> cases hφ : φ k <;> rw [hφ] at h <;> first | exact absurd rfl h | decide
        · rw [if_neg, Int32.xor_zero]
          · exact hx pt (by omega)
          · intro hd
            have := bg_d_le hd
            omega
  exact key 32 (Nat.le_refl _)
/-! ===== all that vanishes on the common zeros reduces to 0 ===== -/
def bg_u (pl mon : Nat → Nat) (g : Nat → Int32) : Nat → Int32
  | 0 => 0
  | i + 1 => bg_u pl mon g i ^^^ (g i ^^^ bg_mu pl mon (g i) (bg_u pl mon g i))
theorem bg_null {pl mon W : Nat → Nat} (O : bg_O pl mon W) {G : Nat → Int32} {n : Nat}
    (hM : ∀ x t, bg_R pl mon G n x = 0 → t < 32 → bg_R pl mon G n (bg_ti pl mon x t) = 0) {g : Nat → Int32} {c : Nat} (hg : ∀ i, i < c → bg_R pl mon G n (g i) = 0)
    {x : Int32} (hx : ∀ pt, pt < 32 → (∀ i, i < c → bg_ev mon (g i) pt = 0) → bg_ev mon x pt = 0) : bg_R pl mon G n x = 0 := by
  have hmu : ∀ y z, bg_R pl mon G n y = 0 → bg_R pl mon G n (bg_mu pl mon y z) = 0 := by
    intro y z hy
    refine bg_LP (P := fun y => bg_R pl mon G n y = 0) (bg_R0 _ _ _ _) (fun x y h1 h2 => bg_Rxz h1 h2) _ z 32 ?_
    intro p hp _
    exact hM y _ hy (O.2.1 p hp).1
  have hu : ∀ i, i ≤ c → bg_R pl mon G n (bg_u pl mon g i) = 0 := by
    intro i
    induction i with
    | zero => intro _; exact bg_R0 _ _ _ _
    | succ i ih =>
      intro hi
      have h1 := hg i (by omega)
      exact bg_Rxz (ih (by omega)) (bg_Rxz h1 (hmu _ _ h1))
  have hv : ∀ pt i, (∃ j, j < i ∧ bg_ev mon (g j) pt = 1) → bg_ev mon (bg_u pl mon g i) pt = 1 := by
    intro pt i
    induction i with
    | zero => intro h; obtain ⟨j, hj, _⟩ := h; exact absurd hj (by omega)
    | succ i ih =>
      intro h
      obtain ⟨j, hj, hb⟩ := h
      show bg_ev mon (bg_u pl mon g i ^^^ (g i ^^^ bg_mu pl mon (g i) (bg_u pl mon g i))) pt = 1
      rw [bg_evx, bg_evx, bg_evm O]
      by_cases e : j = i
      · rw [← e, hb]
        rcases bg_ev01 mon (bg_u pl mon g j) pt with h | h <;> rw [h] <;> decide
      · rw [ih ⟨j, by omega, hb⟩]
        rcases bg_ev01 mon (g i) pt with h | h <;> rw [h] <;> decide
  have e : bg_mu pl mon (bg_u pl mon g c) x = x := by
    apply bg_xz
    refine bg_inj O (fun pt hpt => ?_)
    rw [bg_evx, bg_evm O]
    by_cases hz : ∀ i, i < c → bg_ev mon (g i) pt = 0
    · rw [hx pt hpt hz, Int32.and_zero, Int32.xor_self]
    · have : ∃ j, j < c ∧ bg_ev mon (g j) pt = 1 := by
        apply Classical.byContradiction
        intro hn
        apply hz
        intro i hi
        rcases bg_ev01 mon (g i) pt with h | h
        · exact h
        · exact absurd ⟨i, hi, h⟩ hn
      rw [hv pt c this]
      rcases bg_ev01 mon x pt with h | h <;> rw [h] <;> decide
  rw [← e]
  exact hmu _ _ (hu c (Nat.le_refl _))
/-! ===== a list that is a basis of the ideal of Z ===== -/
def bg_GB (pl mon : Nat → Nat) (G : Nat → Int32) (n : Nat) (Z : Nat → Prop) : Prop :=
  (∀ i, i < n → G i ≠ 0) ∧ (∀ i, i < n → ∀ pt, pt < 32 → Z pt → bg_ev mon (G i) pt = 0) ∧ (∀ x, (∀ pt, pt < 32 → Z pt → bg_ev mon x pt = 0) → bg_R pl mon G n x = 0)
theorem bg_van {pl mon W : Nat → Nat} (O : bg_O pl mon W) {G : Nat → Int32} {n : Nat} {Z : Nat → Prop} (hG : ∀ i, i < n → G i ≠ 0) (hz : ∀ i, i < n → ∀ pt, pt < 32 → Z pt → bg_ev mon (G i) pt = 0) (x : Int32) {pt : Nat} (hpt : pt < 32) (h : Z pt) : bg_ev mon (bg_R pl mon G n x) pt = bg_ev mon x pt := by
  have k := bg_r_s (bg_bT O hG) (P := fun y => bg_ev mon y pt = 0) (bg_ev0 _ _) (fun x y h1 h2 => by show bg_ev mon (x ^^^ y) pt = 0; rw [bg_evx, h1, h2, Int32.xor_self])
    (fun k hk => bg_b_P O (P := fun y => bg_ev mon y pt = 0) (bg_ev0 _ _) (fun i t hi ht => bg_evt0 O ht (hz i hi pt hpt h)) hk) x
  have k' : bg_ev mon (x ^^^ bg_R pl mon G n x) pt = 0 := k
  rw [bg_evx] at k'
  exact (bg_xz k').symm
theorem bg_GBz {pl mon W : Nat → Nat} (O : bg_O pl mon W) {G : Nat → Int32} {n : Nat} {Z : Nat → Prop} (h : bg_GB pl mon G n Z) {x : Int32} : bg_R pl mon G n x = 0 ↔ ∀ pt, pt < 32 → Z pt → bg_ev mon x pt = 0 := by
  constructor
  · intro hx pt hpt hz
    rw [← bg_van O h.1 h.2.1 x hpt hz, hx, bg_ev0]
  · exact h.2.2 x
theorem bg_GBc {pl mon : Nat → Nat} {G G' : Nat → Int32} {n : Nat} {Z Z' : Nat → Prop} (h : bg_GB pl mon G n Z) (e : ∀ i, i < n → G i = G' i) (ez : ∀ pt, pt < 32 → (Z pt ↔ Z' pt)) : bg_GB pl mon G' n Z' := by
  refine ⟨fun i hi => by rw [← e i hi]; exact h.1 i hi, fun i hi pt hpt hz => by rw [← e i hi]; exact h.2.1 i hi pt hpt ((ez pt hpt).mpr hz), fun x hx => ?_⟩
  rw [← bg_R_c e]
  exact h.2.2 x (fun pt hpt hz => hx pt hpt ((ez pt hpt).mp hz))
/-- the least ones of a basis are one -/
theorem bg_keep {pl mon W : Nat → Nat} (O : bg_O pl mon W) {G H : Nat → Int32} {n m : Nat} {Z : Nat → Prop} (h : bg_GB pl mon G n Z)
    (h1 : ∀ i, i < m → H i ≠ 0) (h2 : ∀ i, i < m → ∀ pt, pt < 32 → Z pt → bg_ev mon (H i) pt = 0) (h3 : ∀ i, i < n → ∃ j, j < m ∧ bg_d (bg_ld mon H j) (bg_ld mon G i) = true) : bg_GB pl mon H m Z := by
  refine ⟨h1, h2, fun x hx => ?_⟩
  have hv : ∀ pt, pt < 32 → Z pt → bg_ev mon (bg_R pl mon H m x) pt = 0 := by
    intro pt hpt hz
    rw [bg_van O h1 h2 x hpt hz]
    exact hx pt hpt hz
  have hr := h.2.2 _ hv
  have e : bg_R pl mon G n (bg_R pl mon H m x) = bg_R pl mon H m x := by
    refine bg_r_id 32 _ (fun p hp hb => ?_)
    refine bg_b_z (fun i hi => ?_)
    cases hd : bg_d (bg_ld mon G i) (mon p)
    · rfl
    · obtain ⟨j, hj, hdj⟩ := h3 i hi
      have hnz := bg_b_nz O h1 hp hj (bg_d_trans hdj hd)
      have := bg_r_no (bg_bT O h1) 32 (Nat.le_refl _) x p hp hnz
      have hb' : bg_t (bg_r (bg_b pl mon H m) 32 x) p = true := hb
      rw [this] at hb'
      exact absurd hb' (by decide)
  rw [← e]
  exact hr
end
section
/-! ===== counting: as many standard monomials as zeros ===== -/
def bg_cn (f : Nat → Bool) : Nat → Nat
  | 0 => 0
  | n + 1 => bg_cn f n + (if f n = true then 1 else 0)
theorem bg_cn_le (f : Nat → Bool) (n : Nat) : bg_cn f n ≤ n := by
  induction n with
  | zero => exact Nat.le_refl _
  | succ n ih =>
    show bg_cn f n + (if f n = true then 1 else 0) ≤ n + 1
    split <;> omega
def bg_sb (f : Nat → Bool) : Nat → List Int32
  | 0 => [0]
  | n + 1 => if f n = true then bg_sb f n ++ (bg_sb f n).map (fun x => x ^^^ bg_e n) else bg_sb f n
theorem bg_sb_len (f : Nat → Bool) (n : Nat) : (bg_sb f n).length = 2 ^ bg_cn f n := by
  induction n with
  | zero => rfl
  | succ n ih =>
    unfold bg_sb bg_cn
    by_cases h : f n = true
    · rw [if_pos h, if_pos h, List.length_append, List.length_map, ih, Nat.pow_succ]
      omega
    · rw [if_neg h, if_neg h, ih, Nat.add_zero]
theorem bg_sb_mem (f : Nat → Bool) (n : Nat) (hn : n ≤ 32) : ∀ x, x ∈ bg_sb f n ↔ ∀ i, i < 32 → bg_t x i = true → i < n ∧ f i = true := by
  induction n with
  | zero =>
    intro x
    unfold bg_sb
    rw [List.mem_singleton]
    constructor
    · intro h i _ hb
      rw [h, bg_0] at hb
      exact absurd hb (by decide)
    · intro h
      apply bg_ext
      intro i hi
      rw [bg_0]
      cases hb : bg_t x i
      · rfl
      · exact absurd (h i hi hb).1 (by omega)
  | succ n ih =>
    intro x
    unfold bg_sb
    have old : ∀ y, (∀ i, i < 32 → bg_t y i = true → i < n ∧ f i = true) → (∀ i, i < 32 → bg_t y i = true → i < n + 1 ∧ f i = true) := fun y h i hi hb => ⟨by have := (h i hi hb).1; omega, (h i hi hb).2⟩
    by_cases h : f n = true
    · rw [if_pos h, List.mem_append, List.mem_map, ih (by omega) x]
      constructor
      · intro k
        rcases k with k | ⟨y, hy, rfl⟩
        · exact old x k
        · rw [ih (by omega) y] at hy
          intro i hi hb
          rw [bg_xor, bg_te (by omega) hi] at hb
          by_cases e : i = n
          · rw [e]; exact ⟨by omega, h⟩
          · rw [decide_eq_false e, Bool.xor_false] at hb
            exact old y hy i hi hb
      · intro k
        cases hb : bg_t x n
        · refine Or.inl (fun i hi hbi => ?_)
          have := k i hi hbi
          refine ⟨?_, this.2⟩
          by_cases e : i = n
          · rw [e, hb] at hbi; exact absurd hbi (by decide)
          · omega
        · refine Or.inr ⟨x ^^^ bg_e n, ?_, ?_⟩
          · rw [ih (by omega)]
            intro i hi hbi
            rw [bg_xor, bg_te (by omega) hi] at hbi
            by_cases e : i = n
            · rw [e, hb] at hbi
              simp at hbi
            · rw [decide_eq_false e, Bool.xor_false] at hbi
              have := k i hi hbi
              exact ⟨by omega, this.2⟩
          · rw [Int32.xor_assoc, Int32.xor_self, Int32.xor_zero]
    · rw [if_neg h, ih (by omega) x]
      constructor
      · exact old x
      · intro k i hi hb
        have := k i hi hb
        refine ⟨?_, this.2⟩
        by_cases e : i = n
        · rw [e] at this; exact absurd this.2 h
        · omega
theorem bg_sb_nd (f : Nat → Bool) (n : Nat) (hn : n ≤ 32) : (bg_sb f n).Nodup := by
  induction n with
  | zero => exact List.nodup_cons.mpr ⟨List.not_mem_nil, List.nodup_nil⟩
  | succ n ih =>
    unfold bg_sb
    by_cases h : f n = true
    · rw [if_pos h, List.nodup_append]
      refine ⟨ih (by omega), ?_, ?_⟩
      · refine List.Pairwise.map _ (R := fun a b => a ≠ b) ?_ (ih (by omega))
        intro a b hab e
        apply hab
        exact (Int32.xor_left_inj (bg_e n)).mp e
      · intro a ha b hb e
        rw [List.mem_map] at hb
        obtain ⟨y, hy, rfl⟩ := hb
        rw [bg_sb_mem f n (by omega)] at ha hy
        have hyn : bg_t y n = false := by
          cases hb : bg_t y n
          · rfl
          · exact absurd (hy n (by omega) hb).1 (by omega)
        have : bg_t a n = true := by
          rw [e, bg_xor, hyn, bg_te (by omega) (by omega)]
          simp
        exact absurd (ha n (by omega) this).1 (by omega)
    · rw [if_neg h]
      exact ih (by omega)
theorem bg_pig {f g : Nat → Bool} (Φ : Int32 → Int32) (h1 : ∀ x, x ∈ bg_sb f 32 → Φ x ∈ bg_sb g 32) (h2 : ∀ x y, x ∈ bg_sb f 32 → y ∈ bg_sb f 32 → Φ x = Φ y → x = y) : bg_cn f 32 ≤ bg_cn g 32 := by
  have nd : ((bg_sb f 32).map Φ).Nodup := by
    unfold List.Nodup
    rw [List.pairwise_map]
    refine List.Pairwise.imp_of_mem ?_ (bg_sb_nd f 32 (Nat.le_refl _))
    intro a b ha hb hab e
    exact hab (h2 a b ha hb e)
  have sub : (bg_sb f 32).map Φ ⊆ bg_sb g 32 := by
    intro y hy
    rw [List.mem_map] at hy
    obtain ⟨x, hx, rfl⟩ := hy
    exact h1 x hx
  have l := List.Nodup.length_le_of_subset nd sub
  rw [List.length_map, bg_sb_len, bg_sb_len] at l
  exact (Nat.pow_le_pow_iff_right (by omega)).mp l
/-- an int by its bits -/
def bg_pk (h : Nat → Bool) : Nat → Int32
  | 0 => 0
  | n + 1 => bg_pk h n ^^^ (if h n = true then bg_e n else 0)
theorem bg_pkb (h : Nat → Bool) {n : Nat} (hn : n ≤ 32) {i : Nat} (hi : i < 32) : bg_t (bg_pk h n) i = (decide (i < n) && h i) := by
  induction n with
  | zero =>
    show bg_t 0 i = _
    rw [bg_0, decide_eq_false (by omega)]
    rfl
  | succ n ih =>
    show bg_t (bg_pk h n ^^^ (if h n = true then bg_e n else 0)) i = _
    rw [bg_xor, ih (by omega)]
    by_cases e : i = n
    · subst e
      rw [decide_eq_false (by omega), decide_eq_true (by omega), Bool.false_and, Bool.true_and, Bool.false_xor]
      by_cases hh : h i = true
      · rw [if_pos hh, bg_te hi hi, hh]
        simp
      · rw [if_neg hh, bg_0]
        simpa using hh
    · have hz : bg_t (if h n = true then bg_e n else 0) i = false := by
        by_cases hh : h n = true
        · rw [if_pos hh, bg_te (by omega) hi]
          simpa using e
        · rw [if_neg hh, bg_0]
      rw [hz, Bool.xor_false]
      by_cases hl : i < n
      · rw [decide_eq_true hl, decide_eq_true (by omega)]
      · rw [decide_eq_false hl, decide_eq_false (by omega)]
/-- m is led: some lead divides it -/
def bg_led (mon : Nat → Nat) (G : Nat → Int32) (m : Nat) : Nat → Bool
  | 0 => false
  | n + 1 => bg_led mon G m n || bg_d (bg_ld mon G n) m
theorem bg_led_iff (mon : Nat → Nat) (G : Nat → Int32) (m n : Nat) : bg_led mon G m n = true ↔ ∃ i, i < n ∧ bg_d (bg_ld mon G i) m = true := by
  induction n with
  | zero => exact ⟨fun h => absurd h (by unfold bg_led; decide), fun ⟨i, hi, _⟩ => absurd hi (by omega)⟩
  | succ n ih =>
    unfold bg_led
    rw [Bool.or_eq_true, ih]
    constructor
    · intro h
      rcases h with ⟨i, hi, h⟩ | h
      · exact ⟨i, by omega, h⟩
      · exact ⟨n, by omega, h⟩
    · rintro ⟨i, hi, h⟩
      by_cases e : i = n
      · subst e; exact Or.inr h
      · exact Or.inl ⟨i, by omega, h⟩
theorem bg_count {pl mon W : Nat → Nat} (O : bg_O pl mon W) {G : Nat → Int32} {n : Nat} {Z : Nat → Bool} (h : bg_GB pl mon G n (fun pt => Z pt = true)) : bg_cn (fun m => !bg_led mon G m n) 32 = bg_cn Z 32 := by
  have T := bg_bT O h.1
  apply Nat.le_antisymm
  · refine bg_pig (fun y => bg_pk (fun pt => Z pt && (bg_va y pt == 1)) 32) ?_ ?_
    · intro x _
      rw [bg_sb_mem _ _ (Nat.le_refl _)]
      intro i hi hb
      rw [bg_pkb _ (Nat.le_refl _) hi] at hb
      simp at hb
      exact ⟨hi, hb.2.1⟩
    · intro x y hx hy e
      rw [bg_sb_mem _ _ (Nat.le_refl _)] at hx hy
      have hv : ∀ pt, pt < 32 → Z pt = true → bg_ev mon (bg_in pl x ^^^ bg_in pl y) pt = 0 := by
        intro pt hpt hz
        have e1 : bg_t (bg_pk (fun pt => Z pt && (bg_va x pt == 1)) 32) pt = bg_t (bg_pk (fun pt => Z pt && (bg_va y pt == 1)) 32) pt := congrArg (fun u => bg_t u pt) e
        rw [bg_pkb _ (Nat.le_refl _) hpt, bg_pkb _ (Nat.le_refl _) hpt, hz] at e1
        rw [bg_evx, bg_evin O, bg_evin O]
        have a := bg_ev01 mon (bg_in pl x) pt
        have b := bg_ev01 mon (bg_in pl y) pt
        rw [bg_evin O] at a b
        rcases a with a | a <;> rcases b with b | b <;> rw [a, b] at e1 ⊢ <;> first | decide | (simp [hpt] at e1)
      have hr := h.2.2 _ hv
      have e2 : bg_R pl mon G n (bg_in pl x ^^^ bg_in pl y) = bg_in pl x ^^^ bg_in pl y := by
        refine bg_r_id 32 _ (fun p hp hb => bg_b_z (fun i hi => ?_))
        rw [bg_xor, bg_in_t O _ hp, bg_in_t O _ hp] at hb
        have hl : bg_led mon G (mon p) n = false := by
          cases hbx : bg_t x (mon p)
          · rw [hbx, Bool.false_xor] at hb
            simpa using (hy _ (O.2.1 p hp).1 hb).2
          · simpa using (hx _ (O.2.1 p hp).1 hbx).2
        cases hd : bg_d (bg_ld mon G i) (mon p)
        · rfl
        · rw [(bg_led_iff _ _ _ _).mpr ⟨i, hi, hd⟩] at hl
          exact absurd hl (by decide)
      rw [hr] at e2
      have e3 := bg_xz e2.symm
      rw [← bg_outin O x, ← bg_outin O y, e3]
  · have hc : ∀ v : Int32, ∃ x, ∀ pt, pt < 32 → bg_ev mon x pt = if bg_t v pt = true then 1 else 0 := fun v => bg_sur O (bg_t v)
    obtain ⟨I, hI⟩ := Classical.axiomOfChoice hc
    refine bg_pig (fun v => bg_out mon (bg_R pl mon G n (I v))) ?_ ?_
    · intro v _
      rw [bg_sb_mem _ _ (Nat.le_refl _)]
      intro i hi hb
      refine ⟨hi, ?_⟩
      rw [bg_out_t O _ hi] at hb
      cases hl : bg_led mon G i n
      · rfl
      · exfalso
        obtain ⟨j, hj, hd⟩ := (bg_led_iff _ _ _ _).mp hl
        have hp := O.1 i hi
        have := bg_r_no T 32 (Nat.le_refl _) (I v) (pl i) hp.1 (bg_b_nz O h.1 hp.1 hj (by rw [hp.2]; exact hd))
        have hb' : bg_t (bg_r (bg_b pl mon G n) 32 (I v)) (pl i) = true := hb
        rw [this] at hb'
        exact absurd hb' (by decide)
    · intro v w hv hw e
      rw [bg_sb_mem _ _ (Nat.le_refl _)] at hv hw
      have e1 : bg_R pl mon G n (I v) = bg_R pl mon G n (I w) := by
        rw [← bg_inout O (bg_R pl mon G n (I v)), ← bg_inout O (bg_R pl mon G n (I w))]
        exact congrArg _ e
      apply bg_ext
      intro i hi
      by_cases hz : Z i = true
      · have a := bg_van O h.1 h.2.1 (I v) hi hz
        have b := bg_van O h.1 h.2.1 (I w) hi hz
        rw [e1, b, hI v i hi, hI w i hi] at a
        cases hx : bg_t v i <;> cases hy : bg_t w i <;> rw [hx, hy] at a <;> first | rfl | exact absurd a (by decide)
      · have a : bg_t v i = false := by
          cases hb : bg_t v i
          · rfl
          · exact absurd (hv i hi hb).2 hz
        have b : bg_t w i = false := by
          cases hb : bg_t w i
          · rfl
          · exact absurd (hw i hi hb).2 hz
        rw [a, b]
end
section
/-! ===== the work list grows ===== -/
theorem bg_R_app {pl mon W : Nat → Nat} (O : bg_O pl mon W) {G G' : Nat → Int32} {n : Nat} (h : ∀ i, i < n → G i = G' i) (hG : ∀ i, i < n + 1 → G' i ≠ 0) {x : Int32} (hx : bg_R pl mon G n x = 0) : bg_R pl mon G' (n + 1) x = 0 := by
  rw [bg_R_c h] at hx
  refine bg_r_z (bg_bT O (fun i hi => hG i (by omega))) (P := fun y => bg_R pl mon G' (n + 1) y = 0) (bg_R0 _ _ _ _) (fun x y h1 h2 => bg_Rxz h1 h2) (fun k hk => ?_) hx
  by_cases hl : bg_fd (bg_ld mon G') (mon k) n < n
  · have e : bg_b pl mon G' n k = bg_b pl mon G' (n + 1) k := by
      unfold bg_b
      rw [bg_fd_app _ hl, if_pos hl, if_pos (by omega)]
    rw [e]
    exact bg_r_b (bg_bT O hG) hk
  · have e : bg_b pl mon G' n k = 0 := by
      unfold bg_b
      rw [if_neg hl]
    rw [e, bg_R0]
/-- the work list: leads known, no lead divided by an earlier one, all vanish on Z -/
def bg_WK (mon : Nat → Nat) (Z : Nat → Prop) (n : Nat) (a5 a6 : Nat → Int32) : Prop :=
  (∀ i, i < n → a5 i ≠ 0) ∧ (∀ i, i < n → a6 i = nI (bg_ld mon a5 i)) ∧ (∀ j i, j < i → i < n → bg_d (bg_ld mon a5 j) (bg_ld mon a5 i) = false) ∧ (∀ i, i < n → ∀ pt, pt < 32 → Z pt → bg_ev mon (a5 i) pt = 0)
theorem bg_WK32 {pl mon W : Nat → Nat} (O : bg_O pl mon W) {Z : Nat → Prop} {n : Nat} {a5 a6 : Nat → Int32} (h : bg_WK mon Z n a5 a6) : n ≤ 32 := by
  have nd : ((List.range n).map (bg_ld mon a5)).Nodup := by
    unfold List.Nodup
    rw [List.pairwise_map]
    refine List.Pairwise.imp_of_mem ?_ (List.pairwise_lt_range (n := n))
    intro a b _ hb hab e
    rw [List.mem_range] at hb
    have := h.2.2.1 a b hab hb
    rw [e, bg_d_refl] at this
    exact absurd this (by decide)
  have sub : (List.range n).map (bg_ld mon a5) ⊆ List.range 32 := by
    intro y hy
    rw [List.mem_map] at hy
    obtain ⟨i, _, rfl⟩ := hy
    rw [List.mem_range]
    exact bg_ld_lt O a5 i
  have l := List.Nodup.length_le_of_subset nd sub
  rw [List.length_map, List.length_range, List.length_range] at l
  exact l
/-- and the generators so far reduce to 0 -/
def bg_K (pl mon : Nat → Nat) (Z : Nat → Prop) (g : Nat → Int32) (c n : Nat) (a5 a6 : Nat → Int32) : Prop :=
  bg_WK mon Z n a5 a6 ∧ ∀ i, i < c → bg_R pl mon a5 n (g i) = 0
theorem bg_WK_c {mon : Nat → Nat} {Z : Nat → Prop} {n : Nat} {a5 a6 b5 b6 : Nat → Int32} (h : bg_WK mon Z n a5 a6) (e5 : ∀ i, i < n → b5 i = a5 i) (e6 : ∀ i, i < n → b6 i = a6 i) : bg_WK mon Z n b5 b6 := by
  have e : ∀ i, i < n → bg_ld mon b5 i = bg_ld mon a5 i := fun i hi => by unfold bg_ld; rw [e5 i hi]
  refine ⟨fun i hi => by rw [e5 i hi]; exact h.1 i hi, fun i hi => by rw [e6 i hi, e i hi]; exact h.2.1 i hi, fun j i hj hi => by rw [e i hi, e j (by omega)]; exact h.2.2.1 j i hj hi, fun i hi => by rw [e5 i hi]; exact h.2.2.2 i hi⟩
theorem bg_enter {pl mon W : Nat → Nat} (O : bg_O pl mon W) {Z : Nat → Prop} {g : Nat → Int32} {c n : Nat} {a5 a6 : Nat → Int32} (h : bg_K pl mon Z g c n a5 a6) {x r : Int32} (hx : ∀ pt, pt < 32 → Z pt → bg_ev mon x pt = 0) (hr : bg_R pl mon a5 n x = r) (hn : r ≠ 0) :
    bg_K pl mon Z g c (n + 1) (upd a5 n r) (upd a6 n (nI (mon (bg_hi r)))) ∧ bg_R pl mon (upd a5 n r) (n + 1) x = 0 := by
  obtain ⟨⟨h1, h2, h3, h4⟩, h5⟩ := h
  have T := bg_bT O h1
  have e5 : ∀ i, i < n → a5 i = upd a5 n r i := fun i hi => (pk_un (by omega)).symm
  have el : ∀ i, i < n → bg_ld mon (upd a5 n r) i = bg_ld mon a5 i := fun i hi => by unfold bg_ld; rw [← e5 i hi]
  have en : bg_ld mon (upd a5 n r) n = mon (bg_hi r) := by unfold bg_ld; rw [pk_us]
  have nz : ∀ i, i < n + 1 → upd a5 n r i ≠ 0 := by
    intro i hi
    by_cases e : i = n
    · rw [e, pk_us]; exact hn
    · rw [← e5 i (by omega)]; exact h1 i (by omega)
  have hnd : ∀ j, j < n → bg_d (bg_ld mon a5 j) (mon (bg_hi r)) = false := by
    intro j hj
    cases hd : bg_d (bg_ld mon a5 j) (mon (bg_hi r))
    · rfl
    · have a := bg_r_no T 32 (Nat.le_refl _) x (bg_hi r) (bg_hi_lt r) (bg_b_nz O h1 (bg_hi_lt r) hj hd)
      have b : bg_t (bg_r (bg_b pl mon a5 n) 32 x) (bg_hi r) = true := by
        have e : bg_r (bg_b pl mon a5 n) 32 x = r := hr
        rw [e]
        exact bg_hi_bit hn
      rw [a] at b
      exact absurd b (by decide)
  have wk : bg_WK mon Z (n + 1) (upd a5 n r) (upd a6 n (nI (mon (bg_hi r)))) := by
    refine ⟨nz, ?_, ?_, ?_⟩
    · intro i hi
      by_cases e : i = n
      · rw [e, pk_us, en]
      · rw [pk_un e, el i (by omega)]; exact h2 i (by omega)
    · intro j i hj hi
      by_cases e : i = n
      · rw [e, en, el j (by omega)]; exact hnd j (by omega)
      · rw [el i (by omega), el j (by omega)]; exact h3 j i hj (by omega)
    · intro i hi pt hpt hz
      by_cases e : i = n
      · rw [e, pk_us, ← hr, bg_van O h1 h4 x hpt hz]; exact hx pt hpt hz
      · rw [← e5 i (by omega)]; exact h4 i (by omega) pt hpt hz
  refine ⟨⟨wk, fun i hi => bg_R_app O e5 nz (h5 i hi)⟩, ?_⟩
  have q1 : bg_R pl mon a5 n (x ^^^ r) = 0 := by
    have e : bg_R pl mon a5 n r = r := by
      rw [← hr]; exact bg_rr T x
    rw [bg_Rx, hr, e, Int32.xor_self]
  have q2 := bg_R_app O e5 nz q1
  have q3 : bg_b pl mon (upd a5 n r) (n + 1) (bg_hi r) = r := by
    have f : bg_fd (bg_ld mon (upd a5 n r)) (mon (bg_hi r)) (n + 1) = n := bg_fd_eq _ (by omega) (by rw [en]; exact bg_d_refl _) (fun j hj => by rw [el j hj]; exact hnd j hj)
    unfold bg_b
    rw [f, if_pos (by omega), en, Nat.xor_self, pk_us]
    exact bg_ti1 O r
  have q4 : bg_R pl mon (upd a5 n r) (n + 1) r = 0 := by
    have := bg_r_b (bg_bT O nz) (bg_hi_lt r)
    rw [q3] at this
    exact this
  rw [bg_Rx, q4, Int32.xor_zero] at q2
  exact q2
/-- variables done, pairs done -/
def bg_Vd (pl mon : Nat → Nat) (n : Nat) (G : Nat → Int32) : Prop := ∀ i v, i < n → v < 5 → (bg_ld mon G i).testBit v = true → bg_R pl mon G n (bg_ti pl mon (G i) (2 ^ v)) = 0
def bg_sp (pl mon : Nat → Nat) (G : Nat → Int32) (i j : Nat) : Int32 := bg_ti pl mon (G i) ((bg_ld mon G i ||| bg_ld mon G j) ^^^ bg_ld mon G i) ^^^ bg_ti pl mon (G j) ((bg_ld mon G i ||| bg_ld mon G j) ^^^ bg_ld mon G j)
def bg_Pd (pl mon : Nat → Nat) (n : Nat) (G : Nat → Int32) : Prop := ∀ i j, i < n → j < i → bg_R pl mon G n (bg_sp pl mon G i j) = 0
theorem bg_done {pl mon W : Nat → Nat} (O : bg_O pl mon W) {Z : Nat → Prop} {g : Nat → Int32} {c n : Nat} {a5 a6 : Nat → Int32} (h : bg_K pl mon Z g c n a5 a6) (hV : bg_Vd pl mon n a5) (hP : bg_Pd pl mon n a5)
    (hZ : ∀ pt, pt < 32 → (∀ i, i < c → bg_ev mon (g i) pt = 0) → Z pt) : bg_GB pl mon a5 n Z := by
  obtain ⟨⟨h1, h2, h3, h4⟩, h5⟩ := h
  have M := bg_main O h1 hV hP
  have hM : ∀ i t, i < n → t < 32 → bg_R pl mon a5 n (bg_ti pl mon (a5 i) t) = 0 := fun i t hi ht => M (W t + W (bg_ld mon a5 i) + 1) i t hi ht (by omega)
  refine ⟨h1, h4, fun x hx => ?_⟩
  exact bg_null O (fun x t hx ht => bg_ideal O h1 hM hx ht) h5 (fun pt hpt hg => hx pt hpt (hZ pt hpt hg))
theorem bg_evti {pl mon W : Nat → Nat} (O : bg_O pl mon W) {Z : Nat → Prop} {n : Nat} {a5 a6 : Nat → Int32} (h : bg_WK mon Z n a5 a6) {i t : Nat} (hi : i < n) (ht : t < 32) : ∀ pt, pt < 32 → Z pt → bg_ev mon (bg_ti pl mon (a5 i) t) pt = 0 := fun pt hpt hz => bg_evt0 O ht (h.2.2.2 i hi pt hpt hz)
theorem bg_evsp {pl mon W : Nat → Nat} (O : bg_O pl mon W) {Z : Nat → Prop} {n : Nat} {a5 a6 : Nat → Int32} (h : bg_WK mon Z n a5 a6) {i j : Nat} (hi : i < n) (hj : j < n) : ∀ pt, pt < 32 → Z pt → bg_ev mon (bg_sp pl mon a5 i j) pt = 0 := by
  intro pt hpt hz
  have l1 := bg_ld_lt O a5 i
  have l2 := bg_ld_lt O a5 j
  have lo := bg_or32 l1 l2
  unfold bg_sp
  rw [bg_evx, bg_evti O h hi (bg_xor32 lo l1) pt hpt hz, bg_evti O h hj (bg_xor32 lo l2) pt hpt hz, Int32.xor_self]
/-! ===== the least ones ===== -/
def bg_lst (mon : Nat → Nat) (n : Nat) (G : Nat → Int32) (i : Nat) : Prop := ∀ j, j < n → j ≠ i → bg_d (bg_ld mon G j) (bg_ld mon G i) = false
theorem bg_lst_ex {pl mon W : Nat → Nat} (O : bg_O pl mon W) {Z : Nat → Prop} {n : Nat} {a5 a6 : Nat → Int32} (h : bg_WK mon Z n a5 a6) {i : Nat} (hi : i < n) : ∃ j, j < n ∧ bg_lst mon n a5 j ∧ bg_d (bg_ld mon a5 j) (bg_ld mon a5 i) = true := by
  obtain ⟨k, ⟨j, hj, hk, hd⟩, hmin⟩ := pk_least (fun k => ∃ j, j < n ∧ bg_ld mon a5 j = k ∧ bg_d (bg_ld mon a5 j) (bg_ld mon a5 i) = true) ⟨_, i, hi, rfl, bg_d_refl _⟩
  refine ⟨j, hj, fun l hl hne => ?_, hd⟩
  cases hdl : bg_d (bg_ld mon a5 l) (bg_ld mon a5 j)
  · rfl
  · exfalso
    have hle := bg_d_le hdl
    have hneq : bg_ld mon a5 l ≠ bg_ld mon a5 j := by
      intro e
      rcases Nat.lt_trichotomy l j with q | q | q
      · have := h.2.2.1 l j q hj
        rw [hdl] at this
        exact absurd this (by decide)
      · exact hne q
      · have := h.2.2.1 j l q hl
        rw [← e, bg_d_refl] at this
        exact absurd this (by decide)
    exact hmin (bg_ld mon a5 l) (by omega) ⟨l, hl, rfl, bg_d_trans hdl hd⟩
/-- the tail reduced -/
def bg_rt (pl mon : Nat → Nat) (n : Nat) (G : Nat → Int32) (x : Int32) : Int32 := bg_e (bg_hi x) ||| bg_R pl mon G n (x &&& (bg_e (bg_hi x) ^^^ (-1)))
theorem bg_tail {x : Int32} (hx : x ≠ 0) : x &&& (bg_e (bg_hi x) ^^^ (-1)) = x ^^^ bg_e (bg_hi x) := by
  apply bg_ext
  intro i hi
  rw [bg_and, bg_xor, bg_xor, bg_m1 i hi, bg_te (bg_hi_lt x) hi]
  by_cases e : i = bg_hi x
  · rw [e, bg_hi_bit hx]
    simp
  · rw [decide_eq_false e]
    simp
theorem bg_rt_ok {pl mon W : Nat → Nat} (O : bg_O pl mon W) {Z : Nat → Prop} {n : Nat} {a5 a6 : Nat → Int32} (h : bg_WK mon Z n a5 a6) {i : Nat} (hi : i < n) :
    bg_rt pl mon n a5 (a5 i) ≠ 0 ∧ bg_hi (bg_rt pl mon n a5 (a5 i)) = bg_hi (a5 i) ∧ ∀ pt, pt < 32 → Z pt → bg_ev mon (bg_rt pl mon n a5 (a5 i)) pt = 0 := by
  have T := bg_bT O h.1
  have hx := h.1 i hi
  have hl := bg_hi_lt (a5 i)
  have tz : ∀ p, bg_hi (a5 i) ≤ p → p < 32 → bg_t (a5 i ^^^ bg_e (bg_hi (a5 i))) p = false := by
    intro p h1 h2
    rw [bg_xor, bg_te hl h2]
    by_cases e : p = bg_hi (a5 i)
    · rw [e, bg_hi_bit hx]; simp
    · rw [decide_eq_false e, bg_hi_top _ (by omega) h2]; rfl
  have rz : ∀ p, bg_hi (a5 i) ≤ p → p < 32 → bg_t (bg_R pl mon a5 n (a5 i ^^^ bg_e (bg_hi (a5 i)))) p = false := by
    intro p h1 h2
    have e := bg_r_sk (b := bg_b pl mon a5 n) (c := bg_hi (a5 i)) (32 - bg_hi (a5 i)) (a5 i ^^^ bg_e (bg_hi (a5 i))) (fun q q1 q2 => tz q q1 (by omega))
    rw [show bg_hi (a5 i) + (32 - bg_hi (a5 i)) = 32 by omega] at e
    show bg_t (bg_r (bg_b pl mon a5 n) 32 _) p = false
    rw [e, bg_r_hi T _ (by omega) _ p h1 h2]
    exact tz p h1 h2
  have eq : bg_rt pl mon n a5 (a5 i) = bg_e (bg_hi (a5 i)) ^^^ bg_R pl mon a5 n (a5 i ^^^ bg_e (bg_hi (a5 i))) := by
    unfold bg_rt
    rw [bg_tail hx]
    apply bg_ext
    intro p hp
    rw [bg_or, bg_xor, bg_te hl hp]
    by_cases e : p = bg_hi (a5 i)
    · rw [rz p (by omega) hp, Bool.or_false, Bool.xor_false]
    · rw [decide_eq_false e, Bool.false_or, Bool.false_xor]
  have hb : bg_t (bg_rt pl mon n a5 (a5 i)) (bg_hi (a5 i)) = true := by
    rw [eq, bg_xor, bg_te hl hl, rz _ (Nat.le_refl _) hl]
    simp
  refine ⟨?_, ?_, ?_⟩
  · intro e
    rw [e, bg_0] at hb
    exact absurd hb (by decide)
  · refine bg_hi_eq hl hb (fun p h1 h2 => ?_)
    rw [eq, bg_xor, bg_te hl h2, rz p (by omega) h2, decide_eq_false (by omega)]
    rfl
  · intro pt hpt hz
    rw [eq, bg_evx, bg_van O h.1 h.2.2.2 _ hpt hz, bg_evx, h.2.2.2 i hi pt hpt hz, Int32.zero_xor, Int32.xor_self]
end
section
/-! ===== walks: the methods that store nothing ===== -/
theorem bg_nor (a b : Nat) : nI a ||| nI b = nI (a ||| b) := by
  apply Int32.toBitVec_inj.1
  show BitVec.ofNat 32 a ||| BitVec.ofNat 32 b = BitVec.ofNat 32 (a ||| b)
  apply BitVec.eq_of_getLsbD_eq
  intro i hi
  simp [hi]
theorem bg_n1 : ∀ a, a < 32 → ∀ b, b < 32 → (nI a &&& (nI b ^^^ (-1)) = 0 ↔ bg_d a b = true) := by decide +kernel
theorem bg_n2 : ∀ a, a < 32 → ∀ b, b < 32 → bg_d a b = true → nI b &&& (nI a ^^^ (-1)) = nI (b ^^^ a) := by decide +kernel
theorem bg_n3 : ∀ v, v < 5 → ((1 : Int32) <<< (nI v &&& 31)) = nI (2 ^ v) := by decide +kernel
theorem bg_n4 : ∀ v, v < 5 → ∀ a, a < 32 → (((nI a) >>> (nI v &&& 31)) &&& 1 = 1 ↔ a.testBit v = true) := by decide +kernel
theorem bg_n5 : ∀ m, m < 32 → (0 : Int32) + ((nI m >>> ((0 : Int32) &&& 31)) &&& 1) + ((nI m >>> ((1 : Int32) &&& 31)) &&& 1) + ((nI m >>> ((2 : Int32) &&& 31)) &&& 1) + ((nI m >>> ((3 : Int32) &&& 31)) &&& 1) + ((nI m >>> ((4 : Int32) &&& 31)) &&& 1) = nI (bg_ones m) := by decide +kernel
def bg_A (pl mon : Nat → Nat) (a3 a4 : Nat → Int32) : Prop := (∀ m, m < 32 → a3 m = nI (pl m)) ∧ (∀ p, p < 32 → a4 p = nI (mon p))
theorem bg_w_ones {post : Int32 → Prop} {m : Nat} (hm : m < 32) (H : post (nI (bg_ones m))) : wpX_ones post () (nI m) := by
  refine ⟨6, pk_le 5 0 (fun z => absurd z (by omega)) (fun _ => nm_e (nm_r (e' := 1) (by rfl) ?_))⟩
  refine pk_le 5 1 (fun z => absurd z (by omega)) (fun _ => nm_e (nm_r (e' := 2) (by rfl) ?_))
  refine pk_le 5 2 (fun z => absurd z (by omega)) (fun _ => nm_e (nm_r (e' := 3) (by rfl) ?_))
  refine pk_le 5 3 (fun z => absurd z (by omega)) (fun _ => nm_e (nm_r (e' := 4) (by rfl) ?_))
  refine pk_le 5 4 (fun z => absurd z (by omega)) (fun _ => nm_e (nm_r (e' := 5) (by rfl) ?_))
  refine pk_le 5 5 (fun _ => ?_) (fun z => absurd z (by omega))
  rw [bg_n5 m hm]
  exact H
theorem bg_w_id {post : Int32 → Prop} {k : Nat} (hk : k < 2) (H : post 1) : wpX_isIdeal post () (nI k) := by
  match k, hk with
  | 0, _ => exact br_t rfl H
  | 1, _ => exact br_f (by decide) (br_t rfl H)
theorem bg_w_hi {post : Int32 → Prop} (x : Int32) (H : post (nI (bg_hi x))) : wpX_highest post () x := by
  have key : ∀ p, p < 32 → post (nI (bg_hn x p)) → wX_highest_3 post x (p + 1) (nI p) := by
    intro p
    induction p with
    | zero => intro _ h; exact pk_le 0 0 (fun _ => h) (fun z => absurd z (by omega))
    | succ p ih =>
      intro hp h
      refine pk_le (p + 1) 0 (fun z => absurd z (by omega)) (fun _ => ek_if (bg_b0 x hp) (fun hb => nm_r (pk_m1 p) (ih (by omega) ?_)) (fun hb => ?_))
      · have e : bg_hn x (p + 1) = bg_hn x p := if_neg (by rw [hb]; decide)
        rw [e] at h
        exact h
      · have e : bg_hn x (p + 1) = p + 1 := if_pos (by simpa using hb)
        rw [e] at h
        exact h
  exact ⟨32, key 31 (by omega) H⟩
section
variable {pl mon W : Nat → Nat} {fk fw : Int32} {a1 a2 a3 a4 a5 a6 a7 a8 a9 : Nat → Int32}
theorem bg_w_times {post : Int32 → Prop} (O : bg_O pl mon W) (A : bg_A pl mon a3 a4) (x : Int32) {t : Nat} (ht : t < 32) (H : post (bg_ti pl mon x t)) : wpX_times post (fk, fw, a1, a2, a3, a4, a5, a6, a7, a8, a9) x (nI t) := by
  refine pk_loop (fun n i s => wX_times_5 post x (nI t) fk fw a1 a2 a3 a4 a5 a6 a7 a8 a9 n s (nI i)) (fun i s => s = bg_L (fun p => bg_e (pl (mon p ||| t))) x i) 32 0 0 (by omega) rfl ?_ ?_
  · intro n s h
    refine pk_le 32 32 (fun _ => ?_) (fun z => absurd z (by omega))
    rw [h]
    exact H
  · intro n i s hi h hw
    have hm := (O.2.1 i hi).1
    have ho := bg_or32 hm ht
    have e1 : a4 (nI i).toNatClampNeg ||| nI t = nI (mon i ||| t) := by rw [nI_clamp (by omega), A.2 i hi, bg_nor]
    refine pk_le 32 i (fun z => absurd z (by omega)) (fun _ => ek_if (bg_b1 x hi) (fun hb => ⟨pk_in i 32 hi, ?_⟩) (fun hb => nm_r (nI_1 i) (hw _ ?_)))
    · rw [e1]
      refine ⟨pk_in _ 32 ho, nm_e (nm_r (nI_1 i) (hw _ ?_))⟩
      rw [nI_clamp (by omega), A.1 _ ho, h]
      show _ = bg_L _ x i ^^^ (if bg_t x i = true then bg_e (pl (mon i ||| t)) else 0)
      rw [if_pos hb]
      rfl
    · rw [h]
      show _ = bg_L _ x i ^^^ (if bg_t x i = true then bg_e (pl (mon i ||| t)) else 0)
      rw [if_neg hb, Int32.xor_zero]
/-- one place of a reduction -/
theorem bg_w_red12 {post : Int32 → Prop} {J : Int32 → Int32 → Prop} (O : bg_O pl mon W) (A : bg_A pl mon a3 a4) {n : Nat} (hn : n ≤ 40) (h5 : ∀ i, i < n → a5 i ≠ 0) (h6 : ∀ i, i < n → a6 i = nI (bg_ld mon a5 i)) (x : Int32) {p : Nat} (hp : p < 32) (H : J (bg_st (bg_b pl mon a5 n) p x) (nI p + (-1))) :
    ∃ f, wX_reduce_12 post J (nI p) fk (nI n) a1 a2 a3 a4 a5 a6 a7 a8 a9 f x 0 := by
  cases hb : bg_t x p
  · rw [bg_st_n hb] at H
    exact ⟨1, pk_le n 0 (fun _ => nm_e H) (fun _ => br_f (by rw [bg_b1 x hp, hb]; decide) (nm_e H))⟩
  · rw [bg_st_y hb] at H
    have hm := (O.2.1 p hp).1
    have fl := bg_fd_le (bg_ld mon a5) (mon p) n
    refine Exists.elim (pk_loop (σ := Unit) (fun f i _ => wX_reduce_12 post J (nI p) fk (nI n) a1 a2 a3 a4 a5 a6 a7 a8 a9 (f + 1) x (nI i)) (fun _ _ => True) (bg_fd (bg_ld mon a5) (mon p) n) 0 () (by omega) trivial ?_ ?_) (fun f hf => ⟨f + 1, hf⟩)
    · intro f _ _
      refine pk_le n (bg_fd (bg_ld mon a5) (mon p) n) (fun z => ?_) (fun z => ?_)
      · have e : bg_b pl mon a5 n p = 0 := by unfold bg_b; rw [if_neg (by omega)]
        rw [e, Int32.xor_zero] at H
        exact nm_e H
      · have hd := bg_fd_yes _ _ _ z
        have T := bg_bT O h5 p hp
        have e : bg_b pl mon a5 n p = bg_ti pl mon (a5 (bg_fd (bg_ld mon a5) (mon p) n)) (mon p ^^^ bg_ld mon a5 (bg_fd (bg_ld mon a5) (mon p) n)) := by unfold bg_b; rw [if_pos z]
        rw [e] at H T
        have hl := bg_ld_lt O a5 (bg_fd (bg_ld mon a5) (mon p) n)
        generalize bg_fd (bg_ld mon a5) (mon p) n = j at *
        refine br_t ((bg_b1 x hp).mpr hb) ⟨pk_in j 40 (by omega), pk_in p 32 hp, ?_⟩
        rw [nI_clamp (show j < 2 ^ 31 by omega), nI_clamp (show p < 2 ^ 31 by omega), h6 j z, A.2 p hp]
        refine br_t ((bg_n1 _ hl _ hm).mpr hd) ⟨pk_in j 40 (by omega), pk_in p 32 hp, pk_in j 40 (by omega), ?_⟩
        rw [bg_n2 _ hl _ hm hd]
        refine bg_w_times O A _ (bg_xor32 hm hl) (nm_e (nm_r (nI_1 j) ?_))
        refine pk_le n (j + 1) (fun _ => nm_e H) (fun _ => br_f ?_ (nm_e H))
        rw [bg_b1 _ hp, bg_xor, hb]
        rcases T with T | T
        · exfalso
          have q := bg_b_nz O h5 (k := p) hp z hd
          rw [e] at q
          exact q T
        · rw [T.1]; decide
    · intro f i _ hi _ hw
      have hnd := bg_fd_no _ _ _ i hi
      refine pk_le n i (fun z => absurd z (by omega)) (fun z => br_t ((bg_b1 x hp).mpr hb) ⟨pk_in i 40 (by omega), pk_in p 32 hp, ?_⟩)
      rw [nI_clamp (show i < 2 ^ 31 by omega), nI_clamp (show p < 2 ^ 31 by omega), h6 i z, A.2 p hp]
      refine br_f ?_ (nm_r (nI_1 i) (hw () trivial))
      rw [bg_n1 _ (bg_ld_lt O a5 i) _ hm, hnd]
      decide
theorem bg_w_red {post : Int32 → Prop} (O : bg_O pl mon W) (A : bg_A pl mon a3 a4) {n : Nat} (hn : n ≤ 40) (h5 : ∀ i, i < n → a5 i ≠ 0) (h6 : ∀ i, i < n → a6 i = nI (bg_ld mon a5 i)) (x : Int32) (H : post (bg_R pl mon a5 n x)) :
    wpX_reduce post (fk, nI n, a1, a2, a3, a4, a5, a6, a7, a8, a9) x := by
  refine ⟨33, pk_loopD (fun f i s => i ≤ 32 → wX_reduce_5 post fk (nI n) a1 a2 a3 a4 a5 a6 a7 a8 a9 f s (nI i + (-1))) (fun i s => post (bg_r (bg_b pl mon a5 n) i s)) ?_ ?_ 32 x H (Nat.le_refl _)⟩
  · intro f s h _
    exact br_t (by decide) h
  · intro f i s h hw hi
    show wX_reduce_5 post fk (nI n) a1 a2 a3 a4 a5 a6 a7 a8 a9 (f + 1) s (nI (i + 1) + (-1))
    rw [pk_m1]
    exact br_f (nI_pos (by omega)) (bg_w_red12 O A hn h5 h6 s (by omega) (hw _ h (by omega)))
theorem bg_w_rt {post : Int32 → Prop} (O : bg_O pl mon W) (A : bg_A pl mon a3 a4) {n : Nat} (hn : n ≤ 40) (h5 : ∀ i, i < n → a5 i ≠ 0) (h6 : ∀ i, i < n → a6 i = nI (bg_ld mon a5 i)) {i : Nat} (hi : i < n) (H : post (bg_rt pl mon n a5 (a5 i))) :
    wpX_reduceTail post (fk, nI n, a1, a2, a3, a4, a5, a6, a7, a8, a9) (nI i) := by
  refine ⟨pk_in i 40 (by omega), ?_⟩
  rw [nI_clamp (show i < 2 ^ 31 by omega)]
  exact bg_w_hi _ (nm_e ⟨pk_in i 40 (by omega), bg_w_red O A hn h5 h6 _ H⟩)
theorem bg_w_va {post : Int32 → Prop} (f : Int32) {pt : Nat} (hpt : pt < 32) (H : post (bg_va f pt)) : wpX_valueAt post () f (nI pt) := by
  refine pk_loop (fun n i s => wX_valueAt_4 post f (nI pt) n s (nI i)) (fun i s => s = bg_L (bg_v1 pt) f i) 32 0 0 (by omega) rfl ?_ ?_
  · intro n s h
    refine pk_le 32 32 (fun _ => ?_) (fun z => absurd z (by omega))
    rw [h]
    exact H
  · intro n i s hi h hw
    have e : bg_L (bg_v1 pt) f (i + 1) = s ^^^ (if bg_t f i = true then bg_v1 pt i else 0) := by rw [h]; rfl
    unfold bg_v1 at e
    refine pk_le 32 i (fun z => absurd z (by omega)) (fun _ => ek_if (bg_b1 f hi) (fun hb => ek_if (bg_n1 i hi pt hpt) (fun hd => nm_e (nm_r (nI_1 i) (hw _ ?_))) (fun hd => nm_r (nI_1 i) (hw _ ?_))) (fun hb => nm_r (nI_1 i) (hw _ ?_)))
    · rw [if_pos hb, if_pos hd] at e
      exact e.symm
    · rw [if_pos hb, if_neg hd, Int32.xor_zero] at e
      exact e.symm
    · rw [if_neg hb, Int32.xor_zero] at e
      exact e.symm
theorem bg_orx {x y : Int32} {q : Nat} (hq : q < 32) (h : bg_t x q = false) (hy : y = bg_e q ∨ y = 0) : x ||| y = x ^^^ y := by
  rcases hy with hy | hy
  · rw [hy]
    apply bg_ext
    intro i hi
    rw [bg_or, bg_xor, bg_te hq hi]
    by_cases e : i = q
    · rw [e, h, Bool.false_or, Bool.false_xor]
    · rw [decide_eq_false e, Bool.or_false, Bool.xor_false]
  · rw [hy, Int32.or_zero, Int32.xor_zero]
theorem bg_sh (c : Bool) {q : Nat} (hq : q < 32) : (if c = true then (1 : Int32) else 0) <<< (nI q &&& 31) = if c = true then bg_e q else 0 := by
  cases c
  · show (0 : Int32) <<< (nI q &&& 31) = 0
    apply bg_ext
    intro i hi
    rw [bg_shl q hq 0 hi, bg_0, bg_0, Bool.and_false]
  · rfl
/-- one step of inOrder, outOfOrder -/
theorem bg_ord {q : Nat → Nat} (h1 : ∀ i, i < 32 → q i < 32) (h2 : ∀ i j, i < 32 → j < 32 → q i = q j → i = j) (f : Int32) {i : Nat} (hi : i < 32) :
    bg_L (fun p => bg_e (q p)) f i ||| ((if bg_t f i = true then (1 : Int32) else 0) <<< (nI (q i) &&& 31)) = bg_L (fun p => bg_e (q p)) f (i + 1) := by
  rw [bg_sh _ (h1 i hi)]
  show _ = bg_L (fun p => bg_e (q p)) f i ^^^ (if bg_t f i = true then bg_e (q i) else 0)
  refine bg_orx (h1 i hi) ?_ ?_
  · refine bg_LP (P := fun y => bg_t y (q i) = false) (bg_0 _) (fun x y hx hy => by show bg_t (x ^^^ y) (q i) = false; rw [bg_xor, hx, hy]; rfl) _ f i ?_
    intro p hp _
    show bg_t (bg_e (q p)) (q i) = false
    rw [bg_te (h1 p (by omega)) (h1 i hi), decide_eq_false]
    intro e
    have := h2 i p hi (by omega) e
    omega
  · split
    · exact Or.inl rfl
    · exact Or.inr rfl
theorem bg_w_in {post : Int32 → Prop} (O : bg_O pl mon W) (A : bg_A pl mon a3 a4) (f : Int32) (H : post (bg_in pl f)) : wpX_inOrder post (fk, fw, a1, a2, a3, a4, a5, a6, a7, a8, a9) f := by
  refine pk_loop (fun n i s => wX_inOrder_4 post f fk fw a1 a2 a3 a4 a5 a6 a7 a8 a9 n s (nI i)) (fun i s => s = bg_L (fun p => bg_e (pl p)) f i) 32 0 0 (by omega) rfl ?_ ?_
  · intro n s h
    refine pk_le 32 32 (fun _ => ?_) (fun z => absurd z (by omega))
    rw [h]
    exact H
  · intro n i s hi h hw
    refine pk_le 32 i (fun z => absurd z (by omega)) (fun _ => ⟨pk_in i 32 hi, ?_⟩)
    rw [nI_clamp (show i < 2 ^ 31 by omega), A.1 i hi, bg_bv f hi, h]
    refine nm_r (bg_ord (fun i hi => (O.1 i hi).1) (fun i j hi hj e => by rw [← (O.1 i hi).2, e, (O.1 j hj).2]) f hi) (nm_r (nI_1 i) (hw _ rfl))
theorem bg_w_out {post : Int32 → Prop} (O : bg_O pl mon W) (A : bg_A pl mon a3 a4) (f : Int32) (H : post (bg_out mon f)) : wpX_outOfOrder post (fk, fw, a1, a2, a3, a4, a5, a6, a7, a8, a9) f := by
  refine pk_loop (fun n i s => wX_outOfOrder_4 post f fk fw a1 a2 a3 a4 a5 a6 a7 a8 a9 n s (nI i)) (fun i s => s = bg_L (fun p => bg_e (mon p)) f i) 32 0 0 (by omega) rfl ?_ ?_
  · intro n s h
    refine pk_le 32 32 (fun _ => ?_) (fun z => absurd z (by omega))
    rw [h]
    exact H
  · intro n i s hi h hw
    refine pk_le 32 i (fun z => absurd z (by omega)) (fun _ => ⟨pk_in i 32 hi, ?_⟩)
    rw [nI_clamp (show i < 2 ^ 31 by omega), A.2 i hi, bg_bv f hi, h]
    refine nm_r (bg_ord (fun i hi => (O.2.1 i hi).1) (fun i j hi hj e => by rw [← (O.2.1 i hi).2, e, (O.2.1 j hj).2]) f hi) (nm_r (nI_1 i) (hw _ rfl))
end
end
section
/-! ===== walks: zeros of the generators, enter ===== -/
def bg_zb (a1 : Nat → Int32) (c k pt : Nat) : Bool := decide (∀ i, i < c → bg_va (a1 (8 * k + i)) pt = 0)
theorem bg_zb_iff {a1 : Nat → Int32} {c k pt : Nat} : bg_zb a1 c k pt = true ↔ ∀ i, i < c → bg_va (a1 (8 * k + i)) pt = 0 := decide_eq_true_iff
theorem bg_va01 (f : Int32) (pt : Nat) : bg_va f pt = 0 ∨ bg_va f pt = 1 := bg_ev01 (fun p => p) f pt
theorem bg_ix8 (k i : Nat) : (8 : Int32) * nI k + nI i = nI (8 * k + i) := by
  rw [show (8 : Int32) = nI 8 from rfl, pk_mul, nI_add]
theorem bg_ix32 (k i : Nat) : (32 : Int32) * nI k + nI i = nI (32 * k + i) := by
  rw [show (32 : Int32) = nI 32 from rfl, pk_mul, nI_add]
section
variable {pl mon W : Nat → Nat} {fk fw : Int32} {a1 a2 a3 a4 a5 a6 a7 a8 a9 : Nat → Int32}
theorem bg_w_isz {post : Int32 → Prop} {k c pt : Nat} (hk : k < 2) (hc : c ≤ 8) (h2 : a2 k = nI c) (hpt : pt < 32) (H1 : bg_zb a1 c k pt = true → post 1) (H0 : bg_zb a1 c k pt = false → post 0) : wpX_isZero post (fk, fw, a1, a2, a3, a4, a5, a6, a7, a8, a9) (nI k) (nI pt) := by
  refine pk_loop (σ := Unit) (fun n i _ => wX_isZero_2 post (nI k) (nI pt) fk fw a1 a2 a3 a4 a5 a6 a7 a8 a9 n (nI i)) (fun i _ => ∀ j, j < i → bg_va (a1 (8 * k + j)) pt = 0) c 0 () (by omega) (fun j hj => absurd hj (by omega)) ?_ ?_
  · intro n _ h
    refine ⟨pk_in k 2 hk, ?_⟩
    rw [nI_clamp (show k < 2 ^ 31 by omega), h2]
    exact pk_le c c (fun _ => H1 (bg_zb_iff.mpr h)) (fun z => absurd z (by omega))
  · intro n i _ hi h hw
    refine ⟨pk_in k 2 hk, ?_⟩
    rw [nI_clamp (show k < 2 ^ 31 by omega), h2, bg_ix8]
    refine pk_le c i (fun z => absurd z (by omega)) (fun _ => ⟨pk_in (8 * k + i) 16 (by omega), ?_⟩)
    rw [nI_clamp (show 8 * k + i < 2 ^ 31 by omega)]
    refine bg_w_va _ hpt (br_c (fun e => H0 ?_) (fun e => nm_r (nI_1 i) (hw () (fun j hj => ?_))))
    · cases hz : bg_zb a1 c k pt
      · rfl
      · have := bg_zb_iff.mp hz i hi
        rw [this] at e
        exact absurd e (by decide)
    · by_cases ej : j = i
      · rw [ej]
        rcases bg_va01 (a1 (8 * k + i)) pt with q | q
        · exact q
        · exact absurd q e
      · exact h j (by omega)
theorem bg_w_nz30 {post : Int32 → Prop} {k c s : Nat} (hk : k < 2) (hc : c ≤ 8) (h2 : a2 k = nI c) (hs : s ≤ 32)
    (H1 : ∀ p, s ≤ p → p < 32 → bg_zb a1 c k p = true → (∀ j, s ≤ j → j < p → bg_zb a1 c k j = false) → post (nI p)) (H2 : (∀ j, s ≤ j → j < 32 → bg_zb a1 c k j = false) → post (-2)) :
    ∃ f, wX_nextZero_30 post (nI k) fk fw a1 a2 a3 a4 a5 a6 a7 a8 a9 f (nI s) := by
  refine pk_loop (σ := Unit) (fun n i _ => s ≤ i → wX_nextZero_30 post (nI k) fk fw a1 a2 a3 a4 a5 a6 a7 a8 a9 n (nI i)) (fun i _ => ∀ j, s ≤ j → j < i → bg_zb a1 c k j = false) 32 s () hs (fun j h1 h2 => absurd h1 (by omega)) ?_ ?_ |>.elim (fun f hf => ⟨f, hf (Nat.le_refl _)⟩)
  · intro n _ h _
    exact pk_le 32 32 (fun _ => H2 h) (fun z => absurd z (by omega))
  · intro n i _ hi h hw hsi
    refine pk_le 32 i (fun z => absurd z (by omega)) (fun _ => bg_w_isz hk hc h2 hi (fun hz => br_f (by decide) (H1 i hsi hi hz h)) (fun hz => br_t rfl (nm_r (nI_1 i) (hw () (fun j h1 h2 => ?_) (by omega)))))
    by_cases ej : j = i
    · rw [ej]; exact hz
    · exact h j h1 (by omega)
/-- nextZero: p1 is one below s -/
theorem bg_w_nz {post : Int32 → Prop} {k c s : Nat} {p1 : Int32} (hk : k < 2) (hc : c ≤ 8) (h2 : a2 k = nI c) (hs : s ≤ 32) (hp : p1 = nI s + (-1))
    (H1 : ∀ p, s ≤ p → p < 32 → bg_zb a1 c k p = true → (∀ j, s ≤ j → j < p → bg_zb a1 c k j = false) → post (nI p)) (H2 : (∀ j, s ≤ j → j < 32 → bg_zb a1 c k j = false) → post (-2)) :
    wpX_nextZero post (fk, fw, a1, a2, a3, a4, a5, a6, a7, a8, a9) (nI k) p1 := by
  unfold wpX_nextZero
  refine bg_w_id hk ?_
  refine br_f (by decide) ?_
  by_cases e0 : s = 0
  · subst e0
    have e : p1 = -1 := hp.trans (by decide)
    subst e
    exact br_t (by decide) (br_f (by decide) (bg_w_nz30 hk hc h2 hs H1 H2))
  · obtain ⟨t, rfl⟩ : ∃ t, s = t + 1 := ⟨s - 1, by omega⟩
    rw [pk_m1] at hp
    subst hp
    exact pk_lt t 31 (fun z => br_t (nI_pos' (by omega)) (nm_r (nI_1 t) (bg_w_nz30 hk hc h2 hs H1 H2))) (fun z => H2 (fun j h1 h3 => absurd h1 (by omega)))
theorem bg_w_enter {post : Int32 → St1 → Prop} (O : bg_O pl mon W) (A : bg_A pl mon a3 a4) {Z : Nat → Prop} {g : Nat → Int32} {c n : Nat} (h : bg_K pl mon Z g c n a5 a6) {x : Int32} (hx : ∀ pt, pt < 32 → Z pt → bg_ev mon x pt = 0)
    (H0 : bg_R pl mon a5 n x = 0 → post 0 (fk, nI n, a1, a2, a3, a4, a5, a6, a7, a8, a9))
    (H1 : ∀ b5 b6, bg_K pl mon Z g c (n + 1) b5 b6 → bg_R pl mon b5 (n + 1) x = 0 → post 1 (fk, nI (n + 1), a1, a2, a3, a4, b5, b6, a7, a8, a9)) :
    wpX_enter post (fk, nI n, a1, a2, a3, a4, a5, a6, a7, a8, a9) x := by
  have n32 := bg_WK32 O h.1
  refine bg_w_red O A (by omega) h.1.1 h.1.2.1 x (br_c H0 (fun hr => ?_))
  have q := bg_enter O h hx rfl hr
  refine pk_eq n 40 (fun z => absurd z (by omega)) (fun _ => ⟨pk_in n 40 (by omega), nm_e (bg_w_hi _ ⟨pk_in _ 32 (bg_hi_lt _), pk_in n 40 (by omega), ?_⟩)⟩)
  rw [nI_clamp (show n < 2 ^ 31 by omega), nI_clamp (show bg_hi (bg_R pl mon a5 n x) < 2 ^ 31 by have := bg_hi_lt (bg_R pl mon a5 n x); omega), A.2 _ (bg_hi_lt _)]
  exact nm_e (nm_r (nI_1 n) (H1 _ _ q.1 q.2))
end
end
section
/-! ===== walks: tryVariables, tryPairs ===== -/
/-- the state of a round: nothing new yet (and D done), or something new -/
def bg_Q (pl mon : Nat → Nat) (Z : Nat → Prop) (g : Nat → Int32) (c n0 : Nat) (b5 b6 : Nat → Int32) (D : Prop) (x1 : Int32) (n : Nat) (a5 a6 : Nat → Int32) : Prop :=
  bg_K pl mon Z g c n a5 a6 ∧ ((x1 = 0 ∧ n = n0 ∧ a5 = b5 ∧ a6 = b6 ∧ D) ∨ (x1 = 1 ∧ n0 < n))
theorem bg_Q_old {pl mon : Nat → Nat} {Z : Nat → Prop} {g : Nat → Int32} {c n0 : Nat} {b5 b6 : Nat → Int32} {D D' : Prop} {x1 : Int32} {n : Nat} {a5 a6 : Nat → Int32} (q : bg_Q pl mon Z g c n0 b5 b6 D x1 n a5 a6) (h : n = n0 → a5 = b5 → D → D') : bg_Q pl mon Z g c n0 b5 b6 D' x1 n a5 a6 := by
  refine ⟨q.1, ?_⟩
  rcases q.2 with ⟨h1, h2, h3, h4, h5⟩ | h1
  · exact Or.inl ⟨h1, h2, h3, h4, h h2 h3 h5⟩
  · exact Or.inr h1
theorem bg_Q_new {pl mon : Nat → Nat} {Z : Nat → Prop} {g : Nat → Int32} {c n0 : Nat} {b5 b6 : Nat → Int32} {D D' : Prop} {x1 : Int32} {n : Nat} {a5 a6 c5 c6 : Nat → Int32} (q : bg_Q pl mon Z g c n0 b5 b6 D x1 n a5 a6) (h : bg_K pl mon Z g c (n + 1) c5 c6) : bg_Q pl mon Z g c n0 b5 b6 D' 1 (n + 1) c5 c6 := by
  refine ⟨h, Or.inr ⟨rfl, ?_⟩⟩
  rcases q.2 with h1 | h1
  · omega
  · omega
theorem bg_nb0 : narrow .boolean (.int 0) = .int 0 := by rfl
theorem bg_nb1 : narrow .boolean (.int 1) = .int 1 := by rfl
section
variable {pl mon W : Nat → Nat} {fk : Int32} {a1 a2 a3 a4 a7 a8 a9 : Nat → Int32}
def bg_Dv (pl mon : Nat → Nat) (n : Nat) (G : Nat → Int32) (i v : Nat) : Prop := ∀ i' v', v' < 5 → (i' < i ∨ (i' = i ∧ v' < v)) → (bg_ld mon G i').testBit v' = true → bg_R pl mon G n (bg_ti pl mon (G i') (2 ^ v')) = 0
def bg_Dp (pl mon : Nat → Nat) (n : Nat) (G : Nat → Int32) (i j : Nat) : Prop := ∀ i' j', j' < i' → (i' < i ∨ (i' = i ∧ j' < j)) → bg_R pl mon G n (bg_sp pl mon G i' j') = 0
theorem bg_w_tv14 {post : Int32 → St1 → Prop} {J : Int32 → Int32 → Int32 → Int32 → (Nat → Int32) → (Nat → Int32) → (Nat → Int32) → (Nat → Int32) → (Nat → Int32) → (Nat → Int32) → (Nat → Int32) → (Nat → Int32) → (Nat → Int32) → Prop}
    (O : bg_O pl mon W) (A : bg_A pl mon a3 a4) {Z : Nat → Prop} {g : Nat → Int32} {c n0 : Nat} {b5 b6 : Nat → Int32} {i : Nat} {x1 : Int32} {n : Nat} {a5 a6 : Nat → Int32} (hi : i < n)
    (q : bg_Q pl mon Z g c n0 b5 b6 (bg_Dv pl mon n0 b5 i 0) x1 n a5 a6)
    (H : ∀ y1 n' c5 c6, n ≤ n' → bg_Q pl mon Z g c n0 b5 b6 (bg_Dv pl mon n0 b5 (i + 1) 0) y1 n' c5 c6 → J y1 (nI (i + 1)) fk (nI n') a1 a2 a3 a4 c5 c6 a7 a8 a9) :
    ∃ f, wX_tryVariables_14 post J (nI i) f x1 0 fk (nI n) a1 a2 a3 a4 a5 a6 a7 a8 a9 := by
  refine pk_loop (σ := Int32 × Nat × (Nat → Int32) × (Nat → Int32)) (fun f v s => wX_tryVariables_14 post J (nI i) f s.1 (nI v) fk (nI s.2.1) a1 a2 a3 a4 s.2.2.1 s.2.2.2 a7 a8 a9)
    (fun v s => n ≤ s.2.1 ∧ bg_Q pl mon Z g c n0 b5 b6 (bg_Dv pl mon n0 b5 i v) s.1 s.2.1 s.2.2.1 s.2.2.2) 5 0 (x1, n, a5, a6) (by omega) ⟨Nat.le_refl _, q⟩ ?_ ?_
  · rintro f ⟨y1, n', c5, c6⟩ ⟨h1, h2⟩
    refine pk_le 5 5 (fun _ => nm_r (nI_1 i) (H _ _ _ _ h1 (bg_Q_old h2 (fun _ _ d i' v' hv hl hb => d i' v' hv ?_ hb)))) (fun z => absurd z (by omega))
    rcases hl with hl | hl
    · by_cases e : i' = i
      · exact Or.inr ⟨e, hv⟩
      · exact Or.inl (by omega)
    · exact absurd hl.2 (by omega)
  · rintro f v ⟨y1, n', c5, c6⟩ hv ⟨h1, h2⟩ hw
    have n32 := bg_WK32 O h2.1.1
    have h1' : n ≤ n' := h1
    have hi' : i < n' := by omega
    have e6 : c6 i = nI (bg_ld mon c5 i) := h2.1.1.2.1 i hi'
    show wX_tryVariables_14 post J (nI i) (f + 1) y1 (nI v) fk (nI n') a1 a2 a3 a4 c5 c6 a7 a8 a9
    refine pk_le 5 v (fun z => absurd z (by omega)) (fun _ => ⟨pk_in i 40 (by omega), ?_⟩)
    rw [nI_clamp (show i < 2 ^ 31 by omega), e6]
    refine ek_if (bg_n4 v hv _ (bg_ld_lt O c5 i)) (fun hb => ⟨pk_in i 40 (by omega), ?_⟩) (fun hb => ?_)
    · rw [bg_n3 v hv]
      have p32 : 2 ^ v < 32 := (bg_split2 _ (bg_ld_lt O c5 i) v hv hb).2.2.1
      refine bg_w_times O A _ p32 ?_
      refine bg_w_enter O A h2.1 (bg_evti O h2.1.1 hi' p32) (fun hr => ?_) (fun d5 d6 hK hr => ?_)
      · have h3 : bg_Q pl mon Z g c n0 b5 b6 (bg_Dv pl mon n0 b5 i (v + 1)) y1 n' c5 c6 := bg_Q_old h2 (fun en e5 d i' v' hv' hl hb' => by
          rcases hl with hl | hl
          · exact d i' v' hv' (Or.inl hl) hb'
          · by_cases e : v' = v
            · rw [e, hl.1, ← e5, ← en]; exact hr
            · exact d i' v' hv' (Or.inr ⟨hl.1, by omega⟩) hb')
        have h4 := h3
        rcases h4.2 with ⟨e1, _⟩ | ⟨e1, _⟩
        · subst e1
          exact br_t rfl (br_t rfl (nm_r (nI_1 v) (hw (0, n', c5, c6) ⟨h1, h3⟩)))
        · subst e1
          exact br_f (by decide) (nm_r (nI_1 v) (hw (1, n', c5, c6) ⟨h1, h3⟩))
      · have h3 : bg_Q pl mon Z g c n0 b5 b6 (bg_Dv pl mon n0 b5 i (v + 1)) 1 (n' + 1) d5 d6 := bg_Q_new h2 hK
        have k := hw (1, n' + 1, d5, d6) ⟨by show n ≤ n' + 1; omega, h3⟩
        exact br_c (fun _ => br_f (by decide) (nm_r (nI_1 v) k)) (fun _ => nm_r (nI_1 v) k)
    · refine nm_r (nI_1 v) (hw (y1, n', c5, c6) ⟨h1, bg_Q_old h2 (fun en e5 d i' v' hv' hl hb' => ?_)⟩)
      rcases hl with hl | hl
      · exact d i' v' hv' (Or.inl hl) hb'
      · by_cases e : v' = v
        · rw [e, hl.1, ← e5] at hb'; exact absurd hb' hb
        · exact d i' v' hv' (Or.inr ⟨hl.1, by omega⟩) hb'
theorem bg_w_tv {post : Int32 → St1 → Prop} (O : bg_O pl mon W) (A : bg_A pl mon a3 a4) {Z : Nat → Prop} {g : Nat → Int32} {c n : Nat} {a5 a6 : Nat → Int32} (h : bg_K pl mon Z g c n a5 a6)
    (H0 : bg_Vd pl mon n a5 → post 0 (fk, nI n, a1, a2, a3, a4, a5, a6, a7, a8, a9))
    (H1 : ∀ n' c5 c6, n < n' → bg_K pl mon Z g c n' c5 c6 → post 1 (fk, nI n', a1, a2, a3, a4, c5, c6, a7, a8, a9)) :
    wpX_tryVariables post (fk, nI n, a1, a2, a3, a4, a5, a6, a7, a8, a9) := by
  refine loop_m (σ := Int32 × Nat × Nat × (Nat → Int32) × (Nat → Int32)) (fun f s => wX_tryVariables_4 post f s.1 (nI s.2.1) fk (nI s.2.2.1) a1 a2 a3 a4 s.2.2.2.1 s.2.2.2.2 a7 a8 a9)
    (fun s => s.2.1 ≤ s.2.2.1 ∧ bg_Q pl mon Z g c n a5 a6 (bg_Dv pl mon n a5 s.2.1 0) s.1 s.2.2.1 s.2.2.2.1 s.2.2.2.2) (fun s => 33 - s.2.1) ?_ (0, 0, n, a5, a6) ⟨Nat.zero_le _, h, Or.inl ⟨rfl, rfl, rfl, rfl, fun i' v' _ hl _ => ?_⟩⟩
  · rintro f ⟨y1, i, n', c5, c6⟩ ⟨h1, h2⟩ hw
    have n32 := bg_WK32 O h2.1.1
    have h1' : i ≤ n' := h1
    show wX_tryVariables_4 post (f + 1) y1 (nI i) fk (nI n') a1 a2 a3 a4 c5 c6 a7 a8 a9
    have n32' : n' ≤ 32 := n32
    refine pk_le n' i (fun z => ?_) (fun z => ?_)
    · have h3 := h2
      rcases h3.2 with ⟨e1, en, e5, e6, d⟩ | ⟨e1, hn⟩
      · have e1' : y1 = 0 := e1
        have en' : n' = n := en
        have e5' : c5 = a5 := e5
        have e6' : c6 = a6 := e6
        subst e1' en' e5' e6'
        exact ⟨bg_nb0, H0 (fun i' v' hi' hv' hb' => d i' v' hv' (Or.inl (by show i' < i; omega)) hb')⟩
      · have e1' : y1 = 1 := e1
        subst e1'
        exact ⟨bg_nb1, H1 _ _ _ hn h2.1⟩
    · exact bg_w_tv14 O A z h2 (fun y1 m d5 d6 hm hq => hw (y1, i + 1, m, d5, d6) ⟨by show i + 1 ≤ m; omega, hq⟩ (by show 33 - (i + 1) < 33 - i; omega))
  · have hl' : i' < 0 ∨ (i' = 0 ∧ v' < 0) := hl
    omega
theorem bg_w_tp14 {post : Int32 → St1 → Prop} {J : Int32 → Int32 → Int32 → Int32 → (Nat → Int32) → (Nat → Int32) → (Nat → Int32) → (Nat → Int32) → (Nat → Int32) → (Nat → Int32) → (Nat → Int32) → (Nat → Int32) → (Nat → Int32) → Prop}
    (O : bg_O pl mon W) (A : bg_A pl mon a3 a4) {Z : Nat → Prop} {g : Nat → Int32} {c n0 : Nat} {b5 b6 : Nat → Int32} {i : Nat} {x1 : Int32} {n : Nat} {a5 a6 : Nat → Int32} (hi : i < n)
    (q : bg_Q pl mon Z g c n0 b5 b6 (bg_Dp pl mon n0 b5 i 0) x1 n a5 a6)
    (H : ∀ y1 n' c5 c6, n ≤ n' → bg_Q pl mon Z g c n0 b5 b6 (bg_Dp pl mon n0 b5 (i + 1) 0) y1 n' c5 c6 → J y1 (nI (i + 1)) fk (nI n') a1 a2 a3 a4 c5 c6 a7 a8 a9) :
    ∃ f, wX_tryPairs_14 post J (nI i) f x1 0 fk (nI n) a1 a2 a3 a4 a5 a6 a7 a8 a9 := by
  have i32 : i < 32 := by have := bg_WK32 O q.1.1; omega
  refine pk_loop (σ := Int32 × Nat × (Nat → Int32) × (Nat → Int32)) (fun f v s => wX_tryPairs_14 post J (nI i) f s.1 (nI v) fk (nI s.2.1) a1 a2 a3 a4 s.2.2.1 s.2.2.2 a7 a8 a9)
    (fun v s => n ≤ s.2.1 ∧ bg_Q pl mon Z g c n0 b5 b6 (bg_Dp pl mon n0 b5 i v) s.1 s.2.1 s.2.2.1 s.2.2.2) i 0 (x1, n, a5, a6) (by omega) ⟨Nat.le_refl _, q⟩ ?_ ?_
  · rintro f ⟨y1, n', c5, c6⟩ ⟨h1, h2⟩
    refine pk_le i i (fun _ => nm_r (nI_1 i) (H _ _ _ _ h1 (bg_Q_old h2 (fun _ _ d i' v' hv hl => d i' v' hv ?_)))) (fun z => absurd z (by omega))
    rcases hl with hl | hl
    · by_cases e : i' = i
      · exact Or.inr ⟨e, by omega⟩
      · exact Or.inl (by omega)
    · exact absurd hl.2 (by omega)
  · rintro f v ⟨y1, n', c5, c6⟩ hv ⟨h1, h2⟩ hw
    have n32 := bg_WK32 O h2.1.1
    have h1' : n ≤ n' := h1
    have hi' : i < n' := by omega
    have hv' : v < n' := by omega
    have e6 : c6 i = nI (bg_ld mon c5 i) := h2.1.1.2.1 i hi'
    have e6' : c6 v = nI (bg_ld mon c5 v) := h2.1.1.2.1 v hv'
    have l1 := bg_ld_lt O c5 i
    have l2 := bg_ld_lt O c5 v
    have lo := bg_or32 l1 l2
    show wX_tryPairs_14 post J (nI i) (f + 1) y1 (nI v) fk (nI n') a1 a2 a3 a4 c5 c6 a7 a8 a9
    refine pk_le i v (fun z => absurd z (by omega)) (fun _ => ⟨pk_in i 40 (by omega), pk_in v 40 (by omega), ?_⟩)
    rw [nI_clamp (show i < 2 ^ 31 by omega), nI_clamp (show v < 2 ^ 31 by omega), e6, e6', bg_nor]
    refine nm_e ⟨pk_in i 40 (by omega), pk_in i 40 (by omega), ?_⟩
    rw [bg_n2 _ l1 _ lo (bg_d_l _ _), bg_n2 _ l2 _ lo (bg_d_r _ _)]
    refine bg_w_times O A _ (bg_xor32 lo l1) ⟨pk_in v 40 (by omega), pk_in v 40 (by omega), ?_⟩
    refine bg_w_times O A _ (bg_xor32 lo l2) (nm_e ?_)
    refine bg_w_enter O A h2.1 (bg_evsp O h2.1.1 hi' hv') (fun hr => ?_) (fun d5 d6 hK hr => ?_)
    · have h3 : bg_Q pl mon Z g c n0 b5 b6 (bg_Dp pl mon n0 b5 i (v + 1)) y1 n' c5 c6 := bg_Q_old h2 (fun en e5 d i' v' hv' hl => by
        rcases hl with hl | hl
        · exact d i' v' hv' (Or.inl hl)
        · by_cases e : v' = v
          · rw [e, hl.1, ← e5, ← en]; exact hr
          · exact d i' v' hv' (Or.inr ⟨hl.1, by omega⟩))
      have h4 := h3
      rcases h4.2 with ⟨e1, _⟩ | ⟨e1, _⟩
      · subst e1
        exact br_t rfl (br_t rfl (nm_r (nI_1 v) (hw (0, n', c5, c6) ⟨h1, h3⟩)))
      · subst e1
        exact br_f (by decide) (nm_r (nI_1 v) (hw (1, n', c5, c6) ⟨h1, h3⟩))
    · have h3 : bg_Q pl mon Z g c n0 b5 b6 (bg_Dp pl mon n0 b5 i (v + 1)) 1 (n' + 1) d5 d6 := bg_Q_new h2 hK
      have k := hw (1, n' + 1, d5, d6) ⟨by show n ≤ n' + 1; omega, h3⟩
      exact br_c (fun _ => br_f (by decide) (nm_r (nI_1 v) k)) (fun _ => nm_r (nI_1 v) k)
theorem bg_w_tp {post : Int32 → St1 → Prop} (O : bg_O pl mon W) (A : bg_A pl mon a3 a4) {Z : Nat → Prop} {g : Nat → Int32} {c n : Nat} {a5 a6 : Nat → Int32} (h : bg_K pl mon Z g c n a5 a6)
    (H0 : bg_Pd pl mon n a5 → post 0 (fk, nI n, a1, a2, a3, a4, a5, a6, a7, a8, a9))
    (H1 : ∀ n' c5 c6, n < n' → bg_K pl mon Z g c n' c5 c6 → post 1 (fk, nI n', a1, a2, a3, a4, c5, c6, a7, a8, a9)) :
    wpX_tryPairs post (fk, nI n, a1, a2, a3, a4, a5, a6, a7, a8, a9) := by
  refine loop_m (σ := Int32 × Nat × Nat × (Nat → Int32) × (Nat → Int32)) (fun f s => wX_tryPairs_4 post f s.1 (nI s.2.1) fk (nI s.2.2.1) a1 a2 a3 a4 s.2.2.2.1 s.2.2.2.2 a7 a8 a9)
    (fun s => s.2.1 ≤ s.2.2.1 ∧ bg_Q pl mon Z g c n a5 a6 (bg_Dp pl mon n a5 s.2.1 0) s.1 s.2.2.1 s.2.2.2.1 s.2.2.2.2) (fun s => 33 - s.2.1) ?_ (0, 0, n, a5, a6) ⟨Nat.zero_le _, h, Or.inl ⟨rfl, rfl, rfl, rfl, fun i' v' _ hl => ?_⟩⟩
  · rintro f ⟨y1, i, n', c5, c6⟩ ⟨h1, h2⟩ hw
    have n32 := bg_WK32 O h2.1.1
    have h1' : i ≤ n' := h1
    show wX_tryPairs_4 post (f + 1) y1 (nI i) fk (nI n') a1 a2 a3 a4 c5 c6 a7 a8 a9
    have n32' : n' ≤ 32 := n32
    refine pk_le n' i (fun z => ?_) (fun z => ?_)
    · have h3 := h2
      rcases h3.2 with ⟨e1, en, e5, e6, d⟩ | ⟨e1, hn⟩
      · have e1' : y1 = 0 := e1
        have en' : n' = n := en
        have e5' : c5 = a5 := e5
        have e6' : c6 = a6 := e6
        subst e1' en' e5' e6'
        exact ⟨bg_nb0, H0 (fun i' v' hi' hv' => d i' v' hv' (Or.inl (by show i' < i; omega)))⟩
      · have e1' : y1 = 1 := e1
        subst e1'
        exact ⟨bg_nb1, H1 _ _ _ hn h2.1⟩
    · exact bg_w_tp14 O A z h2 (fun y1 m d5 d6 hm hq => hw (y1, i + 1, m, d5, d6) ⟨by show i + 1 ≤ m; omega, hq⟩ (by show 33 - (i + 1) < 33 - i; omega))
  · have hl' : i' < 0 ∨ (i' = 0 ∧ v' < 0) := hl
    omega
end
end
section
/-! ===== walks: keepLeast, complete ===== -/
/-- y put among the q polynomials of k, somewhere; nothing outside k's room is touched -/
def bg_ins (k q : Nat) (y : Int32) (a d : Nat → Int32) : Prop :=
  (∀ j, j < q + 1 → d (32 * k + j) = y ∨ ∃ j', j' < q ∧ d (32 * k + j) = a (32 * k + j')) ∧ (∀ j, j < q → ∃ j', j' < q + 1 ∧ d (32 * k + j') = a (32 * k + j)) ∧ (∃ j', j' < q + 1 ∧ d (32 * k + j') = y) ∧ (∀ t, (t < 32 * k ∨ 32 * k + 32 ≤ t) → d t = a t)
def bg_hole (k q at_ : Nat) (a b : Nat → Int32) : Prop :=
  (∀ j, j < at_ → b (32 * k + j) = a (32 * k + j)) ∧ (∀ j, at_ ≤ j → j < q → b (32 * k + (j + 1)) = a (32 * k + j)) ∧ (∀ t, (t < 32 * k ∨ 32 * k + 32 ≤ t) → b t = a t)
theorem bg_hole_ins {k q t : Nat} {a b : Nat → Int32} (h : bg_hole k q t a b) (ht : t ≤ q) (hq : q < 32) (y : Int32) : bg_ins k q y a (upd b (32 * k + t) y) := by
  obtain ⟨h1, h2, h3⟩ := h
  refine ⟨fun j hj => ?_, fun j hj => ?_, ⟨t, by omega, pk_us⟩, fun s hs => ?_⟩
  · rcases Nat.lt_trichotomy j t with e | e | e
    · refine Or.inr ⟨j, by omega, ?_⟩
      rw [pk_un (by omega), h1 j e]
    · rw [e]; exact Or.inl pk_us
    · refine Or.inr ⟨j - 1, by omega, ?_⟩
      rw [pk_un (by omega)]
      have := h2 (j - 1) (by omega) (by omega)
      rw [show j - 1 + 1 = j by omega] at this
      exact this
  · rcases Nat.lt_or_ge j t with e | e
    · refine ⟨j, by omega, ?_⟩
      rw [pk_un (by omega), h1 j e]
    · refine ⟨j + 1, by omega, ?_⟩
      rw [pk_un (by omega), h2 j e hj]
  · rw [pk_un (by omega), h3 s hs]
section
variable {pl mon W : Nat → Nat} {fk fw : Int32} {a1 a2 a3 a4 a5 a6 a7 a8 a9 : Nat → Int32}
theorem bg_w_kl97 {post : St1 → Prop} {J : Int32 → Int32 → (Nat → Int32) → (Nat → Int32) → (Nat → Int32) → (Nat → Int32) → (Nat → Int32) → (Nat → Int32) → (Nat → Int32) → (Nat → Int32) → (Nat → Int32) → Prop}
    {k q i : Nat} (hk : k < 2) (hq : q < 32) (y : Int32) (H : ∀ d, bg_ins k q y a7 d → J (nI (q + 1)) (nI (i + 1)) a1 a2 a3 a4 a5 a6 d a8 a9) :
    ∃ f, wX_keepLeast_97 post J (nI k) (nI q) (nI i) y fk fw f (nI q) a1 a2 a3 a4 a5 a6 a7 a8 a9 := by
  have fin : ∀ t b, t ≤ q → bg_hole k q t a7 b → wX_keepLeast_159 post J (nI k) (nI q) (nI i) y (nI t) fk fw a1 a2 a3 a4 a5 a6 b a8 a9 := by
    intro t b ht hb
    unfold wX_keepLeast_159
    rw [bg_ix32, nI_clamp (show 32 * k + t < 2 ^ 31 by omega)]
    exact ⟨pk_in (32 * k + t) 64 (by omega), nm_e (nm_r (nI_1 q) (nm_r (nI_1 i) (H _ (bg_hole_ins hb ht hq y))))⟩
  refine ⟨q + 1, pk_loopD (fun f t s => wX_keepLeast_97 post J (nI k) (nI q) (nI i) y fk fw f (nI t) a1 a2 a3 a4 a5 a6 s a8 a9) (fun t s => t ≤ q ∧ bg_hole k q t a7 s) ?_ ?_ q a7 ⟨Nat.le_refl _, fun j _ => rfl, fun j h1 h2 => absurd h1 (by omega), fun t _ => rfl⟩⟩
  · intro f s h
    exact pk_le 0 0 (fun _ => fin 0 s h.1 h.2) (fun z => absurd z (by omega))
  · intro f t s h hw
    have e1 : (32 : Int32) * nI k + nI (t + 1) - 1 = nI (32 * k + t) := by
      rw [bg_ix32, show 32 * k + (t + 1) = 32 * k + t + 1 by omega, nI_pred]
    refine pk_le (t + 1) 0 (fun z => absurd z (by omega)) (fun _ => ?_)
    rw [e1, bg_ix32]
    rw [nI_clamp (show 32 * k + t < 2 ^ 31 by omega), nI_clamp (show 32 * k + (t + 1) < 2 ^ 31 by omega)]
    refine ⟨pk_in (32 * k + t) 64 (by omega), bg_w_hi _ (bg_w_hi _ (br_c (fun _ => fin (t + 1) s h.1 h.2) (fun _ => ⟨pk_in (32 * k + t) 64 (by omega), pk_in (32 * k + (t + 1)) 64 (by omega), nm_e (nm_r (pk_m1 t) (hw _ ⟨by omega, ?_⟩))⟩)))⟩
    obtain ⟨ht, h1, h2, h3⟩ := h
    refine ⟨fun j hj => ?_, fun j hj1 hj2 => ?_, fun r hr => ?_⟩
    · rw [pk_un (by omega)]; exact h1 j (by omega)
    · by_cases e : j = t
      · rw [e, pk_us]; exact h1 t (by omega)
      · rw [pk_un (by omega)]; exact h2 j (by omega) hj2
    · rw [pk_un (by omega)]; exact h3 r hr
theorem bg_w_kl18 {post : St1 → Prop} {J : Int32 → Int32 → (Nat → Int32) → (Nat → Int32) → (Nat → Int32) → (Nat → Int32) → (Nat → Int32) → (Nat → Int32) → (Nat → Int32) → (Nat → Int32) → (Nat → Int32) → Prop}
    (O : bg_O pl mon W) (A : bg_A pl mon a3 a4) {Z : Nat → Prop} {n k q i : Nat} (h : bg_WK mon Z n a5 a6) (hk : k < 2) (hi : i < n) (hq : q ≤ i)
    (H0 : ¬ bg_lst mon n a5 i → J (nI q) (nI (i + 1)) a1 a2 a3 a4 a5 a6 a7 a8 a9)
    (H1 : bg_lst mon n a5 i → ∀ d, bg_ins k q (bg_rt pl mon n a5 (a5 i)) a7 d → J (nI (q + 1)) (nI (i + 1)) a1 a2 a3 a4 a5 a6 d a8 a9) :
    ∃ f, wX_keepLeast_18 post J (nI k) (nI q) (nI i) fk (nI n) a1 a2 a3 a4 a5 a6 a7 a8 a9 f 1 0 := by
  have n32 := bg_WK32 O h
  refine pk_loop (fun f j s => wX_keepLeast_18 post J (nI k) (nI q) (nI i) fk (nI n) a1 a2 a3 a4 a5 a6 a7 a8 a9 f s (nI j))
    (fun j s => (s = 1 ∧ ∀ j', j' < j → j' ≠ i → bg_d (bg_ld mon a5 j') (bg_ld mon a5 i) = false) ∨ (s = 0 ∧ ¬ bg_lst mon n a5 i)) n 0 1 (by omega) (Or.inl ⟨rfl, fun j' hj => absurd hj (by omega)⟩) ?_ ?_
  · intro f s hs
    refine pk_le n n (fun _ => ?_) (fun z => absurd z (by omega))
    rcases hs with ⟨e, hs⟩ | ⟨e, hs⟩
    · rw [e]
      exact br_f (by decide) (bg_w_rt O A (by omega) h.1 h.2.1 hi (bg_w_kl97 hk (by omega) _ (H1 hs)))
    · rw [e]
      exact br_t rfl (nm_r (nI_1 i) (H0 hs))
  · intro f j s hj hs hw
    have key : ∀ z : Int32, (z = 1 ∧ bg_d (bg_ld mon a5 j) (bg_ld mon a5 i) = true) ∨ (z = 0 ∧ bg_d (bg_ld mon a5 j) (bg_ld mon a5 i) = false) → wX_keepLeast_51 post J (wX_keepLeast_18 post J (nI k) (nI q) (nI i) fk (nI n) a1 a2 a3 a4 a5 a6 a7 a8 a9 f) (nI k) (nI q) (nI i) s (nI j) z fk (nI n) a1 a2 a3 a4 a5 a6 a7 a8 a9 := by
      intro z hz
      unfold wX_keepLeast_51
      rcases hs with ⟨e, hs⟩ | ⟨e, hs⟩
      · subst e
        refine br_f (by decide) (pk_eq j i (fun e => nm_r (nI_1 j) (hw 1 (Or.inl ⟨rfl, fun j' h1 h2 => hs j' (by omega) h2⟩))) (fun e => ?_))
        rcases hz with ⟨ez, hd⟩ | ⟨ez, hd⟩
        · subst ez
          refine br_f (by decide) (nm_r (nI_1 j) (hw 0 (Or.inr ⟨rfl, fun hl => ?_⟩)))
          rw [hl j hj e] at hd
          exact absurd hd (by decide)
        · subst ez
          refine br_t rfl (nm_r (nI_1 j) (hw 1 (Or.inl ⟨rfl, fun j' h1 h2 => ?_⟩)))
          by_cases ej : j' = j
          · rw [ej]; exact hd
          · exact hs j' (by omega) h2
      · subst e
        exact br_t rfl (nm_r (nI_1 j) (hw 0 (Or.inr ⟨rfl, hs⟩)))
    refine pk_le n j (fun z => absurd z (by omega)) (fun _ => ⟨pk_in j 40 (by omega), pk_in i 40 (by omega), ?_⟩)
    rw [nI_clamp (show j < 2 ^ 31 by omega), nI_clamp (show i < 2 ^ 31 by omega), h.2.1 j hj, h.2.1 i hi]
    refine ek_if (bg_n1 _ (bg_ld_lt O a5 j) _ (bg_ld_lt O a5 i)) (fun hd => key 1 (Or.inl ⟨rfl, hd⟩)) (fun hd => key 0 (Or.inr ⟨rfl, by simpa using hd⟩))
theorem bg_w_kl {post : St1 → Prop} (O : bg_O pl mon W) (A : bg_A pl mon a3 a4) {Z : Nat → Prop} {n k : Nat} (h : bg_WK mon Z n a5 a6) (hk : k < 2) (hG : bg_GB pl mon a5 n Z)
    (H : ∀ d m, m ≤ 32 → bg_GB pl mon (fun i => d (32 * k + i)) m Z → (∀ t, (t < 32 * k ∨ 32 * k + 32 ≤ t) → d t = a7 t) → post (fk, nI n, a1, a2, a3, a4, a5, a6, d, upd a8 k (nI m), a9)) :
    wpX_keepLeast post (fk, nI n, a1, a2, a3, a4, a5, a6, a7, a8, a9) (nI k) := by
  have n32 := bg_WK32 O h
  refine pk_loop (σ := Nat × (Nat → Int32)) (fun f i s => wX_keepLeast_4 post (nI k) fk (nI n) f (nI s.1) (nI i) a1 a2 a3 a4 a5 a6 s.2 a8 a9)
    (fun i s => s.1 ≤ i ∧ (∀ j, j < s.1 → s.2 (32 * k + j) ≠ 0 ∧ ∀ pt, pt < 32 → Z pt → bg_ev mon (s.2 (32 * k + j)) pt = 0) ∧ (∀ i', i' < i → bg_lst mon n a5 i' → ∃ j, j < s.1 ∧ s.2 (32 * k + j) = bg_rt pl mon n a5 (a5 i')) ∧ (∀ t, (t < 32 * k ∨ 32 * k + 32 ≤ t) → s.2 t = a7 t))
    n 0 (0, a7) (by omega) ⟨Nat.le_refl _, fun j hj => absurd hj (by show ¬ j < 0; omega), fun j hj => absurd hj (by omega), fun t _ => rfl⟩ ?_ ?_
  · rintro f ⟨q, b⟩ ⟨h1, h2, h3, h4⟩
    have h1' : q ≤ n := h1
    refine pk_le n n (fun _ => ⟨pk_in k 2 hk, nm_e ?_⟩) (fun z => absurd z (by omega))
    rw [nI_clamp (show k < 2 ^ 31 by omega)]
    refine H b q (by omega) (bg_keep O hG (fun j hj => (h2 j hj).1) (fun j hj => (h2 j hj).2) (fun i hi => ?_)) h4
    obtain ⟨j, hj, hl, hd⟩ := bg_lst_ex O h hi
    obtain ⟨j', hj', e⟩ := h3 j hj hl
    refine ⟨j', hj', ?_⟩
    have e2 : bg_ld mon (fun i => b (32 * k + i)) j' = bg_ld mon a5 j := by
      have e' : b (32 * k + j') = bg_rt pl mon n a5 (a5 j) := e
      unfold bg_ld
      show mon (bg_hi (b (32 * k + j'))) = _
      rw [e', (bg_rt_ok O h hj).2.1]
    rw [e2]
    exact hd
  · rintro f i ⟨q, b⟩ hi ⟨h1, h2, h3, h4⟩ hw
    have h1' : q ≤ i := h1
    refine pk_le n i (fun z => absurd z (by omega)) (fun _ => bg_w_kl18 O A h hk hi h1' (fun hn => hw (q, b) ⟨by show q ≤ i + 1; omega, h2, fun i' h5 h6 => ?_, h4⟩) (fun hl d hd => hw (q + 1, d) ⟨by show q + 1 ≤ i + 1; omega, fun j hj => ?_, fun i' h5 h6 => ?_, fun t ht => ?_⟩))
    · by_cases e : i' = i
      · rw [e] at h6; exact absurd h6 hn
      · exact h3 i' (by omega) h6
    · show d (32 * k + j) ≠ 0 ∧ ∀ pt, pt < 32 → Z pt → bg_ev mon (d (32 * k + j)) pt = 0
      rcases hd.1 j hj with e | ⟨j', hj', e⟩
      · rw [e]
        have r := bg_rt_ok O h hi
        exact ⟨r.1, r.2.2⟩
      · rw [e]
        exact h2 j' hj'
    · show ∃ j, j < q + 1 ∧ d (32 * k + j) = bg_rt pl mon n a5 (a5 i')
      by_cases e : i' = i
      · rw [e]; exact hd.2.2.1
      · obtain ⟨j, hj, ej⟩ := h3 i' (by omega) h6
        obtain ⟨j', hj', ej'⟩ := hd.2.1 j hj
        exact ⟨j', hj', by rw [ej']; exact ej⟩
    · show d t = a7 t
      rw [hd.2.2.2 t ht]
      exact h4 t ht
end
section
variable {pl mon W : Nat → Nat} {fk : Int32} {a1 a2 a3 a4 a7 a8 a9 : Nat → Int32}
theorem bg_w_cp66 {post : St1 → Prop} (O : bg_O pl mon W) (A : bg_A pl mon a3 a4) {Z : Nat → Prop} {g : Nat → Int32} {c n k : Nat} {a5 a6 : Nat → Int32} (h : bg_K pl mon Z g c n a5 a6) (hk : k < 2)
    (hZ : ∀ pt, pt < 32 → (∀ i, i < c → bg_ev mon (g i) pt = 0) → Z pt)
    (H : ∀ n' c5 c6 d m, m ≤ 32 → bg_GB pl mon (fun i => d (32 * k + i)) m Z → (∀ t, (t < 32 * k ∨ 32 * k + 32 ≤ t) → d t = a7 t) → post (fk, nI n', a1, a2, a3, a4, c5, c6, d, upd a8 k (nI m), a9)) :
    ∃ f, wX_complete_66 post (nI k) f 1 0 fk (nI n) a1 a2 a3 a4 a5 a6 a7 a8 a9 := by
  have fin : ∀ n' c5 c6, bg_K pl mon Z g c n' c5 c6 → bg_Vd pl mon n' c5 → bg_Pd pl mon n' c5 → wX_complete_110 post (nI k) fk (nI n') a1 a2 a3 a4 c5 c6 a7 a8 a9 := by
    intro n' c5 c6 hK hV hP
    unfold wX_complete_110
    exact bg_w_kl O A hK.1 hk (bg_done O hK hV hP hZ) (fun d m h1 h2 h3 => H n' c5 c6 d m h1 h2 h3)
  refine pk_loop (σ := Int32 × Nat × (Nat → Int32) × (Nat → Int32)) (fun f r s => wX_complete_66 post (nI k) f s.1 (nI r) fk (nI s.2.1) a1 a2 a3 a4 s.2.2.1 s.2.2.2 a7 a8 a9)
    (fun r s => bg_K pl mon Z g c s.2.1 s.2.2.1 s.2.2.2 ∧ ((s.1 = 0 ∧ bg_Vd pl mon s.2.1 s.2.2.1 ∧ bg_Pd pl mon s.2.1 s.2.2.1) ∨ (s.1 = 1 ∧ r ≤ s.2.1))) 40 0 (1, n, a5, a6) (by omega) ⟨h, Or.inr ⟨rfl, Nat.zero_le _⟩⟩ ?_ ?_
  · rintro f ⟨x, n', c5, c6⟩ ⟨hK, hc⟩
    have n32 : n' ≤ 32 := bg_WK32 O hK.1
    refine pk_le 40 40 (fun _ => ?_) (fun z => absurd z (by omega))
    rcases hc with ⟨_, hV, hP⟩ | ⟨_, hr⟩
    · exact fin n' c5 c6 hK hV hP
    · have hr' : 40 ≤ n' := hr
      omega
  · rintro f r ⟨x, n', c5, c6⟩ hr ⟨hK, hc⟩ hw
    refine pk_le 40 r (fun z => absurd z (by omega)) (fun _ => ?_)
    rcases hc with ⟨e, hV, hP⟩ | ⟨e, hn⟩
    · exact br_t e (fin n' c5 c6 hK hV hP)
    · have e' : x = 1 := e
      have hn' : r ≤ n' := hn
      subst e'
      refine br_f (show ¬ (1 : Int32) = 0 by decide) (bg_w_tv O A hK (fun hV => bg_w_tp O A hK (fun hP => ?_) (fun m d5 d6 hm hK' => ?_)) (fun m d5 d6 hm hK' => bg_w_tp O A hK' (fun hP => ?_) (fun m' e5 e6 hm' hK'' => ?_)))
      · exact br_t rfl (br_t rfl (nm_r (nI_1 r) (hw (0, n', c5, c6) ⟨hK, Or.inl ⟨rfl, hV, hP⟩⟩)))
      · exact br_t rfl (br_f (by decide) (nm_r (nI_1 r) (hw (1, m, d5, d6) ⟨hK', Or.inr ⟨rfl, by show r + 1 ≤ m; omega⟩⟩)))
      · exact br_f (by decide) (nm_r (nI_1 r) (hw (1, m, d5, d6) ⟨hK', Or.inr ⟨rfl, by show r + 1 ≤ m; omega⟩⟩))
      · exact br_f (by decide) (nm_r (nI_1 r) (hw (1, m', e5, e6) ⟨hK'', Or.inr ⟨rfl, by show r + 1 ≤ m'; omega⟩⟩))
theorem bg_w_cp24 {post : St1 → Prop} (O : bg_O pl mon W) (A : bg_A pl mon a3 a4) {k c : Nat} {a5 a6 : Nat → Int32} (hk : k < 2) (hc : c ≤ 8) (h2 : a2 k = nI c)
    (H : ∀ n' c5 c6 d m, m ≤ 32 → bg_GB pl mon (fun i => d (32 * k + i)) m (fun pt => bg_zb a1 c k pt = true) → (∀ t, (t < 32 * k ∨ 32 * k + 32 ≤ t) → d t = a7 t) → post (fk, nI n', a1, a2, a3, a4, c5, c6, d, upd a8 k (nI m), a9)) :
    ∃ f, wX_complete_24 post (nI k) f 0 fk 0 a1 a2 a3 a4 a5 a6 a7 a8 a9 := by
  refine pk_loop (σ := Nat × (Nat → Int32) × (Nat → Int32)) (fun f i s => wX_complete_24 post (nI k) f (nI i) fk (nI s.1) a1 a2 a3 a4 s.2.1 s.2.2 a7 a8 a9)
    (fun i s => bg_K pl mon (fun pt => bg_zb a1 c k pt = true) (fun i => bg_in pl (a1 (8 * k + i))) i s.1 s.2.1 s.2.2) c 0 (0, a5, a6) (by omega)
    ⟨⟨fun i hi => absurd hi (by show ¬ i < 0; omega), fun i hi => absurd hi (by show ¬ i < 0; omega), fun j i _ hi => absurd hi (by show ¬ i < 0; omega), fun i hi => absurd hi (by show ¬ i < 0; omega)⟩, fun i hi => absurd hi (by omega)⟩ ?_ ?_
  · rintro f ⟨n, b5, b6⟩ hK
    refine ⟨pk_in k 2 hk, ?_⟩
    rw [nI_clamp (show k < 2 ^ 31 by omega), h2]
    refine pk_le c c (fun _ => bg_w_cp66 O A hK hk (fun pt hpt hz => bg_zb_iff.mpr (fun i hi => ?_)) H) (fun z => absurd z (by omega))
    have := hz i hi
    rw [bg_evin O] at this
    exact this
  · rintro f i ⟨n, b5, b6⟩ hi hK hw
    refine ⟨pk_in k 2 hk, ?_⟩
    rw [nI_clamp (show k < 2 ^ 31 by omega), h2, bg_ix8]
    refine pk_le c i (fun z => absurd z (by omega)) (fun _ => ⟨pk_in (8 * k + i) 16 (by omega), ?_⟩)
    rw [nI_clamp (show 8 * k + i < 2 ^ 31 by omega)]
    have ext : ∀ m d5 d6, bg_K pl mon (fun pt => bg_zb a1 c k pt = true) (fun i => bg_in pl (a1 (8 * k + i))) i m d5 d6 → bg_R pl mon d5 m (bg_in pl (a1 (8 * k + i))) = 0 → bg_K pl mon (fun pt => bg_zb a1 c k pt = true) (fun i => bg_in pl (a1 (8 * k + i))) (i + 1) m d5 d6 := by
      intro m d5 d6 h1 h3
      refine ⟨h1.1, fun j hj => ?_⟩
      by_cases e : j = i
      · rw [e]; exact h3
      · exact h1.2 j (by omega)
    refine bg_w_in O A _ ?_
    refine bg_w_enter O A hK (fun pt hpt hz => by rw [bg_evin O]; exact bg_zb_iff.mp hz i hi) (fun hr => nm_r (nI_1 i) (hw (n, b5, b6) (ext _ _ _ hK hr))) (fun d5 d6 hK' hr => nm_r (nI_1 i) (hw (n + 1, d5, d6) (ext _ _ _ hK' hr)))
theorem bg_w_cp {post : St1 → Prop} (O : bg_O pl mon W) (A : bg_A pl mon a3 a4) {fw : Int32} {k c : Nat} {a5 a6 : Nat → Int32} (hk : k < 2) (hc : c ≤ 8) (h2 : a2 k = nI c)
    (H0 : a9 k ≠ 0 → post (fk, fw, a1, a2, a3, a4, a5, a6, a7, a8, a9))
    (H : a9 k = 0 → ∀ n' c5 c6 d m, m ≤ 32 → bg_GB pl mon (fun i => d (32 * k + i)) m (fun pt => bg_zb a1 c k pt = true) → (∀ t, (t < 32 * k ∨ 32 * k + 32 ≤ t) → d t = a7 t) → post (fk, nI n', a1, a2, a3, a4, c5, c6, d, upd a8 k (nI m), upd a9 k 1)) :
    wpX_complete post (fk, fw, a1, a2, a3, a4, a5, a6, a7, a8, a9) (nI k) := by
  refine ⟨pk_in k 2 hk, ?_⟩
  rw [nI_clamp (show k < 2 ^ 31 by omega)]
  exact br_c (fun e => ⟨pk_in k 2 hk, nm_e (bg_w_cp24 O A hk hc h2 (H e))⟩) (fun e => H0 e)
end
end
section
/-! ===== the object's state, and the methods that ask it ===== -/
def bg_rd (kd : Nat) (cc : Nat → Nat) (a1 a7 a8 : Nat → Int32) (k m : Nat) : Prop :=
  m ≤ 32 ∧ a8 k = nI m ∧ bg_GB (bg_pl kd) (bg_mon kd) (fun i => a7 (32 * k + i)) m (fun pt => bg_zb a1 (cc k) k pt = true)
def bg_S (kd : Nat) (cc : Nat → Nat) (fk : Int32) (a1 a2 a3 a4 a7 a8 a9 : Nat → Int32) : Prop :=
  kd < 2 ∧ fk = nI kd ∧ bg_A (bg_pl kd) (bg_mon kd) a3 a4 ∧ (∀ k, k < 2 → cc k ≤ 8 ∧ a2 k = nI (cc k)) ∧ (∀ k, k < 2 → a9 k ≠ 0 → ∃ m, bg_rd kd cc a1 a7 a8 k m)
section
variable {kd : Nat} {cc : Nat → Nat} {fk fw : Int32} {a1 a2 a3 a4 a5 a6 a7 a8 a9 : Nat → Int32}
theorem bg_s_cp {post : St1 → Prop} {k : Nat} (S : bg_S kd cc fk a1 a2 a3 a4 a7 a8 a9) (hk : k < 2)
    (H : ∀ gw b5 b6 b7 b8 b9 m, bg_S kd cc fk a1 a2 a3 a4 b7 b8 b9 → b9 k ≠ 0 → bg_rd kd cc a1 b7 b8 k m → post (fk, gw, a1, a2, a3, a4, b5, b6, b7, b8, b9)) :
    wpX_complete post (fk, fw, a1, a2, a3, a4, a5, a6, a7, a8, a9) (nI k) := by
  obtain ⟨h1, h2, h3, h4, h5⟩ := S
  refine bg_w_cp (bg_Ok h1) h3 hk (h4 k hk).1 (h4 k hk).2 (fun hr => ?_) (fun hr n' c5 c6 d m hm hG ho => ?_)
  · obtain ⟨m, hm⟩ := h5 k hk hr
    exact H _ _ _ _ _ _ m ⟨h1, h2, h3, h4, h5⟩ hr hm
  · have r : bg_rd kd cc a1 d (upd a8 k (nI m)) k m := ⟨hm, pk_us, hG⟩
    refine H _ _ _ _ _ _ m ⟨h1, h2, h3, h4, fun k' hk' hr' => ?_⟩ (by rw [pk_us]; decide) r
    by_cases e : k' = k
    · rw [e]; exact ⟨m, r⟩
    · rw [pk_un e] at hr'
      obtain ⟨m', q1, q2, q3⟩ := h5 k' hk' hr'
      refine ⟨m', q1, by rw [pk_un e]; exact q2, bg_GBc q3 (fun i hi => (ho _ ?_).symm) (fun _ _ => Iff.rfl)⟩
      omega
theorem bg_s_cpr {post : St1 → Prop} {k : Nat} (S : bg_S kd cc fk a1 a2 a3 a4 a7 a8 a9) (hk : k < 2) (hr : a9 k ≠ 0) (H : post (fk, fw, a1, a2, a3, a4, a5, a6, a7, a8, a9)) :
    wpX_complete post (fk, fw, a1, a2, a3, a4, a5, a6, a7, a8, a9) (nI k) :=
  bg_w_cp (bg_Ok S.1) S.2.2.1 hk (S.2.2.2.1 k hk).1 (S.2.2.2.1 k hk).2 (fun _ => H) (fun e => absurd e hr)
theorem bg_w_fm21 {post : Int32 → St1 → Prop} {J : Int32 → Int32 → Prop} {pl mon W : Nat → Nat} (O : bg_O pl mon W) (A : bg_A pl mon a3 a4) {k n m s : Nat} (hk : k < 2) (hn : n ≤ 32) (h8 : a8 k = nI n) (hm : m < 32)
    (H : J (nI (s + (if (!bg_led mon (fun i => a7 (32 * k + i)) m n) = true then 1 else 0))) (nI (m + 1))) :
    ∃ f, wX_freeMonomials_21 post J (nI k) (nI s) (nI m) fk fw a1 a2 a3 a4 a5 a6 a7 a8 a9 f 0 0 := by
  refine pk_loop (fun f i s' => wX_freeMonomials_21 post J (nI k) (nI s) (nI m) fk fw a1 a2 a3 a4 a5 a6 a7 a8 a9 f s' (nI i)) (fun i s' => s' = if bg_led mon (fun i => a7 (32 * k + i)) m i = true then 1 else 0) n 0 0 (by omega) rfl ?_ ?_
  · intro f s' h
    refine ⟨pk_in k 2 hk, ?_⟩
    rw [nI_clamp (show k < 2 ^ 31 by omega), h8]
    refine pk_le n n (fun _ => ?_) (fun z => absurd z (by omega))
    rw [h]
    cases hl : bg_led mon (fun i => a7 (32 * k + i)) m n
    · rw [hl] at H
      exact br_t rfl (nm_r (nI_1 s) (nm_r (nI_1 m) H))
    · rw [hl] at H
      exact br_f (by decide) (nm_r (Int32.add_zero _) (nm_r (nI_1 m) H))
  · intro f i s' hi h hw
    refine ⟨pk_in k 2 hk, ?_⟩
    rw [nI_clamp (show k < 2 ^ 31 by omega), h8, bg_ix32]
    refine pk_le n i (fun z => absurd z (by omega)) (fun _ => ⟨pk_in (32 * k + i) 64 (by omega), ?_⟩)
    rw [nI_clamp (show 32 * k + i < 2 ^ 31 by omega)]
    have hl := bg_hi_lt (a7 (32 * k + i))
    refine bg_w_hi _ ⟨pk_in _ 32 hl, ?_⟩
    rw [nI_clamp (show bg_hi (a7 (32 * k + i)) < 2 ^ 31 by omega), A.2 _ hl]
    refine nm_e ?_
    have hq := bg_n1 _ (O.2.1 _ hl).1 m hm
    have e : bg_led mon (fun i => a7 (32 * k + i)) m (i + 1) = (bg_led mon (fun i => a7 (32 * k + i)) m i || bg_d (mon (bg_hi (a7 (32 * k + i)))) m) := rfl
    cases hb : bg_led mon (fun i => a7 (32 * k + i)) m i
    · rw [hb] at h e
      have h' : s' = 0 := h
      subst h'
      refine br_t rfl (ek_if hq (fun hd => nm_r (nI_1 i) (hw _ ?_)) (fun hd => nm_r (nI_1 i) (hw _ ?_)))
      · rw [e, hd]; rfl
      · rw [e, Bool.false_or, if_neg hd]
    · rw [hb] at h e
      have h' : s' = 1 := h
      subst h'
      refine br_f (by decide) (nm_r (nI_1 i) (hw _ ?_))
      rw [e, Bool.true_or]; rfl
theorem bg_s_fm {post : Int32 → St1 → Prop} {k : Nat} (S : bg_S kd cc fk a1 a2 a3 a4 a7 a8 a9) (hk : k < 2)
    (H : ∀ gw b5 b6 b7 b8 b9 m, bg_S kd cc fk a1 a2 a3 a4 b7 b8 b9 → b9 k ≠ 0 → bg_rd kd cc a1 b7 b8 k m → post (nI (bg_cn (bg_zb a1 (cc k) k) 32)) (fk, gw, a1, a2, a3, a4, b5, b6, b7, b8, b9)) :
    wpX_freeMonomials post (fk, fw, a1, a2, a3, a4, a5, a6, a7, a8, a9) (nI k) := by
  have O := bg_Ok S.1
  refine bg_s_cp S hk (fun gw b5 b6 b7 b8 b9 n S' hr hd => ?_)
  have hcount := bg_count O hd.2.2
  refine pk_loop (fun f m s => wX_freeMonomials_9 post (nI k) fk gw a1 a2 a3 a4 b5 b6 b7 b8 b9 f (nI s) (nI m)) (fun m s => s = bg_cn (fun m => !bg_led (bg_mon kd) (fun i => b7 (32 * k + i)) m n) m) 32 0 0 (by omega) rfl ?_ ?_
  · intro f s h
    refine pk_le 32 32 (fun _ => ?_) (fun z => absurd z (by omega))
    have h' : s = bg_cn (bg_zb a1 (cc k) k) 32 := h.trans hcount
    rw [h']
    exact H gw b5 b6 b7 b8 b9 n S' hr hd
  · intro f m s hm h hw
    refine pk_le 32 m (fun z => absurd z (by omega)) (fun _ => bg_w_fm21 O S'.2.2.1 hk hd.1 hd.2.1 hm (hw _ ?_))
    rw [h]
    rfl
theorem bg_s_zeros {post : Int32 → St1 → Prop} {k : Nat} (S : bg_S kd cc fk a1 a2 a3 a4 a7 a8 a9) (hk : k < 2)
    (H : ∀ gw b5 b6 b7 b8 b9 m, bg_S kd cc fk a1 a2 a3 a4 b7 b8 b9 → b9 k ≠ 0 → bg_rd kd cc a1 b7 b8 k m → post (nI (bg_cn (bg_zb a1 (cc k) k) 32)) (fk, gw, a1, a2, a3, a4, b5, b6, b7, b8, b9)) :
    wpX_zeros post (fk, fw, a1, a2, a3, a4, a5, a6, a7, a8, a9) (nI k) := by
  unfold wpX_zeros
  refine bg_w_id hk ?_
  refine br_f (by decide) ?_
  exact bg_s_fm S hk (fun gw b5 b6 b7 b8 b9 m h1 h2 h3 => H gw b5 b6 b7 b8 b9 m h1 h2 h3)
theorem bg_s_standard {post : Int32 → St1 → Prop} {k : Nat} (S : bg_S kd cc fk a1 a2 a3 a4 a7 a8 a9) (hk : k < 2)
    (H : ∀ gw b5 b6 b7 b8 b9 m, bg_S kd cc fk a1 a2 a3 a4 b7 b8 b9 → b9 k ≠ 0 → bg_rd kd cc a1 b7 b8 k m → post (nI (bg_cn (bg_zb a1 (cc k) k) 32)) (fk, gw, a1, a2, a3, a4, b5, b6, b7, b8, b9)) :
    wpX_standard post (fk, fw, a1, a2, a3, a4, a5, a6, a7, a8, a9) (nI k) := by
  unfold wpX_standard
  refine bg_w_id hk ?_
  refine br_f (by decide) ?_
  exact bg_s_fm S hk (fun gw b5 b6 b7 b8 b9 m h1 h2 h3 => H gw b5 b6 b7 b8 b9 m h1 h2 h3)
/-- the normal form -/
def bg_NF (kd : Nat) (a7 : Nat → Int32) (k m : Nat) (p : Int32) : Int32 := bg_out (bg_mon kd) (bg_R (bg_pl kd) (bg_mon kd) (fun i => a7 (32 * k + i)) m (bg_in (bg_pl kd) p))
theorem bg_w_no17 {post : Int32 → St1 → Prop} {k m : Nat} (S : bg_S kd cc fk a1 a2 a3 a4 a7 a8 a9) (hk : k < 2) (hd : bg_rd kd cc a1 a7 a8 k m) (p : Int32)
    (H : ∀ b5 b6, post (bg_NF kd a7 k m p) (fk, nI m, a1, a2, a3, a4, b5, b6, a7, a8, a9)) : ∃ f, wX_normalOf_17 post (nI k) p fk (nI m) f 0 a1 a2 a3 a4 a5 a6 a7 a8 a9 := by
  have O := bg_Ok S.1
  have A := S.2.2.1
  have m32 := hd.1
  refine pk_loop (σ := (Nat → Int32) × (Nat → Int32)) (fun f i s => wX_normalOf_17 post (nI k) p fk (nI m) f (nI i) a1 a2 a3 a4 s.1 s.2 a7 a8 a9)
    (fun i s => ∀ j, j < i → s.1 j = a7 (32 * k + j) ∧ s.2 j = nI (bg_ld (bg_mon kd) (fun i => a7 (32 * k + i)) j)) m 0 (a5, a6) (by omega) (fun j hj => absurd hj (by omega)) ?_ ?_
  · rintro f ⟨b5, b6⟩ h
    have e5 : ∀ j, j < m → b5 j = (fun i => a7 (32 * k + i)) j := fun j hj => (h j hj).1
    have e6 : ∀ j, j < m → b6 j = nI (bg_ld (bg_mon kd) b5 j) := by
      intro j hj
      have e : b6 j = nI (bg_ld (bg_mon kd) (fun i => a7 (32 * k + i)) j) := (h j hj).2
      rw [e]
      unfold bg_ld
      rw [e5 j hj]
    refine pk_le m m (fun _ => ?_) (fun z => absurd z (by omega))
    refine bg_w_in O A p ?_
    refine bg_w_red O A (by omega) (fun j hj => by rw [e5 j hj]; exact hd.2.2.1 j hj) e6 _ ?_
    refine bg_w_out O A _ ?_
    have := H b5 b6
    unfold bg_NF at this
    rw [← bg_R_c e5] at this
    exact this
  · rintro f i ⟨b5, b6⟩ hi h hw
    have hl := bg_hi_lt (a7 (32 * k + i))
    refine pk_le m i (fun z => absurd z (by omega)) (fun _ => ?_)
    rw [bg_ix32, nI_clamp (show 32 * k + i < 2 ^ 31 by omega), nI_clamp (show i < 2 ^ 31 by omega)]
    refine ⟨pk_in (32 * k + i) 64 (by omega), pk_in i 40 (by omega), nm_e ⟨pk_in i 40 (by omega), ?_⟩⟩
    rw [pk_us]
    refine bg_w_hi _ ⟨pk_in _ 32 hl, pk_in i 40 (by omega), ?_⟩
    rw [nI_clamp (show bg_hi (a7 (32 * k + i)) < 2 ^ 31 by omega), A.2 _ hl]
    refine nm_e (nm_r (nI_1 i) (hw (_, _) (fun j hj => ?_)))
    by_cases e : j = i
    · subst e
      exact ⟨pk_us, pk_us⟩
    · exact ⟨(pk_un e).trans (h j (by omega)).1, (pk_un e).trans (h j (by omega)).2⟩
theorem bg_s_no {post : Int32 → St1 → Prop} {k : Nat} (S : bg_S kd cc fk a1 a2 a3 a4 a7 a8 a9) (hk : k < 2) (p : Int32)
    (H : ∀ gw b5 b6 b7 b8 b9 m, bg_S kd cc fk a1 a2 a3 a4 b7 b8 b9 → b9 k ≠ 0 → bg_rd kd cc a1 b7 b8 k m → post (bg_NF kd b7 k m p) (fk, gw, a1, a2, a3, a4, b5, b6, b7, b8, b9)) :
    wpX_normalOf post (fk, fw, a1, a2, a3, a4, a5, a6, a7, a8, a9) (nI k) p := by
  refine bg_s_cp (fw := fw) S hk (fun gw b5 b6 b7 b8 b9 m S' hr hd => ⟨pk_in k 2 hk, ?_⟩)
  rw [nI_clamp (show k < 2 ^ 31 by omega), hd.2.1]
  exact nm_e (bg_w_no17 S' hk hd p (fun c5 c6 => H _ c5 c6 b7 b8 b9 m S' hr hd))
theorem bg_s_nor {post : Int32 → St1 → Prop} {k m : Nat} (S : bg_S kd cc fk a1 a2 a3 a4 a7 a8 a9) (hk : k < 2) (hr : a9 k ≠ 0) (hd : bg_rd kd cc a1 a7 a8 k m) (p : Int32)
    (H : ∀ gw b5 b6, post (bg_NF kd a7 k m p) (fk, gw, a1, a2, a3, a4, b5, b6, a7, a8, a9)) :
    wpX_normalOf post (fk, fw, a1, a2, a3, a4, a5, a6, a7, a8, a9) (nI k) p := by
  refine bg_s_cpr (fw := fw) S hk hr ⟨pk_in k 2 hk, ?_⟩
  rw [nI_clamp (show k < 2 ^ 31 by omega), hd.2.1]
  exact nm_e (bg_w_no17 S hk hd p (fun c5 c6 => H _ c5 c6))
theorem bg_s_normal {post : Int32 → St1 → Prop} {k m : Nat} (S : bg_S kd cc fk a1 a2 a3 a4 a7 a8 a9) (hk : k < 2) (hr : a9 k ≠ 0) (hd : bg_rd kd cc a1 a7 a8 k m) (p : Int32)
    (H : ∀ gw b5 b6, post (bg_NF kd a7 k m p) (fk, gw, a1, a2, a3, a4, b5, b6, a7, a8, a9)) :
    wpX_normal post (fk, fw, a1, a2, a3, a4, a5, a6, a7, a8, a9) (nI k) p := by
  unfold wpX_normal
  refine bg_w_id hk ?_
  refine br_f (by decide) ?_
  exact bg_s_nor S hk hr hd p (fun gw b5 b6 => H gw b5 b6)
theorem bg_s_contains {post : Int32 → St1 → Prop} {k m : Nat} (S : bg_S kd cc fk a1 a2 a3 a4 a7 a8 a9) (hk : k < 2) (hr : a9 k ≠ 0) (hd : bg_rd kd cc a1 a7 a8 k m) (p : Int32)
    (H1 : bg_NF kd a7 k m p = 0 → ∀ gw b5 b6, post 1 (fk, gw, a1, a2, a3, a4, b5, b6, a7, a8, a9)) (H0 : bg_NF kd a7 k m p ≠ 0 → ∀ gw b5 b6, post 0 (fk, gw, a1, a2, a3, a4, b5, b6, a7, a8, a9)) :
    wpX_contains post (fk, fw, a1, a2, a3, a4, a5, a6, a7, a8, a9) (nI k) p := by
  unfold wpX_contains
  refine bg_w_id hk ?_
  refine br_f (by decide) ?_
  exact bg_s_nor S hk hr hd p (fun gw b5 b6 => br_c (fun e => H1 e gw b5 b6) (fun e => H0 e gw b5 b6))
theorem bg_s_bs {post : Int32 → St1 → Prop} {k m : Nat} (S : bg_S kd cc fk a1 a2 a3 a4 a7 a8 a9) (hk : k < 2) (hr : a9 k ≠ 0) (hd : bg_rd kd cc a1 a7 a8 k m)
    (H : post (nI m) (fk, fw, a1, a2, a3, a4, a5, a6, a7, a8, a9)) :
    wpX_basisSize post (fk, fw, a1, a2, a3, a4, a5, a6, a7, a8, a9) (nI k) := by
  unfold wpX_basisSize
  refine bg_w_id hk ?_
  refine br_f (by decide) ?_
  refine bg_s_cpr S hk hr ⟨pk_in k 2 hk, ?_⟩
  rw [nI_clamp (show k < 2 ^ 31 by omega), hd.2.1]
  exact H
theorem bg_s_basis {post : Int32 → St1 → Prop} {k m j : Nat} (S : bg_S kd cc fk a1 a2 a3 a4 a7 a8 a9) (hk : k < 2) (hr : a9 k ≠ 0) (hd : bg_rd kd cc a1 a7 a8 k m) (hj : j < m)
    (H : post (bg_out (bg_mon kd) (a7 (32 * k + j))) (fk, fw, a1, a2, a3, a4, a5, a6, a7, a8, a9)) :
    wpX_basis post (fk, fw, a1, a2, a3, a4, a5, a6, a7, a8, a9) (nI k) (nI j) := by
  have m32 := hd.1
  unfold wpX_basis
  refine bg_w_id hk ?_
  refine br_f (by decide) ?_
  refine bg_s_cpr S hk hr (br_f (nI_pos (by omega)) ⟨pk_in k 2 hk, ?_⟩)
  rw [nI_clamp (show k < 2 ^ 31 by omega), hd.2.1, bg_ix32]
  refine pk_le m j (fun z => absurd z (by omega)) (fun _ => ⟨pk_in (32 * k + j) 64 (by omega), ?_⟩)
  rw [nI_clamp (show 32 * k + j < 2 ^ 31 by omega)]
  exact bg_w_out (bg_Ok S.1) S.2.2.1 _ H
theorem bg_s_value {post : Int32 → Prop} (f : Int32) {pt : Nat} (hpt : pt < 32) (H : post (bg_va f pt)) : wpX_value post (fk, fw, a1, a2, a3, a4, a5, a6, a7, a8, a9) f (nI pt) :=
  br_f (nI_pos (by omega)) (pk_le 32 pt (fun z => absurd z (by omega)) (fun _ => bg_w_va f hpt H))
theorem bg_NF0 {k m : Nat} (h1 : kd < 2) (hd : bg_rd kd cc a1 a7 a8 k m) (p : Int32) : bg_NF kd a7 k m p = 0 ↔ ∀ pt, pt < 32 → bg_zb a1 (cc k) k pt = true → bg_va p pt = 0 := by
  have O := bg_Ok h1
  have e : bg_NF kd a7 k m p = 0 ↔ bg_R (bg_pl kd) (bg_mon kd) (fun i => a7 (32 * k + i)) m (bg_in (bg_pl kd) p) = 0 := by
    unfold bg_NF
    constructor
    · intro h
      rw [← bg_inout O (bg_R _ _ _ _ _), h, bg_in0]
    · intro h
      rw [h, bg_out0]
  rw [e, bg_GBz O hd.2.2]
  constructor
  · intro h pt hpt hz
    rw [← bg_evin O]
    exact h pt hpt hz
  · intro h pt hpt hz
    rw [bg_evin O]
    exact h pt hpt hz
theorem bg_NFNF {k m : Nat} (h1 : kd < 2) (hd : bg_rd kd cc a1 a7 a8 k m) (p : Int32) : bg_NF kd a7 k m (bg_NF kd a7 k m p) = bg_NF kd a7 k m p := by
  have O := bg_Ok h1
  unfold bg_NF
  rw [bg_inout O]
  congr 1
  exact bg_rr (bg_bT O hd.2.2.1) _
theorem bg_NFx {k m : Nat} (h1 : kd < 2) (hd : bg_rd kd cc a1 a7 a8 k m) (p : Int32) : bg_NF kd a7 k m (p ^^^ bg_NF kd a7 k m p) = 0 := by
  have e : bg_NF kd a7 k m (p ^^^ bg_NF kd a7 k m p) = bg_NF kd a7 k m p ^^^ bg_NF kd a7 k m (bg_NF kd a7 k m p) := by
    show bg_out _ (bg_R _ _ _ m (bg_in _ (p ^^^ bg_NF kd a7 k m p))) = bg_out _ (bg_R _ _ _ m (bg_in _ p)) ^^^ bg_out _ (bg_R _ _ _ m (bg_in _ (bg_NF kd a7 k m p)))
    rw [bg_inx, bg_Rx, bg_outx]
  rw [e, bg_NFNF h1 hd, Int32.xor_self]
theorem bg_s_within {post : Int32 → St1 → Prop} {k : Nat} (S : bg_S kd cc fk a1 a2 a3 a4 a7 a8 a9) (hk : k < 2)
    (H1 : (∀ pt, pt < 32 → bg_zb a1 (cc (1 - k)) (1 - k) pt = true → bg_zb a1 (cc k) k pt = true) → ∀ gw b5 b6 b7 b8 b9, bg_S kd cc fk a1 a2 a3 a4 b7 b8 b9 → post 1 (fk, gw, a1, a2, a3, a4, b5, b6, b7, b8, b9))
    (H0 : ¬ (∀ pt, pt < 32 → bg_zb a1 (cc (1 - k)) (1 - k) pt = true → bg_zb a1 (cc k) k pt = true) → ∀ gw b5 b6 b7 b8 b9, bg_S kd cc fk a1 a2 a3 a4 b7 b8 b9 → post 0 (fk, gw, a1, a2, a3, a4, b5, b6, b7, b8, b9)) :
    wpX_within post (fk, fw, a1, a2, a3, a4, a5, a6, a7, a8, a9) (nI k) := by
  unfold wpX_within
  refine bg_w_id hk ?_
  refine br_f (by decide) ?_
  obtain ⟨hc, h2⟩ := S.2.2.2.1 k hk
  refine pk_loop (σ := Int32 × (Nat → Int32) × (Nat → Int32) × (Nat → Int32) × (Nat → Int32) × (Nat → Int32)) (fun f i s => wX_within_11 post (nI k) f (nI i) fk s.1 a1 a2 a3 a4 s.2.1 s.2.2.1 s.2.2.2.1 s.2.2.2.2.1 s.2.2.2.2.2)
    (fun i s => bg_S kd cc fk a1 a2 a3 a4 s.2.2.2.1 s.2.2.2.2.1 s.2.2.2.2.2 ∧ ∀ j, j < i → ∀ pt, pt < 32 → bg_zb a1 (cc (1 - k)) (1 - k) pt = true → bg_va (a1 (8 * k + j)) pt = 0) (cc k) 0 (fw, a5, a6, a7, a8, a9) (by omega) ⟨S, fun j hj => absurd hj (by omega)⟩ ?_ ?_
  · rintro f ⟨gw, b5, b6, b7, b8, b9⟩ ⟨S', h⟩
    refine ⟨pk_in k 2 hk, ?_⟩
    rw [nI_clamp (show k < 2 ^ 31 by omega), h2]
    refine pk_le (cc k) (cc k) (fun _ => H1 (fun pt hpt hz => bg_zb_iff.mpr (fun i hi => h i hi pt hpt hz)) gw b5 b6 b7 b8 b9 S') (fun z => absurd z (by omega))
  · rintro f i ⟨gw, b5, b6, b7, b8, b9⟩ hi ⟨S', h⟩ hw
    refine ⟨pk_in k 2 hk, ?_⟩
    rw [nI_clamp (show k < 2 ^ 31 by omega), h2, bg_ix8]
    refine pk_le (cc k) i (fun z => absurd z (by omega)) (fun _ => ⟨pk_in (8 * k + i) 16 (by omega), ?_⟩)
    rw [nI_clamp (show 8 * k + i < 2 ^ 31 by omega), show (1 : Int32) - nI k = nI (1 - k) from pk_sub (a := 1) (by omega)]
    refine bg_s_no S' (by omega) _ (fun hw' d5 d6 d7 d8 d9 m S'' hr hd => br_c (fun e => nm_r (nI_1 i) (hw (hw', d5, d6, d7, d8, d9) ⟨S'', fun j hj => ?_⟩)) (fun e => H0 (fun hall => e ?_) _ _ _ _ _ _ S''))
    · by_cases ej : j = i
      · rw [ej]; exact (bg_NF0 S.1 hd _).mp e
      · exact h j (by omega)
    · exact (bg_NF0 S.1 hd _).mpr (fun pt hpt hz => bg_zb_iff.mp (hall pt hpt hz) i hi)
end
end
section
/-! ===== the law's check ===== -/
/-- x is the next zero from s on, or -2 -/
def bg_nx (zb : Nat → Bool) (s : Nat) (x : Int32) : Prop :=
  (∃ p, s ≤ p ∧ p < 32 ∧ zb p = true ∧ (∀ j, s ≤ j → j < p → zb j = false) ∧ x = nI p) ∨ ((∀ j, s ≤ j → j < 32 → zb j = false) ∧ x = -2)
theorem bg_cn_no {zb : Nat → Bool} {s p : Nat} (h : s ≤ p) (hn : ∀ j, s ≤ j → j < p → zb j = false) : bg_cn zb p = bg_cn zb s := by
  induction p with
  | zero =>
    have : s = 0 := by omega
    rw [this]
  | succ p ih =>
    by_cases e : s = p + 1
    · rw [e]
    · have e2 : bg_cn zb (p + 1) = bg_cn zb p + (if zb p = true then 1 else 0) := rfl
      rw [e2, hn p (by omega) (by omega), ih (by omega) (fun j h1 h2 => hn j h1 (by omega))]
      rfl
theorem bg_cn_yes {zb : Nat → Bool} {p : Nat} (h : zb p = true) : bg_cn zb (p + 1) = bg_cn zb p + 1 := by
  have e2 : bg_cn zb (p + 1) = bg_cn zb p + (if zb p = true then 1 else 0) := rfl
  rw [e2, if_pos h]
section
variable {kd : Nat} {cc : Nat → Nat} {fk fw : Int32} {a1 a2 a3 a4 a5 a6 a7 a8 a9 : Nat → Int32}
theorem bg_s_nz {post : Int32 → Prop} {k s : Nat} {p1 : Int32} (S : bg_S kd cc fk a1 a2 a3 a4 a7 a8 a9) (hk : k < 2) (hs : s ≤ 32) (hp : p1 = nI s + (-1)) (H : ∀ x, bg_nx (bg_zb a1 (cc k) k) s x → post x) :
    wpX_nextZero post (fk, fw, a1, a2, a3, a4, a5, a6, a7, a8, a9) (nI k) p1 :=
  bg_w_nz hk (S.2.2.2.1 k hk).1 (S.2.2.2.1 k hk).2 hs hp (fun p h1 h2 h3 h4 => H _ (Or.inl ⟨p, h1, h2, h3, h4, rfl⟩)) (fun h => H _ (Or.inr ⟨h, rfl⟩))
theorem bg_h143 {post : Int32 → St1 → Prop} {J : Int32 → Int32 → Int32 → Int32 → Int32 → (Nat → Int32) → (Nat → Int32) → (Nat → Int32) → (Nat → Int32) → (Nat → Int32) → (Nat → Int32) → (Nat → Int32) → (Nat → Int32) → (Nat → Int32) → Prop} {x3 x6 x9 : Int32} {k m s pt : Nat}
    (S : bg_S kd cc fk a1 a2 a3 a4 a7 a8 a9) (hk : k < 2) (hr : a9 k ≠ 0) (hd : bg_rd kd cc a1 a7 a8 k m) (hpt : pt < 32) (hz : bg_zb a1 (cc k) k pt = true)
    (H : wpX_nextZero (fun r => ∀ x : Int32, x = x9 + 1 → J (nI (s + 1)) r x fk fw a1 a2 a3 a4 a5 a6 a7 a8 a9) (fk, fw, a1, a2, a3, a4, a5, a6, a7, a8, a9) (nI k) (nI pt)) :
    ∃ f, wL_holds_143 post J (nI k) x3 (nI m) x6 (nI s) (nI pt) x9 f 0 fk fw a1 a2 a3 a4 a5 a6 a7 a8 a9 := by
  have O := bg_Ok S.1
  have m32 := hd.1
  refine pk_loop (σ := Unit) (fun f j _ => wL_holds_143 post J (nI k) x3 (nI m) x6 (nI s) (nI pt) x9 f (nI j) fk fw a1 a2 a3 a4 a5 a6 a7 a8 a9) (fun _ _ => True) m 0 () (by omega) trivial ?_ ?_
  · intro f _ _
    exact pk_le m m (fun _ => nm_r (nI_1 s) H) (fun z => absurd z (by omega))
  · intro f j _ hj _ hw
    refine pk_le m j (fun z => absurd z (by omega)) (fun _ => bg_s_basis S hk hr hd hj (br_f ?_ (bg_s_value _ hpt (br_t ?_ (nm_r (nI_1 j) (hw () trivial))))))
    · intro e
      apply hd.2.2.1 j hj
      show a7 (32 * k + j) = 0
      rw [← bg_inout O (a7 (32 * k + j)), e, bg_in0]
    · rw [bg_vaout O]
      exact hd.2.2.2.1 j hj pt hpt hz
theorem bg_h128 {post : Int32 → St1 → Prop} {x3 x6 : Int32} {k m : Nat}
    (S : bg_S kd cc fk a1 a2 a3 a4 a7 a8 a9) (hk : k < 2) (hr : a9 k ≠ 0) (hd : bg_rd kd cc a1 a7 a8 k m)
    (H : wL_holds_201 post (nI k) x3 x6 (nI (bg_cn (bg_zb a1 (cc k) k) 32)) fk fw a1 a2 a3 a4 a5 a6 a7 a8 a9) {x : Int32} (hx : bg_nx (bg_zb a1 (cc k) k) 0 x) :
    ∃ f, wL_holds_128 post (nI k) x3 (nI m) x6 f 0 x 0 fk fw a1 a2 a3 a4 a5 a6 a7 a8 a9 := by
  refine loop_m (σ := Nat × Int32) (fun f s => wL_holds_128 post (nI k) x3 (nI m) x6 f (nI (bg_cn (bg_zb a1 (cc k) k) s.1)) s.2 (nI (bg_cn (bg_zb a1 (cc k) k) s.1)) fk fw a1 a2 a3 a4 a5 a6 a7 a8 a9)
    (fun s => s.1 ≤ 32 ∧ bg_nx (bg_zb a1 (cc k) k) s.1 s.2) (fun s => 33 - s.1) ?_ (0, x) ⟨Nat.zero_le _, hx⟩
  rintro f ⟨s, y⟩ ⟨hs, hy⟩ hw
  have hs' : s ≤ 32 := hs
  have hle := bg_cn_le (bg_zb a1 (cc k) k) s
  refine pk_le 32 (bg_cn (bg_zb a1 (cc k) k) s) (fun z => ?_) (fun z => ?_)
  · have e : s = 32 := by omega
    subst e
    exact H
  · rcases hy with ⟨p, h1, h2, h3, h4, h5⟩ | ⟨h1, h2⟩
    · have h5' : y = nI p := h5
      subst h5'
      have ec : bg_cn (bg_zb a1 (cc k) k) (p + 1) = bg_cn (bg_zb a1 (cc k) k) s + 1 := by rw [bg_cn_yes h3, bg_cn_no h1 h4]
      refine br_f (nI_pos (by omega)) (bg_h143 S hk hr hd h2 h3 (bg_s_nz S hk (s := p + 1) (by omega) (by rw [pk_m1]) (fun r hr => nm_r (nI_1 _) ?_)))
      have q := hw (p + 1, r) ⟨by show p + 1 ≤ 32; omega, hr⟩ (by show 33 - (p + 1) < 33 - s; have h1' : s ≤ p := h1; omega)
      have q' : wL_holds_128 post (nI k) x3 (nI m) x6 f (nI (bg_cn (bg_zb a1 (cc k) k) (p + 1))) r (nI (bg_cn (bg_zb a1 (cc k) k) (p + 1))) fk fw a1 a2 a3 a4 a5 a6 a7 a8 a9 := q
      rw [ec] at q'
      exact q'
    · have h2' : y = -2 := h2
      subst h2'
      refine br_t (show (-2 : Int32) < 0 by decide) ?_
      have e : bg_cn (bg_zb a1 (cc k) k) 32 = bg_cn (bg_zb a1 (cc k) k) s := bg_cn_no hs' h1
      rw [e] at H
      exact H
/-- 'all' so far -/
def bg_al (z z' : Nat → Bool) (s : Nat) (x : Int32) : Prop := (x = 1 ∧ ∀ pt, pt < s → z' pt = true → z pt = true) ∨ (x = 0 ∧ ¬ ∀ pt, pt < s → z' pt = true → z pt = true)
theorem bg_al_no {z z' : Nat → Bool} {s t : Nat} {x : Int32} (h : bg_al z z' s x) (hst : s ≤ t) (hn : ∀ j, s ≤ j → j < t → z' j = false) : bg_al z z' t x := by
  rcases h with ⟨e, h⟩ | ⟨e, h⟩
  · refine Or.inl ⟨e, fun pt hpt hz => ?_⟩
    rcases Nat.lt_or_ge pt s with q | q
    · exact h pt q hz
    · rw [hn pt q hpt] at hz
      exact absurd hz (by decide)
  · exact Or.inr ⟨e, fun k => h (fun pt hpt hz => k pt (by omega) hz)⟩
theorem bg_h214 {post : Int32 → St1 → Prop} {x3 x7 : Int32} {k : Nat}
    (S : bg_S kd cc fk a1 a2 a3 a4 a7 a8 a9) (hk : k < 2)
    (H : ∀ x, bg_al (bg_zb a1 (cc k) k) (bg_zb a1 (cc (1 - k)) (1 - k)) 32 x → wL_holds_260 post (nI k) x3 x x7 fk fw a1 a2 a3 a4 a5 a6 a7 a8 a9) {y : Int32} (hy : bg_nx (bg_zb a1 (cc (1 - k)) (1 - k)) 0 y) :
    ∃ f, wL_holds_214 post (nI k) x3 x7 fk fw a1 a2 a3 a4 a5 a6 a7 a8 a9 f 1 y 0 := by
  have e1k : (1 : Int32) - nI k = nI (1 - k) := pk_sub (a := 1) (by omega)
  refine loop_m (σ := Nat × Int32 × Int32) (fun f s => wL_holds_214 post (nI k) x3 x7 fk fw a1 a2 a3 a4 a5 a6 a7 a8 a9 f s.2.1 s.2.2 (nI (bg_cn (bg_zb a1 (cc (1 - k)) (1 - k)) s.1)))
    (fun s => s.1 ≤ 32 ∧ bg_al (bg_zb a1 (cc k) k) (bg_zb a1 (cc (1 - k)) (1 - k)) s.1 s.2.1 ∧ bg_nx (bg_zb a1 (cc (1 - k)) (1 - k)) s.1 s.2.2) (fun s => 33 - s.1) ?_ (0, 1, y) ⟨Nat.zero_le _, Or.inl ⟨rfl, fun pt hpt => absurd hpt (by show ¬ pt < 0; omega)⟩, hy⟩
  rintro f ⟨s, x, w⟩ ⟨hs, hx, hw0⟩ hw
  have hs' : s ≤ 32 := hs
  have hle := bg_cn_le (bg_zb a1 (cc (1 - k)) (1 - k)) s
  refine pk_le 32 (bg_cn (bg_zb a1 (cc (1 - k)) (1 - k)) s) (fun z => ?_) (fun z => ?_)
  · have e : s = 32 := by omega
    subst e
    exact H x hx
  · rcases hw0 with ⟨p, h1, h2, h3, h4, h5⟩ | ⟨h1, h2⟩
    · have h5' : w = nI p := h5
      have h1' : s ≤ p := h1
      subst h5'
      have ec : bg_cn (bg_zb a1 (cc (1 - k)) (1 - k)) (p + 1) = bg_cn (bg_zb a1 (cc (1 - k)) (1 - k)) s + 1 := by rw [bg_cn_yes h3, bg_cn_no h1 h4]
      have hx2 := bg_al_no hx h1 h4
      have nxt : ∀ v, bg_al (bg_zb a1 (cc k) k) (bg_zb a1 (cc (1 - k)) (1 - k)) (p + 1) v → wL_holds_243 post (wL_holds_214 post (nI k) x3 x7 fk fw a1 a2 a3 a4 a5 a6 a7 a8 a9 f) (nI k) x3 v x7 (nI p) (nI (bg_cn (bg_zb a1 (cc (1 - k)) (1 - k)) s)) fk fw a1 a2 a3 a4 a5 a6 a7 a8 a9 := by
        intro v hv
        unfold wL_holds_243
        rw [e1k]
        refine bg_s_nz S (by omega) (s := p + 1) (by omega) (by rw [pk_m1]) (fun r hr => nm_r (nI_1 _) ?_)
        have q : wL_holds_214 post (nI k) x3 x7 fk fw a1 a2 a3 a4 a5 a6 a7 a8 a9 f v r (nI (bg_cn (bg_zb a1 (cc (1 - k)) (1 - k)) (p + 1))) := hw (p + 1, v, r) ⟨by show p + 1 ≤ 32; omega, hv, hr⟩ (by show 33 - (p + 1) < 33 - s; omega)
        rw [ec] at q
        exact q
      refine br_f (nI_pos (by omega)) (bg_s_nz S hk (s := p) (by omega) (Int32.sub_eq_add_neg _ _) (fun r hr => ?_))
      cases hzp : bg_zb a1 (cc k) k p
      · refine br_f ?_ (nxt 0 (Or.inr ⟨rfl, fun hall => ?_⟩))
        · intro e
          rcases hr with ⟨p', g1, g2, g3, g4, g5⟩ | ⟨g1, g2⟩
          · rw [g5] at e
            have e' := (nI_eq (show p' < 2 ^ 31 by omega) (show p < 2 ^ 31 by omega)).mp e
            rw [e', hzp] at g3
            exact absurd g3 (by decide)
          · have hp0 := nI_pos (show p < 2 ^ 31 by omega)
            have e' : r = nI p := e
            rw [← e', g2] at hp0
            exact hp0 (by decide)
        · have := hall p (by omega) h3
          rw [hzp] at this
          exact absurd this (by decide)
      · refine br_t ?_ (nxt x ?_)
        · rcases hr with ⟨p', g1, g2, g3, g4, g5⟩ | ⟨g1, g2⟩
          · have e' : p' = p := by
              rcases Nat.lt_or_ge p p' with q | q
              · have := g4 p (Nat.le_refl _) q
                rw [hzp] at this
                exact absurd this (by decide)
              · omega
            rw [g5, e']
          · have := g1 p (Nat.le_refl _) h2
            rw [hzp] at this
            exact absurd this (by decide)
        · rcases hx2 with ⟨e, g⟩ | ⟨e, g⟩
          · refine Or.inl ⟨e, fun pt hpt hz => ?_⟩
            by_cases ep : pt = p
            · rw [ep]; exact hzp
            · exact g pt (by omega) hz
          · exact Or.inr ⟨e, fun hall => g (fun pt hpt hz => hall pt (by omega) hz)⟩
    · have h2' : w = -2 := h2
      subst h2'
      exact br_t (show (-2 : Int32) < 0 by decide) (H x (bg_al_no hx hs' h1))
theorem bg_h201 {post : Int32 → St1 → Prop} {k : Nat} {z : Int32}
    (S : bg_S kd cc fk a1 a2 a3 a4 a7 a8 a9) (hk : k < 2) (H : ∀ gw b5 b6 b7 b8 b9, bg_S kd cc fk a1 a2 a3 a4 b7 b8 b9 → post 1 (fk, gw, a1, a2, a3, a4, b5, b6, b7, b8, b9)) :
    wL_holds_201 post (nI k) z 1 z fk fw a1 a2 a3 a4 a5 a6 a7 a8 a9 := by
  unfold wL_holds_201
  rw [show (1 : Int32) - nI k = nI (1 - k) from pk_sub (a := 1) (by omega)]
  refine bg_s_nz S (by omega) (s := 0) (by omega) (by decide) (fun y hy => bg_h214 S hk (fun x hx => ?_) hy)
  unfold wL_holds_260
  refine br_t rfl (bg_s_within S hk (fun hall gw b5 b6 b7 b8 b9 S' => ?_) (fun hall gw b5 b6 b7 b8 b9 S' => ?_))
  · rcases hx with ⟨e, _⟩ | ⟨_, g⟩
    · exact br_t e.symm (H _ _ _ _ _ _ S')
    · exact absurd hall g
  · rcases hx with ⟨_, g⟩ | ⟨e, _⟩
    · exact absurd g hall
    · exact br_t e.symm (H _ _ _ _ _ _ S')
theorem bg_h60 {post : Int32 → St1 → Prop} {k m : Nat} {z p : Int32}
    (S : bg_S kd cc fk a1 a2 a3 a4 a7 a8 a9) (hk : k < 2) (hr : a9 k ≠ 0) (hd : bg_rd kd cc a1 a7 a8 k m) (H : ∀ gw b5 b6 b7 b8 b9, bg_S kd cc fk a1 a2 a3 a4 b7 b8 b9 → post 1 (fk, gw, a1, a2, a3, a4, b5, b6, b7, b8, b9)) :
    wL_holds_60 post (nI k) p (nI (bg_cn (bg_zb a1 (cc k) k) 32)) (bg_NF kd a7 k m p) z z fk fw a1 a2 a3 a4 a5 a6 a7 a8 a9 := by
  unfold wL_holds_60
  refine br_t rfl (bg_s_normal S hk hr hd _ (fun gw b5 b6 => br_t (bg_NFNF S.1 hd p) (bg_s_contains S hk hr hd _ (fun e gw b5 b6 => br_t rfl (bg_s_bs S hk hr hd ?_)) (fun e => absurd (bg_NFx S.1 hd p) e))))
  have m32 := hd.1
  refine br_f (nI_pos (by omega)) (pk_le m 32 (fun _ => ?_) (fun z => absurd z (by omega)))
  exact bg_s_nz S hk (s := 0) (by omega) (by decide) (fun x hx => bg_h128 S hk hr hd (bg_h201 S hk H) hx)
theorem bg_s_holds {post : Int32 → St1 → Prop} {k : Nat} (p : Int32) (S : bg_S kd cc fk a1 a2 a3 a4 a7 a8 a9) (hk : k < 2)
    (H : ∀ gw b5 b6 b7 b8 b9, bg_S kd cc fk a1 a2 a3 a4 b7 b8 b9 → post 1 (fk, gw, a1, a2, a3, a4, b5, b6, b7, b8, b9)) :
    wpL_holds post (fk, fw, a1, a2, a3, a4, a5, a6, a7, a8, a9) (nI k) p := by
  have hle := bg_cn_le (bg_zb a1 (cc k) k) 32
  unfold wpL_holds
  refine bg_s_zeros S hk (fun gw b5 b6 b7 b8 b9 m S1 hr1 hd1 => ?_)
  refine bg_s_standard S1 hk (fun gw b5 b6 b7 b8 b9 m S2 hr2 hd2 => ?_)
  refine br_t rfl (br_f (nI_pos (by omega)) (pk_le (bg_cn (bg_zb a1 (cc k) k) 32) 32 (fun _ => ?_) (fun z => absurd z (by omega))))
  refine bg_s_normal S2 hk hr2 hd2 p (fun gw b5 b6 => ?_)
  refine bg_s_contains S2 hk hr2 hd2 p (fun e gw b5 b6 => br_t rfl ?_) (fun e gw b5 b6 => br_f (by decide) ?_)
  · unfold wL_holds_50
    exact br_t e (bg_h60 S2 hk hr2 hd2 H)
  · unfold wL_holds_50
    exact br_f e (bg_h60 S2 hk hr2 hd2 H)
end
end
section
/-! ===== walks: arrange, and the methods that change the object ===== -/
def bg_cd (kd d m : Nat) : Bool := if kd = 1 then d == 0 else bg_ones m == d
def bg_N (kd : Nat) : Nat → Nat
  | 0 => 0
  | t + 1 => bg_N kd t + (if bg_cd kd (t / 32) (t % 32) = true then 1 else 0)
def bg_NT (kd t : Nat) : Bool := !(bg_cd kd (t / 32) (t % 32)) || ((bg_pl kd (t % 32) == bg_N kd t) && (Nat.blt (bg_N kd t) 32 && (bg_mon kd (bg_N kd t) == t % 32)))
theorem bg_NT0 : ∀ t, t < 192 → bg_NT 0 t = true := by decide +kernel
theorem bg_NT1 : ∀ t, t < 192 → bg_NT 1 t = true := by decide +kernel
theorem bg_NTk {kd t : Nat} (hk : kd < 2) (ht : t < 192) (h : bg_cd kd (t / 32) (t % 32) = true) : bg_pl kd (t % 32) = bg_N kd t ∧ bg_N kd t < 32 ∧ bg_mon kd (bg_N kd t) = t % 32 := by
  have q : bg_NT kd t = true := by
    match kd, hk with
    | 0, _ => exact bg_NT0 t ht
    | 1, _ => exact bg_NT1 t ht
  unfold bg_NT at q
  rw [h] at q
  have q' : (bg_pl kd (t % 32) == bg_N kd t && (Nat.blt (bg_N kd t) 32 && (bg_mon kd (bg_N kd t) == t % 32))) = true := by simpa using q
  rw [Bool.and_eq_true, Bool.and_eq_true] at q'
  refine ⟨by simpa using q'.1, ?_, by simpa using q'.2.2⟩
  have := q'.2.1
  rw [Nat.blt_eq] at this
  exact this
theorem bg_N192 {kd : Nat} (hk : kd < 2) : bg_N kd 192 = 32 := by
  match kd, hk with
  | 0, _ => decide +kernel
  | 1, _ => decide +kernel
theorem bg_ones5 : ∀ m, m < 32 → bg_ones m < 6 := by decide +kernel
/-- the tables so far: all pairs ahead of t are done -/
def bg_ar (kd t : Nat) (x1 : Int32) (a3 a4 : Nat → Int32) : Prop :=
  x1 = nI (bg_N kd t) ∧ (∀ d m, m < 32 → 32 * d + m < t → bg_cd kd d m = true → a3 m = nI (bg_pl kd m)) ∧ (∀ p, p < bg_N kd t → a4 p = nI (bg_mon kd p))
theorem bg_ar_no {kd d m : Nat} {x1 : Int32} {a3 a4 : Nat → Int32} (hm : m < 32) (h : bg_ar kd (32 * d + m) x1 a3 a4) (hc : bg_cd kd d m = false) : bg_ar kd (32 * d + (m + 1)) x1 a3 a4 := by
  have e1 : (32 * d + m) / 32 = d := by omega
  have e2 : (32 * d + m) % 32 = m := by omega
  have eN : bg_N kd (32 * d + (m + 1)) = bg_N kd (32 * d + m) := by
    show bg_N kd (32 * d + m) + (if bg_cd kd ((32 * d + m) / 32) ((32 * d + m) % 32) = true then 1 else 0) = _
    rw [e1, e2, hc]
    rfl
  obtain ⟨h1, h2, h3⟩ := h
  refine ⟨by rw [eN]; exact h1, fun d' m' hm' hl hc' => ?_, fun p hp => h3 p (by rw [eN] at hp; exact hp)⟩
  by_cases e : 32 * d' + m' = 32 * d + m
  · have : d' = d := by omega
    have : m' = m := by omega
    subst d' m'
    rw [hc] at hc'
    exact absurd hc' (by decide)
  · exact h2 d' m' hm' (by omega) hc'
theorem bg_ar_yes {kd d m : Nat} {x1 : Int32} {a3 a4 : Nat → Int32} (hk : kd < 2) (hd : d < 6) (hm : m < 32) (h : bg_ar kd (32 * d + m) x1 a3 a4) (hc : bg_cd kd d m = true) :
    bg_N kd (32 * d + m) < 32 ∧ bg_ar kd (32 * d + (m + 1)) (nI (bg_N kd (32 * d + m) + 1)) (upd a3 m (nI (bg_N kd (32 * d + m)))) (upd a4 (bg_N kd (32 * d + m)) (nI m)) := by
  have e1 : (32 * d + m) / 32 = d := by omega
  have e2 : (32 * d + m) % 32 = m := by omega
  have eN : bg_N kd (32 * d + (m + 1)) = bg_N kd (32 * d + m) + 1 := by
    show bg_N kd (32 * d + m) + (if bg_cd kd ((32 * d + m) / 32) ((32 * d + m) % 32) = true then 1 else 0) = _
    rw [e1, e2, hc]
    rfl
  have q := bg_NTk hk (show 32 * d + m < 192 by omega) (by rw [e1, e2]; exact hc)
  rw [e2] at q
  obtain ⟨h1, h2, h3⟩ := h
  refine ⟨q.2.1, by rw [eN], fun d' m' hm' hl hc' => ?_, fun p hp => ?_⟩
  · by_cases e : m' = m
    · subst e
      rw [pk_us, q.1]
    · rw [pk_un e]
      exact h2 d' m' hm' (by omega) hc'
  · by_cases e : p = bg_N kd (32 * d + m)
    · subst e
      rw [pk_us, q.2.2]
    · rw [pk_un e]
      exact h3 p (by omega)
section
variable {kd : Nat} {cc : Nat → Nat} {fk fw : Int32} {a1 a2 a3 a4 a5 a6 a7 a8 a9 : Nat → Int32}
theorem bg_w_ar11 {post : St1 → Prop} {J : Int32 → Int32 → (Nat → Int32) → (Nat → Int32) → (Nat → Int32) → (Nat → Int32) → (Nat → Int32) → (Nat → Int32) → (Nat → Int32) → (Nat → Int32) → (Nat → Int32) → Prop} {d : Nat} {x1 : Int32} (hk : kd < 2) (hd : d < 6) (h : bg_ar kd (32 * d) x1 a3 a4)
    (H : ∀ y1 b3 b4, bg_ar kd (32 * (d + 1)) y1 b3 b4 → J y1 (nI (d + 1)) a1 a2 b3 b4 a5 a6 a7 a8 a9) :
    ∃ f, wX_arrange_11 post J (nI d) (nI kd) fw f x1 0 a1 a2 a3 a4 a5 a6 a7 a8 a9 := by
  refine pk_loop (σ := Int32 × (Nat → Int32) × (Nat → Int32)) (fun f m s => wX_arrange_11 post J (nI d) (nI kd) fw f s.1 (nI m) a1 a2 s.2.1 s.2.2 a5 a6 a7 a8 a9) (fun m s => bg_ar kd (32 * d + m) s.1 s.2.1 s.2.2) 32 0 (x1, a3, a4) (by omega) h ?_ ?_
  · rintro f ⟨y1, b3, b4⟩ hi
    exact pk_le 32 32 (fun _ => nm_r (nI_1 d) (H _ _ _ (by rw [show 32 * (d + 1) = 32 * d + 32 by omega]; exact hi))) (fun z => absurd z (by omega))
  · rintro f m ⟨y1, b3, b4⟩ hm hi hw
    have no : bg_cd kd d m = false → wX_arrange_11 post J (nI d) (nI kd) fw f y1 (nI (m + 1)) a1 a2 b3 b4 a5 a6 a7 a8 a9 := fun hc => hw (y1, b3, b4) (bg_ar_no hm hi hc)
    have yes : bg_cd kd d m = true → wX_arrange_40 post J (wX_arrange_11 post J (nI d) (nI kd) fw f) y1 (nI d) (nI m) (nI kd) fw a1 a2 b3 b4 a5 a6 a7 a8 a9 := by
      intro hc
      obtain ⟨q1, q2⟩ := bg_ar_yes hk hd hm hi hc
      have ey : y1 = nI (bg_N kd (32 * d + m)) := hi.1
      subst ey
      unfold wX_arrange_40
      rw [nI_clamp (show m < 2 ^ 31 by omega), nI_clamp (show bg_N kd (32 * d + m) < 2 ^ 31 by omega)]
      exact ⟨pk_in m 32 hm, nm_e ⟨pk_in _ 32 q1, nm_e (nm_r (nI_1 _) (nm_r (nI_1 m) (hw (_, _, _) q2)))⟩⟩
    refine pk_le 32 m (fun z => absurd z (by omega)) (fun _ => pk_eq kd 1 (fun e => pk_eq d 0 (fun e0 => yes ?_) (fun e0 => nm_r (nI_1 m) (no ?_))) (fun e => bg_w_ones hm (pk_eq (bg_ones m) d (fun e0 => yes ?_) (fun e0 => nm_r (nI_1 m) (no ?_)) (ha := by have := bg_ones5 m hm; omega))))
    · unfold bg_cd; rw [if_pos e, e0]; rfl
    · unfold bg_cd; rw [if_pos e]; simpa using e0
    · unfold bg_cd; rw [if_neg e, e0]; simp
    · unfold bg_cd; rw [if_neg e]; simpa using e0
theorem bg_w_arr {post : St1 → Prop} (hk : kd < 2) (H : ∀ b3 b4, bg_A (bg_pl kd) (bg_mon kd) b3 b4 → post (nI kd, fw, a1, a2, b3, b4, a5, a6, a7, a8, a9)) : wpX_arrange post (nI kd, fw, a1, a2, a3, a4, a5, a6, a7, a8, a9) := by
  refine pk_loop (σ := Int32 × (Nat → Int32) × (Nat → Int32)) (fun f d s => wX_arrange_4 post (nI kd) fw f s.1 (nI d) a1 a2 s.2.1 s.2.2 a5 a6 a7 a8 a9) (fun d s => bg_ar kd (32 * d) s.1 s.2.1 s.2.2) 6 0 (0, a3, a4) (by omega) ⟨rfl, fun d m _ hl => absurd hl (by omega), fun p hp => absurd hp (by show ¬ p < 0; omega)⟩ ?_ ?_
  · rintro f ⟨y1, b3, b4⟩ ⟨h1, h2, h3⟩
    refine pk_lt 5 6 (fun _ => H b3 b4 ⟨fun m hm => ?_, fun p hp => h3 p (by rw [show 32 * 6 = 192 from rfl, bg_N192 hk]; exact hp)⟩) (fun z => absurd z (by omega))
    by_cases e : kd = 1
    · exact h2 0 m hm (by omega) (by unfold bg_cd; rw [if_pos e]; rfl)
    · have := bg_ones5 m hm
      exact h2 (bg_ones m) m hm (by omega) (by unfold bg_cd; rw [if_neg e]; simp)
  · rintro f d ⟨y1, b3, b4⟩ hd hi hw
    exact pk_lt 5 d (fun z => absurd z (by omega)) (fun _ => bg_w_ar11 hk hd hi (fun y1 c3 c4 h => hw (y1, c3, c4) h))
/-- generators of k change: k isn't ready, the other one stays as it is -/
theorem bg_S_upd {b1 : Nat → Int32} {k c : Nat} (S : bg_S kd cc fk a1 a2 a3 a4 a7 a8 a9) (hc : c ≤ 8) (h1 : ∀ t, (t < 8 * k ∨ 8 * k + 8 ≤ t) → b1 t = a1 t) :
    bg_S kd (fun j => if j = k then c else cc j) fk b1 (upd a2 k (nI c)) a3 a4 a7 a8 (upd a9 k 0) := by
  obtain ⟨s1, s2, s3, s4, s5⟩ := S
  refine ⟨s1, s2, s3, fun j hj => ?_, fun j hj hr => ?_⟩
  · by_cases e : j = k
    · show (if j = k then c else cc j) ≤ 8 ∧ upd a2 k (nI c) j = nI (if j = k then c else cc j)
      rw [if_pos e, e, pk_us]
      exact ⟨hc, rfl⟩
    · show (if j = k then c else cc j) ≤ 8 ∧ upd a2 k (nI c) j = nI (if j = k then c else cc j)
      rw [if_neg e, pk_un e]
      exact s4 j hj
  · by_cases e : j = k
    · rw [e, pk_us] at hr
      exact absurd rfl hr
    · rw [pk_un e] at hr
      obtain ⟨m, q1, q2, q3⟩ := s5 j hj hr
      refine ⟨m, q1, q2, bg_GBc q3 (fun _ _ => rfl) (fun pt _ => ?_)⟩
      show bg_zb a1 (cc j) j pt = true ↔ bg_zb b1 (if j = k then c else cc j) j pt = true
      rw [if_neg e, bg_zb_iff, bg_zb_iff]
      have c8 := (s4 j hj).1
      constructor
      · intro h i hi
        rw [h1 _ (by omega)]
        exact h i hi
      · intro h i hi
        rw [← h1 _ (by omega)]
        exact h i hi
theorem bg_s_generate {post : Int32 → St1 → Prop} {k : Nat} (p : Int32) (S : bg_S kd cc fk a1 a2 a3 a4 a7 a8 a9) (hk : k < 2)
    (H : ∀ r cc' b1 b2 b9, bg_S kd cc' fk b1 b2 a3 a4 a7 a8 b9 → post r (fk, fw, b1, b2, a3, a4, a5, a6, a7, a8, b9)) :
    wpX_generate post (fk, fw, a1, a2, a3, a4, a5, a6, a7, a8, a9) (nI k) p := by
  obtain ⟨hc, h2⟩ := S.2.2.2.1 k hk
  unfold wpX_generate
  refine bg_w_id hk ?_
  refine br_f (by decide) ⟨pk_in k 2 hk, ?_⟩
  rw [nI_clamp (show k < 2 ^ 31 by omega), h2, bg_ix8, nI_1]
  refine pk_eq (cc k) 8 (fun _ => H _ _ _ _ _ S) (fun hn => ⟨pk_in k 2 hk, pk_in (8 * k + cc k) 16 (by omega), nm_e ⟨pk_in k 2 hk, pk_in k 2 hk, nm_e ⟨pk_in k 2 hk, nm_e ⟨pk_in k 2 hk, ?_⟩⟩⟩⟩)
  refine H _ _ _ _ _ (bg_S_upd (k := k) (c := cc k + 1) S (by omega) (fun t ht => ?_))
  rw [nI_clamp (show 8 * k + cc k < 2 ^ 31 by omega)]
  exact pk_un (by omega)
theorem bg_s_clear {post : Int32 → St1 → Prop} {k : Nat} (S : bg_S kd cc fk a1 a2 a3 a4 a7 a8 a9) (hk : k < 2)
    (H : ∀ r cc' b1 b2 b9, bg_S kd cc' fk b1 b2 a3 a4 a7 a8 b9 → post r (fk, fw, b1, b2, a3, a4, a5, a6, a7, a8, b9)) :
    wpX_clear post (fk, fw, a1, a2, a3, a4, a5, a6, a7, a8, a9) (nI k) := by
  unfold wpX_clear
  refine bg_w_id hk ?_
  refine br_f (by decide) ⟨pk_in k 2 hk, ?_⟩
  rw [nI_clamp (show k < 2 ^ 31 by omega)]
  exact nm_e ⟨pk_in k 2 hk, nm_e ⟨pk_in k 2 hk, nm_e (H _ _ _ _ _ (bg_S_upd (k := k) (c := 0) S (by omega) (fun t _ => rfl)))⟩⟩
theorem bg_s_retract {post : Int32 → St1 → Prop} {k j : Nat} (S : bg_S kd cc fk a1 a2 a3 a4 a7 a8 a9) (hk : k < 2) (hj : j < 8)
    (H : ∀ r cc' b1 b2 b9, bg_S kd cc' fk b1 b2 a3 a4 a7 a8 b9 → post r (fk, fw, b1, b2, a3, a4, a5, a6, a7, a8, b9)) :
    wpX_retract post (fk, fw, a1, a2, a3, a4, a5, a6, a7, a8, a9) (nI k) (nI j) := by
  obtain ⟨hc, h2⟩ := S.2.2.2.1 k hk
  unfold wpX_retract
  refine bg_w_id hk ?_
  refine br_f (by decide) (br_f (nI_pos (by omega)) ⟨pk_in k 2 hk, ?_⟩)
  rw [nI_clamp (show k < 2 ^ 31 by omega), h2]
  refine pk_lt j (cc k) (fun hl => nm_r (nI_1 j) ?_) (fun _ => H _ _ _ _ _ S)
  refine pk_loop (fun f i s => j + 1 ≤ i → wX_retract_30 post (nI k) fk fw f (nI i) s a2 a3 a4 a5 a6 a7 a8 a9) (fun i s => ∀ t, (t < 8 * k ∨ 8 * k + 8 ≤ t) → s t = a1 t) (cc k) (j + 1) a1 (by omega) (fun t _ => rfl) ?_ ?_ |>.elim (fun f hf => ⟨f, hf (Nat.le_refl _)⟩)
  · intro f s h _
    refine ⟨pk_in k 2 hk, ?_⟩
    rw [nI_clamp (show k < 2 ^ 31 by omega), h2, show nI (cc k) - 1 = nI (cc k - 1) from pk_sub (b := 1) (by omega)]
    exact pk_le (cc k) (cc k) (fun _ => ⟨pk_in k 2 hk, pk_in k 2 hk, nm_e ⟨pk_in k 2 hk, nm_e ⟨pk_in k 2 hk, H _ _ _ _ _ (bg_S_upd (k := k) (c := cc k - 1) S (by omega) h)⟩⟩⟩) (fun z => absurd z (by omega))
  · intro f i s hi h hw hji
    refine ⟨pk_in k 2 hk, ?_⟩
    rw [nI_clamp (show k < 2 ^ 31 by omega), h2, bg_ix8, show nI (8 * k + i) - 1 = nI (8 * k + i - 1) from pk_sub (b := 1) (by omega)]
    refine pk_le (cc k) i (fun z => absurd z (by omega)) (fun _ => ⟨pk_in (8 * k + i) 16 (by omega), pk_in (8 * k + i - 1) 16 (by omega), nm_e (nm_r (nI_1 i) (hw _ (fun t ht => ?_) (by omega)))⟩)
    rw [nI_clamp (show 8 * k + i - 1 < 2 ^ 31 by omega), pk_un (by omega)]
    exact h t ht
theorem bg_s_order {post : Int32 → St1 → Prop} {j : Nat} (S : bg_S kd cc fk a1 a2 a3 a4 a7 a8 a9) (hj : j < 2)
    (H : ∀ r kd' fk' b3 b4 b9, bg_S kd' cc fk' a1 a2 b3 b4 a7 a8 b9 → post r (fk', fw, a1, a2, b3, b4, a5, a6, a7, a8, b9)) :
    wpX_order post (fk, fw, a1, a2, a3, a4, a5, a6, a7, a8, a9) (nI j) := by
  have main : wX_order_11 post (nI j) fk fw a1 a2 a3 a4 a5 a6 a7 a8 a9 := by
    unfold wX_order_11
    refine bg_w_arr hj (fun b3 b4 hA => nm_e (nm_e (H _ j _ _ _ _ ⟨hj, rfl, hA, S.2.2.2.1, fun k hk hr => ?_⟩)))
    exfalso
    apply hr
    by_cases e : k = 1
    · rw [e, pk_us]
    · rw [pk_un e, show k = 0 by omega, pk_us]
  exact pk_eq j 0 (fun _ => main) (fun h => pk_eq j 1 (fun _ => main) (fun h' => absurd hj (by omega)))
theorem bg_w_init {post : St1 → Prop} (H : ∀ a1 a2 a3 a4 a5 a6 a7 a8 a9, bg_S 0 (fun _ => 0) 0 a1 a2 a3 a4 a7 a8 a9 → post (0, 0, a1, a2, a3, a4, a5, a6, a7, a8, a9)) : wpX_init post 9 230 (0, 0) := by
  refine ⟨by omega, by omega, by omega, by omega, by omega, by omega, by omega, by omega, by omega, by omega, by omega, by omega, by omega, by omega, by omega, by omega, by omega, by omega, ?_⟩
  refine bg_w_arr (kd := 0) (by omega) (fun b3 b4 hA => ?_)
  exact H _ _ _ _ _ _ _ _ _ ⟨by omega, rfl, hA, fun k _ => ⟨Nat.zero_le 8, rfl⟩, fun k _ hr => absurd rfl hr⟩
end
end
section
/-! ===== the law ===== -/
theorem bg_w_cell {post : Int32 → Prop} {L : Nat} {xs : Nat → Int32} (hL : L ≤ 260) {i : Nat} (hi : i < 2 ^ 31) (H : ∀ v, post v) : wpL_cell post L xs () (nI i) :=
  pk_le L i (fun _ => H _) (fun z => ⟨pk_in i L z, H _⟩)
theorem bg_w_few {post : Int32 → Prop} (d : Int32) (H : ∀ v, post v) : wpL_few post () d := br_c (fun _ => H _) (fun _ => H _)
theorem bg_bit1 (x : Int32) : ∃ j : Nat, j < 2 ∧ x &&& 1 = nI j := pk_andE x 1 (by decide)
theorem i_vc (xs : Nat → Int32) (L : Nat) (hL : L ≤ 260) : wpL_law (fun r => r = 1) L xs := by
  refine ⟨9, 230, by omega, by omega, bg_w_init (fun a1 a2 a3 a4 a5 a6 a7 a8 a9 S => ?_)⟩
  refine loop_m (σ := Nat × Int32 × Int32 × (Nat → Int32) × (Nat → Int32) × (Nat → Int32) × (Nat → Int32) × (Nat → Int32) × (Nat → Int32) × (Nat → Int32) × (Nat → Int32) × (Nat → Int32))
    (fun f s => wL_law_10 (fun r => r = 1) L xs (1 + 9) (11 + 230) f (nI s.1) s.2.1 s.2.2.1 s.2.2.2.1 s.2.2.2.2.1 s.2.2.2.2.2.1 s.2.2.2.2.2.2.1 s.2.2.2.2.2.2.2.1 s.2.2.2.2.2.2.2.2.1 s.2.2.2.2.2.2.2.2.2.1 s.2.2.2.2.2.2.2.2.2.2.1 s.2.2.2.2.2.2.2.2.2.2.2)
    (fun s => s.1 ≤ 262 ∧ ∃ kd cc, bg_S kd cc s.2.1 s.2.2.2.1 s.2.2.2.2.1 s.2.2.2.2.2.1 s.2.2.2.2.2.2.1 s.2.2.2.2.2.2.2.2.2.1 s.2.2.2.2.2.2.2.2.2.2.1 s.2.2.2.2.2.2.2.2.2.2.2) (fun s => 300 - s.1) ?_ (0, 0, 0, a1, a2, a3, a4, a5, a6, a7, a8, a9) ⟨Nat.zero_le _, 0, _, S⟩
  rintro f ⟨i, fk, fw, b1, b2, b3, b4, b5, b6, b7, b8, b9⟩ ⟨hi, kd, cc, S⟩ hw
  have hi' : i ≤ 262 := hi
  refine pk_le L i (fun _ => rfl) (fun hl => ?_)
  have fin : ∀ kd cc fk fw c1 c2 c3 c4 c5 c6 c7 c8 c9 (v d : Int32), bg_S kd cc fk c1 c2 c3 c4 c7 c8 c9 → wL_law_151 (fun r => r = 1) L xs (wL_law_10 (fun r => r = 1) L xs (1 + 9) (11 + 230) f) (nI i) v d (1 + 9) (11 + 230) fk fw c1 c2 c3 c4 c5 c6 c7 c8 c9 := by
    intro kd cc fk fw c1 c2 c3 c4 c5 c6 c7 c8 c9 v d S
    unfold wL_law_151
    obtain ⟨k, hk, ek⟩ := bg_bit1 (v >>> ((5 : Int32) &&& 31))
    rw [ek]
    refine bg_s_holds _ S hk (fun gw d5 d6 d7 d8 d9 S' => br_f (by decide) (nm_r (e' := nI (i + 2)) (nI_add i 2) ?_))
    exact hw (i + 2, fk, gw, c1, c2, c3, c4, d5, d6, d7, d8, d9) ⟨by show i + 2 ≤ 262; omega, kd, cc, S'⟩ (by show 300 - (i + 2) < 300 - i; omega)
  refine bg_w_cell hL (show i < 2 ^ 31 by omega) (fun c => ?_)
  rw [show nI i + 1 = nI (i + 1) from nI_1 i]
  refine bg_w_cell hL (show i + 1 < 2 ^ 31 by omega) (fun d => nm_e (nm_e ?_))
  obtain ⟨k, hk, ek⟩ := bg_bit1 (c >>> ((4 : Int32) &&& 31))
  rw [ek]
  refine bg_w_few d (fun p => br_c (fun _ => br_c (fun _ => br_c (fun _ => br_c (fun _ => ?_) (fun _ => br_c (fun _ => br_c (fun _ => ?_) (fun _ => ?_)) (fun _ => ?_))) (fun _ => ?_)) (fun _ => ?_)) (fun _ => ?_))
  · obtain ⟨j, hj, ej⟩ := bg_bit1 d
    rw [ej]
    exact bg_s_order S hj (fun r kd' fk' c3 c4 c9 S' => fin _ _ _ _ _ _ _ _ _ _ _ _ _ _ _ S')
  · exact bg_s_clear S hk (fun r cc' c1 c2 c9 S' => fin _ _ _ _ _ _ _ _ _ _ _ _ _ _ _ S')
  · exact fin _ _ _ _ _ _ _ _ _ _ _ _ _ _ _ S
  · exact fin _ _ _ _ _ _ _ _ _ _ _ _ _ _ _ S
  · obtain ⟨j, hj, ej⟩ : ∃ j : Nat, j < 8 ∧ d &&& 7 = nI j := pk_andE d 3 (by decide)
    rw [ej]
    exact bg_s_retract S hk hj (fun r cc' c1 c2 c9 S' => fin _ _ _ _ _ _ _ _ _ _ _ _ _ _ _ S')
  · exact bg_s_generate d S hk (fun r cc' c1 c2 c9 S' => fin _ _ _ _ _ _ _ _ _ _ _ _ _ _ _ S')
  · exact bg_s_generate p S hk (fun r cc' c1 c2 c9 S' => fin _ _ _ _ _ _ _ _ _ _ _ _ _ _ _ S')
end
