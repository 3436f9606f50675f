section
/-! bits of an int -/
def dc_b (x : Int32) (i : Nat) : Bool := x.toBitVec.getLsbD i
theorem dc_ext {x y : Int32} (h : ∀ i, i < 32 → dc_b x i = dc_b y i) : x = y := Int32.toBitVec_inj.mp (BitVec.eq_of_getLsbD_eq (fun i hi => h i hi))
theorem dc_bor (x y : Int32) (i : Nat) : dc_b (x ||| y) i = (dc_b x i || dc_b y i) := by unfold dc_b; rw [Int32.toBitVec_or, BitVec.getLsbD_or]
theorem dc_band (x y : Int32) (i : Nat) : dc_b (x &&& y) i = (dc_b x i && dc_b y i) := by unfold dc_b; rw [Int32.toBitVec_and, BitVec.getLsbD_and]
theorem dc_bxor (x y : Int32) (i : Nat) : dc_b (x ^^^ y) i = (dc_b x i ^^ dc_b y i) := by unfold dc_b; rw [Int32.toBitVec_xor, BitVec.getLsbD_xor]
theorem dc_big {x : Int32} {i : Nat} (h : 32 ≤ i) : dc_b x i = false := BitVec.getLsbD_of_ge _ _ h
theorem dc_b0 (i : Nat) : dc_b 0 i = false := BitVec.getLsbD_zero
theorem dc_bm1 : ∀ i, i < 32 → dc_b (-1) i = true := by decide +kernel
/-- x is 0 if its bits are -/
theorem dc_z {x : Int32} (h : ∀ i, i < 32 → dc_b x i = false) : x = 0 := dc_ext (fun i hi => by rw [h i hi, dc_b0])
theorem dc_xx (x : Int32) : x ^^^ x = 0 := dc_z (fun i _ => by rw [dc_bxor]; cases dc_b x i <;> rfl)
theorem dc_x0 (x : Int32) : x ^^^ 0 = x := dc_ext (fun i _ => by rw [dc_bxor, dc_b0]; cases dc_b x i <;> rfl)
theorem dc_0x (x : Int32) : (0 : Int32) ^^^ x = x := dc_ext (fun i _ => by rw [dc_bxor, dc_b0]; cases dc_b x i <;> rfl)
theorem dc_xeq {x y : Int32} (h : x ^^^ y = 0) : x = y := dc_ext (fun i _ => by
  have h1 := dc_bxor x y i
  rw [h, dc_b0] at h1
  revert h1
  cases dc_b x i <;> cases dc_b y i <;> intro h1 <;> first | rfl | exact absurd h1 (by decide))
theorem dc_xxy (x y : Int32) : (x ^^^ y) ^^^ y = x := dc_ext (fun i _ => by rw [dc_bxor, dc_bxor]; cases dc_b x i <;> cases dc_b y i <;> rfl)
theorem dc_x2 (x y r : Int32) : (x ^^^ y) ^^^ r = (x ^^^ r) ^^^ y := dc_ext (fun i _ => by rw [dc_bxor, dc_bxor, dc_bxor, dc_bxor]; cases dc_b x i <;> cases dc_b y i <;> cases dc_b r i <;> rfl)
theorem dc_x3 (x y r : Int32) : (x ^^^ y) ^^^ r = x ^^^ (y ^^^ r) := dc_ext (fun i _ => by rw [dc_bxor, dc_bxor, dc_bxor, dc_bxor]; cases dc_b x i <;> cases dc_b y i <;> cases dc_b r i <;> rfl)
theorem dc_x4 (x y r : Int32) : x ^^^ y = (x ^^^ r) ^^^ (y ^^^ r) := dc_ext (fun i _ => by rw [dc_bxor, dc_bxor, dc_bxor, dc_bxor]; cases dc_b x i <;> cases dc_b y i <;> cases dc_b r i <;> rfl)
/-! single bits -/
def dc_e (b : Nat) : Int32 := (1 : Int32) <<< (nI b &&& 31)
theorem dc_be32 : ∀ b, b < 32 → ∀ i, i < 32 → dc_b (dc_e b) i = decide (i = b) := by decide +kernel
theorem dc_be {b : Nat} (hb : b < 32) (i : Nat) : dc_b (dc_e b) i = decide (i = b) := by
  rcases Nat.lt_or_ge i 32 with h | h
  · exact dc_be32 b hb i h
  · rw [dc_big h, decide_eq_false (by omega)]
theorem dc_bee {b : Nat} (hb : b < 32) : dc_b (dc_e b) b = true := by rw [dc_be hb]; exact decide_eq_true rfl
theorem dc_ben {b i : Nat} (hb : b < 32) (h : i ≠ b) : dc_b (dc_e b) i = false := by rw [dc_be hb]; exact decide_eq_false h
theorem dc_ande {x : Int32} {t : Nat} (ht : t < 32) : x &&& dc_e t = 0 ↔ dc_b x t = false := by
  constructor
  · intro h
    have h2 := dc_band x (dc_e t) t
    rw [h, dc_b0, dc_bee ht, Bool.and_true] at h2
    exact h2.symm
  · intro h
    apply dc_ext
    intro i hi
    rw [dc_band, dc_b0, dc_be ht]
    by_cases e : i = t
    · rw [e, h, Bool.false_and]
    · rw [decide_eq_false e, Bool.and_false]
/-- a set that holds b and no other block -/
theorem dc_is_e {x : Int32} {b : Nat} (hb : b < 32) (h1 : dc_b x b = true) (h2 : ∀ i, i < 32 → i ≠ b → dc_b x i = false) : x = dc_e b := dc_ext (fun i hi => by
  by_cases e : i = b
  · rw [e, h1, dc_bee hb]
  · rw [h2 i hi e, dc_ben hb e])
/-! ints below 2^n -/
def dc_lo (n : Nat) (x : Int32) : Prop := ∀ i, n ≤ i → dc_b x i = false
theorem dc_lo_0 (n : Nat) : dc_lo n 0 := fun i _ => dc_b0 i
theorem dc_lo_xor {n : Nat} {x y : Int32} (hx : dc_lo n x) (hy : dc_lo n y) : dc_lo n (x ^^^ y) := fun i hi => by rw [dc_bxor, hx i hi, hy i hi]; rfl
theorem dc_lo_or {n : Nat} {x y : Int32} (hx : dc_lo n x) (hy : dc_lo n y) : dc_lo n (x ||| y) := fun i hi => by rw [dc_bor, hx i hi, hy i hi]; rfl
theorem dc_lo_and {n : Nat} {x : Int32} (y : Int32) (hx : dc_lo n x) : dc_lo n (x &&& y) := fun i hi => by rw [dc_band, hx i hi, Bool.false_and]
theorem dc_lo_e {n b : Nat} (h : b < n) (hn : n ≤ 32) : dc_lo n (dc_e b) := fun i hi => dc_ben (by omega) (by omega)
theorem dc_lo_m {m n : Nat} {x : Int32} (h : m ≤ n) (hx : dc_lo m x) : dc_lo n x := fun i hi => hx i (by omega)
theorem dc_lo_nI {n k : Nat} (h : k < 2 ^ n) : dc_lo n (nI k) := fun i hi => by
  have h2 : k < 2 ^ i := Nat.lt_of_lt_of_le h (Nat.pow_le_pow_right (by decide) hi)
  show (BitVec.ofNat 32 k).getLsbD i = false
  rw [BitVec.getLsbD_ofNat, Nat.testBit_lt_two_pow h2, Bool.and_false]
theorem dc_lo_of {n : Nat} {x : Int32} (h : dc_lo n x) : ∃ k, k < 2 ^ n ∧ x = nI k := by
  refine ⟨x.toBitVec.toNat, Nat.lt_pow_two_of_testBit _ (fun i hi => ?_), Int32.toBitVec_inj.mp (by show _ = BitVec.ofNat 32 _; simp)⟩
  rw [BitVec.testBit_toNat]
  exact h i hi
theorem dc_lo8 {x : Int32} (h : dc_lo 8 x) : ∃ k, k < 256 ∧ x = nI k := dc_lo_of h
/-! x & (x - 1) = 0 -/
theorem dc_one256 : ∀ k, k < 256 → nI k &&& (nI k - 1) = 0 → k = 0 ∨ (List.range 8).any (fun b => decide (nI k = dc_e b)) = true := by decide +kernel
theorem dc_one {x : Int32} (h : dc_lo 8 x) (h1 : x &&& (x - 1) = 0) : x = 0 ∨ ∃ b, b < 8 ∧ x = dc_e b := by
  obtain ⟨k, hk, rfl⟩ := dc_lo8 h
  rcases dc_one256 k hk h1 with e | e
  · left; rw [e]; rfl
  · right
    obtain ⟨b, hb, he⟩ := List.any_eq_true.mp e
    exact ⟨b, List.mem_range.mp hb, of_decide_eq_true he⟩
theorem dc_eone : ∀ b, b < 8 → dc_e b &&& (dc_e b - 1) = 0 := by decide +kernel
/-! all blocks -/
def dc_all (n : Nat) : Int32 := ((1 : Int32) <<< (nI n &&& 31)) - 1
theorem dc_ball9 : ∀ n, n < 9 → ∀ i, i < 32 → dc_b (dc_all n) i = decide (i < n) := by decide +kernel
theorem dc_ball {n : Nat} (hn : n ≤ 8) (i : Nat) : dc_b (dc_all n) i = decide (i < n) := by
  rcases Nat.lt_or_ge i 32 with h | h
  · exact dc_ball9 n (by omega) i h
  · rw [dc_big h, decide_eq_false (by omega)]
theorem dc_lo_all {n : Nat} (hn : n ≤ 8) : dc_lo n (dc_all n) := fun i hi => by rw [dc_ball hn, decide_eq_false (by omega)]
theorem dc_allN : ∀ n, n < 9 → dc_all n = nI (2 ^ n - 1) ∧ dc_e n = nI (2 ^ n) ∧ ¬ dc_e n + 1 = 0 := by decide +kernel
theorem dc_all0 : ∀ n, n < 9 → 1 ≤ n → ¬ dc_all n = 0 := by decide +kernel
theorem dc_is_all {n : Nat} (hn : n ≤ 8) {x : Int32} (h : dc_lo n x) (h1 : ∀ i, i < n → dc_b x i = true) : x = dc_all n := dc_ext (fun i _ => by
  rw [dc_ball hn]
  rcases Nat.lt_or_ge i n with z | z
  · rw [h1 i z, decide_eq_true z]
  · rw [h i z, decide_eq_false (by omega)])
/-! one bit read: (x >> b) & 1 -/
theorem dc_sl : ∀ n, n < 32 → ((nI n &&& 31).toBitVec.smod 32).toNat = n := by decide +kernel
theorem dc_bsshr (n : Nat) (hn : n < 32) (x : Int32) {i : Nat} (hi : i < 32) : dc_b (x >>> (nI n &&& 31)) i = if n + i < 32 then dc_b x (n + i) else dc_b x 31 := by
  unfold dc_b
  rw [Int32.toBitVec_shiftRight]
  show (x.toBitVec.sshiftRight ((nI n &&& 31).toBitVec.smod 32).toNat).getLsbD i = _
  rw [dc_sl n hn, BitVec.getLsbD_sshiftRight, BitVec.msb_eq_getLsbD_last]
  simp [hi]
theorem dc_read {x : Int32} {b : Nat} (hb : b < 32) : ((x >>> (nI b &&& 31)) &&& 1) = 1 ↔ dc_b x b = true := by
  have e1 : ∀ i, dc_b 1 i = decide (i = 0) := fun i => dc_be (b := 0) (by decide) i
  have e2 : dc_b (x >>> (nI b &&& 31)) 0 = dc_b x b := by
    rw [dc_bsshr b hb x (by decide), if_pos (by omega), Nat.add_zero]
  constructor
  · intro h
    have h2 := dc_band (x >>> (nI b &&& 31)) 1 0
    rw [h, e2, e1] at h2
    have h3 : true = (dc_b x b && true) := h2
    rw [Bool.and_true] at h3
    exact h3.symm
  · intro h
    apply dc_ext
    intro i _
    rw [dc_band, e1]
    by_cases z : i = 0
    · rw [z, e2, h]; rfl
    · rw [decide_eq_false z, Bool.and_false]
/-! the bits of 0..255 as a number: its bounds -/
theorem dc_lo8b {x : Int32} (h : dc_lo 8 x) : ¬ x < 0 ∧ ¬ 255 < x ∧ 0 ≤ x := by
  obtain ⟨k, hk, rfl⟩ := dc_lo8 h
  exact ⟨nI_pos (by omega), nI_nlt (b := k) (a := 255) (by omega) (by omega), nI_pos' (by omega)⟩
end
section
/-! reducing by rows: rs k a row's set, rv k its number, ld k its leading block -/
def dc_rd (rs : Nat → Int32) (ld : Nat → Nat) : Nat → Int32 → Int32
  | 0, x => x
  | k + 1, x => if dc_b (dc_rd rs ld k x) (ld k) = true then dc_rd rs ld k x ^^^ rs k else dc_rd rs ld k x
def dc_rv (rs rv : Nat → Int32) (ld : Nat → Nat) : Nat → Int32 → Int32 → Int32
  | 0, _, v => v
  | k + 1, x, v => if dc_b (dc_rd rs ld k x) (ld k) = true then dc_rv rs rv ld k x v ^^^ rv k else dc_rv rs rv ld k x v
theorem dc_rd_t {rs : Nat → Int32} {ld : Nat → Nat} {k : Nat} {x : Int32} (h : dc_b (dc_rd rs ld k x) (ld k) = true) : dc_rd rs ld (k + 1) x = dc_rd rs ld k x ^^^ rs k := if_pos h
theorem dc_rd_f {rs : Nat → Int32} {ld : Nat → Nat} {k : Nat} {x : Int32} (h : ¬ dc_b (dc_rd rs ld k x) (ld k) = true) : dc_rd rs ld (k + 1) x = dc_rd rs ld k x := if_neg h
theorem dc_rv_t {rs rv : Nat → Int32} {ld : Nat → Nat} {k : Nat} {x v : Int32} (h : dc_b (dc_rd rs ld k x) (ld k) = true) : dc_rv rs rv ld (k + 1) x v = dc_rv rs rv ld k x v ^^^ rv k := if_pos h
theorem dc_rv_f {rs rv : Nat → Int32} {ld : Nat → Nat} {k : Nat} {x v : Int32} (h : ¬ dc_b (dc_rd rs ld k x) (ld k) = true) : dc_rv rs rv ld (k + 1) x v = dc_rv rs rv ld k x v := if_neg h
theorem dc_rd_xor (rs : Nat → Int32) (ld : Nat → Nat) (x y : Int32) : ∀ k, dc_rd rs ld k (x ^^^ y) = dc_rd rs ld k x ^^^ dc_rd rs ld k y := by
  intro k
  induction k with
  | zero => rfl
  | succ k ih =>
    have hb := dc_bxor (dc_rd rs ld k x) (dc_rd rs ld k y) (ld k)
    rw [← ih] at hb
    cases ha : dc_b (dc_rd rs ld k x) (ld k) <;> cases hc : dc_b (dc_rd rs ld k y) (ld k)
    · rw [ha, hc] at hb
      rw [dc_rd_f (by rw [hb]; decide), dc_rd_f (by rw [ha]; decide), dc_rd_f (by rw [hc]; decide), ih]
    · rw [ha, hc] at hb
      rw [dc_rd_t (by rw [hb]; decide), dc_rd_f (by rw [ha]; decide), dc_rd_t hc, ih, dc_x3]
    · rw [ha, hc] at hb
      rw [dc_rd_t (by rw [hb]; decide), dc_rd_t ha, dc_rd_f (by rw [hc]; decide), ih, dc_x2]
    · rw [ha, hc] at hb
      rw [dc_rd_f (by rw [hb]; decide), dc_rd_t ha, dc_rd_t hc, ih]
      exact dc_x4 _ _ _
/-- a set without leading blocks stays -/
theorem dc_rd_fix {rs : Nat → Int32} {ld : Nat → Nat} {x : Int32} : ∀ k, (∀ j, j < k → dc_b x (ld j) = false) → dc_rd rs ld k x = x := by
  intro k
  induction k with
  | zero => exact fun _ => rfl
  | succ k ih =>
    intro h
    have e := ih (fun j hj => h j (by omega))
    rw [dc_rd_f (by rw [e, h k (by omega)]; decide), e]
theorem dc_rd_0 (rs : Nat → Int32) (ld : Nat → Nat) (k : Nat) : dc_rd rs ld k 0 = 0 := dc_rd_fix k (fun j _ => dc_b0 _)
theorem dc_rd_lo {N r : Nat} {rs : Nat → Int32} {ld : Nat → Nat} {x : Int32} (hr : ∀ k, k < r → dc_lo N (rs k)) (hx : dc_lo N x) : ∀ k, k ≤ r → dc_lo N (dc_rd rs ld k x) := by
  intro k
  induction k with
  | zero => exact fun _ => hx
  | succ k ih =>
    intro hk
    by_cases h : dc_b (dc_rd rs ld k x) (ld k) = true
    · rw [dc_rd_t h]; exact dc_lo_xor (ih (by omega)) (hr k (by omega))
    · rw [dc_rd_f h]; exact ih (by omega)
theorem dc_rv_lo {N r : Nat} {rs rv : Nat → Int32} {ld : Nat → Nat} {x v : Int32} (hr : ∀ k, k < r → dc_lo N (rv k)) (hv : dc_lo N v) : ∀ k, k ≤ r → dc_lo N (dc_rv rs rv ld k x v) := by
  intro k
  induction k with
  | zero => exact fun _ => hv
  | succ k ih =>
    intro hk
    by_cases h : dc_b (dc_rd rs ld k x) (ld k) = true
    · rw [dc_rv_t h]; exact dc_lo_xor (ih (by omega)) (hr k (by omega))
    · rw [dc_rv_f h]; exact ih (by omega)
/-! how many of the first n -/
def dc_pc (f : Nat → Bool) : Nat → Nat
  | 0 => 0
  | n + 1 => dc_pc f n + (if f n = true then 1 else 0)
theorem dc_pc_s (f : Nat → Bool) (n : Nat) : dc_pc f (n + 1) = dc_pc f n + (if f n = true then 1 else 0) := rfl
theorem dc_pc_le (f : Nat → Bool) (n : Nat) : dc_pc f n ≤ n := by
  induction n with
  | zero => exact Nat.le_refl 0
  | succ n ih => rw [dc_pc_s]; split <;> omega
theorem dc_pc_full {f : Nat → Bool} : ∀ n, dc_pc f n = n → ∀ i, i < n → f i = true := by
  intro n
  induction n with
  | zero => intro _ i hi; omega
  | succ n ih =>
    intro h i hi
    have hl := dc_pc_le f n
    rw [dc_pc_s] at h
    by_cases z : f n = true
    · rw [if_pos z] at h
      by_cases e : i = n
      · rw [e]; exact z
      · exact ih (by omega) i (by omega)
    · rw [if_neg z] at h
      omega
theorem dc_pc_all {f : Nat → Bool} : ∀ n, (∀ i, i < n → f i = true) → dc_pc f n = n := by
  intro n
  induction n with
  | zero => intro _; rfl
  | succ n ih =>
    intro h
    rw [dc_pc_s, ih (fun i hi => h i (by omega)), if_pos (h n (by omega))]
theorem dc_pc_0 (n : Nat) : dc_pc (fun _ => false) n = 0 := by
  induction n with
  | zero => rfl
  | succ n ih => rw [dc_pc_s, ih]; rfl
theorem dc_pc_set {f : Nat → Bool} {t : Nat} (ht : f t = false) : ∀ n, dc_pc (fun i => f i || decide (i = t)) n = dc_pc f n + (if t < n then 1 else 0) := by
  intro n
  induction n with
  | zero => rfl
  | succ n ih =>
    rw [dc_pc_s, dc_pc_s, ih]
    show dc_pc f n + (if t < n then 1 else 0) + (if (f n || decide (n = t)) = true then 1 else 0) = _
    by_cases e : n = t
    · subst e
      rw [ht, if_neg (show ¬ n < n by omega), if_pos (show n < n + 1 by omega), decide_eq_true rfl]
      rfl
    · rw [decide_eq_false e, Bool.or_false]
      by_cases z : t < n
      · rw [if_pos z, if_pos (show t < n + 1 by omega)]; omega
      · rw [if_neg z, if_neg (show ¬ t < n + 1 by omega)]; omega
/-! rows with different leading blocks (the greatest of each), where a leading block stands in no other row; as many leading blocks as rows -/
def dc_R (N r : Nat) (rs : Nat → Int32) (ld : Nat → Nat) : Prop :=
  (∀ k, k < r → ld k < N ∧ dc_b (rs k) (ld k) = true ∧ ∀ i, ld k < i → dc_b (rs k) i = false) ∧
  (∀ j k, j < r → k < r → j ≠ k → dc_b (rs j) (ld k) = false) ∧
  (∃ lm : Nat → Bool, (∀ i, i < N → (lm i = true ↔ ∃ k, k < r ∧ ld k = i)) ∧ dc_pc lm N = r)
theorem dc_R_0 (N : Nat) (rs : Nat → Int32) (ld : Nat → Nat) : dc_R N 0 rs ld :=
  ⟨fun k hk => absurd hk (by omega), fun j k hj => absurd hj (by omega), fun _ => false, fun i _ => ⟨fun h => absurd (show false = true from h) (by decide), fun ⟨k, hk, _⟩ => absurd hk (by omega)⟩, dc_pc_0 N⟩
theorem dc_R_rank {N r : Nat} {rs : Nat → Int32} {ld : Nat → Nat} (h : dc_R N r rs ld) : r ≤ N := by
  obtain ⟨_, _, lm, _, e⟩ := h
  have := dc_pc_le lm N
  omega
theorem dc_R_lo {N r : Nat} {rs : Nat → Int32} {ld : Nat → Nat} (h : dc_R N r rs ld) : ∀ k, k < r → dc_lo N (rs k) := fun k hk i hi => (h.1 k hk).2.2 i (by have := (h.1 k hk).1; omega)
/-- a set that is reduced holds no leading block -/
theorem dc_rd_lead {N r : Nat} {rs : Nat → Int32} {ld : Nat → Nat} (h : dc_R N r rs ld) (x : Int32) {j : Nat} (hj : j < r) : ∀ k, k ≤ r → dc_b (dc_rd rs ld k x) (ld j) = if j < k then false else dc_b x (ld j) := by
  intro k
  induction k with
  | zero => intro _; rw [if_neg (by omega)]; rfl
  | succ k ih =>
    intro hk
    have ih' := ih (by omega)
    by_cases e : j = k
    · subst e
      rw [if_pos (show j < j + 1 by omega)]
      by_cases z : dc_b (dc_rd rs ld j x) (ld j) = true
      · rw [dc_rd_t z, dc_bxor, z, (h.1 j hj).2.1]; rfl
      · rw [dc_rd_f z]; exact Bool.eq_false_iff.mpr z
    · have e2 : dc_b (dc_rd rs ld (k + 1) x) (ld j) = dc_b (dc_rd rs ld k x) (ld j) := by
        by_cases z : dc_b (dc_rd rs ld k x) (ld k) = true
        · rw [dc_rd_t z, dc_bxor, h.2.1 k j (by omega) hj (fun q => e q.symm), Bool.xor_false]
        · rw [dc_rd_f z]
      rw [e2, ih']
      by_cases z : j < k
      · rw [if_pos z, if_pos (by omega)]
      · rw [if_neg z, if_neg (by omega)]
/-- a row is reduced to nothing -/
theorem dc_rd_row {N r : Nat} {rs : Nat → Int32} {ld : Nat → Nat} (h : dc_R N r rs ld) {j : Nat} (hj : j < r) : dc_rd rs ld r (rs j) = 0 := by
  have key : ∀ k, k ≤ r → dc_rd rs ld k (rs j) = if j < k then 0 else rs j := by
    intro k
    induction k with
    | zero => intro _; rw [if_neg (by omega)]; rfl
    | succ k ih =>
      intro hk
      have ih' := ih (by omega)
      rcases Nat.lt_trichotomy j k with z | z | z
      · rw [if_pos z] at ih'
        rw [if_pos (by omega), dc_rd_f (by rw [ih', dc_b0]; decide), ih']
      · subst z
        rw [if_neg (by omega)] at ih'
        rw [if_pos (by omega), dc_rd_t (by rw [ih']; exact (h.1 j hj).2.1), ih', dc_xx]
      · rw [if_neg (by omega)] at ih'
        rw [if_neg (by omega), dc_rd_f (by rw [ih', h.2.1 j k hj (by omega) (by omega)]; decide), ih']
  rw [key r (by omega), if_pos hj]
/-- a block alone that is reduced to nothing is a row -/
theorem dc_rd_e {N r : Nat} {rs : Nat → Int32} {ld : Nat → Nat} (h : dc_R N r rs ld) {b : Nat} (hb : b < 32) (hz : dc_rd rs ld r (dc_e b) = 0) : ∃ j, j < r ∧ rs j = dc_e b := by
  by_cases g : ∃ j, j < r ∧ ld j = b
  · obtain ⟨j, hj, e⟩ := g
    have ne : ∀ k, k < r → k ≠ j → ld k ≠ b := fun k hk hkj q => by
      have h1 := h.2.1 j k hj hk (fun q => hkj q.symm)
      rw [q, ← e, (h.1 j hj).2.1] at h1
      exact absurd h1 (by decide)
    have key : ∀ k, k ≤ r → dc_rd rs ld k (dc_e b) = if j < k then dc_e b ^^^ rs j else dc_e b := by
      intro k
      induction k with
      | zero => intro _; rw [if_neg (by omega)]; rfl
      | succ k ih =>
        intro hk
        have ih' := ih (by omega)
        rcases Nat.lt_trichotomy j k with z | z | z
        · rw [if_pos z] at ih'
          have q : ¬ dc_b (dc_rd rs ld k (dc_e b)) (ld k) = true := by
            rw [ih', dc_bxor, dc_ben hb (ne k (by omega) (by omega)), h.2.1 j k hj (by omega) (by omega)]; decide
          rw [if_pos (by omega), dc_rd_f q, ih']
        · subst z
          rw [if_neg (by omega)] at ih'
          have q : dc_b (dc_rd rs ld j (dc_e b)) (ld j) = true := by rw [ih', e]; exact dc_bee hb
          rw [if_pos (by omega), dc_rd_t q, ih']
        · rw [if_neg (by omega)] at ih'
          have q : ¬ dc_b (dc_rd rs ld k (dc_e b)) (ld k) = true := by
            rw [ih', dc_ben hb (ne k (by omega) (by omega))]; decide
          rw [if_neg (by omega), dc_rd_f q, ih']
    rw [key r (by omega), if_pos hj] at hz
    exact ⟨j, hj, (dc_xeq hz).symm⟩
  · have e : dc_rd rs ld r (dc_e b) = dc_e b := dc_rd_fix r (fun j hj => dc_ben hb (fun q => g ⟨j, hj, q⟩))
    rw [e] at hz
    have h1 := dc_bee hb
    rw [hz, dc_b0] at h1
    exact absurd h1 (by decide)
/-- rows that another system takes to nothing: reducing by them is lost on it -/
theorem dc_span {r r' : Nat} {rs rs' : Nat → Int32} {ld ld' : Nat → Nat} (h : ∀ j, j < r → dc_rd rs' ld' r' (rs j) = 0) (x : Int32) : ∀ k, k ≤ r → dc_rd rs' ld' r' (dc_rd rs ld k x) = dc_rd rs' ld' r' x := by
  intro k
  induction k with
  | zero => intro _; rfl
  | succ k ih =>
    intro hk
    by_cases z : dc_b (dc_rd rs ld k x) (ld k) = true
    · rw [dc_rd_t z, dc_rd_xor, h k (by omega), dc_x0, ih (by omega)]
    · rw [dc_rd_f z, ih (by omega)]
/-! a row more -/
def dc_rs (r t : Nat) (y : Int32) (rs : Nat → Int32) : Nat → Int32 := fun k => if k = r then y else if dc_b (rs k) t = true then rs k ^^^ y else rs k
def dc_rw (r t : Nat) (w : Int32) (rs rv : Nat → Int32) : Nat → Int32 := fun k => if k = r then w else if dc_b (rs k) t = true then rv k ^^^ w else rv k
def dc_ld (r t : Nat) (ld : Nat → Nat) : Nat → Nat := fun k => if k = r then t else ld k
theorem dc_rs_r {r t : Nat} {y : Int32} {rs : Nat → Int32} : dc_rs r t y rs r = y := if_pos rfl
theorem dc_rs_t {r t k : Nat} {y : Int32} {rs : Nat → Int32} (hk : k < r) (h : dc_b (rs k) t = true) : dc_rs r t y rs k = rs k ^^^ y := by unfold dc_rs; rw [if_neg (by omega), if_pos h]
theorem dc_rs_f {r t k : Nat} {y : Int32} {rs : Nat → Int32} (hk : k < r) (h : ¬ dc_b (rs k) t = true) : dc_rs r t y rs k = rs k := by unfold dc_rs; rw [if_neg (by omega), if_neg h]
theorem dc_rw_r {r t : Nat} {w : Int32} {rs rv : Nat → Int32} : dc_rw r t w rs rv r = w := if_pos rfl
theorem dc_rw_t {r t k : Nat} {w : Int32} {rs rv : Nat → Int32} (hk : k < r) (h : dc_b (rs k) t = true) : dc_rw r t w rs rv k = rv k ^^^ w := by unfold dc_rw; rw [if_neg (by omega), if_pos h]
theorem dc_rw_f {r t k : Nat} {w : Int32} {rs rv : Nat → Int32} (hk : k < r) (h : ¬ dc_b (rs k) t = true) : dc_rw r t w rs rv k = rv k := by unfold dc_rw; rw [if_neg (by omega), if_neg h]
theorem dc_ld_r {r t : Nat} {ld : Nat → Nat} : dc_ld r t ld r = t := if_pos rfl
theorem dc_ld_o {r t k : Nat} {ld : Nat → Nat} (hk : k < r) : dc_ld r t ld k = ld k := if_neg (by omega)
theorem dc_rs_b {r t k : Nat} {y : Int32} {rs : Nat → Int32} (hk : k < r) {i : Nat} (hy : dc_b y i = false) : dc_b (dc_rs r t y rs k) i = dc_b (rs k) i := by
  by_cases z : dc_b (rs k) t = true
  · rw [dc_rs_t hk z, dc_bxor, hy, Bool.xor_false]
  · rw [dc_rs_f hk z]
theorem dc_R_add {N r t : Nat} {y : Int32} {rs : Nat → Int32} {ld : Nat → Nat} (h : dc_R N r rs ld) (hy : ∀ j, j < r → dc_b y (ld j) = false) (ht : t < N) (hyt : dc_b y t = true) (hyo : ∀ i, t < i → dc_b y i = false) : dc_R N (r + 1) (dc_rs r t y rs) (dc_ld r t ld) := by
  have A : ∀ k, k < r → dc_b (rs k) t = true → t ≤ ld k := fun k hk z => by
    rcases Nat.lt_or_ge (ld k) t with q | q
    · rw [(h.1 k hk).2.2 t q] at z; exact absurd z (by decide)
    · exact q
  have nt : ∀ k, k < r → ld k ≠ t := fun k hk q => by
    have := hy k hk
    rw [q, hyt] at this
    exact absurd this (by decide)
  refine ⟨fun k hk => ?_, fun j k hj hk hjk => ?_, ?_⟩
  · by_cases e : k = r
    · subst e
      rw [dc_rs_r, dc_ld_r]
      exact ⟨ht, hyt, hyo⟩
    · have hk' : k < r := by omega
      obtain ⟨h1, h2, h3⟩ := h.1 k hk'
      rw [dc_ld_o hk']
      refine ⟨h1, by rw [dc_rs_b hk' (hy k hk')]; exact h2, fun i hi => ?_⟩
      by_cases z : dc_b (rs k) t = true
      · have := A k hk' z
        rw [dc_rs_b hk' (hyo i (by omega))]
        exact h3 i hi
      · rw [dc_rs_f hk' z]
        exact h3 i hi
  · by_cases e : k = r
    · subst e
      have hj' : j < k := by omega
      rw [dc_ld_r]
      by_cases z : dc_b (rs j) t = true
      · rw [dc_rs_t hj' z, dc_bxor, z, hyt]; rfl
      · rw [dc_rs_f hj' z]; exact Bool.eq_false_iff.mpr z
    · have hk' : k < r := by omega
      rw [dc_ld_o hk']
      by_cases e2 : j = r
      · subst e2
        rw [dc_rs_r]
        exact hy k hk'
      · rw [dc_rs_b (by omega) (hy k hk')]
        exact h.2.1 j k (by omega) hk' hjk
  · obtain ⟨lm, h1, h2⟩ := h.2.2
    have lt : lm t = false := by
      apply Bool.eq_false_iff.mpr
      intro q
      obtain ⟨k, hk, e⟩ := (h1 t ht).mp q
      exact nt k hk e
    refine ⟨fun i => lm i || decide (i = t), fun i hi => ⟨fun q => ?_, fun q => ?_⟩, ?_⟩
    · have q' : (lm i || decide (i = t)) = true := q
      rcases (Bool.or_eq_true _ _).mp q' with z | z
      · obtain ⟨k, hk, e⟩ := (h1 i hi).mp z
        exact ⟨k, by omega, by rw [dc_ld_o hk]; exact e⟩
      · exact ⟨r, by omega, by rw [dc_ld_r]; exact (of_decide_eq_true z).symm⟩
    · obtain ⟨k, hk, e⟩ := q
      show (lm i || decide (i = t)) = true
      apply (Bool.or_eq_true _ _).mpr
      by_cases z : k = r
      · subst z
        rw [dc_ld_r] at e
        exact Or.inr (decide_eq_true e.symm)
      · rw [dc_ld_o (by omega)] at e
        exact Or.inl ((h1 i hi).mpr ⟨k, by omega, e⟩)
    · rw [dc_pc_set lt, if_pos ht, h2]
/-- what was reduced to nothing is so with the row more; so is the new row, and what was reduced to it -/
theorem dc_R_keep {N r t : Nat} {y : Int32} {rs : Nat → Int32} {ld : Nat → Nat} (h' : dc_R N (r + 1) (dc_rs r t y rs) (dc_ld r t ld)) (x : Int32) (hx : dc_rd rs ld r x = 0 ∨ dc_rd rs ld r x = y) : dc_rd (dc_rs r t y rs) (dc_ld r t ld) (r + 1) x = 0 := by
  have hr : dc_rd (dc_rs r t y rs) (dc_ld r t ld) (r + 1) y = 0 := by
    have := dc_rd_row h' (j := r) (by omega)
    rw [dc_rs_r] at this
    exact this
  have ho : ∀ j, j < r → dc_rd (dc_rs r t y rs) (dc_ld r t ld) (r + 1) (rs j) = 0 := fun j hj => by
    have := dc_rd_row h' (j := j) (by omega)
    by_cases z : dc_b (rs j) t = true
    · rw [dc_rs_t hj z, dc_rd_xor, hr, dc_x0] at this
      exact this
    · rw [dc_rs_f hj z] at this
      exact this
  rw [← dc_span ho x r (by omega)]
  rcases hx with e | e
  · rw [e, dc_rd_0]
  · rw [e, hr]
/-! all blocks known: as many rows as blocks -/
theorem dc_full {N r : Nat} {rs : Nat → Int32} {ld : Nat → Nat} (h : dc_R N r rs ld) (hN : N ≤ 8) (e : r = N) {b : Nat} (hb : b < N) : ∃ k, k < r ∧ rs k = dc_e b := by
  obtain ⟨lm, h1, h2⟩ := h.2.2
  have F := dc_pc_full N (h2.trans e)
  obtain ⟨k, hk, ek⟩ := (h1 b hb).mp (F b hb)
  refine ⟨k, hk, dc_is_e (by omega) (by rw [← ek]; exact (h.1 k hk).2.1) (fun i hi hib => ?_)⟩
  rcases Nat.lt_or_ge i N with z | z
  · obtain ⟨j, hj, ej⟩ := (h1 i z).mp (F i z)
    rw [← ej]
    exact h.2.1 k j hk hj (fun q => hib (by rw [← ej, ← ek, q]))
  · exact dc_R_lo h k hk i z
theorem dc_full' {N r : Nat} {rs : Nat → Int32} {ld : Nat → Nat} (h : dc_R N r rs ld) (hN : N ≤ 8) (e : ∀ b, b < N → ∃ k, k < r ∧ rs k = dc_e b) : r = N := by
  obtain ⟨lm, h1, h2⟩ := h.2.2
  rw [← h2]
  refine dc_pc_all N (fun i hi => (h1 i hi).mpr ?_)
  obtain ⟨k, hk, ek⟩ := e i hi
  refine ⟨k, hk, ?_⟩
  have q := (h.1 k hk).2.1
  rw [ek, dc_be (by omega)] at q
  exact of_decide_eq_true q
/-- a set of blocks each of which is reduced to nothing -/
theorem dc_rd_bits {r : Nat} {rs : Nat → Int32} {ld : Nat → Nat} : ∀ (m : Nat), m ≤ 32 → ∀ x : Int32, dc_lo m x → (∀ b, dc_b x b = true → dc_rd rs ld r (dc_e b) = 0) → dc_rd rs ld r x = 0 := by
  intro m
  induction m with
  | zero =>
    intro _ x hx _
    rw [dc_z (fun i _ => hx i (by omega)), dc_rd_0]
  | succ m ih =>
    intro hm x hx h
    by_cases z : dc_b x m = true
    · have e : dc_rd rs ld r (x ^^^ dc_e m) = 0 := by
        refine ih (by omega) _ (fun i hi => ?_) (fun b hb => ?_)
        · by_cases q : i = m
          · rw [q, dc_bxor, z, dc_bee (by omega)]; rfl
          · rw [dc_bxor, hx i (by omega), dc_ben (by omega) q]; rfl
        · by_cases q : b = m
          · rw [q, dc_bxor, z, dc_bee (by omega)] at hb
            exact absurd hb (by decide)
          · rw [dc_bxor, dc_ben (by omega) q, Bool.xor_false] at hb
            exact h b hb
      rw [dc_rd_xor, h m z, dc_x0] at e
      exact e
    · refine ih (by omega) x (fun i hi => ?_) h
      by_cases q : i = m
      · rw [q]; exact Bool.eq_false_iff.mpr z
      · exact hx i (by omega)
end
section
/-! peeling, as a function of the sets a1 and their number c -/
def dc_op (a1 : Nat → Int32) (k : Nat) (x : Int32) : Int32 := a1 k &&& (x ^^^ (-1))
def dc_ps (a1 : Nat → Int32) (k : Nat) (x : Int32) : Int32 := if dc_op a1 k x &&& (dc_op a1 k x - 1) = 0 then x ||| dc_op a1 k x else x
def dc_pi (a1 : Nat → Int32) : Nat → Int32 → Int32
  | 0, x => x
  | k + 1, x => dc_ps a1 k (dc_pi a1 k x)
def dc_pf (a1 : Nat → Int32) (c : Nat) : Nat → Int32 → Int32
  | 0, x => x
  | m + 1, x => if x = dc_pi a1 c x then dc_pi a1 c x else dc_pf a1 c m (dc_pi a1 c x)
theorem dc_pi_Q {a1 : Nat → Int32} {c : Nat} {Q : Int32 → Prop} (h : ∀ k x, k < c → Q x → Q (dc_ps a1 k x)) {x : Int32} (hx : Q x) : ∀ k, k ≤ c → Q (dc_pi a1 k x) := by
  intro k
  induction k with
  | zero => exact fun _ => hx
  | succ k ih => exact fun hk => h k _ (by omega) (ih (by omega))
theorem dc_pf_Q {a1 : Nat → Int32} {c : Nat} {Q : Int32 → Prop} (h : ∀ k x, k < c → Q x → Q (dc_ps a1 k x)) : ∀ m x, Q x → Q (dc_pf a1 c m x) := by
  intro m
  induction m with
  | zero => exact fun x hx => hx
  | succ m ih =>
    intro x hx
    have h1 : Q (dc_pi a1 c x) := dc_pi_Q h hx c (Nat.le_refl c)
    show Q (if x = dc_pi a1 c x then dc_pi a1 c x else dc_pf a1 c m (dc_pi a1 c x))
    by_cases z : x = dc_pi a1 c x
    · rw [if_pos z]; exact h1
    · rw [if_neg z]; exact ih _ h1
theorem dc_bnot {x : Int32} {i : Nat} (hi : i < 32) : dc_b (x ^^^ (-1)) i = !dc_b x i := by rw [dc_bxor, dc_bm1 i hi]; cases dc_b x i <;> rfl
theorem dc_bop {a1 : Nat → Int32} {k : Nat} {x : Int32} {i : Nat} (hi : i < 32) : dc_b (dc_op a1 k x) i = (dc_b (a1 k) i && !dc_b x i) := by unfold dc_op; rw [dc_band, dc_bnot hi]
theorem dc_ps_lo {N : Nat} {a1 : Nat → Int32} {k : Nat} {x : Int32} (ha : dc_lo N (a1 k)) (hx : dc_lo N x) : dc_lo N (dc_ps a1 k x) := by
  unfold dc_ps
  by_cases z : dc_op a1 k x &&& (dc_op a1 k x - 1) = 0
  · rw [if_pos z]; exact dc_lo_or hx (dc_lo_and _ ha)
  · rw [if_neg z]; exact hx
theorem dc_ps_all {N : Nat} (hN : N ≤ 8) {a1 : Nat → Int32} {k : Nat} {x : Int32} (ha : dc_lo N (a1 k)) (hx : x = dc_all N) : dc_ps a1 k x = dc_all N := by
  have e : dc_op a1 k x = 0 := dc_z (fun i hi => by
    rw [dc_bop hi, hx, dc_ball hN]
    rcases Nat.lt_or_ge i N with z | z
    · rw [decide_eq_true z]; cases dc_b (a1 k) i <;> rfl
    · rw [ha i z]; rfl)
  unfold dc_ps
  rw [e, if_pos (by decide), hx]
  exact dc_ext (fun i _ => by rw [dc_bor, dc_b0, Bool.or_false])
theorem dc_ps_rd {N r : Nat} {rs : Nat → Int32} {ld : Nat → Nat} {a1 : Nat → Int32} {k : Nat} {x : Int32} (hN : N ≤ 8) (ha : dc_lo N (a1 k)) (hz : dc_rd rs ld r (a1 k) = 0) (h : ∀ b, dc_b x b = true → dc_rd rs ld r (dc_e b) = 0) : ∀ b, dc_b (dc_ps a1 k x) b = true → dc_rd rs ld r (dc_e b) = 0 := by
  intro b hb
  unfold dc_ps at hb
  by_cases z : dc_op a1 k x &&& (dc_op a1 k x - 1) = 0
  · rw [if_pos z, dc_bor] at hb
    rcases (Bool.or_eq_true _ _).mp hb with q | q
    · exact h b q
    · rcases dc_one (x := dc_op a1 k x) (dc_lo_m hN (dc_lo_and _ ha)) z with e | ⟨t, ht, e⟩
      · rw [e, dc_b0] at q
        exact absurd q (by decide)
      · have hbt : b = t := by
          rw [e, dc_be (by omega)] at q
          exact of_decide_eq_true q
        have e2 : a1 k = dc_e t ^^^ (a1 k &&& x) := dc_ext (fun i hi => by
          rw [dc_bxor, ← e, dc_bop hi, dc_band]
          cases dc_b (a1 k) i <;> cases dc_b x i <;> rfl)
        have e3 : dc_rd rs ld r (a1 k &&& x) = 0 := by
          refine dc_rd_bits N (by omega) _ (dc_lo_and x ha) (fun i hi => h i ?_)
          rw [dc_band] at hi
          exact ((Bool.and_eq_true _ _).mp hi).2
        rw [e2, dc_rd_xor, e3, dc_x0] at hz
        rw [hbt]
        exact hz
  · rw [if_neg z] at hb
    exact h b hb
/-! peelFrom's answers -/
theorem dc_pf_lo {N c : Nat} {a1 : Nat → Int32} (ha : ∀ j, j < c → dc_lo N (a1 j)) {m : Nat} {x : Int32} (hx : dc_lo N x) : dc_lo N (dc_pf a1 c m x) :=
  dc_pf_Q (Q := dc_lo N) (fun k _ hk h => dc_ps_lo (ha k hk) h) m x hx
theorem dc_pf_all {N c : Nat} (hN : N ≤ 8) {a1 : Nat → Int32} (ha : ∀ j, j < c → dc_lo N (a1 j)) {m : Nat} : dc_pf a1 c m (dc_all N) = dc_all N :=
  dc_pf_Q (Q := fun x => x = dc_all N) (fun k _ hk h => dc_ps_all hN (ha k hk) h) m (dc_all N) rfl
theorem dc_pf_rd {N c r : Nat} {rs : Nat → Int32} {ld : Nat → Nat} (hN : N ≤ 8) {a1 : Nat → Int32} (ha : ∀ j, j < c → dc_lo N (a1 j)) (hz : ∀ j, j < c → dc_rd rs ld r (a1 j) = 0) {m : Nat} : ∀ b, dc_b (dc_pf a1 c m 0) b = true → dc_rd rs ld r (dc_e b) = 0 :=
  dc_pf_Q (Q := fun x => ∀ b, dc_b x b = true → dc_rd rs ld r (dc_e b) = 0) (fun k _ hk h => dc_ps_rd hN (ha k hk) (hz k hk) h) m 0 (fun b hb => absurd (hb.symm.trans (dc_b0 b)) (by decide))
/-! how many blocks a set has -/
def dc_on (x : Int32) : Nat → Int32
  | 0 => 0
  | k + 1 => dc_on x k + ((x >>> (nI k &&& 31)) &&& 1)
theorem dc_on256 : ∀ k, k < 256 → 0 ≤ dc_on (nI k) 8 ∧ (dc_on (nI k) 8 ≤ 0 → k = 0) := by decide +kernel
theorem dc_on0 : dc_on 0 8 = 0 := by decide +kernel
theorem dc_on_ge {x : Int32} (h : dc_lo 8 x) : 0 ≤ dc_on x 8 := by
  obtain ⟨k, hk, rfl⟩ := dc_lo8 h
  exact (dc_on256 k hk).1
theorem dc_on_le {x : Int32} (h : dc_lo 8 x) (h0 : dc_on x 8 ≤ 0) : x = 0 := by
  obtain ⟨k, hk, rfl⟩ := dc_lo8 h
  rw [(dc_on256 k hk).2 h0]
  rfl
/-! seed -/
def dc_sd (a1 : Nat → Int32) (c N : Nat) : Nat → Int32
  | 0 => dc_all N
  | k + 1 => if dc_on (dc_sd a1 c N k) 8 ≤ dc_on (nI k) 8 then dc_sd a1 c N k else if dc_pf a1 c (N + 1) (nI k) = dc_all N then nI k else dc_sd a1 c N k
theorem dc_sd_1 {a1 : Nat → Int32} {c N k : Nat} (h : dc_on (dc_sd a1 c N k) 8 ≤ dc_on (nI k) 8) : dc_sd a1 c N (k + 1) = dc_sd a1 c N k := if_pos h
theorem dc_sd_2 {a1 : Nat → Int32} {c N k : Nat} (h : ¬ dc_on (dc_sd a1 c N k) 8 ≤ dc_on (nI k) 8) (h2 : dc_pf a1 c (N + 1) (nI k) = dc_all N) : dc_sd a1 c N (k + 1) = nI k := (if_neg h).trans (if_pos h2)
theorem dc_sd_3 {a1 : Nat → Int32} {c N k : Nat} (h : ¬ dc_on (dc_sd a1 c N k) 8 ≤ dc_on (nI k) 8) (h2 : ¬ dc_pf a1 c (N + 1) (nI k) = dc_all N) : dc_sd a1 c N (k + 1) = dc_sd a1 c N k := (if_neg h).trans (if_neg h2)
theorem dc_sd_ok {a1 : Nat → Int32} {c N : Nat} (hN : N ≤ 8) (hN1 : 1 ≤ N) (ha : ∀ j, j < c → dc_lo N (a1 j)) : ∀ k, k ≤ 2 ^ N - 1 → dc_lo N (dc_sd a1 c N k) ∧ dc_pf a1 c (N + 1) (dc_sd a1 c N k) = dc_all N ∧ (k = 0 → dc_sd a1 c N k = dc_all N) ∧ (0 < k → (dc_sd a1 c N k = 0 ↔ dc_pf a1 c (N + 1) 0 = dc_all N)) := by
  have h0 := dc_all0 N (by omega) hN1
  have hl := dc_lo_all hN
  intro k
  induction k with
  | zero => exact fun _ => ⟨hl, dc_pf_all hN ha, fun _ => rfl, fun z => absurd z (by omega)⟩
  | succ k ih =>
    intro hk
    obtain ⟨i1, i2, i3, i4⟩ := ih (by omega)
    by_cases z : dc_on (dc_sd a1 c N k) 8 ≤ dc_on (nI k) 8
    · rw [dc_sd_1 z]
      refine ⟨i1, i2, fun q => absurd q (by omega), fun _ => ?_⟩
      by_cases e : k = 0
      · rw [i3 e, e] at z
        exact absurd (dc_on_le (dc_lo_m hN hl) (by rw [nI_0, dc_on0] at z; exact z)) h0
      · exact i4 (by omega)
    · by_cases y : dc_pf a1 c (N + 1) (nI k) = dc_all N
      · rw [dc_sd_2 z y]
        refine ⟨dc_lo_nI (by omega), y, fun q => absurd q (by omega), fun _ => ?_⟩
        by_cases e : k = 0
        · rw [e] at y ⊢
          rw [nI_0] at y ⊢
          exact ⟨fun _ => y, fun _ => rfl⟩
        · refine ⟨fun q => ?_, fun q => ?_⟩
          · have h256 : 2 ^ N ≤ 2 ^ 8 := Nat.pow_le_pow_right (by decide) hN
            exact absurd q (nI_ne0 (by omega) (by omega))
          · rw [(i4 (by omega)).mpr q, dc_on0] at z
            exact absurd (dc_on_ge (dc_lo_m hN (dc_lo_nI (show k < 2 ^ N by omega)))) z
      · rw [dc_sd_3 z y]
        refine ⟨i1, i2, fun q => absurd q (by omega), fun _ => ?_⟩
        by_cases e : k = 0
        · rw [e, nI_0] at y
          rw [i3 e]
          exact ⟨fun q => absurd q h0, fun q => absurd q y⟩
        · exact i4 (by omega)
/-! the set of the known blocks -/
def dc_kn (rs : Nat → Int32) (s : Int32) : Nat → Int32
  | 0 => 0
  | k + 1 => if s = 0 then dc_kn rs s k else if rs k &&& (rs k - 1) = 0 then dc_kn rs s k ||| rs k else dc_kn rs s k
theorem dc_kn_0 {rs : Nat → Int32} {s : Int32} {k : Nat} (h : s = 0) : dc_kn rs s (k + 1) = dc_kn rs s k := if_pos h
theorem dc_kn_t {rs : Nat → Int32} {s : Int32} {k : Nat} (h : ¬ s = 0) (h2 : rs k &&& (rs k - 1) = 0) : dc_kn rs s (k + 1) = dc_kn rs s k ||| rs k := (if_neg h).trans (if_pos h2)
theorem dc_kn_f {rs : Nat → Int32} {s : Int32} {k : Nat} (h : ¬ s = 0) (h2 : ¬ rs k &&& (rs k - 1) = 0) : dc_kn rs s (k + 1) = dc_kn rs s k := (if_neg h).trans (if_neg h2)
theorem dc_kn_b {N r : Nat} {rs : Nat → Int32} {ld : Nat → Nat} {s : Int32} (hN : N ≤ 8) (h : dc_R N r rs ld) {b : Nat} (hb : b < 8) : ∀ k, k ≤ r → (dc_b (dc_kn rs s k) b = true ↔ ¬ s = 0 ∧ ∃ j, j < k ∧ rs j = dc_e b) := by
  intro k
  induction k with
  | zero => exact fun _ => ⟨fun q => absurd (q.symm.trans (dc_b0 b)) (by decide), fun ⟨_, j, hj, _⟩ => absurd hj (by omega)⟩
  | succ k ih =>
    intro hk
    have ih' := ih (by omega)
    by_cases z : s = 0
    · rw [dc_kn_0 z, ih']
      exact ⟨fun q => absurd z q.1, fun q => absurd z q.1⟩
    · by_cases y : rs k &&& (rs k - 1) = 0
      · rw [dc_kn_t z y, dc_bor]
        constructor
        · intro q
          rcases (Bool.or_eq_true _ _).mp q with w | w
          · obtain ⟨_, j, hj, e⟩ := ih'.mp w
            exact ⟨z, j, by omega, e⟩
          · refine ⟨z, k, by omega, ?_⟩
            rcases dc_one (dc_lo_m hN (dc_R_lo h k (by omega))) y with e | ⟨t, ht, e⟩
            · rw [e, dc_b0] at w
              exact absurd w (by decide)
            · rw [e, dc_be (by omega)] at w
              rw [e, of_decide_eq_true w]
        · rintro ⟨_, j, hj, e⟩
          apply (Bool.or_eq_true _ _).mpr
          by_cases g : j = k
          · right
            rw [← g, e]
            exact dc_bee (by omega)
          · left
            exact ih'.mpr ⟨z, j, by omega, e⟩
      · rw [dc_kn_f z y, ih']
        constructor
        · rintro ⟨_, j, hj, e⟩
          exact ⟨z, j, by omega, e⟩
        · rintro ⟨_, j, hj, e⟩
          refine ⟨z, j, ?_, e⟩
          by_cases g : j = k
          · rw [← g, e] at y
            exact absurd (dc_eone b hb) y
          · omega
theorem dc_kn_lo {N r : Nat} {rs : Nat → Int32} {s : Int32} (h : ∀ k, k < r → dc_lo N (rs k)) : ∀ k, k ≤ r → dc_lo N (dc_kn rs s k) := by
  intro k
  induction k with
  | zero => exact fun _ => dc_lo_0 N
  | succ k ih =>
    intro hk
    have ih' := ih (by omega)
    by_cases z : s = 0
    · rw [dc_kn_0 z]; exact ih'
    · by_cases y : rs k &&& (rs k - 1) = 0
      · rw [dc_kn_t z y]; exact dc_lo_or ih' (h k (by omega))
      · rw [dc_kn_f z y]; exact ih'
/-! the law's checks on these -/
theorem dc_every {N r : Nat} {rs : Nat → Int32} {ld : Nat → Nat} {s : Int32} (hN : N ≤ 8) (hN1 : 1 ≤ N) (h : dc_R N r rs ld) : dc_kn rs s r = dc_all N ↔ ¬ s = 0 ∧ r = N := by
  constructor
  · intro e
    have g : ∀ b, b < N → ¬ s = 0 ∧ ∃ j, j < r ∧ rs j = dc_e b := fun b hb => (dc_kn_b hN h (by omega) r (Nat.le_refl r)).mp (by rw [e, dc_ball hN]; exact decide_eq_true hb)
    exact ⟨(g 0 (by omega)).1, dc_full' h hN (fun b hb => (g b hb).2)⟩
  · rintro ⟨hs, e⟩
    exact dc_is_all hN (dc_kn_lo (dc_R_lo h) r (Nat.le_refl r)) (fun b hb => (dc_kn_b hN h (by omega) r (Nat.le_refl r)).mpr ⟨hs, dc_full h hN e hb⟩)
theorem dc_within {N c r : Nat} {rs : Nat → Int32} {ld : Nat → Nat} {s : Int32} (hN : N ≤ 8) (h : dc_R N r rs ld) (hs : ¬ s = 0) {a1 : Nat → Int32} (ha : ∀ j, j < c → dc_lo N (a1 j)) (hz : ∀ j, j < c → dc_rd rs ld r (a1 j) = 0) {m : Nat} : dc_pf a1 c m 0 &&& (dc_kn rs s r ^^^ (-1)) = 0 := by
  refine dc_z (fun i hi => ?_)
  rw [dc_band, dc_bnot hi]
  cases q : dc_b (dc_pf a1 c m 0) i with
  | false => rfl
  | true =>
    have hiN : i < N := by
      rcases Nat.lt_or_ge i N with z | z
      · exact z
      · rw [dc_pf_lo ha (dc_lo_0 N) i z] at q
        exact absurd q (by decide)
    have k1 := dc_rd_e h hi (dc_pf_rd hN ha hz i q)
    rw [(dc_kn_b hN h (by omega) r (Nat.le_refl r)).mpr ⟨hs, k1⟩]
    rfl
end
section
theorem dc_nf {x : Bool} (h : ¬ x = false) : x = true := by cases x; exact absurd rfl h; rfl
/-! topBit -/
theorem dc_sh8 : ∀ t, t < 7 → ¬ dc_e (t + 1) ≤ 1 ∧ dc_e (t + 1) >>> ((1 : Int32) &&& 31) = dc_e t := by decide +kernel
theorem dc_e0 : dc_e 0 ≤ 1 := by decide +kernel
theorem dc_e7 : (128 : Int32) = dc_e 7 := by decide +kernel
theorem dc_top4 {post : Int32 → Prop} {x : Int32} {t : Nat} (h1 : dc_b x t = true) (h2 : ∀ i, t < i → dc_b x i = false) (hp : post (dc_e t)) : ∀ s, t ≤ s → s < 8 → wX_topBit_4 post x (s + 1) (dc_e s) := by
  intro s
  induction s with
  | zero =>
    intro hs _
    have e : t = 0 := by omega
    subst e
    exact br_t dc_e0 hp
  | succ s ih =>
    intro hs h8
    have hh := dc_sh8 s (by omega)
    refine br_f hh.1 ?_
    by_cases e : t = s + 1
    · subst e
      exact br_f (fun q => absurd ((dc_ande (by omega)).mp q) (by rw [h1]; decide)) hp
    · exact br_t ((dc_ande (by omega)).mpr (h2 (s + 1) (by omega))) (nm_r hh.2 (ih (by omega) (by omega)))
theorem dc_top {post : Int32 → Prop} {x : Int32} {t : Nat} (ht : t < 8) (h1 : dc_b x t = true) (h2 : ∀ i, t < i → dc_b x i = false) (hp : post (dc_e t)) : wpX_topBit post () x := by
  unfold wpX_topBit
  rw [dc_e7]
  exact ⟨8, dc_top4 h1 h2 hp 7 (by omega) (by omega)⟩
theorem dc_hi : ∀ (n : Nat) {x : Int32}, dc_lo n x → ¬ x = 0 → ∃ t, t < n ∧ dc_b x t = true ∧ ∀ i, t < i → dc_b x i = false := by
  intro n
  induction n with
  | zero => exact fun hx h0 => absurd (dc_z (fun i _ => hx i (by omega))) h0
  | succ n ih =>
    intro x hx h0
    by_cases z : dc_b x n = true
    · exact ⟨n, by omega, z, fun i hi => hx i (by omega)⟩
    · obtain ⟨t, h1, h2, h3⟩ := ih (x := x) (fun i hi => by
        by_cases e : i = n
        · rw [e]; exact Bool.eq_false_iff.mpr z
        · exact hx i (by omega)) h0
      exact ⟨t, by omega, h2, h3⟩
/-! reduce -/
theorem dc_w_reduce {post : St2 → Prop} {n c s l lv : Int32} {a1 a2 a3 a4 rs rv : Nat → Int32} {N r : Nat} {ld : Nat → Nat} (hN : N ≤ 8) (hR : dc_R N r rs ld) (h3 : ∀ k, k < r → a3 k = rs k) (h4 : ∀ k, k < r → a4 k = rv k) (x v : Int32)
    (H : post (n, c, nI r, s, dc_rd rs ld r x, dc_rv rs rv ld r x v, a1, a2, a3, a4)) : wpX_reduce post (n, c, nI r, s, l, lv, a1, a2, a3, a4) x v := by
  have hr := dc_R_rank hR
  show ∃ fu, wX_reduce_12 post n c (nI r) s a1 a2 a3 a4 fu 0 x v
  refine pk_loop (σ := Unit) (fun m i _ => wX_reduce_12 post n c (nI r) s a1 a2 a3 a4 m (nI i) (dc_rd rs ld i x) (dc_rv rs rv ld i x v)) (fun _ _ => True) r 0 () (by omega) trivial (fun m _ _ => pk_le r r (fun _ => H) (fun z => absurd z (by omega))) (fun m i _ hi _ hw => ?_)
  have hw' : wX_reduce_12 post n c (nI r) s a1 a2 a3 a4 m (nI (i + 1)) (dc_rd rs ld (i + 1) x) (dc_rv rs rv ld (i + 1) x v) := hw () trivial
  obtain ⟨q1, q2, q3⟩ := hR.1 i hi
  refine pk_le r i (fun z => absurd z (by omega)) (fun _ => ⟨pk_in i 8 (by omega), ?_⟩)
  rw [nI_clamp (show i < 2 ^ 31 by omega), h3 i hi, h4 i hi]
  refine dc_top (by omega) q2 q3 ?_
  refine ek_if (dc_ande (by omega)) (fun z => nm_r (nI_1 i) ?_) (fun z => ⟨pk_in i 8 (by omega), nm_e ⟨pk_in i 8 (by omega), nm_e (nm_r (nI_1 i) ?_)⟩⟩)
  · have z' : ¬ dc_b (dc_rd rs ld i x) (ld i) = true := by rw [z]; decide
    rw [dc_rd_f z', dc_rv_f z'] at hw'
    exact hw'
  · have z' : dc_b (dc_rd rs ld i x) (ld i) = true := dc_nf z
    rw [dc_rd_t z', dc_rv_t z'] at hw'
    exact hw'
/-! the rows as a picture -/
def dc_P (N r : Nat) (s : Int32) (rs rv : Nat → Int32) (ld : Nat → Nat) : Prop := dc_R N r rs ld ∧ (∀ k, k < r → dc_lo 8 (rv k)) ∧ (s = 0 ∨ s = 1)
def dc_H (r : Nat) (rs rv a3 a4 : Nat → Int32) : Prop := (∀ k, k < r → a3 k = rs k) ∧ (∀ k, k < r → a4 k = rv k)
/-! enter -/
theorem dc_w_enter0 {N r : Nat} {s : Int32} {rs rv : Nat → Int32} {ld : Nat → Nat} (hN : N ≤ 8) (hP : dc_P N r s rs rv ld) {x v : Int32} (h0 : dc_rd rs ld r x = 0) {post : St2 → Prop} {n c l lv : Int32} {a1 a2 a3 a4 : Nat → Int32} (hH : dc_H r rs rv a3 a4)
    (K : ∀ l' lv', post (n, c, nI r, (if s = 0 then 0 else if dc_rv rs rv ld r x v = 0 then 1 else 0), l', lv', a1, a2, a3, a4)) : wpX_enter post (n, c, nI r, s, l, lv, a1, a2, a3, a4) x v := by
  unfold wpX_enter
  dsimp only
  refine dc_w_reduce hN hP.1 hH.1 hH.2 x v ?_
  have K' := K (dc_rd rs ld r x) (dc_rv rs rv ld r x v)
  refine br_t h0 (br_c (fun z => ?_) (fun z => br_c (fun y => ?_) (fun y => ?_)))
  · rw [if_pos z] at K'
    exact K'
  · rw [if_neg z, if_pos y] at K'
    exact K'
  · rw [if_neg z, if_neg y] at K'
    exact K'
theorem dc_w_enter1 {N r : Nat} {s : Int32} {rs rv : Nat → Int32} {ld : Nat → Nat} (hN : N ≤ 8) (hP : dc_P N r s rs rv ld) (hr8 : r < 8) {x v : Int32} {t : Nat} (h0 : ¬ dc_rd rs ld r x = 0) (ht : t < 8) (h1 : dc_b (dc_rd rs ld r x) t = true) (h2 : ∀ i, t < i → dc_b (dc_rd rs ld r x) i = false) {post : St2 → Prop} {n c l lv : Int32} {a1 a2 a3 a4 : Nat → Int32} (hH : dc_H r rs rv a3 a4)
    (K : ∀ l' lv' a3' a4', dc_H (r + 1) (dc_rs r t (dc_rd rs ld r x) rs) (dc_rw r t (dc_rv rs rv ld r x v) rs rv) a3' a4' → post (n, c, nI (r + 1), s, l', lv', a1, a2, a3', a4')) : wpX_enter post (n, c, nI r, s, l, lv, a1, a2, a3, a4) x v := by
  unfold wpX_enter
  dsimp only
  refine dc_w_reduce hN hP.1 hH.1 hH.2 x v ?_
  refine br_f h0 (dc_top ht h1 h2 ?_)
  generalize dc_rd rs ld r x = y at K ⊢
  generalize dc_rv rs rv ld r x v = w at K ⊢
  show ∃ fu, wX_enter_48 post (dc_e t) n c (nI r) s y w fu 0 a1 a2 a3 a4
  refine pk_loop (σ := (Nat → Int32) × (Nat → Int32)) (fun m i q => wX_enter_48 post (dc_e t) n c (nI r) s y w m (nI i) a1 a2 q.1 q.2)
    (fun i q => (∀ k, k < i → q.1 k = dc_rs r t y rs k ∧ q.2 k = dc_rw r t w rs rv k) ∧ (∀ k, i ≤ k → k < r → q.1 k = rs k ∧ q.2 k = rv k)) r 0 (a3, a4) (by omega)
    ⟨fun k hk => absurd hk (by omega), fun k _ hk => ⟨hH.1 k hk, hH.2 k hk⟩⟩ (fun m q hq => ?_) (fun m i q hi hq hw => ?_)
  · obtain ⟨b3, b4⟩ := q
    refine pk_le r r (fun _ => ⟨pk_in r 8 hr8, ?_⟩) (fun z => absurd z (by omega))
    rw [nI_clamp (show r < 2 ^ 31 by omega)]
    refine nm_e ⟨pk_in r 8 hr8, nm_e (nm_r (nI_1 r) (K y w _ _ ⟨fun k hk => ?_, fun k hk => ?_⟩))⟩
    · by_cases e : k = r
      · rw [e, pk_us, dc_rs_r]
      · rw [pk_un e]
        exact (hq.1 k (by omega)).1
    · by_cases e : k = r
      · rw [e, pk_us, dc_rw_r]
      · rw [pk_un e]
        exact (hq.1 k (by omega)).2
  · obtain ⟨b3, b4⟩ := q
    have e3 : b3 i = rs i := (hq.2 i (Nat.le_refl i) hi).1
    have e4 : b4 i = rv i := (hq.2 i (Nat.le_refl i) hi).2
    refine pk_le r i (fun z => absurd z (by omega)) (fun _ => ⟨pk_in i 8 (by omega), ?_⟩)
    show ((b3 (nI i).toNatClampNeg &&& dc_e t) = 0 → _) ∧ (¬ (b3 (nI i).toNatClampNeg &&& dc_e t) = 0 → _)
    rw [nI_clamp (show i < 2 ^ 31 by omega)]
    refine ek_if (dc_ande (by omega)) (fun z => nm_r (nI_1 i) (hw (b3, b4) ⟨fun k hk => ?_, fun k h h' => hq.2 k (by omega) h'⟩)) (fun z => ⟨pk_in i 8 (by omega), pk_in i 8 (by omega), nm_e ⟨pk_in i 8 (by omega), pk_in i 8 (by omega), nm_e (nm_r (nI_1 i) (hw (_, _) ⟨fun k hk => ?_, fun k h h' => ?_⟩))⟩⟩)
    · by_cases e : k = i
      · have z' : ¬ dc_b (rs i) t = true := by rw [← e3, z]; decide
        rw [e, dc_rs_f hi z', dc_rw_f hi z']
        exact ⟨e3, e4⟩
      · exact hq.1 k (by omega)
    · by_cases e : k = i
      · have z' : dc_b (rs i) t = true := by rw [← e3]; exact dc_nf z
        rw [e, dc_rs_t hi z', dc_rw_t hi z']
        show upd b3 i _ i = _ ∧ upd b4 i _ i = _
        rw [pk_us, pk_us]
        show b3 i ^^^ y = rs i ^^^ y ∧ b4 i ^^^ w = rv i ^^^ w
        rw [e3, e4]
        exact ⟨rfl, rfl⟩
      · show upd b3 i _ k = _ ∧ upd b4 i _ k = _
        rw [pk_un e, pk_un e]
        exact hq.1 k (by omega)
    · show upd b3 i _ k = _ ∧ upd b4 i _ k = _
      rw [pk_un (by omega), pk_un (by omega)]
      exact hq.2 k (by omega) h'
theorem dc_w_enter {N r : Nat} {s : Int32} {rs rv : Nat → Int32} {ld : Nat → Nat} (hN : N ≤ 8) (hP : dc_P N r s rs rv ld) {x v : Int32} (hx : dc_lo N x) (hv : dc_lo 8 v) :
    ∃ (r' : Nat) (s' : Int32) (rs' rv' : Nat → Int32) (ld' : Nat → Nat), dc_P N r' s' rs' rv' ld' ∧ (∀ y, dc_rd rs ld r y = 0 ∨ y = x → dc_rd rs' ld' r' y = 0) ∧
      ∀ (post : St2 → Prop) (n c l lv : Int32) (a1 a2 a3 a4 : Nat → Int32), dc_H r rs rv a3 a4 → (∀ l' lv' a3' a4', dc_H r' rs' rv' a3' a4' → post (n, c, nI r', s', l', lv', a1, a2, a3', a4')) → wpX_enter post (n, c, nI r, s, l, lv, a1, a2, a3, a4) x v := by
  have hP' := hP
  obtain ⟨hR, hv8, hs⟩ := hP
  by_cases h0 : dc_rd rs ld r x = 0
  · refine ⟨r, if s = 0 then 0 else if dc_rv rs rv ld r x v = 0 then 1 else 0, rs, rv, ld, ⟨hR, hv8, ?_⟩, fun y hy => ?_, fun post n c l lv a1 a2 a3 a4 hH K => dc_w_enter0 hN hP' h0 hH (fun l' lv' => K l' lv' a3 a4 hH)⟩
    · split
      · exact Or.inl rfl
      · split
        · exact Or.inr rfl
        · exact Or.inl rfl
    · rcases hy with e | e
      · exact e
      · rw [e]; exact h0
  · obtain ⟨t, ht, h1, h2⟩ := dc_hi N (dc_rd_lo (dc_R_lo hR) hx r (Nat.le_refl r)) h0
    have hl : ∀ j, j < r → dc_b (dc_rd rs ld r x) (ld j) = false := fun j hj => by rw [dc_rd_lead hR x hj r (Nat.le_refl r), if_pos hj]
    have hR' := dc_R_add hR hl ht h1 h2
    have hr8 := dc_R_rank hR'
    have hw := dc_rv_lo (rs := rs) (ld := ld) (x := x) hv8 hv r (Nat.le_refl r)
    refine ⟨r + 1, s, dc_rs r t (dc_rd rs ld r x) rs, dc_rw r t (dc_rv rs rv ld r x v) rs rv, dc_ld r t ld, ⟨hR', fun k hk => ?_, hs⟩, fun y hy => dc_R_keep hR' y ?_, fun post n c l lv a1 a2 a3 a4 hH K => dc_w_enter1 hN hP' (by omega) h0 (by omega) h1 h2 hH K⟩
    · by_cases e : k = r
      · rw [e, dc_rw_r]; exact hw
      · by_cases z : dc_b (rs k) t = true
        · rw [dc_rw_t (by omega) z]; exact dc_lo_xor (hv8 k (by omega)) hw
        · rw [dc_rw_f (by omega) z]; exact hv8 k (by omega)
    · rcases hy with e | e
      · exact Or.inl e
      · exact Or.inr (by rw [e])
/-! reduceAll: one picture for all calls over the same symbols -/
def dc_A (c : Nat) (a1 a2 : Nat → Int32) (r : Nat) (s : Int32) (rs rv : Nat → Int32) : Prop := ∀ (post : St2 → Prop) (n r0 s0 l lv : Int32) (a3 a4 : Nat → Int32), (∀ l' lv' a3' a4', dc_H r rs rv a3' a4' → post (n, nI c, nI r, s, l', lv', a1, a2, a3', a4')) → wpX_reduceAll post (n, nI c, r0, s0, l, lv, a1, a2, a3, a4) (-1)
theorem dc_nm1 : ∀ k, k < 16 → ¬ nI k = -1 := by decide +kernel
theorem dc_w_ra {N c : Nat} {a1 a2 : Nat → Int32} (hN : N ≤ 8) (hc : c ≤ 16) (h1 : ∀ j, j < c → dc_lo N (a1 j)) (h2 : ∀ j, j < c → dc_lo 8 (a2 j)) : ∀ k, k ≤ c →
    ∃ (r : Nat) (s : Int32) (rs rv : Nat → Int32) (ld : Nat → Nat), dc_P N r s rs rv ld ∧ (∀ j, j < k → dc_rd rs ld r (a1 j) = 0) ∧
      ∀ (post : St2 → Prop) (m : Nat) (n l lv : Int32) (a3 a4 : Nat → Int32), (∀ l' lv' a3' a4', dc_H r rs rv a3' a4' → wX_reduceAll_12 post (-1) m (nI k) n (nI c) (nI r) s l' lv' a1 a2 a3' a4') → wX_reduceAll_12 post (-1) (m + k) 0 n (nI c) 0 1 l lv a1 a2 a3 a4 := by
  intro k
  induction k with
  | zero =>
    intro _
    refine ⟨0, 1, fun _ => 0, fun _ => 0, fun _ => 0, ⟨dc_R_0 N _ _, fun k hk => absurd hk (by omega), Or.inr rfl⟩, fun j hj => absurd hj (by omega), fun post m n l lv a3 a4 K => ?_⟩
    exact K l lv a3 a4 ⟨fun k hk => absurd hk (by omega), fun k hk => absurd hk (by omega)⟩
  | succ k ih =>
    intro hk
    obtain ⟨r, s, rs, rv, ld, hP, hz, W⟩ := ih (by omega)
    obtain ⟨r', s', rs', rv', ld', hP', hz', W'⟩ := dc_w_enter hN hP (h1 k (by omega)) (h2 k (by omega))
    refine ⟨r', s', rs', rv', ld', hP', fun j hj => ?_, fun post m n l lv a3 a4 K => ?_⟩
    · by_cases e : j = k
      · exact hz' _ (Or.inr (by rw [e]))
      · exact hz' _ (Or.inl (hz j (by omega)))
    · rw [show m + (k + 1) = (m + 1) + k by omega]
      refine W post (m + 1) n l lv a3 a4 (fun l' lv' a3' a4' hH => ?_)
      refine pk_le c k (fun z => absurd z (by omega)) (fun _ => br_f (dc_nm1 k (by omega)) ⟨pk_in k 16 (by omega), pk_in k 16 (by omega), ?_⟩)
      rw [nI_clamp (show k < 2 ^ 31 by omega)]
      refine W' _ n (nI c) l' lv' a1 a2 a3' a4' hH (fun l2 lv2 b3 b4 hH2 => ?_)
      exact nm_r (nI_1 k) (K l2 lv2 b3 b4 hH2)
theorem dc_w_reduceAll {N c : Nat} {a1 a2 : Nat → Int32} (hN : N ≤ 8) (hc : c ≤ 16) (h1 : ∀ j, j < c → dc_lo N (a1 j)) (h2 : ∀ j, j < c → dc_lo 8 (a2 j)) :
    ∃ (r : Nat) (s : Int32) (rs rv : Nat → Int32) (ld : Nat → Nat), dc_P N r s rs rv ld ∧ (∀ j, j < c → dc_rd rs ld r (a1 j) = 0) ∧ dc_A c a1 a2 r s rs rv := by
  obtain ⟨r, s, rs, rv, ld, hP, hz, W⟩ := dc_w_ra hN hc h1 h2 c (Nat.le_refl c)
  refine ⟨r, s, rs, rv, ld, hP, hz, fun post n r0 s0 l lv a3 a4 K => ?_⟩
  exact ⟨1 + c, W post 1 n l lv a3 a4 (fun l' lv' a3' a4' hH => pk_le c c (fun _ => K l' lv' a3' a4' hH) (fun z => absurd z (by omega)))⟩
end
section
/-! consistent, rank, known -/
theorem dc_w_consistent {c r : Nat} {s : Int32} {a1 a2 rs rv : Nat → Int32} (hA : dc_A c a1 a2 r s rs rv) {post : Int32 → St2 → Prop} {n r0 s0 l lv : Int32} {a3 a4 : Nat → Int32}
    (K : ∀ l' lv' a3' a4', dc_H r rs rv a3' a4' → post (if s = 0 then 0 else 1) (n, nI c, nI r, s, l', lv', a1, a2, a3', a4')) : wpX_consistent post (n, nI c, r0, s0, l, lv, a1, a2, a3, a4) := by
  unfold wpX_consistent
  dsimp only
  refine hA _ n r0 s0 l lv a3 a4 (fun l' lv' a3' a4' hH => ?_)
  have K' := K l' lv' a3' a4' hH
  refine br_c (fun z => ?_) (fun z => ?_)
  · rw [if_pos z] at K'
    exact K'
  · rw [if_neg z] at K'
    exact K'
theorem dc_w_rank {c r : Nat} {s : Int32} {a1 a2 rs rv : Nat → Int32} (hA : dc_A c a1 a2 r s rs rv) {post : Int32 → St2 → Prop} {n r0 s0 l lv : Int32} {a3 a4 : Nat → Int32}
    (K : ∀ l' lv' a3' a4', dc_H r rs rv a3' a4' → post (nI r) (n, nI c, nI r, s, l', lv', a1, a2, a3', a4')) : wpX_rank post (n, nI c, r0, s0, l, lv, a1, a2, a3, a4) := by
  unfold wpX_rank
  dsimp only
  exact hA _ n r0 s0 l lv a3 a4 (fun l' lv' a3' a4' hH => K l' lv' a3' a4' hH)
theorem dc_w_knownNow {r : Nat} (hr : r ≤ 8) {post : Int32 → Prop} {n c s l lv : Int32} {a1 a2 a3 a4 rs rv : Nat → Int32} (hH : dc_H r rs rv a3 a4) (K : post (dc_kn rs s r)) : wpX_knownNow post (n, c, nI r, s, l, lv, a1, a2, a3, a4) := by
  show ∃ fu, wX_knownNow_4 post n c (nI r) s l lv a1 a2 a3 a4 fu 0 0
  refine pk_loop (σ := Unit) (fun m i _ => wX_knownNow_4 post n c (nI r) s l lv a1 a2 a3 a4 m (dc_kn rs s i) (nI i)) (fun _ _ => True) r 0 () (by omega) trivial (fun m _ _ => pk_le r r (fun _ => K) (fun z => absurd z (by omega))) (fun m i _ hi _ hw => ?_)
  have hw' : wX_knownNow_4 post n c (nI r) s l lv a1 a2 a3 a4 m (dc_kn rs s (i + 1)) (nI (i + 1)) := hw () trivial
  refine pk_le r i (fun z => absurd z (by omega)) (fun _ => ?_)
  rw [nI_clamp (show i < 2 ^ 31 by omega), hH.1 i hi]
  refine br_c (fun z => nm_r (nI_1 i) ?_) (fun z => ⟨pk_in i 8 (by omega), pk_in i 8 (by omega), br_c (fun y => ⟨pk_in i 8 (by omega), nm_e (nm_r (nI_1 i) ?_)⟩) (fun y => nm_r (nI_1 i) ?_)⟩)
  · rw [dc_kn_0 z] at hw'
    exact hw'
  · rw [dc_kn_t z y] at hw'
    exact hw'
  · rw [dc_kn_f z y] at hw'
    exact hw'
theorem dc_w_known {c r : Nat} (hr : r ≤ 8) {s : Int32} {a1 a2 rs rv : Nat → Int32} (hA : dc_A c a1 a2 r s rs rv) {post : Int32 → St2 → Prop} {n r0 s0 l lv : Int32} {a3 a4 : Nat → Int32}
    (K : ∀ l' lv' a3' a4', dc_H r rs rv a3' a4' → post (dc_kn rs s r) (n, nI c, nI r, s, l', lv', a1, a2, a3', a4')) : wpX_known post (n, nI c, r0, s0, l, lv, a1, a2, a3, a4) := by
  unfold wpX_known
  dsimp only
  exact hA _ n r0 s0 l lv a3 a4 (fun l' lv' a3' a4' hH => dc_w_knownNow hr hH (K l' lv' a3' a4' hH))
/-! settle, value, sumOf -/
def dc_V (r : Nat) (s : Int32) (rs rv : Nat → Int32) (ld : Nat → Nat) (x : Int32) : Int32 := if s = 0 then -2 else if dc_rd rs ld r x = 0 then dc_rv rs rv ld r x 0 else -2
theorem dc_m1 : ¬ (0 : Int32) ≤ -1 := by decide
theorem dc_w_settle {N r : Nat} (hN : N ≤ 8) {s : Int32} {rs rv : Nat → Int32} {ld : Nat → Nat} (hP : dc_P N r s rs rv ld) {post : Int32 → St2 → Prop} {n c l lv : Int32} {a1 a2 a3 a4 : Nat → Int32} (hH : dc_H r rs rv a3 a4) (x : Int32)
    (K0 : dc_V r s rs rv ld x = -2 → ∀ l' lv', post (-1) (n, c, nI r, s, l', lv', a1, a2, a3, a4))
    (K1 : dc_lo 8 (dc_V r s rs rv ld x) → ∀ l' lv', post (dc_V r s rs rv ld x) (n, c, nI r, s, l', lv', a1, a2, a3, a4)) : wpX_settle post (n, c, nI r, s, l, lv, a1, a2, a3, a4) x := by
  unfold wpX_settle
  dsimp only
  refine dc_w_reduce hN hP.1 hH.1 hH.2 x 0 ?_
  unfold dc_V at K0 K1
  refine br_c (fun z => ?_) (fun z => br_c (fun y => ?_) (fun y => ?_))
  · exact K0 (if_pos z) _ _
  · rw [if_neg z, if_pos y] at K1
    exact K1 (dc_rv_lo hP.2.1 (dc_lo_0 8) r (Nat.le_refl r)) _ _
  · exact K0 ((if_neg z).trans (if_neg y)) _ _
theorem dc_w_value {N c r : Nat} (hN : N ≤ 8) {s : Int32} {a1 a2 rs rv : Nat → Int32} {ld : Nat → Nat} (hP : dc_P N r s rs rv ld) (hA : dc_A c a1 a2 r s rs rv) {post : Int32 → St2 → Prop} {r0 s0 l lv : Int32} {a3 a4 : Nat → Int32} {b : Nat} (hb : b < N)
    (K : ∀ l' lv' a3' a4', post (dc_V r s rs rv ld (dc_e b)) (nI N, nI c, nI r, s, l', lv', a1, a2, a3', a4')) : wpX_value post (nI N, nI c, r0, s0, l, lv, a1, a2, a3, a4) (nI b) := by
  unfold wpX_value
  dsimp only
  refine br_f (nI_pos (by omega)) (br_t (nI_lt hb (by omega)) ?_)
  refine hA _ (nI N) r0 s0 l lv a3 a4 (fun l' lv' a3' a4' hH => ?_)
  refine dc_w_settle hN hP hH (dc_e b) (fun e l2 lv2 => ?_) (fun e l2 lv2 => ?_)
  · have K' := K l2 lv2 a3' a4'
    rw [e] at K'
    exact br_f dc_m1 K'
  · exact br_t (dc_lo8b e).2.2 (K l2 lv2 a3' a4')
theorem dc_w_isSet {N : Nat} (hN : N ≤ 8) {post : Int32 → Prop} {c r0 s0 l lv : Int32} {a1 a2 a3 a4 : Nat → Int32} {x : Int32} (hx : dc_lo N x) (K : post 1) : wpX_isSet post (nI N, c, r0, s0, l, lv, a1, a2, a3, a4) x := by
  obtain ⟨k, hk, rfl⟩ := dc_lo_of hx
  have h256 : 2 ^ N ≤ 2 ^ 8 := Nat.pow_le_pow_right (by decide) hN
  have hk2 : ¬ dc_e N ≤ nI k := by
    rw [(dc_allN N (by omega)).2.1]
    exact nI_ge hk (by omega)
  unfold wpX_isSet
  dsimp only
  exact br_f (nI_pos (by omega)) (br_f hk2 K)
theorem dc_one0 : ¬ (1 : Int32) = 0 := by decide
theorem dc_w_sumOf {N c r : Nat} (hN : N ≤ 8) {s : Int32} {a1 a2 rs rv : Nat → Int32} {ld : Nat → Nat} (hP : dc_P N r s rs rv ld) (hA : dc_A c a1 a2 r s rs rv) {post : Int32 → St2 → Prop} {r0 s0 l lv : Int32} {a3 a4 : Nat → Int32} {x : Int32} (hx : dc_lo N x)
    (K : ∀ l' lv' a3' a4', post (dc_V r s rs rv ld x) (nI N, nI c, nI r, s, l', lv', a1, a2, a3', a4')) : wpX_sumOf post (nI N, nI c, r0, s0, l, lv, a1, a2, a3, a4) x := by
  unfold wpX_sumOf
  dsimp only
  refine dc_w_isSet hN hx (br_f dc_one0 ?_)
  refine hA _ (nI N) r0 s0 l lv a3 a4 (fun l' lv' a3' a4' hH => ?_)
  refine dc_w_settle hN hP hH x (fun e l2 lv2 => ?_) (fun e l2 lv2 => ?_)
  · have K' := K l2 lv2 a3' a4'
    rw [e] at K'
    exact br_f dc_m1 K'
  · exact br_t (dc_lo8b e).2.2 (K l2 lv2 a3' a4')
/-! peelFrom -/
theorem dc_w_peel18 {c : Nat} (hc : c ≤ 16) {post : Int32 → Prop} {J : Int32 → Int32 → Prop} {x3 x4 n r s l lv : Int32} {a1 a2 a3 a4 : Nat → Int32} {x : Int32} (K1 : x4 = dc_pi a1 c x → post (dc_pi a1 c x)) (K2 : ¬ x4 = dc_pi a1 c x → J (dc_pi a1 c x) (x3 + 1)) :
    ∃ fu, wX_peelFrom_18 post J x3 x4 n (nI c) r s l lv a1 a2 a3 a4 fu x 0 := by
  refine pk_loop (σ := Unit) (fun m i _ => wX_peelFrom_18 post J x3 x4 n (nI c) r s l lv a1 a2 a3 a4 m (dc_pi a1 i x) (nI i)) (fun _ _ => True) c 0 () (by omega) trivial (fun m _ _ => pk_le c c (fun _ => br_c K1 (fun z => nm_e (K2 z))) (fun z => absurd z (by omega))) (fun m i _ hi _ hw => ?_)
  have hw' : wX_peelFrom_18 post J x3 x4 n (nI c) r s l lv a1 a2 a3 a4 m (dc_ps a1 i (dc_pi a1 i x)) (nI (i + 1)) := hw () trivial
  refine pk_le c i (fun z => absurd z (by omega)) (fun _ => ⟨pk_in i 16 (by omega), ?_⟩)
  rw [nI_clamp (show i < 2 ^ 31 by omega)]
  refine nm_e ?_
  unfold dc_ps dc_op at hw'
  refine br_c (fun z => nm_e (nm_r (nI_1 i) ?_)) (fun z => nm_r (nI_1 i) ?_)
  · rw [if_pos z] at hw'
    exact hw'
  · rw [if_neg z] at hw'
    exact hw'
theorem dc_w_peel4 {N c : Nat} (hN : N ≤ 8) (hc : c ≤ 16) {post : Int32 → Prop} {r s l lv : Int32} {a1 a2 a3 a4 : Nat → Int32} : ∀ m i x, i + m = N + 1 → post (dc_pf a1 c m x) → wX_peelFrom_4 post (nI N) (nI c) r s l lv a1 a2 a3 a4 (m + 1) x (nI i) := by
  intro m
  induction m with
  | zero =>
    intro i x e K
    exact pk_lt N i (fun _ => K) (fun z => absurd z (by omega))
  | succ m ih =>
    intro i x e K
    have K' : post (if x = dc_pi a1 c x then dc_pi a1 c x else dc_pf a1 c m (dc_pi a1 c x)) := K
    refine pk_lt N i (fun z => absurd z (by omega)) (fun _ => dc_w_peel18 hc (fun z => ?_) (fun z => ?_))
    · rw [if_pos z] at K'
      exact K'
    · rw [if_neg z] at K'
      have := ih (i + 1) _ (by omega) K'
      rw [← nI_1] at this
      exact this
theorem dc_w_peel {N c : Nat} (hN : N ≤ 8) (hc : c ≤ 16) {post : Int32 → Prop} {r s l lv : Int32} {a1 a2 a3 a4 : Nat → Int32} {x : Int32} (K : post (dc_pf a1 c (N + 1) x)) : wpX_peelFrom post (nI N, nI c, r, s, l, lv, a1, a2, a3, a4) x :=
  ⟨N + 1 + 1, dc_w_peel4 hN hc (N + 1) 0 x (by omega) K⟩
theorem dc_w_peeled {N c : Nat} (hN : N ≤ 8) (hc : c ≤ 16) {post : Int32 → Prop} {r s l lv : Int32} {a1 a2 a3 a4 : Nat → Int32} (K : post (dc_pf a1 c (N + 1) 0)) : wpX_peeled post (nI N, nI c, r, s, l, lv, a1, a2, a3, a4) := by
  unfold wpX_peeled
  dsimp only
  exact dc_w_peel hN hc K
/-! ones, members -/
theorem dc_w_ones {post : Int32 → Prop} {x : Int32} (K : post (dc_on x 8)) : wpX_ones post () x := by
  show ∃ fu, wX_ones_4 post x fu 0 0
  exact pk_loop (σ := Unit) (fun m i _ => wX_ones_4 post x m (dc_on x i) (nI i)) (fun _ _ => True) 8 0 () (by omega) trivial (fun m _ _ => pk_le 8 8 (fun _ => K) (fun z => absurd z (by omega))) (fun m i _ hi _ hw => pk_le 8 i (fun z => absurd z (by omega)) (fun _ => nm_e (nm_r (nI_1 i) (hw () trivial))))
theorem dc_w_members {post : Int32 → Prop} {x : Int32} (K : post (dc_on x 8)) : wpL_members post () x := by
  show ∃ fu, wL_members_4 post x fu 0 0
  exact pk_loop (σ := Unit) (fun m i _ => wL_members_4 post x m (dc_on x i) (nI i)) (fun _ _ => True) 8 0 () (by omega) trivial (fun m _ _ => pk_le 8 8 (fun _ => K) (fun z => absurd z (by omega))) (fun m i _ hi _ hw => pk_le 8 i (fun z => absurd z (by omega)) (fun _ => nm_e (nm_r (nI_1 i) (hw () trivial))))
/-! seed, seedSize, isSeed -/
theorem dc_w_seed {N c : Nat} (hN : N ≤ 8) (hc : c ≤ 16) {post : Int32 → Prop} {r s l lv : Int32} {a1 a2 a3 a4 : Nat → Int32} (K : post (dc_sd a1 c N (2 ^ N - 1))) : wpX_seed post (nI N, nI c, r, s, l, lv, a1, a2, a3, a4) := by
  have h256 : 2 ^ N ≤ 2 ^ 8 := Nat.pow_le_pow_right (by decide) hN
  have eA := (dc_allN N (by omega)).1
  unfold wpX_seed
  dsimp only
  refine nm_r (show _ = dc_all N from rfl) ?_
  refine pk_loop (σ := Unit) (fun m i _ => wX_seed_13 post (dc_all N) (nI N) (nI c) r s l lv a1 a2 a3 a4 m (dc_sd a1 c N i) (nI i)) (fun _ _ => True) (2 ^ N - 1) 0 () (by omega) trivial (fun m _ _ => pk_le (2 ^ N - 1) (2 ^ N - 1) (fun _ => K) (fun z => absurd z (by omega)) eA) (fun m i _ hi _ hw => ?_)
  have hw' : wX_seed_13 post (dc_all N) (nI N) (nI c) r s l lv a1 a2 a3 a4 m (dc_sd a1 c N (i + 1)) (nI (i + 1)) := hw () trivial
  refine pk_le (2 ^ N - 1) i (fun z => absurd z (by omega)) (fun _ => ?_) eA
  refine dc_w_ones (dc_w_ones ?_)
  refine br_c (fun z => nm_r (nI_1 i) ?_) (fun z => dc_w_peel hN hc (br_c (fun y => nm_r (nI_1 i) ?_) (fun y => nm_r (nI_1 i) ?_)))
  · rw [dc_sd_1 z] at hw'
    exact hw'
  · rw [dc_sd_2 z y] at hw'
    exact hw'
  · rw [dc_sd_3 z y] at hw'
    exact hw'
theorem dc_w_seedSize {N c : Nat} (hN : N ≤ 8) (hc : c ≤ 16) {post : Int32 → Prop} {r s l lv : Int32} {a1 a2 a3 a4 : Nat → Int32} (K : post (dc_on (dc_sd a1 c N (2 ^ N - 1)) 8)) : wpX_seedSize post (nI N, nI c, r, s, l, lv, a1, a2, a3, a4) := by
  unfold wpX_seedSize
  dsimp only
  exact dc_w_seed hN hc (dc_w_ones K)
theorem dc_w_isSeed {N c : Nat} (hN : N ≤ 8) (hc : c ≤ 16) {post : Int32 → Prop} {r s l lv : Int32} {a1 a2 a3 a4 : Nat → Int32} {x : Int32} (hx : dc_lo N x) (e : dc_pf a1 c (N + 1) x = dc_all N) (K : post 1) : wpX_isSeed post (nI N, nI c, r, s, l, lv, a1, a2, a3, a4) x := by
  unfold wpX_isSeed
  dsimp only
  exact dc_w_isSet hN hx (br_f dc_one0 (dc_w_peel hN hc (br_t e K)))
end
section
/-! what the symbols keep: at most 16, sets of the first N blocks, values of a byte -/
def dc_I (N c : Nat) (a1 a2 : Nat → Int32) : Prop := c ≤ 16 ∧ (∀ j, j < c → dc_lo N (a1 j)) ∧ (∀ j, j < c → dc_lo 8 (a2 j))
theorem dc_upd {M i c : Nat} {f : Nat → Int32} {y : Int32} (h : ∀ j, j < c → dc_lo M (f j)) (hy : dc_lo M y) : ∀ j, j < c → dc_lo M (upd f i y j) := by
  intro j hj
  by_cases e : j = i
  · rw [e, pk_us]; exact hy
  · rw [pk_un e]; exact h j hj
theorem dc_upd1 {M c : Nat} {f : Nat → Int32} {y : Int32} (h : ∀ j, j < c → dc_lo M (f j)) (hy : dc_lo M y) : ∀ j, j < c + 1 → dc_lo M (upd f c y j) := by
  intro j hj
  by_cases e : j = c
  · rw [e, pk_us]; exact hy
  · rw [pk_un e]; exact h j (by omega)
theorem dc_pred {c : Nat} (h : 1 ≤ c) : nI c - 1 = nI (c - 1) := by
  have e := nI_pred (c - 1)
  rw [show c - 1 + 1 = c by omega] at e
  exact e
/-! lose -/
theorem dc_w_lose {N c : Nat} {post : Int32 → St2 → Prop} {n r s l lv : Int32} {a1 a2 a3 a4 : Nat → Int32} (hI : dc_I N c a1 a2) (p : Int32)
    (K : ∀ v c' b1 b2, dc_I N c' b1 b2 → post v (n, nI c', r, s, l, lv, b1, b2, a3, a4)) : wpX_lose post (n, nI c, r, s, l, lv, a1, a2, a3, a4) p := by
  have hc := hI.1
  unfold wpX_lose
  dsimp only
  refine br_c (fun _ => K _ c a1 a2 hI) (fun z => br_c (fun y => ?_) (fun _ => K _ c a1 a2 hI))
  obtain ⟨k, hk, rfl⟩ := nI_of z
  have hkc : k < c := (nI_ltI hk (by omega)).mp y
  refine nm_r (nI_1 k) ?_
  refine pk_loop (σ := (Nat → Int32) × (Nat → Int32)) (fun m i q => wX_lose_18 post n (nI c) r s l lv m (nI i) q.1 q.2 a3 a4) (fun i q => 1 ≤ i ∧ dc_I N c q.1 q.2) c (k + 1) (a1, a2) (by omega) ⟨by omega, hI⟩ (fun m q hq => ?_) (fun m i q hi hq hw => ?_)
  · refine pk_le c c (fun _ => nm_r (dc_pred (by omega)) (K _ (c - 1) q.1 q.2 ⟨by omega, fun j hj => hq.2.2.1 j (by omega), fun j hj => hq.2.2.2 j (by omega)⟩)) (fun z => absurd z (by omega))
  · refine pk_le c i (fun z => absurd z (by omega)) (fun _ => ?_)
    rw [dc_pred hq.1, nI_clamp (show i < 2 ^ 31 by omega), nI_clamp (show i - 1 < 2 ^ 31 by omega)]
    exact ⟨pk_in i 16 (by omega), pk_in (i - 1) 16 (by omega), nm_e ⟨pk_in i 16 (by omega), pk_in (i - 1) 16 (by omega), nm_e (nm_r (nI_1 i) (hw (_, _) ⟨by omega, hc, dc_upd hq.2.2.1 (hq.2.2.1 i hi), dc_upd hq.2.2.2 (hq.2.2.2 i hi)⟩))⟩⟩
/-! drawn, setOf -/
theorem dc_w_drawn {N : Nat} (hN : N ≤ 8) (hN1 : 1 ≤ N) {post : Int32 → Prop} {c r s l lv : Int32} {a1 a2 a3 a4 : Nat → Int32} {q : Nat} (hq : q < 10000) (K : ∀ x, dc_lo N x → post x) : wpX_drawn post (nI N, c, r, s, l, lv, a1, a2, a3, a4) (nI q) := by
  have e1 : nI q * 7919 + 104729 = nI (q * 7919 + 104729) := by
    show nI q * nI 7919 + nI 104729 = _
    rw [pk_mul, nI_add]
  have hw : q * 7919 + 104729 < 2 ^ 31 := by omega
  generalize q * 7919 + 104729 = w at e1 hw
  have e2 : 1 + (nI w / 7 - nI w / 7 / 3 * 3) = nI (1 + w / 7 % 3) := by
    show nI 1 + (nI w / nI 7 - nI w / nI 7 / nI 3 * nI 3) = _
    rw [pk_div hw (by omega) (by omega), pk_rem (by omega) (by omega) (by omega), nI_add]
  have h3 : 1 + w / 7 % 3 ≤ 3 := by omega
  generalize 1 + w / 7 % 3 = z at e2 h3
  unfold wpX_drawn
  dsimp only
  refine nm_r e1 ⟨by decide, by decide, nm_r e2 (br_f (nI_nle (by omega) (by omega)) ?_)⟩
  have hne : ¬ nI N = 0 := nI_ne0 (by omega) (by omega)
  refine pk_loop (σ := Int32 × Nat) (fun m i p => wX_drawn_44 post (nI z) (nI N) (nI N) c r s l lv a1 a2 a3 a4 m p.1 (nI p.2) (nI i)) (fun i p => dc_lo N p.1 ∧ p.2 < 2 ^ 31) z 0 (0, w) (by omega) ⟨dc_lo_0 N, hw⟩ (fun m p hp => ?_) (fun m i p hi hp hwk => ?_)
  · refine pk_le z z (fun _ => br_c (fun _ => K 1 ?_) (fun _ => K _ hp.1)) (fun g => absurd g (by omega))
    exact dc_lo_e (b := 0) (by omega) (by omega)
  · obtain ⟨x, y⟩ := p
    refine pk_le z i (fun g => absurd g (by omega)) (fun _ => ⟨hne, ?_⟩)
    have e3 : x ^^^ ((1 : Int32) <<< ((nI y - nI y / nI N * nI N) &&& 31)) = x ^^^ dc_e (y % N) := by
      rw [pk_rem hp.2 (by omega) (by omega)]
      rfl
    refine nm_r e3 ⟨hne, nm_r (pk_div hp.2 (by omega) (by omega)) (nm_r (nI_1 i) (hwk (_, _) ⟨dc_lo_xor hp.1 (dc_lo_e (Nat.mod_lt _ (by omega)) (by omega)), ?_⟩))⟩
    exact Nat.lt_of_le_of_lt (Nat.div_le_self _ _) hp.2
theorem dc_lt10 {q : Nat} (hq : q < 2 ^ 31) (h : ¬ (10000 : Int32) ≤ nI q) : q < 10000 := by
  rcases Nat.lt_or_ge q 10000 with g | g
  · exact g
  · exact absurd (nI_le (a := 10000) g hq) h
theorem dc_w_setOf {N : Nat} (hN : N ≤ 8) (hN1 : 1 ≤ N) {post : Int32 → Prop} {c r s l lv : Int32} {a1 a2 a3 a4 : Nat → Int32} (p : Int32) (K : ∀ x, post x) : wpX_setOf post (nI N, c, r, s, l, lv, a1, a2, a3, a4) p := by
  unfold wpX_setOf
  dsimp only
  refine br_c (fun _ => K _) (fun z => br_c (fun _ => K _) (fun y => ?_))
  obtain ⟨q, hq, rfl⟩ := nI_of z
  exact dc_w_drawn hN hN1 (dc_lt10 hq y) (fun x _ => K x)
/-! truth, number -/
theorem dc_w_truth {post : Int32 → Prop} {x : Int32} (K : ∀ y, post y) : wpL_truth post () x := by
  show ∃ fu, wL_truth_4 post x fu 0 0
  exact pk_loop (σ := Int32) (fun m i q => wL_truth_4 post x m q (nI i)) (fun _ _ => True) 8 0 0 (by omega) trivial (fun m q _ => pk_le 8 8 (fun _ => K _) (fun z => absurd z (by omega))) (fun m i q hi _ hw => pk_le 8 i (fun z => absurd z (by omega)) (fun _ => br_c (fun _ => nm_e (nm_r (nI_1 i) (hw _ trivial))) (fun _ => nm_r (nI_1 i) (hw _ trivial))))
theorem dc_w_number {post : Int32 → Prop} {x v : Int32} (K : ∀ y, post y) : wpL_number post () x v := by
  unfold wpL_number
  exact dc_w_truth (fun y => br_c (fun _ => K _) (fun _ => br_c (fun _ => K _) (fun _ => K _)))
/-! put, receive, draw -/
theorem dc_w_put {N c : Nat} {post : St2 → Prop} {n r s l lv : Int32} {a1 a2 a3 a4 : Nat → Int32} (hI : dc_I N c a1 a2) (hc : c < 16) {x v : Int32} (hx : dc_lo N x) (hv : dc_lo 8 v)
    (K : ∀ c' b1 b2, dc_I N c' b1 b2 → post (n, nI c', r, s, l, lv, b1, b2, a3, a4)) : wpX_put post (n, nI c, r, s, l, lv, a1, a2, a3, a4) x v := by
  unfold wpX_put
  dsimp only
  rw [nI_clamp (show c < 2 ^ 31 by omega)]
  exact ⟨pk_in c 16 hc, nm_e ⟨pk_in c 16 hc, nm_e (nm_r (nI_1 c) (K (c + 1) _ _ ⟨by omega, dc_upd1 hI.2.1 hx, dc_upd1 hI.2.2 hv⟩))⟩⟩
theorem dc_ne16 {c : Nat} (hc : c ≤ 16) (h : ¬ nI c = 16) : c < 16 := by
  rcases Nat.lt_or_ge c 16 with g | g
  · exact g
  · exact absurd (show nI c = 16 by rw [show c = 16 by omega]; rfl) h
theorem dc_byte {v : Int32} (h : ¬ v < 0) (h2 : v ≤ 255) : dc_lo 8 v := by
  obtain ⟨j, hj, rfl⟩ := nI_of2 (M := 255) (n := 255) (by decide) h h2
  exact dc_lo_nI (by omega)
theorem dc_pos1 {x : Int32} (h : ¬ x < 1) : ¬ x < 0 := by
  rw [Int32.lt_iff_toInt_lt] at h ⊢
  have h0 : (0 : Int32).toInt = 0 := by decide
  have h1 : (1 : Int32).toInt = 1 := by decide
  omega
theorem dc_set {N : Nat} (hN : N ≤ 8) {x : Int32} (h : ¬ x < 0) (h2 : x < dc_e N) : dc_lo N x := by
  obtain ⟨j, hj, rfl⟩ := nI_of h
  have h256 : 2 ^ N ≤ 2 ^ 8 := Nat.pow_le_pow_right (by decide) hN
  rw [(dc_allN N (by omega)).2.1, nI_ltI hj (by omega)] at h2
  exact dc_lo_nI h2
theorem dc_w_receive {N c : Nat} (hN : N ≤ 8) {post : Int32 → St2 → Prop} {r s l lv : Int32} {a1 a2 a3 a4 : Nat → Int32} (hI : dc_I N c a1 a2) (x v : Int32)
    (K : ∀ w c' b1 b2, dc_I N c' b1 b2 → post w (nI N, nI c', r, s, l, lv, b1, b2, a3, a4)) : wpX_receive post (nI N, nI c, r, s, l, lv, a1, a2, a3, a4) x v := by
  unfold wpX_receive
  dsimp only
  refine br_c (fun _ => K _ c a1 a2 hI) (fun z => br_c (fun y => br_c (fun _ => K _ c a1 a2 hI) (fun w => br_c (fun u => br_c (fun _ => K _ c a1 a2 hI) (fun g => ?_)) (fun _ => K _ c a1 a2 hI))) (fun _ => K _ c a1 a2 hI))
  exact dc_w_put hI (dc_ne16 hI.1 g) (dc_set hN (dc_pos1 z) y) (dc_byte w u) (fun c' b1 b2 h => K _ c' b1 b2 h)
theorem dc_w_draw {N c : Nat} (hN : N ≤ 8) (hN1 : 1 ≤ N) {post : Int32 → St2 → Prop} {r s l lv : Int32} {a1 a2 a3 a4 : Nat → Int32} (hI : dc_I N c a1 a2) (x v : Int32)
    (K : ∀ w c' b1 b2, dc_I N c' b1 b2 → post w (nI N, nI c', r, s, l, lv, b1, b2, a3, a4)) : wpX_draw post (nI N, nI c, r, s, l, lv, a1, a2, a3, a4) x v := by
  unfold wpX_draw
  dsimp only
  refine br_c (fun _ => K _ c a1 a2 hI) (fun z => br_c (fun y => br_c (fun _ => K _ c a1 a2 hI) (fun w => br_c (fun u => br_c (fun _ => K _ c a1 a2 hI) (fun g => ?_)) (fun _ => K _ c a1 a2 hI))) (fun _ => K _ c a1 a2 hI))
  obtain ⟨q, hq, rfl⟩ := nI_of z
  have hq2 : q < 10000 := (nI_ltI (b := 10000) hq (by omega)).mp y
  exact dc_w_drawn hN hN1 hq2 (fun x' hx => dc_w_put hI (dc_ne16 hI.1 g) hx (dc_byte w u) (fun c' b1 b2 h => K _ c' b1 b2 h))
/-! act -/
theorem dc_w_act {N c : Nat} (hN : N ≤ 8) (hN1 : 1 ≤ N) {post : Int32 → St2 → Prop} {r s l lv : Int32} {a1 a2 a3 a4 : Nat → Int32} (hI : dc_I N c a1 a2) (m x v : Int32)
    (K : ∀ w c' b1 b2, dc_I N c' b1 b2 → post w (nI N, nI c', r, s, l, lv, b1, b2, a3, a4)) : wpL_act post (nI N, nI c, r, s, l, lv, a1, a2, a3, a4) (nI N) m x v := by
  have h1 : ¬ dc_e N + 1 = 0 := (dc_allN N (by omega)).2.2
  unfold wpL_act
  dsimp only
  refine ⟨h1, nm_e ⟨by decide, nm_e (br_c (fun _ => br_c (fun _ => ⟨by decide, ?_⟩) (fun _ => ?_)) (fun _ => ?_))⟩⟩
  · exact dc_w_lose hI _ (fun w c' b1 b2 h => K w c' b1 b2 h)
  · exact dc_w_setOf hN hN1 _ (fun y => dc_w_number (fun y2 => dc_w_draw hN hN1 hI _ _ (fun w c' b1 b2 h => K w c' b1 b2 h)))
  · exact dc_w_number (fun y2 => dc_w_receive hN hI _ _ (fun w c' b1 b2 h => K w c' b1 b2 h))
end
section
/-! the blocks one by one, then the seed -/
theorem dc_c1 {s : Int32} (h : ¬ s = 0) : (if s = 0 then (0 : Int32) else 1) = 1 := if_neg h
theorem dc_c0 {s : Int32} (h : (if s = 0 then (0 : Int32) else 1) = 1) : ¬ s = 0 := fun e => by
  rw [if_pos e] at h
  exact absurd h (by decide)
theorem dc_V_is {N r : Nat} {s : Int32} {rs rv : Nat → Int32} {ld : Nat → Nat} (hP : dc_P N r s rs rv ld) {b : Nat} (hs : ¬ s = 0) (h : ∃ j, j < r ∧ rs j = dc_e b) : dc_lo 8 (dc_V r s rs rv ld (dc_e b)) := by
  obtain ⟨j, hj, e⟩ := h
  have e2 := dc_rd_row hP.1 hj
  rw [e] at e2
  unfold dc_V
  rw [if_neg hs, if_pos e2]
  exact dc_rv_lo hP.2.1 (dc_lo_0 8) r (Nat.le_refl r)
theorem dc_V_not {N r : Nat} {s : Int32} {rs rv : Nat → Int32} {ld : Nat → Nat} (hP : dc_P N r s rs rv ld) {b : Nat} (hb : b < 32) (h : ¬ (¬ s = 0 ∧ ∃ j, j < r ∧ rs j = dc_e b)) : dc_V r s rs rv ld (dc_e b) = -2 := by
  unfold dc_V
  by_cases z : s = 0
  · rw [if_pos z]
  · rw [if_neg z, if_neg (fun q => h ⟨z, dc_rd_e hP.1 hb q⟩)]
theorem dc_one1 : (1 : Int32) = 1 := rfl
theorem dc_zero0 : (0 : Int32) = 0 := rfl
theorem dc_w_148 {L : Nat} {xs : Nat → Int32} {N c r : Nat} (hN : N ≤ 8) (hN1 : 1 ≤ N) {s : Int32} {a1 a2 rs rv : Nat → Int32} {ld : Nat → Nat} (hI : dc_I N c a1 a2) (hP : dc_P N r s rs rv ld) (hA : dc_A c a1 a2 r s rs rv)
    {J : Int32 → Int32 → Int32 → Int32 → Int32 → Int32 → Int32 → (Nat → Int32) → (Nat → Int32) → (Nat → Int32) → (Nat → Int32) → Prop} {x4 : Int32} {kc ks : Nat} {r0 s0 l lv : Int32} {a3 a4 : Nat → Int32}
    (HJ : ∀ r0 s0 l lv a3 a4, J (x4 + 3) (nI N) (nI c) r0 s0 l lv a1 a2 a3 a4) :
    ∃ fu, wL_law_148 (fun r => r = 1) L xs J (nI N) (dc_all N) x4 (if s = 0 then 0 else 1) (dc_kn rs s r) (dc_pf a1 c (N + 1) 0) kc ks fu 0 (nI N) (nI c) r0 s0 l lv a1 a2 a3 a4 := by
  obtain ⟨hc, h1, h2⟩ := hI
  refine pk_loop (σ := Int32 × Int32 × Int32 × Int32 × (Nat → Int32) × (Nat → Int32)) (fun m i q => wL_law_148 (fun r => r = 1) L xs J (nI N) (dc_all N) x4 (if s = 0 then 0 else 1) (dc_kn rs s r) (dc_pf a1 c (N + 1) 0) kc ks m (nI i) (nI N) (nI c) q.1 q.2.1 q.2.2.1 q.2.2.2.1 a1 a2 q.2.2.2.2.1 q.2.2.2.2.2) (fun _ _ => True) N 0 (r0, s0, l, lv, a3, a4) (by omega) trivial (fun m q _ => ?_) (fun m i q hi _ hw => ?_)
  · obtain ⟨q1, q2, q3, q4, q5, q6⟩ := q
    have h256 : 2 ^ 1 ≤ 2 ^ N := Nat.pow_le_pow_right (by decide) hN1
    obtain ⟨k1, k2, _, k4⟩ := dc_sd_ok hN hN1 h1 (2 ^ N - 1) (Nat.le_refl _)
    have k4' := k4 (by omega)
    refine pk_le N N (fun _ => ?_) (fun z => absurd z (by omega))
    refine dc_w_seed hN hc (dc_w_seedSize hN hc (dc_w_isSeed hN hc k1 k2 (dc_w_members ?_)))
    refine br_t rfl (br_t rfl (br_c (fun z => ?_) (fun z => ?_)))
    · have e : dc_sd a1 c N (2 ^ N - 1) = 0 := dc_on_le (dc_lo_m hN k1) (by rw [z]; decide)
      exact br_t (k4'.mp e) (br_t dc_one1 (nm_e (HJ _ _ _ _ _ _)))
    · have e : ¬ dc_sd a1 c N (2 ^ N - 1) = 0 := fun e => z (by rw [e]; exact dc_on0)
      exact br_f (fun y => e (k4'.mpr y)) (br_t dc_zero0 (nm_e (HJ _ _ _ _ _ _)))
  · obtain ⟨q1, q2, q3, q4, q5, q6⟩ := q
    refine pk_le N i (fun z => absurd z (by omega)) (fun _ => ?_)
    refine dc_w_value hN hP hA hi (fun l' lv' a3' a4' => ?_)
    refine dc_w_sumOf hN hP hA (dc_lo_e hi (by omega)) (fun l2 lv2 b3 b4 => ?_)
    have hb := dc_kn_b (s := s) hN hP.1 (b := i) (by omega) r (Nat.le_refl r)
    have hn : wL_law_148 (fun r => r = 1) L xs J (nI N) (dc_all N) x4 (if s = 0 then 0 else 1) (dc_kn rs s r) (dc_pf a1 c (N + 1) 0) kc ks m (nI (i + 1)) (nI N) (nI c) (nI r) s l2 lv2 a1 a2 b3 b4 := hw (nI r, s, l2, lv2, b3, b4) trivial
    refine ek_if (dc_read (by omega)) (fun z => ?_) (fun z => ?_)
    · obtain ⟨hs, hj⟩ := hb.mp z
      have hV := dc_lo8b (dc_V_is hP hs hj)
      exact br_f dc_one0 (br_t (dc_c1 hs) (br_f hV.1 (br_f hV.2.1 (br_t rfl (br_f dc_one0 (nm_r (nI_1 i) hn))))))
    · have hV := dc_V_not hP (b := i) (by omega) (fun q => z (hb.mpr q))
      exact br_t dc_zero0 (br_t dc_zero0 (br_t hV (nm_r (nI_1 i) hn)))
/-! all known: as many rows as blocks -/
theorem dc_w_112 {L : Nat} {xs : Nat → Int32} {N c r : Nat} (hN : N ≤ 8) (hN1 : 1 ≤ N) {s : Int32} {a1 a2 rs rv : Nat → Int32} {ld : Nat → Nat} (hI : dc_I N c a1 a2) (hP : dc_P N r s rs rv ld) (hA : dc_A c a1 a2 r s rs rv)
    {J : Int32 → Int32 → Int32 → Int32 → Int32 → Int32 → Int32 → (Nat → Int32) → (Nat → Int32) → (Nat → Int32) → (Nat → Int32) → Prop} {x4 : Int32} {kc ks : Nat} {r0 s0 l lv : Int32} {a3 a4 : Nat → Int32}
    (HJ : ∀ r0 s0 l lv a3 a4, J (x4 + 3) (nI N) (nI c) r0 s0 l lv a1 a2 a3 a4) :
    wL_law_112 (fun r => r = 1) L xs J (nI N) (dc_all N) x4 (if s = 0 then 0 else 1) (dc_kn rs s r) (dc_pf a1 c (N + 1) 0) (nI r) kc ks (nI N) (nI c) r0 s0 l lv a1 a2 a3 a4 := by
  have hE := dc_every (s := s) hN hN1 hP.1
  have hr := dc_R_rank hP.1
  have key := dc_w_148 (L := L) (xs := xs) (kc := kc) (ks := ks) (r0 := r0) (s0 := s0) (l := l) (lv := lv) (a3 := a3) (a4 := a4) hN hN1 hI hP hA HJ
  unfold wL_law_112
  refine br_c (fun z => ?_) (fun z => ?_)
  · obtain ⟨hs, e⟩ := hE.mp z
    unfold wL_law_123
    exact br_t (dc_c1 hs) (br_t (by rw [e]) (br_t dc_one1 key))
  · unfold wL_law_123
    refine br_c (fun y => br_f (fun q => z (hE.mpr ⟨dc_c0 y, (nI_eq (by omega) (by omega)).mp q⟩)) ?_) (fun _ => ?_)
    · unfold wL_law_139
      exact br_t dc_zero0 key
    · unfold wL_law_139
      exact br_t dc_zero0 key
/-! the law's loop -/
theorem dc_w_23 {L : Nat} (hL : L ≤ 260) {xs : Nat → Int32} {N : Nat} (hN : N ≤ 8) (hN1 : 1 ≤ N) {kc ks : Nat} : ∀ (f t c : Nat) (r0 s0 l lv : Int32) (a1 a2 a3 a4 : Nat → Int32), t ≤ 300 → L ≤ t + f → dc_I N c a1 a2 →
    wL_law_23 (fun r => r = 1) L xs (nI N) (dc_all N) kc ks (f + 1) (nI t) (nI N) (nI c) r0 s0 l lv a1 a2 a3 a4 := by
  intro f
  induction f with
  | zero =>
    intro t c r0 s0 l lv a1 a2 a3 a4 ht hf hI
    exact pk_le L (t + 2) (fun _ => dc_one1) (fun z => absurd z (by omega)) rfl (nI_add t 2)
  | succ f ih =>
    intro t c r0 s0 l lv a1 a2 a3 a4 ht hf hI
    refine pk_le L (t + 2) (fun _ => dc_one1) (fun z => ⟨pk_in t L (by omega), pk_in (t + 1) L (by omega) (nI_1 t), pk_in (t + 2) L (by omega) (nI_add t 2), ?_⟩) rfl (nI_add t 2)
    refine dc_w_act hN hN1 hI _ _ _ (fun w c' b1 b2 hI' => ?_)
    obtain ⟨r, s, rs, rv, ld, hP, hz, hA⟩ := dc_w_reduceAll hN hI'.1 hI'.2.1 hI'.2.2
    have hr := dc_R_rank hP.1
    refine dc_w_consistent hA (fun _ _ _ _ _ => dc_w_known (by omega) hA (fun _ _ _ _ _ => dc_w_peeled hN hI'.1 (dc_w_rank hA (fun l' lv' a3' a4' _ => ?_))))
    have key : wL_law_112 (fun r => r = 1) L xs (wL_law_23 (fun r => r = 1) L xs (nI N) (dc_all N) kc ks (f + 1)) (nI N) (dc_all N) (nI t) (if s = 0 then 0 else 1) (dc_kn rs s r) (dc_pf b1 c' (N + 1) 0) (nI r) kc ks (nI N) (nI c') (nI r) s l' lv' b1 b2 a3' a4' := by
      refine dc_w_112 hN hN1 hI' hP hA (fun r0 s0 l lv a3 a4 => ?_)
      rw [show nI t + 3 = nI (t + 3) from nI_add t 3]
      exact ih (t + 3) c' r0 s0 l lv b1 b2 a3 a4 (by omega) (by omega) hI'
    exact br_f (nI_pos (by omega)) (br_t (nI_le hr (by omega)) (br_c (fun y => br_t (dc_within hN hP.1 (dc_c0 y) hI'.2.1 hz) key) (fun _ => key)))
/-! blocks, the constructor, the law -/
theorem dc_w_blocks {L : Nat} (hL : L ≤ 260) {xs : Nat → Int32} {post : Int32 → Prop} (K : ∀ N, 1 ≤ N → N ≤ 8 → post (nI N)) : wpL_blocks post L xs () := by
  have key : ∀ y : Int32, post (1 + ((y &&& 255) - (y &&& 255) / 8 * 8)) := fun y => by
    obtain ⟨j, hj, e⟩ := pk_andE y (m := 255) 8 (by decide)
    have hj' : j < 256 := hj
    have e2 : 1 + ((y &&& 255) - (y &&& 255) / 8 * 8) = nI (1 + j % 8) := by
      rw [e]
      show nI 1 + (nI j - nI j / nI 8 * nI 8) = _
      rw [pk_rem (by omega) (by omega) (by omega), nI_add]
    rw [e2]
    exact K _ (by omega) (by omega)
  unfold wpL_blocks wpL_cell
  exact pk_le L 0 (fun _ => ⟨by decide, key _⟩) (fun z => ⟨pk_in 0 L z, by decide, key _⟩)
theorem i_vc (xs : Nat → Int32) (L : Nat) (hL : L ≤ 260) : wpL_law (fun r => r = 1) L xs := by
  unfold wpL_law
  refine dc_w_blocks hL (fun N hN1 hN => ?_)
  refine nm_r (show _ = dc_all N from rfl) ⟨4, 48, by omega, by omega, ?_⟩
  unfold wpX_init
  dsimp only
  refine ⟨by omega, by omega, by omega, by omega, by omega, by omega, by omega, by omega, br_t (nI_le (a := 1) hN1 (by omega)) ?_⟩
  unfold wX_init_47
  refine br_t (nI_le (b := 8) hN (by omega)) ?_
  exact ⟨260 + 1, dc_w_23 hL hN hN1 260 1 0 0 0 0 0 (fun _ => 0) (fun _ => 0) (fun _ => 0) (fun _ => 0) (by omega) (by omega) ⟨by omega, fun j hj => absurd hj (by omega), fun j hj => absurd hj (by omega)⟩⟩
end
