section
/-! ===== lN n to 2^64: shifts, and, or, masks, one bit ===== -/
theorem wb_tb (n : Nat) : (lN n).toBitVec = BitVec.ofNat 64 n := rfl
theorem wb_inj {a b : Int64} (h : a.toBitVec = b.toBitVec) : a = b := Int64.toBitVec_inj.mp h
theorem wb_tn {n : Nat} (h : n < 2 ^ 64) : (lN n).toBitVec.toNat = n := by rw [wb_tb, BitVec.toNat_ofNat, Nat.mod_eq_of_lt h]
theorem wb_of (x : Int64) : ∃ n, n < 2 ^ 64 ∧ x = lN n := ⟨x.toBitVec.toNat, x.toBitVec.isLt, wb_inj (by rw [wb_tb]; simp)⟩
theorem wb_of32 (x : Int32) : ∃ n, n < 2 ^ 32 ∧ x = nI n := ⟨x.toBitVec.toNat, x.toBitVec.isLt, Int32.toBitVec_inj.mp (by show _ = BitVec.ofNat 32 _; simp)⟩
theorem wb_c : ∀ k, k < 64 → ((nI k).toInt64 &&& 63) = lN k := by decide +kernel
theorem wb_cu : ∀ k, k < 64 → ((nI k).toInt64.toUInt64 &&& Int64.toUInt64 63) = UInt64.ofNat k := by decide +kernel
theorem wb_sm : ∀ k, k < 64 → (BitVec.ofNat 64 k).smod 64 = BitVec.ofNat 64 k := by decide +kernel
theorem wb_pw {a b : Nat} (h : a ≤ b) : 2 ^ b = 2 ^ a * 2 ^ (b - a) := by rw [← Nat.pow_add]; congr 1; omega
theorem wb_lt2 {a b : Nat} (h : a < b) : 2 ^ a < 2 ^ b := Nat.pow_lt_pow_right (by decide) h
theorem wb_mod (n : Nat) : lN n = lN (n % 2 ^ 64) := wb_inj (by rw [wb_tb, wb_tb]; apply BitVec.eq_of_toNat_eq; rw [BitVec.toNat_ofNat, BitVec.toNat_ofNat, Nat.mod_mod])
theorem wb_shr {n k : Nat} (hn : n < 2 ^ 64) (hk : k < 64) : ((lN n).toUInt64 >>> ((nI k).toInt64.toUInt64 &&& Int64.toUInt64 63)).toInt64 = lN (n / 2 ^ k) := by
  rw [wb_cu k hk]
  apply wb_inj
  apply BitVec.eq_of_toNat_eq
  show ((lN n).toUInt64 >>> UInt64.ofNat k).toNat = (BitVec.ofNat 64 _).toNat
  have h1 : (UInt64.ofNat k).toNat = k := by
    show (BitVec.ofNat 64 k).toNat = k
    rw [BitVec.toNat_ofNat, Nat.mod_eq_of_lt (by omega)]
  have h2 : (lN n).toUInt64.toNat = n := wb_tn hn
  rw [UInt64.toNat_shiftRight, h1, h2, Nat.mod_eq_of_lt hk, Nat.shiftRight_eq_div_pow, BitVec.toNat_ofNat, Nat.mod_eq_of_lt (Nat.lt_of_le_of_lt (Nat.div_le_self _ _) hn)]
theorem wb_shl (n : Nat) {k : Nat} (hk : k < 64) : lN n <<< ((nI k).toInt64 &&& 63) = lN (n * 2 ^ k) := by
  rw [wb_c k hk]
  apply wb_inj
  rw [Int64.toBitVec_shiftLeft, wb_tb, wb_tb, wb_tb, wb_sm k hk]
  apply BitVec.eq_of_toNat_eq
  rw [BitVec.shiftLeft_eq', BitVec.toNat_shiftLeft, BitVec.toNat_ofNat, BitVec.toNat_ofNat, BitVec.toNat_ofNat, Nat.mod_eq_of_lt (show k < 2 ^ 64 by omega), Nat.shiftLeft_eq, Nat.mul_mod, Nat.mod_mod, ← Nat.mul_mod]
theorem wb_and {a b : Nat} (ha : a < 2 ^ 64) (hb : b < 2 ^ 64) : lN a &&& lN b = lN (a &&& b) := by
  apply wb_inj
  rw [Int64.toBitVec_and, wb_tb, wb_tb, wb_tb]
  apply BitVec.eq_of_toNat_eq
  rw [BitVec.toNat_and, BitVec.toNat_ofNat, BitVec.toNat_ofNat, BitVec.toNat_ofNat, Nat.mod_eq_of_lt ha, Nat.mod_eq_of_lt hb, Nat.mod_eq_of_lt (Nat.and_lt_two_pow _ hb)]
theorem wb_or {a b : Nat} (ha : a < 2 ^ 64) (hb : b < 2 ^ 64) : lN a ||| lN b = lN (a ||| b) := by
  apply wb_inj
  rw [Int64.toBitVec_or, wb_tb, wb_tb, wb_tb]
  apply BitVec.eq_of_toNat_eq
  rw [BitVec.toNat_or, BitVec.toNat_ofNat, BitVec.toNat_ofNat, BitVec.toNat_ofNat, Nat.mod_eq_of_lt ha, Nat.mod_eq_of_lt hb, Nat.mod_eq_of_lt (Nat.or_lt_two_pow ha hb)]
theorem wb_mask {n k : Nat} (hn : n < 2 ^ 64) (hk : k < 64) : lN n &&& lN (2 ^ k - 1) = lN (n % 2 ^ k) := by
  rw [wb_and hn (by have := wb_lt2 hk; omega), Nat.and_two_pow_sub_one_eq_mod]
theorem wb_a1 {n : Nat} (hn : n < 2 ^ 64) : lN n &&& 1 = lN (n % 2) := wb_mask (k := 1) hn (by decide)
theorem wb_bit {n k : Nat} (hn : n < 2 ^ 64) (hk : k < 64) : ((lN n).toUInt64 >>> ((nI k).toInt64.toUInt64 &&& Int64.toUInt64 63)).toInt64 &&& 1 = lN (n / 2 ^ k % 2) := by
  rw [wb_shr hn hk, wb_a1 (Nat.lt_of_le_of_lt (Nat.div_le_self _ _) hn)]
/-! ===== the words of found: a bit a number ===== -/
/-- the words of found hold exactly the numbers of F -/
def pt_F (a : Nat → Int64) (F : Nat → Bool) : Prop := ∀ w, w < 125 → ∃ n, n < 2 ^ 64 ∧ a w = lN n ∧ ∀ b, b < 64 → n.testBit b = F (64 * w + b)
theorem pt_F0 {a : Nat → Int64} (h : ∀ j, j < 125 → a j = 0) : pt_F a (fun _ => false) := fun w hw => ⟨0, by decide, h w hw, fun b _ => Nat.zero_testBit b⟩
theorem pt_Fe {a : Nat → Int64} {F G : Nat → Bool} (e : ∀ j, F j = G j) (h : pt_F a F) : pt_F a G := by
  have : F = G := funext e
  rw [← this]
  exact h
theorem pt_set {a : Nat → Int64} {F : Nat → Bool} {N : Nat} (hN : N < 8000) (h : pt_F a F) : pt_F (vp_updL a (N / 64) (a (N / 64) ||| ((1 : Int64) <<< ((nI (N % 64)).toInt64 &&& 63)))) (fun j => F j || decide (j = N)) := by
  intro w hw
  obtain ⟨n, hn, e1, e2⟩ := h w hw
  by_cases e : w = N / 64
  · have hk : N % 64 < 64 := Nat.mod_lt _ (by decide)
    have h1 : (1 : Int64) <<< ((nI (N % 64)).toInt64 &&& 63) = lN (2 ^ (N % 64)) := by
      have t := wb_shl 1 hk
      rw [Nat.one_mul] at t
      exact t
    have hp : 2 ^ (N % 64) < 2 ^ 64 := wb_lt2 hk
    refine ⟨n ||| 2 ^ (N % 64), Nat.or_lt_two_pow hn hp, ?_, fun b hb => ?_⟩
    · rw [← e, pk_uLs, e1, h1, wb_or hn hp]
    · show (n ||| 2 ^ (N % 64)).testBit b = (F (64 * w + b) || decide (64 * w + b = N))
      rw [Nat.testBit_or, e2 b hb, Nat.testBit_two_pow]
      have : (N % 64 = b) ↔ (64 * w + b = N) := by omega
      rw [decide_eq_decide.mpr this]
  · refine ⟨n, hn, ?_, fun b hb => ?_⟩
    · rw [pk_uLn e, e1]
    · show n.testBit b = (F (64 * w + b) || decide (64 * w + b = N))
      have : ¬ (64 * w + b = N) := by omega
      rw [e2 b hb, decide_eq_false this, Bool.or_false]
theorem pt_get {a : Nat → Int64} {F : Nat → Bool} {i : Nat} (hi : i < 8000) (h : pt_F a F) : (((a (i / 64)).toUInt64 >>> ((nI (i % 64)).toInt64.toUInt64 &&& Int64.toUInt64 63)).toInt64) &&& 1 = lN (if F i = true then 1 else 0) := by
  have hk : i % 64 < 64 := Nat.mod_lt _ (by decide)
  obtain ⟨n, hn, e1, e2⟩ := h (i / 64) (by omega)
  rw [e1, wb_bit hn hk]
  have t := e2 (i % 64) hk
  rw [Nat.testBit_eq_decide_div_mod_eq, show 64 * (i / 64) + i % 64 = i by omega] at t
  have u : n / 2 ^ (i % 64) % 2 < 2 := Nat.mod_lt _ (by decide)
  congr 1
  rw [← t]
  by_cases g : n / 2 ^ (i % 64) % 2 = 1
  · rw [decide_eq_true g, g, if_pos rfl]
  · rw [decide_eq_false g, if_neg (by decide)]
    omega
theorem pt_ix {i : Nat} (hi : i < 8000) : nI i >>> ((6 : Int32) &&& 31) = nI (i / 64) := pk_shrN (by omega) ((6 : Int32) &&& 31) 6 (by decide)
theorem pt_md {i : Nat} (hi : i < 8000) : nI i &&& 63 = nI (i % 64) := pk_andN (by omega) 6 (by decide)
/-- how many numbers below i -/
def pt_cnt (F : Nat → Bool) : Nat → Nat
  | 0 => 0
  | i + 1 => pt_cnt F i + (if F i = true then 1 else 0)
theorem pt_cnt0 {F : Nat → Bool} (h : ∀ j, F j = false) : ∀ n, pt_cnt F n = 0
  | 0 => rfl
  | n + 1 => by
    show pt_cnt F n + (if F n = true then 1 else 0) = 0
    rw [pt_cnt0 h n, h n, if_neg (by decide)]
theorem pt_cnt1 {F : Nat → Bool} (h : ∀ j, F j = decide (j = 0)) : ∀ n, pt_cnt F (n + 1) = 1
  | 0 => by
    show 0 + (if F 0 = true then 1 else 0) = 1
    rw [h 0]
    rfl
  | n + 1 => by
    show pt_cnt F (n + 1) + (if F (n + 1) = true then 1 else 0) = 1
    rw [pt_cnt1 h n, h (n + 1), decide_eq_false (Nat.succ_ne_zero n), if_neg (by decide)]
theorem pt_cnt2 {F : Nat → Bool} {w : Nat} (hw : 0 < w) (h : ∀ j, F j = (decide (j = 0) || decide (j = w))) : ∀ n, pt_cnt F (n + 1) = if w ≤ n then 2 else 1
  | 0 => by
    show 0 + (if F 0 = true then 1 else 0) = _
    rw [h 0, if_neg (show ¬ w ≤ 0 by omega)]
    rfl
  | n + 1 => by
    show pt_cnt F (n + 1) + (if F (n + 1) = true then 1 else 0) = _
    rw [pt_cnt2 hw h n, h (n + 1), decide_eq_false (Nat.succ_ne_zero n), Bool.false_or]
    by_cases e : n + 1 = w
    · rw [decide_eq_true e, if_pos rfl, if_neg (by omega), if_pos (by omega)]
    · rw [decide_eq_false e, if_neg (show ¬ false = true by decide)]
      by_cases g : w ≤ n
      · rw [if_pos g, if_pos (by omega)]
      · rw [if_neg g, if_neg (by omega)]
/-! ===== what a run finds ===== -/
/-- the weight of variable q in a number -/
def pt_w : Nat → Nat
  | 0 => 400
  | 1 => 20
  | _ => 1
/-- does the run from class s note number j: node 0 the constant k, the pattern the one token q -/
def pt_hit (k q s j : Nat) : Bool := if q ≤ 2 then decide (j = s * pt_w q) else decide (s = 0 ∧ k + 10 = q ∧ j = 0)
/-- the numbers of the first m runs -/
def pt_G (k q : Nat) : Nat → Nat → Bool
  | 0 => fun _ => false
  | s + 1 => fun j => pt_G k q s j || pt_hit k q s j
/-- how many matches are due -/
def pt_due (m k q : Nat) : Nat := if q ≤ 2 then m else if 1 ≤ m ∧ k + 10 = q then 1 else 0
theorem pt_wp (q : Nat) : 0 < pt_w q ∧ pt_w q ≤ 400 := by
  match q with
  | 0 => decide
  | 1 => decide
  | (n + 2) => exact ⟨(by decide : 0 < 1), (by decide : 1 ≤ 400)⟩
theorem pt_hitV {k q s j : Nat} (hq : q ≤ 2) : pt_hit k q s j = decide (j = s * pt_w q) := if_pos hq
theorem pt_hitK {k q s j : Nat} (hq : ¬ q ≤ 2) : pt_hit k q s j = decide (s = 0 ∧ k + 10 = q ∧ j = 0) := if_neg hq
theorem pt_count {m k q : Nat} (hm : m ≤ 2) : pt_cnt (pt_G k q m) 8000 = pt_due m k q := by
  match m, hm with
  | 0, _ =>
    rw [pt_cnt0 (F := pt_G k q 0) (fun j => rfl)]
    unfold pt_due
    by_cases hq : q ≤ 2
    · rw [if_pos hq]
    · rw [if_neg hq, if_neg (by omega)]
  | 1, _ =>
    unfold pt_due
    by_cases hq : q ≤ 2
    · rw [if_pos hq]
      refine pt_cnt1 (fun j => ?_) 7999
      show (false || pt_hit k q 0 j) = _
      rw [pt_hitV hq, Nat.zero_mul, Bool.false_or]
    · rw [if_neg hq]
      by_cases hk : k + 10 = q
      · rw [if_pos ⟨by decide, hk⟩]
        refine pt_cnt1 (fun j => ?_) 7999
        show (false || pt_hit k q 0 j) = _
        rw [pt_hitK hq, Bool.false_or]
        exact decide_eq_decide.mpr ⟨fun h => h.2.2, fun h => ⟨rfl, hk, h⟩⟩
      · rw [if_neg (fun h => hk h.2)]
        refine pt_cnt0 (fun j => ?_) 8000
        show (false || pt_hit k q 0 j) = _
        rw [pt_hitK hq, Bool.false_or]
        exact decide_eq_false (fun h => hk h.2.1)
  | 2, _ =>
    unfold pt_due
    by_cases hq : q ≤ 2
    · rw [if_pos hq]
      rw [show (8000 : Nat) = 7999 + 1 from rfl, pt_cnt2 (pt_wp q).1 (fun j => ?_) 7999]
      · exact if_pos (by have := (pt_wp q).2; omega)
      · show ((false || pt_hit k q 0 j) || pt_hit k q 1 j) = _
        rw [pt_hitV hq, pt_hitV hq, Nat.zero_mul, Nat.one_mul, Bool.false_or]
    · rw [if_neg hq]
      by_cases hk : k + 10 = q
      · rw [if_pos ⟨by decide, hk⟩]
        refine pt_cnt1 (fun j => ?_) 7999
        show ((false || pt_hit k q 0 j) || pt_hit k q 1 j) = _
        rw [pt_hitK hq, pt_hitK hq, Bool.false_or, decide_eq_false (show ¬ (1 = 0 ∧ k + 10 = q ∧ j = 0) from fun h => absurd h.1 (by decide)), Bool.or_false]
        exact decide_eq_decide.mpr ⟨fun h => h.2.2, fun h => ⟨rfl, hk, h⟩⟩
      · rw [if_neg (fun h => hk h.2)]
        refine pt_cnt0 (fun j => ?_) 8000
        show ((false || pt_hit k q 0 j) || pt_hit k q 1 j) = _
        rw [pt_hitK hq, pt_hitK hq, Bool.false_or, decide_eq_false (show ¬ (1 = 0 ∧ k + 10 = q ∧ j = 0) from fun h => absurd h.1 (by decide)), Bool.or_false]
        exact decide_eq_false (fun h => hk h.2.1)
  | (n + 3), hm => omega
/-- with a variable as pattern and a node there, number 0 is found -/
theorem pt_G0 {k q m : Nat} (hq : q ≤ 2) : pt_G k q (m + 1) 0 = true := by
  induction m with
  | zero =>
    show (false || pt_hit k q 0 0) = true
    rw [pt_hitV hq, Nat.zero_mul]
    rfl
  | succ m ih =>
    show (pt_G k q (m + 1) 0 || pt_hit k q (m + 1) 0) = true
    rw [ih]
    rfl
end
section
/-! ===== small facts ===== -/
theorem pt_byte : ∀ t, t < 128 → (nI t).toInt8.toInt32 = nI t := by decide +kernel
theorem pt_cl1 : (1 : Int32).toNatClampNeg = 1 := by decide
theorem pt_b1 : ∀ q, q < 32 → (((0 : Int32) >>> (nI q &&& 31)) &&& 1) = 0 := by decide +kernel
theorem pt_b2 : ∀ q, q < 3 → ∀ v, v < 3 → (((((0 : Int32) ||| ((1 : Int32) <<< (nI q &&& 31))) >>> (nI v &&& 31)) &&& 1) = 0 ↔ ¬ v = q) := by decide +kernel
theorem pt_toInts : (0 : Int32).toInt = 0 ∧ (2 : Int32).toInt = 2 ∧ (10 : Int32).toInt = 10 ∧ (15 : Int32).toInt = 15 ∧ (5 : Int32).toInt = 5 ∧ (3 : Int32).toInt = 3 ∧ (20 : Int32).toInt = 20 := by decide
/-! ===== the nodes ===== -/
/-- m nodes: node 0 the constant k in class 0, node 1 a node 'one' in class 1 -/
def pt_N (m k : Nat) (a1 a2 a4 : Nat → Int32) : Prop := m ≤ 2 ∧ k ≤ 5 ∧ (1 ≤ m → a1 0 = 0 ∧ a2 0 = nI k ∧ a4 0 = 0) ∧ (2 ≤ m → a1 1 = 20 ∧ a4 1 = 1)
theorem pt_N0 {a1 a2 a4 : Nat → Int32} : pt_N 0 0 a1 a2 a4 := ⟨by decide, by decide, fun h => absurd h (by decide), fun h => absurd h (by decide)⟩
section
variable {c1 c2 c3 c4 c5 c6 c7 : Int32} {a1 a2 a3 a4 a5 a6 a7 a8 a9 a10 a11 a12 a13 a14 a15 : Nat → Int32} {a16 : Nat → Int64}
theorem pt_constant {post : Int32 → St2 → Prop} {p0 : Int32} (hb : (p0 < 0 ∨ ¬ p0 ≤ 5) → post (-1) (0, c2, c3, c4, c5, c6, c7, a1, a2, a3, a4, a5, a6, a7, a8, a9, a10, a11, a12, a13, a14, a15, a16))
    (hg : ∀ (k : Nat) (b1 b2 b3 b4 : Nat → Int32), k ≤ 5 → p0 = nI k → pt_N 1 k b1 b2 b4 → post 0 (1, c2, c3, c4, c5, c6, c7, b1, b2, b3, b4, a5, a6, a7, a8, a9, a10, a11, a12, a13, a14, a15, a16)) : wpX_constant post (0, c2, c3, c4, c5, c6, c7, a1, a2, a3, a4, a5, a6, a7, a8, a9, a10, a11, a12, a13, a14, a15, a16) p0 := by
  unfold wpX_constant
  dsimp only
  refine br_c (fun h => hb (Or.inl h)) (fun h => br_c (fun h5 => ?_) (fun h5 => hb (Or.inr h5)))
  obtain ⟨k, hk, rfl⟩ := nI_of2 (M := 5) (n := 5) (by decide) h h5
  unfold wpX_node
  dsimp only
  refine ⟨1, br_t (by decide) (br_t (by decide) (nm_r (e' := 1) (by decide) ⟨pk_in 0 20 (by decide), fun b1 E1 => ⟨pk_in 0 20 (by decide), fun b2 E2 => ⟨pk_in 0 20 (by decide), fun b3 E3 => ⟨pk_in 0 20 (by decide), fun b4 E4 => ⟨1, br_t (by decide) ?_⟩⟩⟩⟩⟩))⟩
  refine hg k b1 b2 b3 b4 hk rfl ⟨by decide, hk, fun _ => ⟨?_, ?_, ?_⟩, fun h => absurd h (by decide)⟩
  · rw [E1, sb_cl0, pk_us]
    decide
  · rw [E2, sb_cl0, pk_us]
    exact pt_byte k (by omega)
  · rw [E4, sb_cl0, pk_us]
    decide
theorem pt_one {post : Int32 → St2 → Prop} {p0 : Int32} {m k : Nat} (hm : m ≤ 1) (hN : pt_N m k a1 a2 a4) (hb : ¬ (m = 1 ∧ p0 = 0) → post (-1) (nI m, c2, c3, c4, c5, c6, c7, a1, a2, a3, a4, a5, a6, a7, a8, a9, a10, a11, a12, a13, a14, a15, a16))
    (hg : m = 1 → p0 = 0 → ∀ (b1 b2 b3 b4 : Nat → Int32), pt_N 2 k b1 b2 b4 → post 1 (2, c2, c3, c4, c5, c6, c7, b1, b2, b3, b4, a5, a6, a7, a8, a9, a10, a11, a12, a13, a14, a15, a16)) : wpX_one post (nI m, c2, c3, c4, c5, c6, c7, a1, a2, a3, a4, a5, a6, a7, a8, a9, a10, a11, a12, a13, a14, a15, a16) p0 := by
  unfold wpX_one
  dsimp only
  unfold wpX_isNode
  dsimp only
  refine br_c (fun h => br_t rfl (hb ?_)) (fun h => br_c (fun h2 => br_t rfl (hb ?_)) (fun h2 => br_f (by decide) ?_))
  · rintro ⟨_, rfl⟩
    exact absurd h (by decide)
  · rintro ⟨rfl, rfl⟩
    exact absurd h2 (by decide)
  obtain ⟨j, hj, rfl⟩ := nI_of h
  have hjm : j < m := by
    rcases Nat.lt_or_ge j m with z | z
    · exact z
    · exact absurd (nI_le z hj) h2
  obtain rfl : m = 1 := by omega
  obtain rfl : j = 0 := by omega
  obtain ⟨_, hk, h1, _⟩ := hN
  obtain ⟨e1, e2, e4⟩ := h1 (by decide)
  unfold wpX_node
  dsimp only
  refine ⟨2, br_f (by decide) ⟨pk_in 0 20 (by decide), br_f ?_ (nm_r (e' := 1) (by decide) (br_t (by decide) (br_t (by decide) (nm_r (e' := 2) (by decide) ⟨pk_in 1 20 (by decide), fun b1 E1 => ⟨pk_in 1 20 (by decide), fun b2 E2 => ⟨pk_in 1 20 (by decide), fun b3 E3 => ⟨pk_in 1 20 (by decide), fun b4 E4 => ⟨2, br_f (by decide) ?_⟩⟩⟩⟩⟩))))⟩⟩
  · rw [sb_cl0, e1]
    decide
  have hc1 : (nI 1).toNatClampNeg = 1 := nI_clamp (by decide)
  rw [hc1] at E1 E2 E3 E4
  have g0 : b1 0 = 0 := by rw [E1, pk_un (by decide), e1]
  have g1 : b1 1 = 20 := by rw [E1, pk_us]; decide
  refine And.intro (pk_in 0 20 (by decide)) (And.intro (pk_in 1 20 (by decide)) (br_f ?_ (br_t rfl (nm_r (e' := 1) (by decide) (br_t (by decide) ?_)))))
  · rw [sb_cl0, hc1, g0, g1]
    decide
  refine hg rfl rfl b1 b2 b3 b4 ⟨by decide, hk, fun _ => ⟨g0, ?_, ?_⟩, fun _ => ⟨g1, ?_⟩⟩
  · rw [E2, pk_un (by decide), e2]
  · rw [E4, pk_un (by decide), e4]
  · rw [E4, pk_us]
    decide
/-! ===== the token ===== -/
/-- t is the known token q -/
def pt_T (t : Int32) (q : Nat) : Prop := t = nI q ∧ (q ≤ 2 ∨ (10 ≤ q ∧ q ≤ 15) ∨ q = 20 ∨ q = 21)
theorem pt_br20 {x : Int32} {K U : Prop} (hK : (∃ q, pt_T x q) → K) (hU : ¬ x = 20 → ¬ x = 21 → U) : (x = 20 → K) ∧ (¬ x = 20 → ((x = 21 → K) ∧ (¬ x = 21 → U))) :=
  br_c (fun h => hK ⟨20, h, Or.inr (Or.inr (Or.inl rfl))⟩) (fun h => br_c (fun h2 => hK ⟨21, h2, Or.inr (Or.inr (Or.inr rfl))⟩) (fun h2 => hU h h2))
theorem pt_br10 {x : Int32} {K U : Prop} (hK : (∃ q, pt_T x q) → K) (hU : (x < 10 ∨ ¬ x ≤ 15) → ¬ x = 20 → ¬ x = 21 → U) :
    (x < 10 → ((x = 20 → K) ∧ (¬ x = 20 → ((x = 21 → K) ∧ (¬ x = 21 → U))))) ∧ (¬ x < 10 → ((x ≤ 15 → K) ∧ (¬ x ≤ 15 → ((x = 20 → K) ∧ (¬ x = 20 → ((x = 21 → K) ∧ (¬ x = 21 → U))))))) := by
  refine br_c (fun h => pt_br20 hK (hU (Or.inl h))) (fun h => br_c (fun h2 => hK ?_) (fun h2 => pt_br20 hK (hU (Or.inr h2))))
  obtain ⟨i0, i2, i10, i15, _⟩ := pt_toInts
  have h0 : ¬ x < 0 := by
    rw [Int32.lt_iff_toInt_lt] at h ⊢
    omega
  obtain ⟨q, hq, rfl⟩ := nI_of2 (M := 15) (n := 15) (by decide) h0 h2
  rcases Nat.lt_or_ge q 10 with z | z
  · exact absurd (nI_lt (b := 10) z (by decide)) h
  · exact ⟨q, rfl, Or.inr (Or.inl ⟨z, hq⟩)⟩
/-- the branches over a token, in the class and in the law -/
theorem pt_br {x : Int32} {K U : Prop} (hK : (∃ q, pt_T x q) → K) (hU : ¬ (∃ q, pt_T x q) → U) :
    (x < 0 → ((x < 10 → ((x = 20 → K) ∧ (¬ x = 20 → ((x = 21 → K) ∧ (¬ x = 21 → U))))) ∧ (¬ x < 10 → ((x ≤ 15 → K) ∧ (¬ x ≤ 15 → ((x = 20 → K) ∧ (¬ x = 20 → ((x = 21 → K) ∧ (¬ x = 21 → U))))))))) ∧
    (¬ x < 0 → ((x ≤ 2 → K) ∧ (¬ x ≤ 2 → ((x < 10 → ((x = 20 → K) ∧ (¬ x = 20 → ((x = 21 → K) ∧ (¬ x = 21 → U))))) ∧ (¬ x < 10 → ((x ≤ 15 → K) ∧ (¬ x ≤ 15 → ((x = 20 → K) ∧ (¬ x = 20 → ((x = 21 → K) ∧ (¬ x = 21 → U)))))))))) ) := by
  have un : (x < 0 ∨ ¬ x ≤ 2) → (x < 10 ∨ ¬ x ≤ 15) → ¬ x = 20 → ¬ x = 21 → U := by
    intro h1 h2 h3 h4
    refine hU ?_
    rintro ⟨q, rfl, hq⟩
    rcases hq with hq | ⟨hq, hq2⟩ | hq | hq
    · rcases h1 with h1 | h1
      · exact absurd h1 (nI_pos (by omega))
      · exact absurd (nI_le (b := 2) hq (by decide)) h1
    · rcases h2 with h2 | h2
      · exact absurd h2 (nI_nlt (b := 10) hq (by omega))
      · exact absurd (nI_le (b := 15) hq2 (by decide)) h2
    · subst hq
      exact absurd rfl h3
    · subst hq
      exact absurd rfl h4
  refine br_c (fun h => pt_br10 hK (un (Or.inl h))) (fun h => br_c (fun h2 => hK ?_) (fun h2 => pt_br10 hK (un (Or.inr h2))))
  obtain ⟨q, hq, rfl⟩ := nI_of2 (M := 2) (n := 2) (by decide) h h2
  exact ⟨q, rfl, Or.inl hq⟩
theorem pt_token {post : Int32 → St2 → Prop} {p0 : Int32} (hb : ¬ (∃ q, pt_T p0 q) → post (-1) (c1, c2, 0, c4, c5, c6, c7, a1, a2, a3, a4, a5, a6, a7, a8, a9, a10, a11, a12, a13, a14, a15, a16))
    (hg : ∀ (q : Nat) (b7 : Nat → Int32), pt_T p0 q → b7 0 = nI q → post 1 (c1, c2, 1, 0, c5, c6, c7, a1, a2, a3, a4, a5, a6, b7, a8, a9, a10, a11, a12, a13, a14, a15, a16)) : wpX_token post (c1, c2, 0, c4, c5, c6, c7, a1, a2, a3, a4, a5, a6, a7, a8, a9, a10, a11, a12, a13, a14, a15, a16) p0 := by
  unfold wpX_token
  dsimp only
  refine br_t (by decide) ?_
  refine pt_br (K := wX_token_45 post p0 c1 c2 0 c4 c5 c6 c7 a1 a2 a3 a4 a5 a6 a7 a8 a9 a10 a11 a12 a13 a14 a15 a16) (U := wX_token_50 post p0 0 c1 c2 0 c4 c5 c6 c7 a1 a2 a3 a4 a5 a6 a7 a8 a9 a10 a11 a12 a13 a14 a15 a16) (fun h => ?_) (fun h => br_t rfl (hb h))
  obtain ⟨q, hq⟩ := h
  refine br_f (by decide) ⟨pk_in 0 7 (by decide), fun b7 E7 => nm_r (e' := 1) (by decide) (hg q b7 hq ?_)⟩
  obtain ⟨rfl, hq⟩ := hq
  rw [E7, sb_cl0, pk_us]
  exact pt_byte q (by omega)
end
end
section
section
variable {c1 c2 c3 c4 c5 c6 c7 : Int32} {a1 a2 a3 a4 a5 a6 a7 a8 a9 a10 a11 a12 a13 a14 a15 : Nat → Int32} {a16 : Nat → Int64}
theorem pt_write {post : St2 → Prop} (c : Nat) (hc : c < 10) {p0 p1 p2 : Int32} (h : post (c1, c2, c3, c4, c5, c6, nI (c + 1), a1, a2, a3, a4, a5, a6, a7, upd a8 c p0.toInt8.toInt32, upd a9 c p1.toInt8.toInt32, upd a10 c p2.toInt8.toInt32, a11, a12, a13, a14, a15, a16)) : wpX_write post (c1, c2, c3, c4, c5, c6, nI c, a1, a2, a3, a4, a5, a6, a7, a8, a9, a10, a11, a12, a13, a14, a15, a16) p0 p1 p2 := by
  unfold wpX_write
  dsimp only
  rw [nI_clamp (show c < 2 ^ 31 by omega)]
  exact ⟨pk_in c 10 hc, nm_e ⟨pk_in c 10 hc, nm_e ⟨pk_in c 10 hc, nm_e (nm_r (nI_1 c) h)⟩⟩⟩
/-- the end of compile: not whole -/
theorem pt_c233n {post : St2 → Prop} (c : Nat) (hc : c < 10) (H : ∀ (vs ce : Int32) (b8 b9 b10 b11 b12 : Nat → Int32), post (c1, c2, c3, c4, 0, vs, ce, a1, a2, a3, a4, a5, a6, a7, b8, b9, b10, b11, b12, a13, a14, a15, a16)) : wX_compile_233 post 0 c1 c2 c3 c4 c5 c6 (nI c) a1 a2 a3 a4 a5 a6 a7 a8 a9 a10 a11 a12 a13 a14 a15 a16 :=
  And.intro (by rfl) ⟨by rfl, pt_write c hc (H _ _ _ _ _ _ _)⟩
theorem pt_c215n {post : St2 → Prop} (c : Nat) (hc : c < 10) {x1 x3 : Int32} (hx : ¬ x1 = 0) (H : ∀ (vs ce : Int32) (b8 b9 b10 b11 b12 : Nat → Int32), post (c1, c2, c3, c4, 0, vs, ce, a1, a2, a3, a4, a5, a6, a7, b8, b9, b10, b11, b12, a13, a14, a15, a16)) : wX_compile_215 post x1 x3 c1 c2 c3 c4 c5 c6 (nI c) a1 a2 a3 a4 a5 a6 a7 a8 a9 a10 a11 a12 a13 a14 a15 a16 :=
  br_f hx (pt_c233n c hc H)
/-- no token: not whole -/
theorem pt_compile0 {post : St2 → Prop} (H : ∀ (vs ce : Int32) (b8 b9 b10 b11 b12 : Nat → Int32), post (c1, c2, 0, 1, 0, vs, ce, a1, a2, a3, a4, a5, a6, a7, b8, b9, b10, b11, b12, a13, a14, a15, a16)) : wpX_compile post (c1, c2, 0, 0, c5, c6, c7, a1, a2, a3, a4, a5, a6, a7, a8, a9, a10, a11, a12, a13, a14, a15, a16) := by
  unfold wpX_compile
  dsimp only
  exact br_t rfl (fun b12 E12 => ⟨1, br_t (by decide) (pt_c215n 0 (by decide) (by decide) H)⟩)
/-- the code of a pattern of one token that is whole -/
def pt_C (q : Nat) (a8 a9 a10 : Nat → Int32) : Prop := a8 1 = 4 ∧ a10 0 = 0 ∧ ((q ≤ 2 ∧ a8 0 = 1 ∧ a9 0 = nI q) ∨ (10 ≤ q ∧ q ≤ 15 ∧ a8 0 = 3 ∧ a9 0 = nI (q - 10)))
/-- what is known of the set of variables -/
def pt_W (q : Nat) (vs : Int32) : Prop := ∀ v, v ≤ 2 → (((vs >>> (nI v &&& 31)) &&& 1) = 0 ↔ ¬ v = q)
/-- the end of compile: whole -/
theorem pt_c215w {post : St2 → Prop} {x1 x3 : Int32} (hx : x1 = 0) (h3 : x3 = c3) (H : ∀ (ce : Int32), post (c1, c2, c3, c4, 1, c6, ce, a1, a2, a3, a4, a5, a6, a7, upd a8 1 (4 : Int32).toInt8.toInt32, upd a9 1 (0 : Int32).toInt8.toInt32, upd a10 1 (0 : Int32).toInt8.toInt32, a11, a12, a13, a14, a15, a16)) : wX_compile_215 post x1 x3 c1 c2 c3 c4 c5 c6 (nI 1) a1 a2 a3 a4 a5 a6 a7 a8 a9 a10 a11 a12 a13 a14 a15 a16 :=
  br_t hx (br_t h3 (And.intro (by rfl) ⟨by rfl, pt_write 1 (by decide) (H _)⟩))
/-- a variable or a constant: whole -/
theorem pt_compileW {post : St2 → Prop} {q : Nat} (h7 : a7 0 = nI q) (hq : q ≤ 2 ∨ (10 ≤ q ∧ q ≤ 15))
    (H : ∀ (vs ce : Int32) (b8 b9 b10 b11 b12 : Nat → Int32), pt_C q b8 b9 b10 → pt_W q vs → post (c1, c2, 1, 1, 1, vs, ce, a1, a2, a3, a4, a5, a6, a7, b8, b9, b10, b11, b12, a13, a14, a15, a16)) : wpX_compile post (c1, c2, 1, 0, c5, c6, c7, a1, a2, a3, a4, a5, a6, a7, a8, a9, a10, a11, a12, a13, a14, a15, a16) := by
  unfold wpX_compile
  dsimp only
  refine br_t rfl (fun b12 E12 => ⟨2, br_f (by decide) (br_f (by decide) ⟨pk_in 0 7 (by decide), nm_r (e' := nI q) (by rw [sb_cl0, h7]) (nm_r (e' := 1) (by decide) (nm_r (e' := 0) (by decide) ⟨pk_in 0 8 (by decide), nm_r (e' := 0) (by rw [E12, sb_cl0, pk_us]) ?_⟩))⟩)⟩)
  rcases hq with hq | ⟨hq, hq2⟩
  · refine br_f (nI_nlt (a := 2) (b := q) (by omega) (by decide)) (br_t (pt_b1 q (by omega)) ?_)
    refine pt_write 0 (by decide) (nm_e (br_t (by decide) (pt_c215w rfl rfl (fun ce => H _ ce _ _ _ _ _ ?_ ?_))))
    · exact ⟨by rw [pk_us]; decide, by rw [pk_un (by decide), pk_us]; decide, Or.inl ⟨hq, by rw [pk_un (by decide), pk_us]; decide, by rw [pk_un (by decide), pk_us]; exact pt_byte q (by omega)⟩⟩
    · exact fun v hv => pt_b2 q (by omega) v (by omega)
  · refine br_t (nI_lt (a := 2) (b := q) (by omega) (by omega)) (br_f (nI_nlt (a := 15) (b := q) (by omega) (by decide)) ?_)
    refine pt_write 0 (by decide) (br_t (by decide) (pt_c215w rfl rfl (fun ce => H _ ce _ _ _ _ _ ?_ ?_)))
    · refine ⟨by rw [pk_us]; decide, by rw [pk_un (by decide), pk_us]; decide, Or.inr ⟨hq, hq2, by rw [pk_un (by decide), pk_us]; decide, ?_⟩⟩
      rw [pk_un (by decide), pk_us]
      have e : nI q - 10 = nI (q - 10) := pk_sub (b := 10) hq
      rw [e]
      exact pt_byte (q - 10) (by omega)
    · exact fun v hv => ⟨fun _ => by omega, fun _ => pt_b1 v (by omega)⟩
/-- a symbol: not whole -/
theorem pt_compileS {post : St2 → Prop} {q : Nat} (h7 : a7 0 = nI q) (hq : q = 20 ∨ q = 21)
    (H : ∀ (vs ce : Int32) (b8 b9 b10 b11 b12 : Nat → Int32), post (c1, c2, 1, 1, 0, vs, ce, a1, a2, a3, a4, a5, a6, a7, b8, b9, b10, b11, b12, a13, a14, a15, a16)) : wpX_compile post (c1, c2, 1, 0, c5, c6, c7, a1, a2, a3, a4, a5, a6, a7, a8, a9, a10, a11, a12, a13, a14, a15, a16) := by
  unfold wpX_compile
  dsimp only
  refine br_t rfl (fun b12 E12 => ⟨2, br_f (by decide) (br_f (by decide) ⟨pk_in 0 7 (by decide), nm_r (e' := nI q) (by rw [sb_cl0, h7]) (nm_r (e' := 1) (by decide) (nm_r (e' := 0) (by decide) ⟨pk_in 0 8 (by decide), nm_r (e' := 0) (by rw [E12, sb_cl0, pk_us]) ?_⟩))⟩)⟩)
  refine br_t (nI_lt (a := 2) (b := q) (by omega) (by omega)) (br_t (nI_lt (a := 15) (b := q) (by omega) (by omega)) ?_)
  rcases hq with rfl | rfl
  · refine pt_write 0 (by decide) (br_f (by decide) ?_)
    refine And.intro (pk_in 0 8 (by decide)) (nm_e (nm_r (e' := 1) (by decide) ⟨pk_in 0 8 (by decide) (by decide), nm_e (br_f (by decide) (nm_r (e' := 2) (by decide) ?_))⟩))
    exact br_t (by decide) (pt_c215n 1 (by decide) (by decide) H)
  · refine pt_write 0 (by decide) (br_t (by decide) ⟨pk_in 0 8 (by decide), nm_e (nm_r (e' := 1) (by decide) ?_)⟩)
    refine And.intro (pk_in 1 8 (by decide)) (nm_e (nm_r (e' := 2) (by decide) ⟨pk_in 0 8 (by decide) (by decide), nm_e (br_t (by decide) (nm_r (e' := 3) (by decide) ?_))⟩))
    exact br_t (by decide) (pt_c215n 1 (by decide) (by decide) H)
/-- compiled already -/
theorem pt_compileY {post : St2 → Prop} (H : post (c1, c2, c3, 1, c5, c6, c7, a1, a2, a3, a4, a5, a6, a7, a8, a9, a10, a11, a12, a13, a14, a15, a16)) : wpX_compile post (c1, c2, c3, 1, c5, c6, c7, a1, a2, a3, a4, a5, a6, a7, a8, a9, a10, a11, a12, a13, a14, a15, a16) := by
  unfold wpX_compile
  dsimp only
  exact br_f (by decide) H
end
end
section
section
variable {c1 c2 c3 c4 c5 c6 c7 : Int32} {a1 a2 a3 a4 a5 a6 a7 a8 a9 a10 a11 a12 a13 a14 a15 : Nat → Int32} {a16 : Nat → Int64}
theorem pt_clearFound {post : St2 → Prop} (H : ∀ b16 : Nat → Int64, pt_F b16 (fun _ => false) → post (c1, c2, c3, c4, c5, c6, c7, a1, a2, a3, a4, a5, a6, a7, a8, a9, a10, a11, a12, a13, a14, a15, b16)) : wpX_clearFound post (c1, c2, c3, c4, c5, c6, c7, a1, a2, a3, a4, a5, a6, a7, a8, a9, a10, a11, a12, a13, a14, a15, a16) := by
  unfold wpX_clearFound
  dsimp only
  refine pk_loop (fun n i s => wX_clearFound_2 post c1 c2 c3 c4 c5 c6 c7 n (nI i) a1 a2 a3 a4 a5 a6 a7 a8 a9 a10 a11 a12 a13 a14 a15 s) (fun i s => ∀ j, j < i → s j = 0) 125 0 a16 (by omega) (fun j hj => absurd hj (by omega)) ?_ ?_
  · intro n s h
    exact pk_le 125 125 (fun _ => H s (pt_F0 h)) (fun z => absurd z (by omega))
  · intro n i s hi h hw
    refine pk_le 125 i (fun z => absurd z (by omega)) (fun _ => ⟨pk_in i 125 hi, nm_e (nm_r (nI_1 i) (hw _ (fun j hj => ?_)))⟩)
    rw [nI_clamp (by omega)]
    by_cases e : j = i
    · rw [e, pk_uLs]
    · rw [pk_uLn e]
      exact h j (by omega)
theorem pt_coc {post : Int32 → Prop} {m k c : Nat} (hN : pt_N m k a1 a2 a4) (hc : c ≤ 5) (h1 : 1 ≤ m ∧ k = c → post 0) (h2 : ¬ (1 ≤ m ∧ k = c) → post (-1)) : wpX_classOfConstant post (nI m, c2, c3, c4, c5, c6, c7, a1, a2, a3, a4, a5, a6, a7, a8, a9, a10, a11, a12, a13, a14, a15, a16) (nI c) := by
  obtain ⟨hm, hk, n1, n2⟩ := hN
  unfold wpX_classOfConstant
  dsimp only
  refine ⟨3, ?_⟩
  refine pk_le m 0 (fun z => h2 (by omega)) (fun z => ⟨pk_in 0 20 (by decide), ?_⟩)
  obtain ⟨e1, e2, e4⟩ := n1 z
  rw [sb_cl0, e1, e2, e4]
  refine br_t rfl ⟨pk_in 0 20 (by decide), pk_eq k c (fun e => ⟨pk_in 0 20 (by decide), h1 ⟨z, e⟩⟩) (fun e => nm_r (e' := 1) (by decide) ?_)⟩
  refine pk_le m 1 (fun z => h2 (fun t => e t.2)) (fun z => ⟨pk_in 1 20 (by decide), ?_⟩)
  rw [pt_cl1, (n2 z).1]
  refine br_f (by decide) (nm_r (e' := 2) (by decide) ?_)
  exact pk_le m 2 (fun z => h2 (fun t => e t.2)) (fun z => absurd z (by omega))
/-- the number of the variables' classes -/
def pt_num (v : Nat → Nat) : Nat → Nat
  | 0 => 0
  | i + 1 => 20 * pt_num v i + v i
theorem pt_note {post : St2 → Prop} {v : Nat → Nat} {F : Nat → Bool} (hv : ∀ i, i < 3 → v i < 20 ∧ ((0 ≤ a14 i ∧ a14 i = nI (v i)) ∨ (¬ 0 ≤ a14 i ∧ v i = 0))) (hF : pt_F a16 F)
    (H : ∀ b16 : Nat → Int64, pt_F b16 (fun j => F j || decide (j = pt_num v 3)) → post (c1, c2, c3, c4, c5, c6, c7, a1, a2, a3, a4, a5, a6, a7, a8, a9, a10, a11, a12, a13, a14, a15, b16)) : wpX_note post (c1, c2, c3, c4, c5, c6, c7, a1, a2, a3, a4, a5, a6, a7, a8, a9, a10, a11, a12, a13, a14, a15, a16) := by
  have hn : pt_num v 3 < 8000 := by
    have h0 := (hv 0 (by decide)).1
    have h1 := (hv 1 (by decide)).1
    have h2 := (hv 2 (by decide)).1
    show 20 * (20 * (20 * 0 + v 0) + v 1) + v 2 < 8000
    omega
  unfold wpX_note
  dsimp only
  refine pk_loop (fun n i s => wX_note_4 post c1 c2 c3 c4 c5 c6 c7 a1 a2 a3 a4 a5 a6 a7 a8 a9 a10 a11 a12 a13 a14 a15 a16 n s (nI i)) (fun i s => s = nI (pt_num v i)) 3 0 (nI 0) (by omega) rfl ?_ ?_
  · intro n s h
    subst h
    refine pk_le 3 3 (fun _ => ?_) (fun z => absurd z (by omega))
    rw [pt_ix hn, pt_md hn, nI_clamp (show pt_num v 3 / 64 < 2 ^ 31 by omega)]
    exact ⟨pk_in (pt_num v 3 / 64) 125 (by omega), pk_in (pt_num v 3 / 64) 125 (by omega), nm_e (H _ (pt_set hn hF))⟩
  · intro n i s hi h hw
    subst h
    refine pk_le 3 i (fun z => absurd z (by omega)) (fun _ => ⟨pk_in i 3 hi, ?_⟩)
    rw [nI_clamp (show i < 2 ^ 31 by omega)]
    rcases (hv i hi).2 with ⟨g, e⟩ | ⟨g, e⟩
    · refine br_t g ⟨pk_in i 3 hi, nm_r (e' := nI (20 * pt_num v i + v i)) ?_ (nm_r (nI_1 i) (hw _ rfl))⟩
      rw [e]
      show nI 20 * nI (pt_num v i) + nI (v i) = _
      rw [pk_mul, nI_add]
    · refine br_f g (nm_r (e' := nI (20 * pt_num v i + v i)) ?_ (nm_r (nI_1 i) (hw _ rfl)))
      rw [e]
      show nI 20 * nI (pt_num v i) + nI 0 = _
      rw [pk_mul, nI_add]
/-- the run of the code from class s -/
theorem pt_run37V {post : St2 → Prop} {q s : Nat} {F : Nat → Bool} (hs : s < 2) (h81 : a8 1 = 4) (h10 : a10 0 = 0) (hq : q ≤ 2) (h80 : a8 0 = 1) (h9 : a9 0 = nI q) (h13 : a13 0 = nI s) (h14 : ∀ j, j < 3 → a14 j = -1) (hF : pt_F a16 F)
    (H : ∀ (b14 b15 : Nat → Int32) (b16 : Nat → Int64), pt_F b16 (fun j => F j || decide (j = s * pt_w q)) → post (c1, c2, c3, c4, c5, c6, c7, a1, a2, a3, a4, a5, a6, a7, a8, a9, a10, a11, a12, a13, b14, b15, b16)) : wX_run_37 post 3 0 c1 c2 c3 c4 c5 c6 c7 a1 a2 a3 a4 a5 a6 a7 a8 a9 a10 a11 a12 a13 a14 a15 a16 := by
  have h80' : a8 (0 : Int32).toNatClampNeg = 1 := by rw [sb_cl0, h80]
  have h81' : a8 (1 : Int32).toNatClampNeg = 4 := by rw [pt_cl1, h81]
  have h9' : a9 (0 : Int32).toNatClampNeg = nI q := by rw [sb_cl0, h9]
  have h10' : a10 (0 : Int32).toNatClampNeg = 0 := by rw [sb_cl0, h10]
  refine br_f (by decide) ⟨pk_in 0 10 (by decide), br_f (by rw [h80']; decide) ?_⟩
  refine And.intro (pk_in 0 10 (by decide)) (nm_r h80' (br_f (by decide) ⟨pk_in 0 10 (by decide), pk_in 0 16 (by decide) h10', nm_r (e' := nI s) (by rw [h10', sb_cl0, h13]) ⟨pk_in 0 10 (by decide), nm_r h9' (br_f (by decide) (br_f (by decide) ⟨pk_in q 3 (by omega), fun b14 E14 => ?_⟩))⟩⟩))
  refine br_f (by decide) (nm_r (e' := 1) (by decide) ⟨pk_in 1 10 (by decide), fun b15 E15 => ?_⟩)
  refine br_f (by decide) ⟨pk_in 1 10 (by decide), br_f (by rw [h81']; decide) ?_⟩
  refine And.intro (pk_in 1 10 (by decide)) (nm_r h81' (br_t rfl ?_))
  rw [nI_clamp (show q < 2 ^ 31 by omega), pt_byte s (by omega)] at E14
  refine pt_note (v := fun i => if i = q then s else 0) (fun i hi => ?_) hF (fun b16 hb => ?_)
  · rw [E14]
    by_cases e : i = q
    · rw [e, pk_us, if_pos rfl]
      exact ⟨by omega, Or.inl ⟨nI_pos' (by omega), rfl⟩⟩
    · rw [pk_un e, h14 i hi, if_neg e]
      exact ⟨by decide, Or.inr ⟨by decide, rfl⟩⟩
  refine br_t rfl (nm_r (e' := 0) (by decide) ⟨2, br_f (by decide) ⟨pk_in 0 10 (by decide), br_f (by rw [h80']; decide) ⟨pk_in 0 10 (by decide), br_t h80' ⟨pk_in 0 10 (by decide), pk_in q 3 (by omega) h9', nm_e (nm_r (e' := -1) (by decide) (br_t (by decide) (br_t (by decide) ?_)))⟩⟩⟩⟩)
  refine H _ _ _ ?_
  have e : pt_num (fun i => if i = q then s else 0) 3 = s * pt_w q := by
    show 20 * (20 * (20 * 0 + (if 0 = q then s else 0)) + (if 1 = q then s else 0)) + (if 2 = q then s else 0) = s * pt_w q
    match q, hq with
    | 0, _ => show 20 * (20 * (20 * 0 + s) + 0) + 0 = s * 400; omega
    | 1, _ => show 20 * (20 * (20 * 0 + 0) + s) + 0 = s * 20; omega
    | 2, _ => show 20 * (20 * (20 * 0 + 0) + 0) + s = s * 1; omega
  rw [e] at hb
  exact hb
theorem pt_run37K {post : St2 → Prop} {m k q s : Nat} {F : Nat → Bool} (hN : pt_N m k a1 a2 a4) (hs : s < m) (h81 : a8 1 = 4) (h10 : a10 0 = 0) (hq : 10 ≤ q) (hq2 : q ≤ 15) (h80 : a8 0 = 3) (h9 : a9 0 = nI (q - 10)) (h13 : a13 0 = nI s) (h14 : ∀ j, j < 3 → a14 j = -1) (hF : pt_F a16 F)
    (H : ∀ (b14 b15 : Nat → Int32) (b16 : Nat → Int64), pt_F b16 (fun j => F j || decide (s = 0 ∧ k + 10 = q ∧ j = 0)) → post (nI m, c2, c3, c4, c5, c6, c7, a1, a2, a3, a4, a5, a6, a7, a8, a9, a10, a11, a12, a13, b14, b15, b16)) : wX_run_37 post 3 0 (nI m) c2 c3 c4 c5 c6 c7 a1 a2 a3 a4 a5 a6 a7 a8 a9 a10 a11 a12 a13 a14 a15 a16 := by
  have hm : m ≤ 2 := hN.1
  have h80' : a8 (0 : Int32).toNatClampNeg = 3 := by rw [sb_cl0, h80]
  have h81' : a8 (1 : Int32).toNatClampNeg = 4 := by rw [pt_cl1, h81]
  have h9' : a9 (0 : Int32).toNatClampNeg = nI (q - 10) := by rw [sb_cl0, h9]
  have h10' : a10 (0 : Int32).toNatClampNeg = 0 := by rw [sb_cl0, h10]
  have no : ¬ (s = 0 ∧ k + 10 = q) → pt_F a16 (fun j => F j || decide (s = 0 ∧ k + 10 = q ∧ j = 0)) := fun h => pt_Fe (fun j => by
    rw [decide_eq_false (fun t => h ⟨t.1, t.2.1⟩), Bool.or_false]) hF
  have back0 : ∀ (b14 b15 : Nat → Int32) (b16 : Nat → Int64) (n : Nat), (post (nI m, c2, c3, c4, c5, c6, c7, a1, a2, a3, a4, a5, a6, a7, a8, a9, a10, a11, a12, a13, b14, b15, b16)) → wX_run_63 post (wX_run_37 post (n + 1)) 0 0 (nI m) c2 c3 c4 c5 c6 c7 a1 a2 a3 a4 a5 a6 a7 a8 a9 a10 a11 a12 a13 b14 b15 b16 := fun b14 b15 b16 n h =>
    br_t rfl (nm_r (e' := -1) (by decide) ⟨1, br_t (by decide) (br_t (by decide) h)⟩)
  refine br_f (by decide) ⟨pk_in 0 10 (by decide), br_f (by rw [h80']; decide) ?_⟩
  refine And.intro (pk_in 0 10 (by decide)) (nm_r h80' (br_f (by decide) ⟨pk_in 0 10 (by decide), pk_in 0 16 (by decide) h10', nm_r (e' := nI s) (by rw [h10', sb_cl0, h13]) ⟨pk_in 0 10 (by decide), nm_r h9' (br_f (by decide) (br_t rfl ?_))⟩⟩))
  refine pt_coc hN (by omega) (fun hc => ?_) (fun hc => ?_)
  · refine pk_eq 0 s (fun e => ?_) (fun e => back0 _ _ _ _ (H _ _ _ (no (fun t => e t.1.symm))))
    refine br_f (by decide) (nm_r (e' := 1) (by decide) ⟨pk_in 1 10 (by decide), fun b15 E15 => ?_⟩)
    refine br_f (by decide) ⟨pk_in 1 10 (by decide), br_f (by rw [h81']; decide) ?_⟩
    refine And.intro (pk_in 1 10 (by decide)) (nm_r h81' (br_t rfl ?_))
    refine pt_note (v := fun i => 0) (fun i hi => ?_) hF (fun b16 hb => ?_)
    · rw [h14 i hi]
      exact ⟨by decide, Or.inr ⟨by decide, rfl⟩⟩
    refine br_t rfl (nm_r (e' := 0) (by decide) ⟨2, br_f (by decide) ⟨pk_in 0 10 (by decide), br_f (by rw [h80']; decide) ⟨pk_in 0 10 (by decide), br_f (by rw [h80']; decide) (nm_r (e' := -1) (by decide) (br_t (by decide) (br_t (by decide) ?_)))⟩⟩⟩)
    refine H _ _ _ (pt_Fe (fun j => ?_) hb)
    have t : (j = 0) ↔ (s = 0 ∧ k + 10 = q ∧ j = 0) := ⟨fun h => ⟨e.symm, by omega, h⟩, fun h => h.2.2⟩
    show (F j || decide (j = 0)) = (F j || decide (s = 0 ∧ k + 10 = q ∧ j = 0))
    rw [decide_eq_decide.mpr t]
  · refine br_f ?_ (back0 _ _ _ _ (H _ _ _ (no (fun t => hc ⟨by omega, by omega⟩))))
    intro e
    have t : ((-1 : Int32) < 0) := by decide
    rw [e] at t
    exact absurd t (nI_pos (by omega))
theorem pt_run {post : St2 → Prop} {m k q s : Nat} {F : Nat → Bool} (hN : pt_N m k a1 a2 a4) (hC : pt_C q a8 a9 a10) (hs : s < m) (hF : pt_F a16 F)
    (H : ∀ (b13 b14 b15 : Nat → Int32) (b16 : Nat → Int64), pt_F b16 (fun j => F j || pt_hit k q s j) → post (nI m, c2, c3, c4, c5, c6, c7, a1, a2, a3, a4, a5, a6, a7, a8, a9, a10, a11, a12, b13, b14, b15, b16)) : wpX_run post (nI m, c2, c3, c4, c5, c6, c7, a1, a2, a3, a4, a5, a6, a7, a8, a9, a10, a11, a12, a13, a14, a15, a16) (nI s) := by
  have hm : m ≤ 2 := hN.1
  obtain ⟨h81, h10, hC⟩ := hC
  unfold wpX_run
  dsimp only
  rw [pt_byte s (by omega)]
  refine fun b13 E13 => ⟨4, br_f (by decide) ⟨pk_in 0 3 (by decide), fun d0 D0 => nm_r (e' := 1) (by decide) (br_f (by decide) ⟨pk_in 1 3 (by decide), fun d1 D1 => nm_r (e' := 2) (by decide) (br_f (by decide) ⟨pk_in 2 3 (by decide), fun d2 D2 => nm_r (e' := 3) (by decide) (br_t (by decide) (fun b15 E15 => ⟨3, ?_⟩))⟩)⟩)⟩⟩
  have h13 : b13 0 = nI s := by rw [E13, pk_us]
  rw [sb_cl0] at D0
  rw [pt_cl1] at D1
  rw [show (2 : Int32).toNatClampNeg = 2 by decide] at D2
  have h14 : ∀ j, j < 3 → d2 j = -1 := by
    intro j hj
    match j, hj with
    | 0, _ => rw [D2, pk_un (by decide), D1, pk_un (by decide), D0, pk_us]
    | 1, _ => rw [D2, pk_un (by decide), D1, pk_us]
    | 2, _ => rw [D2, pk_us]
  rcases hC with ⟨hq, h80, h9⟩ | ⟨hq, hq2, h80, h9⟩
  · refine pt_run37V (by omega) h81 h10 hq h80 h9 h13 h14 hF (fun b14 b15 b16 hb => H _ _ _ _ (pt_Fe (fun j => ?_) hb))
    rw [pt_hitV hq]
  · refine pt_run37K hN hs h81 h10 hq hq2 h80 h9 h13 h14 hF (fun b14 b15 b16 hb => H _ _ _ _ (pt_Fe (fun j => ?_) hb))
    rw [pt_hitK (by omega)]
theorem pt_runAll {post : St2 → Prop} {m k q : Nat} (hN : pt_N m k a1 a2 a4) (hC : pt_C q a8 a9 a10)
    (H : ∀ (b13 b14 b15 : Nat → Int32) (b16 : Nat → Int64), pt_F b16 (pt_G k q m) → post (nI m, c2, c3, c4, c5, c6, c7, a1, a2, a3, a4, a5, a6, a7, a8, a9, a10, a11, a12, b13, b14, b15, b16)) : wpX_runAll post (nI m, c2, c3, c4, c5, c6, c7, a1, a2, a3, a4, a5, a6, a7, a8, a9, a10, a11, a12, a13, a14, a15, a16) := by
  have hm : m ≤ 2 := hN.1
  unfold wpX_runAll
  dsimp only
  refine pt_clearFound (fun b16 hb => ?_)
  refine pk_loop (σ := (Nat → Int32) × (Nat → Int32) × (Nat → Int32) × (Nat → Int64)) (fun n i s => wX_runAll_6 post n (nI i) (nI m) c2 c3 c4 c5 c6 c7 a1 a2 a3 a4 a5 a6 a7 a8 a9 a10 a11 a12 s.1 s.2.1 s.2.2.1 s.2.2.2) (fun i s => pt_F s.2.2.2 (pt_G k q i)) m 0 (a13, a14, a15, b16) (by omega) hb ?_ ?_
  · intro n s h
    exact pk_le m m (fun _ => H _ _ _ _ h) (fun z => absurd z (by omega))
  · intro n i s hi h hw
    refine pk_le m i (fun z => absurd z (by omega)) (fun _ => ⟨pk_in i 20 (by omega), br_t ?_ ?_⟩)
    · rw [nI_clamp (show i < 2 ^ 31 by omega)]
      match i, hi with
      | 0, hi => exact (hN.2.2.1 hi).2.2
      | 1, hi => exact (hN.2.2.2 hi).2
      | (j + 2), hi => omega
    · exact pt_run hN hC hi h (fun b13 b14 b15 b16 hb => nm_r (nI_1 i) (hw (b13, b14, b15, b16) hb))
end
end
section
theorem pt_ne10 : ¬ (1 : Int32) = 0 := by decide
section
variable {c1 c2 c3 c4 c5 c6 c7 : Int32} {a1 a2 a3 a4 a5 a6 a7 a8 a9 a10 a11 a12 a13 a14 a15 : Nat → Int32} {a16 : Nat → Int64}
theorem pt_foundCount {post : Int32 → Prop} {F : Nat → Bool} (hF : pt_F a16 F) (H : post (nI (pt_cnt F 8000))) : wpX_foundCount post (c1, c2, c3, c4, c5, c6, c7, a1, a2, a3, a4, a5, a6, a7, a8, a9, a10, a11, a12, a13, a14, a15, a16) := by
  unfold wpX_foundCount
  dsimp only
  refine pk_loop (fun n i s => wX_foundCount_4 post c1 c2 c3 c4 c5 c6 c7 a1 a2 a3 a4 a5 a6 a7 a8 a9 a10 a11 a12 a13 a14 a15 a16 n s (nI i)) (fun i s => s = nI (pt_cnt F i)) 8000 0 (nI 0) (by omega) rfl ?_ ?_
  · intro n s h
    subst h
    exact pk_le 8000 8000 (fun _ => H) (fun z => absurd z (by omega))
  · intro n i s hi h hw
    subst h
    refine pk_le 8000 i (fun z => absurd z (by omega)) (fun _ => ?_)
    rw [pt_ix hi, pt_md hi, nI_clamp (show i / 64 < 2 ^ 31 by omega), pt_get hi hF, lN_i]
    exact ⟨pk_in (i / 64) 125 (by omega), nm_r (nI_add _ _) (nm_r (nI_1 i) (hw _ rfl))⟩
theorem pt_matches0 {post : Int32 → St2 → Prop} (H : ∀ (vs ce : Int32) (b8 b9 b10 b11 b12 : Nat → Int32), post (-3) (c1, c2, 0, 1, 0, vs, ce, a1, a2, a3, a4, a5, a6, a7, b8, b9, b10, b11, b12, a13, a14, a15, a16)) : wpX_matches post (c1, c2, 0, 0, c5, c6, c7, a1, a2, a3, a4, a5, a6, a7, a8, a9, a10, a11, a12, a13, a14, a15, a16) := by
  unfold wpX_matches
  dsimp only
  exact pt_compile0 (fun vs ce b8 b9 b10 b11 b12 => br_t rfl (H vs ce b8 b9 b10 b11 b12))
theorem pt_matchesS {post : Int32 → St2 → Prop} {q : Nat} (h7 : a7 0 = nI q) (hq : q = 20 ∨ q = 21) (H : ∀ (vs ce : Int32) (b8 b9 b10 b11 b12 : Nat → Int32), post (-3) (c1, c2, 1, 1, 0, vs, ce, a1, a2, a3, a4, a5, a6, a7, b8, b9, b10, b11, b12, a13, a14, a15, a16)) : wpX_matches post (c1, c2, 1, 0, c5, c6, c7, a1, a2, a3, a4, a5, a6, a7, a8, a9, a10, a11, a12, a13, a14, a15, a16) := by
  unfold wpX_matches
  dsimp only
  exact pt_compileS h7 hq (fun vs ce b8 b9 b10 b11 b12 => br_t rfl (H vs ce b8 b9 b10 b11 b12))
theorem pt_matchesW {post : Int32 → St2 → Prop} {m k q : Nat} (hN : pt_N m k a1 a2 a4) (h7 : a7 0 = nI q) (hq : q ≤ 2 ∨ (10 ≤ q ∧ q ≤ 15))
    (H : ∀ (vs ce : Int32) (b8 b9 b10 b11 b12 b13 b14 b15 : Nat → Int32) (b16 : Nat → Int64), pt_C q b8 b9 b10 → pt_W q vs → post (nI (pt_due m k q)) (nI m, c2, 1, 1, 1, vs, ce, a1, a2, a3, a4, a5, a6, a7, b8, b9, b10, b11, b12, b13, b14, b15, b16)) : wpX_matches post (nI m, c2, 1, 0, c5, c6, c7, a1, a2, a3, a4, a5, a6, a7, a8, a9, a10, a11, a12, a13, a14, a15, a16) := by
  unfold wpX_matches
  dsimp only
  refine pt_compileW h7 hq (fun vs ce b8 b9 b10 b11 b12 hC hW => br_f pt_ne10 ?_)
  refine pt_runAll hN hC (fun b13 b14 b15 b16 hb => pt_foundCount hb ?_)
  rw [pt_count hN.1]
  exact H vs ce b8 b9 b10 b11 b12 b13 b14 b15 b16 hC hW
/-! ===== binding ===== -/
theorem pt_bindB {post : Int32 → St2 → Prop} {p0 p1 : Int32} (h : p1 < 0 ∨ ¬ p1 ≤ 2) (H : post (-1) (c1, c2, c3, c4, c5, c6, c7, a1, a2, a3, a4, a5, a6, a7, a8, a9, a10, a11, a12, a13, a14, a15, a16)) : wpX_binding post (c1, c2, c3, c4, c5, c6, c7, a1, a2, a3, a4, a5, a6, a7, a8, a9, a10, a11, a12, a13, a14, a15, a16) p0 p1 := by
  unfold wpX_binding
  dsimp only
  exact br_c (fun _ => H) (fun g => br_f (fun t => h.elim g (fun z => z t)) H)
theorem pt_bindN {post : Int32 → St2 → Prop} {p0 p1 : Int32} (h0 : ¬ p1 < 0) (h2 : p1 ≤ 2) (H : post (-3) (c1, c2, c3, 1, 0, c6, c7, a1, a2, a3, a4, a5, a6, a7, a8, a9, a10, a11, a12, a13, a14, a15, a16)) : wpX_binding post (c1, c2, c3, 1, 0, c6, c7, a1, a2, a3, a4, a5, a6, a7, a8, a9, a10, a11, a12, a13, a14, a15, a16) p0 p1 := by
  unfold wpX_binding
  dsimp only
  exact br_f h0 (br_t h2 (pt_compileY (br_t rfl H)))
theorem pt_bindU {post : Int32 → St2 → Prop} {v q : Nat} (hv : v ≤ 2) (hW : pt_W q c6) (hne : ¬ v = q) (H : post (-3) (c1, c2, c3, 1, 1, c6, c7, a1, a2, a3, a4, a5, a6, a7, a8, a9, a10, a11, a12, a13, a14, a15, a16)) : wpX_binding post (c1, c2, c3, 1, 1, c6, c7, a1, a2, a3, a4, a5, a6, a7, a8, a9, a10, a11, a12, a13, a14, a15, a16) 0 (nI v) := by
  unfold wpX_binding
  dsimp only
  exact br_f (nI_pos (by omega)) (br_t (nI_le (b := 2) hv (by decide)) (pt_compileY (br_f pt_ne10 (br_f (by decide) (br_t ((hW v hv).mpr hne) H)))))
theorem pt_b49f {post : Int32 → St2 → Prop} {x2 : Int32} {F : Nat → Bool} (hF : pt_F a16 F) (h : ∀ j, F j = false) (H : post (-3) (c1, c2, c3, c4, c5, c6, c7, a1, a2, a3, a4, a5, a6, a7, a8, a9, a10, a11, a12, a13, a14, a15, a16)) : ∃ n, wX_binding_49 post x2 c1 c2 c3 c4 c5 c6 c7 a1 a2 a3 a4 a5 a6 a7 a8 a9 a10 a11 a12 a13 a14 a15 a16 n 0 0 := by
  refine pk_loop (σ := Unit) (fun n i _ => wX_binding_49 post x2 c1 c2 c3 c4 c5 c6 c7 a1 a2 a3 a4 a5 a6 a7 a8 a9 a10 a11 a12 a13 a14 a15 a16 n 0 (nI i)) (fun _ _ => True) 8000 0 () (by omega) trivial ?_ ?_
  · intro n _ _
    exact pk_le 8000 8000 (fun _ => H) (fun z => absurd z (by omega))
  · intro n i _ hi _ hw
    refine pk_le 8000 i (fun z => absurd z (by omega)) (fun _ => ?_)
    rw [pt_ix hi, pt_md hi, nI_clamp (show i / 64 < 2 ^ 31 by omega), pt_get hi hF, h i, if_neg (by decide)]
    exact ⟨pk_in (i / 64) 125 (by omega), br_t rfl (nm_r (nI_1 i) (hw () trivial))⟩
theorem pt_b49t {post : Int32 → St2 → Prop} {q : Nat} {F : Nat → Bool} (hq : q ≤ 2) (hF : pt_F a16 F) (h : F 0 = true) (H : post 0 (c1, c2, c3, c4, c5, c6, c7, a1, a2, a3, a4, a5, a6, a7, a8, a9, a10, a11, a12, a13, a14, a15, a16)) : ∃ n, wX_binding_49 post (nI q) c1 c2 c3 c4 c5 c6 c7 a1 a2 a3 a4 a5 a6 a7 a8 a9 a10 a11 a12 a13 a14 a15 a16 n 0 0 := by
  have key : wX_binding_49 post (nI q) c1 c2 c3 c4 c5 c6 c7 a1 a2 a3 a4 a5 a6 a7 a8 a9 a10 a11 a12 a13 a14 a15 a16 1 0 (nI 0) := by
    refine pk_le 8000 0 (fun z => absurd z (by omega)) (fun _ => ?_)
    rw [pt_ix (i := 0) (by decide), pt_md (i := 0) (by decide), nI_clamp (show 0 / 64 < 2 ^ 31 by decide), pt_get (i := 0) (by decide) hF, h, if_pos rfl]
    refine ⟨pk_in (0 / 64) 125 (by decide), br_f (by decide) (br_t rfl ?_)⟩
    match q, hq with
    | 0, _ =>
      refine br_t rfl ⟨by decide, ?_⟩
      rw [show nI 0 / 400 = 0 by decide]
      exact H
    | 1, _ =>
      refine br_f (by decide) (br_t rfl ⟨by decide, by decide, ?_⟩)
      rw [show (nI 0 / 20) - (nI 0 / 20) / 20 * 20 = 0 by decide]
      exact H
    | 2, _ =>
      refine br_f (by decide) (br_f (by decide) ⟨by decide, ?_⟩)
      rw [show nI 0 - nI 0 / 20 * 20 = 0 by decide]
      exact H
  exact ⟨1, key⟩
theorem pt_bindV {post : Int32 → St2 → Prop} {m k q : Nat} (hN : pt_N m k a1 a2 a4) (hC : pt_C q a8 a9 a10) (hq : q ≤ 2) (hW : pt_W q c6)
    (H0 : m = 0 → ∀ (b13 b14 b15 : Nat → Int32) (b16 : Nat → Int64), post (-3) (nI m, c2, c3, 1, 1, c6, c7, a1, a2, a3, a4, a5, a6, a7, a8, a9, a10, a11, a12, b13, b14, b15, b16))
    (H1 : 1 ≤ m → ∀ (b13 b14 b15 : Nat → Int32) (b16 : Nat → Int64), post 0 (nI m, c2, c3, 1, 1, c6, c7, a1, a2, a3, a4, a5, a6, a7, a8, a9, a10, a11, a12, b13, b14, b15, b16)) : wpX_binding post (nI m, c2, c3, 1, 1, c6, c7, a1, a2, a3, a4, a5, a6, a7, a8, a9, a10, a11, a12, a13, a14, a15, a16) 0 (nI q) := by
  unfold wpX_binding
  dsimp only
  refine br_f (nI_pos (by omega)) (br_t (nI_le (b := 2) hq (by decide)) (pt_compileY (br_f pt_ne10 (br_f (by decide) (br_f (fun t => (hW q hq).mp t rfl) ?_)))))
  refine pt_runAll hN hC (fun b13 b14 b15 b16 hb => ?_)
  match m with
  | 0 => exact pt_b49f hb (fun j => rfl) (H0 rfl b13 b14 b15 b16)
  | (m + 1) => exact pt_b49t hq hb (pt_G0 hq) (H1 (by omega) b13 b14 b15 b16)
end
end
section
section
variable {c1 c2 c3 c4 c5 c6 c7 : Int32} {a1 a2 a3 a4 a5 a6 a7 a8 a9 a10 a11 a12 a13 a14 a15 : Nat → Int32} {a16 : Nat → Int64}
variable {post : Int32 → St0 → Prop} {mc ms kc ks : Nat} {x0 x1 x2 x3 x4 x5 x6 x7 x8 z0 z1 : Int32}
/-- the last check: clear answers the number of nodes -/
theorem pt_L295 (hp : post 1 ()) (hz : z1 = z0) (hx : c1 = x8) : wL_lawOf_295 post mc ms x8 z0 z1 kc ks c1 c2 c3 c4 c5 c6 c7 a1 a2 a3 a4 a5 a6 a7 a8 a9 a10 a11 a12 a13 a14 a15 a16 := br_t hz (br_t hx hp)
/-- the check of binding, the pattern not whole -/
theorem pt_L262n (hp : post 1 ()) (hx : c1 = x8) : wL_lawOf_262 post mc ms x3 x8 0 kc ks c1 c2 c3 1 0 c6 c7 a1 a2 a3 a4 a5 a6 a7 a8 a9 a10 a11 a12 a13 a14 a15 a16 := by
  unfold wL_lawOf_262
  by_cases h : x3 < 0
  · exact pt_bindB (Or.inl h) (br_t h (pt_L295 hp rfl hx))
  · by_cases h2 : x3 ≤ 2
    · exact pt_bindN h h2 (br_f h (br_t h2 (br_t rfl (pt_L295 hp rfl hx))))
    · exact pt_bindB (Or.inr h2) (br_f h (br_f h2 (pt_L295 hp rfl hx)))
/-- the check of binding, the pattern whole -/
theorem pt_L262w {m k q : Nat} (hp : post 1 ()) (hx : nI m = x8) (hN : pt_N m k a1 a2 a4) (hC : pt_C q a8 a9 a10) (hW : pt_W q c6) (hz0 : z0 = 0 → ∀ v, v ≤ 2 → x3 = nI v → v = q → m = 0) (hz1 : ¬ z0 = 0 → q ≤ 2 ∧ x3 = nI q ∧ 1 ≤ m) :
    wL_lawOf_262 post mc ms x3 x8 z0 kc ks (nI m) c2 c3 1 1 c6 c7 a1 a2 a3 a4 a5 a6 a7 a8 a9 a10 a11 a12 a13 a14 a15 a16 := by
  unfold wL_lawOf_262
  by_cases h : x3 < 0
  · exact pt_bindB (Or.inl h) (br_t h (pt_L295 hp rfl hx))
  · by_cases h2 : x3 ≤ 2
    · obtain ⟨v, hv, rfl⟩ := nI_of2 (M := 2) (n := 2) (by decide) h h2
      by_cases e : v = q
      · subst e
        refine pt_bindV hN hC hv hW (fun hm b13 b14 b15 b16 => br_f h (br_t h2 ?_)) (fun hm b13 b14 b15 b16 => br_f h (br_t h2 ?_))
        · refine br_t ?_ (pt_L295 hp rfl hx)
          by_cases z : z0 = 0
          · exact z
          · have := (hz1 z).2.2
            omega
        · refine br_f (fun z => ?_) (pt_L295 hp rfl hx)
          have := hz0 z v hv rfl rfl
          omega
      · refine pt_bindU hv hW e (br_f h (br_t h2 (br_t ?_ (pt_L295 hp rfl hx))))
        by_cases z : z0 = 0
        · exact z
        · obtain ⟨t1, t2, _⟩ := hz1 z
          exact absurd ((nI_eq (by omega) (by omega)).mp t2) e
    · exact pt_bindB (Or.inr h2) (br_f h (br_f h2 (pt_L295 hp rfl hx)))
/-- the check of matches: no token; a symbol; whole -/
theorem pt_L223a (hp : post 1 ()) (hx : c1 = x8) : wL_lawOf_223 post mc ms x2 x3 0 x8 (-3) kc ks c1 c2 0 0 c5 c6 c7 a1 a2 a3 a4 a5 a6 a7 a8 a9 a10 a11 a12 a13 a14 a15 a16 := by
  unfold wL_lawOf_223
  exact pt_matches0 (fun vs ce b8 b9 b10 b11 b12 => br_t rfl (br_t rfl (pt_L262n hp hx)))
theorem pt_L223s {q : Nat} (hp : post 1 ()) (hx : c1 = x8) (h7 : a7 0 = nI q) (hq : q = 20 ∨ q = 21) : wL_lawOf_223 post mc ms x2 x3 0 x8 (-3) kc ks c1 c2 1 0 c5 c6 c7 a1 a2 a3 a4 a5 a6 a7 a8 a9 a10 a11 a12 a13 a14 a15 a16 := by
  unfold wL_lawOf_223
  exact pt_matchesS h7 hq (fun vs ce b8 b9 b10 b11 b12 => br_t rfl (br_t rfl (pt_L262n hp hx)))
theorem pt_L223w {m k q : Nat} (hp : post 1 ()) (hN : pt_N m k a1 a2 a4) (h7 : a7 0 = nI q) (hq : q ≤ 2 ∨ (10 ≤ q ∧ q ≤ 15)) (hz : z0 = nI (pt_due m k q)) : wL_lawOf_223 post mc ms (nI q) x3 1 (nI m) z0 kc ks (nI m) c2 1 0 c5 c6 c7 a1 a2 a3 a4 a5 a6 a7 a8 a9 a10 a11 a12 a13 a14 a15 a16 := by
  have hm : m ≤ 2 := hN.1
  unfold wL_lawOf_223
  refine pt_matchesW hN h7 hq (fun vs ce b8 b9 b10 b11 b12 b13 b14 b15 b16 hC hW => br_t hz.symm (br_f (by decide) ?_))
  refine pk_le 3 q (fun z => ?_) (fun z => br_c (fun e => pk_le m 0 (fun z2 => ?_) (fun z2 => ?_)) (fun e => ?_))
  · exact pt_L262w hp rfl hN hC hW (fun _ v hv _ e => absurd e (by omega)) (fun t => absurd rfl t)
  · exact pt_L262w hp rfl hN hC hW (fun _ v hv _ _ => by omega) (fun t => absurd rfl t)
  · exact pt_L262w hp rfl hN hC hW (fun t => absurd t (by decide)) (fun _ => ⟨by omega, e, z2⟩)
  · exact pt_L262w hp rfl hN hC hW (fun _ v hv e2 e3 => absurd (e2.trans (by rw [e3])) e) (fun t => absurd rfl t)
/-- the check of token, and what is due of matches -/
theorem pt_L159 {m k : Nat} (hp : post 1 ()) (hN : pt_N m k a1 a2 a4) (hX : (x4 = 0 ∧ m = 0) ∨ (x4 = 1 ∧ 1 ≤ m ∧ x0 = nI k)) (hz : z1 = z0)
    (ht : (x6 = 0 ∧ x7 = 0 ∧ ¬ ∃ q, pt_T x2 q) ∨ (x6 = 1 ∧ (∃ q, pt_T x2 q) ∧ ((20 ≤ x2 ∧ x7 = 0) ∨ (¬ 20 ≤ x2 ∧ x7 = 1)))) :
    wL_lawOf_159 post mc ms x0 x2 x3 x4 x6 x7 (nI m) z0 z1 kc ks (nI m) c2 0 0 c5 c6 c7 a1 a2 a3 a4 a5 a6 a7 a8 a9 a10 a11 a12 a13 a14 a15 a16 := by
  have hm : m ≤ 2 := hN.1
  have hk : k ≤ 5 := hN.2.1
  refine br_t hz ?_
  rcases ht with ⟨rfl, rfl, hu⟩ | ⟨rfl, hkn, h7⟩
  · exact pt_token (fun _ => br_t rfl (br_t rfl (br_t rfl (pt_L223a hp rfl)))) (fun q b7 hq _ => absurd ⟨q, hq⟩ hu)
  · refine pt_token (fun h => absurd hkn h) (fun q b7 hq e7 => br_f (by decide) (br_t rfl ?_))
    obtain ⟨rfl, hq⟩ := hq
    rcases h7 with ⟨h20, rfl⟩ | ⟨h20, rfl⟩
    · have hq' : q = 20 ∨ q = 21 := by
        rcases hq with hq | hq | hq
        · exact absurd h20 (nI_ge (b := 20) (by omega) (by decide))
        · exact absurd h20 (nI_ge (b := 20) (by omega) (by decide))
        · exact hq
      exact br_t rfl (pt_L223s hp rfl e7 hq')
    · have hq' : q ≤ 2 ∨ (10 ≤ q ∧ q ≤ 15) := by
        rcases hq with hq | hq | hq
        · exact Or.inl hq
        · exact Or.inr hq
        · exact absurd (nI_le (a := 20) (b := q) (by omega) (by omega)) h20
      refine br_f (by decide) (pk_le 3 q (fun z => ?_) (fun z => pt_L223w hp hN e7 hq' ?_))
      · rcases hX with ⟨rfl, rfl⟩ | ⟨rfl, hm1, rfl⟩
        · refine br_t rfl (pt_L223w hp hN e7 hq' ?_)
          unfold pt_due
          rw [if_neg (by omega), if_neg (by omega)]
          rfl
        · refine br_f (by decide) (pk_eq (q - 10) k (fun e => pt_L223w hp hN e7 hq' ?_) (fun e => pt_L223w hp hN e7 hq' ?_) (hx := pk_sub (b := 10) (by omega)))
          · unfold pt_due
            rw [if_neg (by omega), if_pos (by omega)]
            rfl
          · unfold pt_due
            rw [if_neg (by omega), if_neg (by omega)]
            rfl
      · unfold pt_due
        rw [if_pos (by omega)]
/-- the check of one -/
theorem pt_L138 {m k n : Nat} (hp : post 1 ()) (hN : pt_N m k a1 a2 a4) (hz : z1 = z0)
    (hn : (x4 = 0 ∧ x5 = 0 ∧ m = 0 ∧ n = 0) ∨ (x4 = 1 ∧ m = 1 ∧ x0 = nI k ∧ ((x5 = 1 ∧ x1 = 0 ∧ n = 2) ∨ (x5 = 0 ∧ ¬ x1 = 0 ∧ n = 1))))
    (ht : (x6 = 0 ∧ x7 = 0 ∧ ¬ ∃ q, pt_T x2 q) ∨ (x6 = 1 ∧ (∃ q, pt_T x2 q) ∧ ((20 ≤ x2 ∧ x7 = 0) ∨ (¬ 20 ≤ x2 ∧ x7 = 1)))) :
    wL_lawOf_138 post mc ms x0 x1 x2 x3 x4 x5 x6 x7 (nI n) z0 z1 kc ks (nI m) c2 0 0 c5 c6 c7 a1 a2 a3 a4 a5 a6 a7 a8 a9 a10 a11 a12 a13 a14 a15 a16 := by
  refine br_t hz ?_
  rcases hn with ⟨rfl, rfl, rfl, rfl⟩ | ⟨rfl, rfl, rfl, ⟨rfl, rfl, rfl⟩ | ⟨rfl, h1, rfl⟩⟩
  · exact pt_one (by omega) hN (fun _ => br_t rfl (pt_L159 hp hN (Or.inl ⟨rfl, rfl⟩) rfl ht)) (fun e => absurd e (by omega))
  · exact pt_one (by omega) hN (fun h => absurd ⟨rfl, rfl⟩ h) (fun _ _ b1 b2 b3 b4 hN' => br_f (by decide) (pt_L159 (m := 2) hp hN' (Or.inr ⟨rfl, by omega, rfl⟩) rfl ht))
  · exact pt_one (by omega) hN (fun _ => br_t rfl (pt_L159 hp hN (Or.inr ⟨rfl, by omega, rfl⟩) rfl ht)) (fun _ e => absurd e h1)
/-- the object is made; the check of constant -/
theorem pt_L110 {n : Nat} (hp : post 1 ()) (hmc : kc + 17 ≤ mc) (hms : ks + 690 ≤ ms) (hz : z1 + z0 = nI n)
    (hn : (x4 = 0 ∧ x5 = 0 ∧ (x0 < 0 ∨ ¬ x0 ≤ 5) ∧ n = 0) ∨ (x4 = 1 ∧ (∃ k, k ≤ 5 ∧ x0 = nI k) ∧ ((x5 = 1 ∧ x1 = 0 ∧ n = 2) ∨ (x5 = 0 ∧ ¬ x1 = 0 ∧ n = 1))))
    (ht : (x6 = 0 ∧ x7 = 0 ∧ ¬ ∃ q, pt_T x2 q) ∨ (x6 = 1 ∧ (∃ q, pt_T x2 q) ∧ ((20 ≤ x2 ∧ x7 = 0) ∨ (¬ 20 ≤ x2 ∧ x7 = 1)))) :
    wL_lawOf_110 post mc ms x0 x1 x2 x3 x4 x5 x6 x7 z0 z1 kc ks := by
  refine nm_r hz ⟨by omega, by omega, 16, 667, by omega, by omega, ?_⟩
  unfold wpX_init
  dsimp only
  refine ⟨by decide, by decide, by decide, by decide, by decide, by decide, by decide, by decide, by decide, by decide, by decide, by decide, by decide, by decide, by decide, by decide, by decide, by decide, by decide, by decide, by decide, by decide, by decide, by decide, by decide, by decide, by decide, by decide, by decide, by decide, by decide, by decide, ?_⟩
  rcases hn with ⟨rfl, rfl, hb, rfl⟩ | ⟨rfl, ⟨k, hk, rfl⟩, h⟩
  · refine pt_constant (fun _ => br_t rfl (pt_L138 (m := 0) hp pt_N0 rfl (Or.inl ⟨rfl, rfl, rfl, rfl⟩) ht)) (fun k b1 b2 b3 b4 hk e _ => ?_)
    subst e
    rcases hb with hb | hb
    · exact absurd hb (nI_pos (by omega))
    · exact absurd (nI_le (b := 5) hk (by decide)) hb
  · refine pt_constant (fun hb => ?_) (fun j b1 b2 b3 b4 hj e hN => br_f (by decide) (pt_L138 (m := 1) hp hN rfl (Or.inr ⟨rfl, rfl, e, h⟩) ht))
    rcases hb with hb | hb
    · exact absurd hb (nI_pos (by omega))
    · exact absurd (nI_le (b := 5) hk (by decide)) hb
/-- what is due, out of the four ints -/
theorem pt_L88 (hp : post 1 ()) (hmc : kc + 17 ≤ mc) (hms : ks + 690 ≤ ms)
    (hn : (x4 = 0 ∧ x5 = 0 ∧ (x0 < 0 ∨ ¬ x0 ≤ 5)) ∨ (x4 = 1 ∧ (∃ k, k ≤ 5 ∧ x0 = nI k) ∧ ((x5 = 1 ∧ x1 = 0) ∨ (x5 = 0 ∧ ¬ x1 = 0))))
    (ht : (x6 = 0 ∧ x7 = 0 ∧ ¬ ∃ q, pt_T x2 q) ∨ (x6 = 1 ∧ (∃ q, pt_T x2 q) ∧ ((20 ≤ x2 ∧ x7 = 0) ∨ (¬ 20 ≤ x2 ∧ x7 = 1)))) :
    wL_lawOf_88 post mc ms x0 x1 x2 x3 x4 x5 x6 x7 kc ks := by
  rcases hn with ⟨rfl, rfl, hb⟩ | ⟨rfl, hk, ⟨rfl, h1⟩ | ⟨rfl, h1⟩⟩
  · exact br_t rfl (br_t rfl (pt_L110 (n := 0) hp hmc hms (by decide) (Or.inl ⟨rfl, rfl, hb, rfl⟩) ht))
  · exact br_f (by decide) (br_f (by decide) (pt_L110 (n := 2) hp hmc hms (by decide) (Or.inr ⟨rfl, hk, Or.inl ⟨rfl, h1, rfl⟩⟩) ht))
  · exact br_f (by decide) (br_t rfl (pt_L110 (n := 1) hp hmc hms (by decide) (Or.inr ⟨rfl, hk, Or.inr ⟨rfl, h1, rfl⟩⟩) ht))
theorem pt_L30 (hp : post 1 ()) (hmc : kc + 17 ≤ mc) (hms : ks + 690 ≤ ms)
    (hn : (x4 = 0 ∧ x5 = 0 ∧ (x0 < 0 ∨ ¬ x0 ≤ 5)) ∨ (x4 = 1 ∧ (∃ k, k ≤ 5 ∧ x0 = nI k) ∧ ((x5 = 1 ∧ x1 = 0) ∨ (x5 = 0 ∧ ¬ x1 = 0)))) :
    wL_lawOf_30 post mc ms x0 x1 x2 x3 x4 x5 kc ks := by
  refine pt_br (K := wL_lawOf_65 post mc ms x0 x1 x2 x3 x4 x5 kc ks) (U := wL_lawOf_70 post mc ms x0 x1 x2 x3 x4 x5 0 kc ks) (fun h => ?_) (fun h => ?_)
  · exact br_f (by decide) (br_c (fun g => pt_L88 hp hmc hms hn (Or.inr ⟨rfl, h, Or.inl ⟨g, rfl⟩⟩)) (fun g => pt_L88 hp hmc hms hn (Or.inr ⟨rfl, h, Or.inr ⟨g, rfl⟩⟩)))
  · exact br_t rfl (pt_L88 hp hmc hms hn (Or.inl ⟨rfl, rfl, h⟩))
theorem pt_lawOf {p0 p1 p2 p3 : Int32} (hp : post 1 ()) (hmc : 17 ≤ mc) (hms : 690 ≤ ms) : wpL_lawOf post mc ms () p0 p1 p2 p3 := by
  refine br_c (fun h => br_t rfl (pt_L30 hp (by omega) (by omega) (Or.inl ⟨rfl, rfl, Or.inl h⟩))) (fun h => br_c (fun h5 => br_t rfl (pt_L30 hp (by omega) (by omega) (Or.inl ⟨rfl, rfl, Or.inr (Int32.not_le.mpr h5)⟩))) (fun h5 => ?_))
  have hk : ∃ k, k ≤ 5 ∧ p0 = nI k := nI_of2 (M := 5) (n := 5) (by decide) h (Int32.not_lt.mp h5)
  exact br_f (by decide) (br_c (fun h1 => pt_L30 hp (by omega) (by omega) (Or.inr ⟨rfl, hk, Or.inl ⟨rfl, h1⟩⟩)) (fun h1 => pt_L30 hp (by omega) (by omega) (Or.inr ⟨rfl, hk, Or.inr ⟨rfl, h1⟩⟩)))
theorem pt_cell {ps : Int32 → Prop} {L : Nat} {xs : Nat → Int32} {p : Int32} (i : Nat) (hL : L ≤ 4) (hi : i < 4) (hp : p = nI i) (H : ∀ r, ps r) : wpL_cellAt ps L xs () p :=
  pk_le L i (fun _ => H _) (fun z => ⟨pk_in i L z hp, H _⟩) (hy := hp)
end
theorem i_vc (xs : Nat → Int32) (L : Nat) (hL : L ≤ 4) : wpL_law (fun r => r = 1) L xs :=
  pt_cell 0 hL (by decide) rfl (fun r1 => pt_cell 1 hL (by decide) rfl (fun r2 => pt_cell 2 hL (by decide) rfl (fun r3 => pt_cell 3 hL (by decide) rfl (fun r4 => ⟨244, 3904, by decide, by decide, pt_lawOf rfl (by decide) (by decide)⟩))))
end
