section
/-! counting -/
/-- how many of the first n places hold P -/
def qs_ct (P : Nat → Bool) : Nat → Nat
  | 0 => 0
  | n + 1 => qs_ct P n + (P n).toNat
theorem qs_ctS (P : Nat → Bool) (n : Nat) : qs_ct P (n + 1) = qs_ct P n + (P n).toNat := rfl
theorem qs_ctT {P : Nat → Bool} {n : Nat} (h : P n = true) : qs_ct P (n + 1) = qs_ct P n + 1 := by
  rw [qs_ctS, h]
  rfl
theorem qs_ctF {P : Nat → Bool} {n : Nat} (h : P n = false) : qs_ct P (n + 1) = qs_ct P n := by
  rw [qs_ctS, h]
  rfl
theorem qs_ct_le (P : Nat → Bool) (n : Nat) : qs_ct P n ≤ n := by
  induction n with
  | zero => exact Nat.le_refl 0
  | succ n ih =>
    rw [qs_ctS]
    have := Bool.toNat_le (P n)
    omega
theorem qs_ct_add (P : Nat → Bool) (a b : Nat) : qs_ct P (a + b) = qs_ct P a + qs_ct (fun j => P (a + j)) b := by
  induction b with
  | zero => rfl
  | succ b ih =>
    show qs_ct P (a + b) + (P (a + b)).toNat = qs_ct P a + (qs_ct (fun j => P (a + j)) b + (P (a + b)).toNat)
    omega
theorem qs_ct_mono (P : Nat → Bool) {a b : Nat} (h : a ≤ b) : qs_ct P a ≤ qs_ct P b := by
  obtain ⟨d, rfl⟩ := Nat.exists_eq_add_of_le h
  rw [qs_ct_add]
  omega
theorem qs_ct_step (P : Nat → Bool) {a b : Nat} (h : a ≤ b) : qs_ct P b ≤ qs_ct P a + (b - a) := by
  obtain ⟨d, rfl⟩ := Nat.exists_eq_add_of_le h
  rw [qs_ct_add]
  have := qs_ct_le (fun j => P (a + j)) d
  omega
theorem qs_ct_congr {P Q : Nat → Bool} {n : Nat} (h : ∀ j, j < n → P j = Q j) : qs_ct P n = qs_ct Q n := by
  induction n with
  | zero => rfl
  | succ n ih =>
    rw [qs_ctS, qs_ctS, ih (fun j hj => h j (by omega)), h n (by omega)]
theorem qs_ct_sum {P Q S : Nat → Bool} {n : Nat} (h : ∀ j, j < n → (P j).toNat = (Q j).toNat + (S j).toNat) : qs_ct P n = qs_ct Q n + qs_ct S n := by
  induction n with
  | zero => rfl
  | succ n ih =>
    have h1 := ih (fun j hj => h j (by omega))
    have h2 := h n (by omega)
    rw [qs_ctS, qs_ctS, qs_ctS]
    omega
theorem qs_ct_zero {P : Nat → Bool} {n : Nat} (h : ∀ j, j < n → P j = false) : qs_ct P n = 0 := by
  induction n with
  | zero => rfl
  | succ n ih => rw [qs_ctF (h n (by omega)), ih (fun j hj => h j (by omega))]
theorem qs_ct_all {P : Nat → Bool} {n : Nat} (h : ∀ j, j < n → P j = true) : qs_ct P n = n := by
  induction n with
  | zero => rfl
  | succ n ih => rw [qs_ctT (h n (by omega)), ih (fun j hj => h j (by omega))]
theorem qs_ct_lt {P : Nat → Bool} {i n : Nat} (h : P i = true) (hi : i < n) : qs_ct P i < qs_ct P n := by
  have h1 := qs_ct_mono P (show i + 1 ≤ n by omega)
  rw [qs_ctT h] at h1
  omega
theorem qs_sel {P : Nat → Bool} {n k : Nat} (h : k < qs_ct P n) : ∃ i, i < n ∧ P i = true ∧ qs_ct P i = k := by
  induction n with
  | zero => exact absurd h (Nat.not_lt_zero k)
  | succ n ih =>
    by_cases hk : k < qs_ct P n
    · obtain ⟨i, h1, h2, h3⟩ := ih hk
      exact ⟨i, by omega, h2, h3⟩
    · cases hp : P n with
      | false =>
        rw [qs_ctF hp] at h
        exact absurd h hk
      | true =>
        rw [qs_ctT hp] at h
        exact ⟨n, by omega, hp, by omega⟩
theorem qs_sel_inj {P : Nat → Bool} {i j : Nat} (hi : P i = true) (hj : P j = true) (h : qs_ct P i = qs_ct P j) : i = j := by
  rcases Nat.lt_trichotomy i j with z | z | z
  · have := qs_ct_lt hi z
    omega
  · exact z
  · have := qs_ct_lt hj z
    omega
/-- if a count grows, a place holds P -/
theorem qs_ct_ex {P : Nat → Bool} {a b : Nat} (h : qs_ct P a < qs_ct P b) : ∃ i, a ≤ i ∧ i < b ∧ P i = true := by
  obtain ⟨i, h1, h2, h3⟩ := qs_sel h
  refine ⟨i, ?_, h1, h2⟩
  rcases Nat.lt_or_ge i a with z | z
  · have := qs_ct_lt h2 z
    omega
  · exact z
theorem qs_ct_same {P : Nat → Bool} {a b : Nat} (h : a ≤ b) (hz : ∀ i, a ≤ i → i < b → P i = false) : qs_ct P b = qs_ct P a := by
  have h1 := qs_ct_mono P h
  rcases Nat.lt_or_ge (qs_ct P a) (qs_ct P b) with z | z
  · obtain ⟨i, h2, h3, h4⟩ := qs_ct_ex z
    rw [hz i h2 h3] at h4
    exact absurd h4 (by decide)
  · omega
theorem qs_ct_run {P : Nat → Bool} {a b : Nat} (h : a ≤ b) (hz : ∀ i, a ≤ i → i < b → P i = true) : qs_ct P b = qs_ct P a + (b - a) := by
  obtain ⟨d, rfl⟩ := Nat.exists_eq_add_of_le h
  rw [qs_ct_add, qs_ct_all (fun j hj => hz (a + j) (by omega) (by omega))]
  omega
/-- halving: the answer r is known, the test at the middle says whether it lies below r -/
theorem qs_bs (W : Nat → Int32 → Int32 → Prop) (r N : Nat) (hx : ∀ f, W (f + 1) (nI r) (nI r))
    (hs : ∀ f lo hi m, lo ≤ m → m < hi → hi ≤ N → m = (lo + hi) / 2 → (m < r → W f (nI (m + 1)) (nI hi)) → (r ≤ m → W f (nI lo) (nI m)) → W (f + 1) (nI lo) (nI hi)) :
    ∀ f lo hi, lo ≤ r → r ≤ hi → hi ≤ N → hi - lo < f → W f (nI lo) (nI hi) := by
  intro f
  induction f with
  | zero => intro lo hi _ _ _ h; exact absurd h (Nat.not_lt_zero _)
  | succ f ih =>
    intro lo hi h1 h2 h3 h4
    by_cases e : lo < hi
    · exact hs f lo hi ((lo + hi) / 2) (by omega) (by omega) h3 rfl (fun z => ih _ _ (by omega) h2 h3 (by omega)) (fun z => ih _ _ h1 z (by omega) (by omega))
    · have e1 : lo = r := by omega
      have e2 : hi = r := by omega
      rw [e1, e2]
      exact hx f
/-! numbers -/
theorem qs_b8 : ∀ m, m < 128 → (nI m).toInt8.toInt32 = nI m := by decide +kernel
theorem qs_s16 : ∀ m, m < 256 → (nI m).toInt16.toInt32 = nI m := by decide +kernel
theorem qs_vb {m : Nat} (h : m < 128) : vp_nar .byte (nI m) = nI m := by rw [vp_nar_byte, qs_b8 m h]
theorem qs_vs {m : Nat} (h : m < 256) : vp_nar .short (nI m) = nI m := by rw [vp_nar_short, qs_s16 m h]
theorem qs_sh5 {i : Nat} (h : i < 2 ^ 31) : nI i >>> ((5 : Int32) &&& 31) = nI (i / 32) := pk_shrN h _ 5 (by decide)
theorem qs_sh3 {i : Nat} (h : i < 2 ^ 31) : nI i >>> ((3 : Int32) &&& 31) = nI (i / 8) := pk_shrN h _ 3 (by decide)
theorem qs_and31 {i : Nat} (h : i < 2 ^ 31) : nI i &&& 31 = nI (i % 32) := pk_andN (by omega) 5 (by decide)
theorem qs_and7 {i : Nat} (h : i < 2 ^ 31) : nI i &&& 7 = nI (i % 8) := pk_andN (by omega) 3 (by decide)
theorem qs_and24 : ∀ i, i < 224 → nI i &&& 24 = nI (8 * (i / 8 % 4)) := by decide +kernel
theorem qs_su : ∀ n, n < 32 → (((nI n).toUInt32 &&& Int32.toUInt32 31).toBitVec % 32).toNat = n := by decide +kernel
theorem qs_sl : ∀ n, n < 32 → ((nI n &&& 31).toBitVec.smod 32).toNat = n := by decide +kernel
theorem qs_one : ∀ k, k < 32 → ((1 : Int32) <<< (nI k &&& 31)).toBitVec.toNat = 2 ^ k := by decide +kernel
theorem qs_mask : ∀ k, k < 32 → (((1 : Int32) <<< (nI k &&& 31)) - 1).toBitVec.toNat = 2 ^ k - 1 := by decide +kernel
theorem qs_oneN {k : Nat} (h : k < 31) : (1 : Int32) <<< (nI k &&& 31) = nI (2 ^ k) := by
  have h2 : 2 ^ k < 2 ^ 31 := Nat.pow_lt_pow_right (by decide) h
  have := pk_shlN (n := 1) (nI k &&& 31) k (qs_sl k (by omega)) (by omega)
  rw [Nat.one_mul] at this
  exact this
theorem qs_idx (r k q : Nat) : nI r * nI k + nI q = nI (r * k + q) := by rw [pk_mul, nI_add]
/-! bits -/
def qs_bt (x : Int32) (i : Nat) : Bool := x.toBitVec.toNat.testBit i
theorem qs_bt_or (x y : Int32) (i : Nat) : qs_bt (x ||| y) i = (qs_bt x i || qs_bt y i) := by
  unfold qs_bt
  rw [Int32.toBitVec_or, BitVec.toNat_or, Nat.testBit_or]
theorem qs_bt_0 (i : Nat) : qs_bt 0 i = false := by
  show (0 : Nat).testBit i = false
  exact Nat.zero_testBit i
theorem qs_bt_one {k : Nat} (h : k < 32) (i : Nat) : qs_bt ((1 : Int32) <<< (nI k &&& 31)) i = decide (k = i) := by
  unfold qs_bt
  rw [qs_one k h, Nat.testBit_two_pow]
/-- a word, shifted down and masked -/
theorem qs_shm (x m : Int32) (t k : Nat) (ht : t < 32) (hm : m.toBitVec.toNat = 2 ^ k - 1) :
    (x.toUInt32 >>> ((nI t).toUInt32 &&& Int32.toUInt32 31)).toInt32 &&& m = nI (x.toBitVec.toNat / 2 ^ t % 2 ^ k) := by
  rw [pk_and _ k hm, pk_ushr x (nI t) t (qs_su t ht)]
theorem qs_bit1 (x : Int32) (t : Nat) (ht : t < 32) : ((x.toUInt32 >>> ((nI t).toUInt32 &&& Int32.toUInt32 31)).toInt32 &&& 1) = 0 ↔ qs_bt x t = false := by
  rw [qs_shm x 1 t 1 ht (by decide), ← nI_0, nI_eq (by omega) (by omega)]
  unfold qs_bt
  rw [Nat.testBit_eq_decide_div_mod_eq, decide_eq_false_iff_not]
  omega
/-- the ones among the eight low bits -/
def qs_pc (m : Nat) : Nat := qs_ct (fun i => m.testBit i) 8
theorem qs_pc_part (x t k : Nat) (hk : k ≤ 8) : qs_pc (x / 2 ^ t % 2 ^ k) = qs_ct (fun j => x.testBit (t + j)) k := by
  unfold qs_pc
  have e : ∀ j, (x / 2 ^ t % 2 ^ k).testBit j = (decide (j < k) && x.testBit (t + j)) := by
    intro j
    rw [Nat.testBit_mod_two_pow, Nat.testBit_div_two_pow, Nat.add_comm]
  rw [qs_ct_same (a := k) hk (fun i h1 h2 => by rw [e, decide_eq_false (by omega), Bool.false_and])]
  exact qs_ct_congr (fun j hj => by rw [e, decide_eq_true hj, Bool.true_and])
theorem qs_on_step : ∀ m, m < 256 → m ≠ 0 → nI m &&& (nI m - 1) = nI (m &&& (m - 1)) ∧ (m &&& (m - 1)) < m ∧ qs_pc m = qs_pc (m &&& (m - 1)) + 1 := by decide +kernel
theorem qs_on_loop {post : Int32 → Prop} : ∀ (f m x : Nat), m < 256 → m < f → post (nI (x + qs_pc m)) → wX_onesIn_4 post f (nI x) (nI m) := by
  intro f
  induction f with
  | zero => intro m x _ h; exact absurd h (Nat.not_lt_zero m)
  | succ f ih =>
    intro m x hm hf hp
    refine pk_eq m 0 (fun e => ?_) (fun e => ?_)
    · rw [e] at hp
      exact hp
    · obtain ⟨h1, h2, h3⟩ := qs_on_step m hm e
      refine nm_r (nI_1 x) (nm_r h1 (ih _ _ (by omega) (by omega) ?_))
      rw [show x + 1 + qs_pc (m &&& (m - 1)) = x + qs_pc m by omega]
      exact hp
theorem qs_onesIn {post : Int32 → Prop} {u : St2} {y : Int32} (m : Nat) (hm : m < 256) (hy : y = nI m) (H : post (nI (qs_pc m))) : wpX_onesIn post u y := by
  rw [hy]
  refine ⟨m + 1, qs_on_loop (m + 1) m 0 hm (by omega) ?_⟩
  rw [Nat.zero_add]
  exact H
/-- the bits of an array of words, in a row -/
def qs_gb (a : Nat → Int32) (q : Nat) : Bool := qs_bt (a (q / 32)) (q % 32)
theorem qs_gb_set {a : Nat → Int32} {k i : Nat} (hk : i < 32) {q : Nat} : qs_gb (upd a k (a k ||| ((1 : Int32) <<< (nI i &&& 31)))) q = (qs_gb a q || decide (q = k * 32 + i)) := by
  unfold qs_gb
  by_cases e : q / 32 = k
  · rw [e, pk_us, qs_bt_or, qs_bt_one hk]
    congr 1
    exact decide_eq_decide.mpr ⟨fun h => by omega, fun h => by omega⟩
  · rw [pk_un e, decide_eq_false (by omega), Bool.or_false]
theorem qs_gb_0 {a : Nat → Int32} {k q : Nat} : qs_gb (upd a k 0) q = (if q / 32 = k then false else qs_gb a q) := by
  unfold qs_gb
  by_cases e : q / 32 = k
  · rw [if_pos e, e, pk_us, qs_bt_0]
  · rw [if_neg e, pk_un e]
end
section
section
variable {nn ip rc nd cs : Int32} {a1 a2 a3 a4 a5 a6 a7 a8 a9 a10 a11 a12 a13 a14 a15 a16 a17 a18 a19 a20 a21 a22 a23 a24 a25 a26 a27 : Nat → Int32}
/-! rows of bits -/
/-- row r of 224 bits -/
def qs_gr (a : Nat → Int32) (r i : Nat) : Bool := qs_gb a (r * 224 + i)
theorem qs_gr_eq (a : Nat → Int32) (r i : Nat) : qs_gr a r i = qs_bt (a (r * 7 + i / 32)) (i % 32) := by
  unfold qs_gr qs_gb
  rw [show (r * 224 + i) / 32 = r * 7 + i / 32 by omega, show (r * 224 + i) % 32 = i % 32 by omega]
theorem qs_ix7 {r i : Nat} (hi : i < 2 ^ 31) : nI r * 7 + (nI i >>> ((5 : Int32) &&& 31)) = nI (r * 7 + i / 32) := by
  rw [qs_sh5 hi]
  exact qs_idx r 7 (i / 32)
theorem qs_ix8 {r i : Nat} (hi : i < 2 ^ 31) : nI r * 8 + (nI i >>> ((5 : Int32) &&& 31)) = nI (r * 8 + i / 32) := by
  rw [qs_sh5 hi]
  exact qs_idx r 8 (i / 32)
theorem qs_ix28 {r i : Nat} (hi : i < 2 ^ 31) : nI r * 28 + (nI i >>> ((3 : Int32) &&& 31)) = nI (r * 28 + i / 8) := by
  rw [qs_sh3 hi]
  exact qs_idx r 28 (i / 8)
theorem qs_setBit {post : St1 → Prop} {p0 p1 : Int32} (r i : Nat) (hr : r < 21) (hi : i < 224) (h0 : p0 = nI r) (h1 : p1 = nI i)
    (H : ∀ b, (∀ q, qs_gb b q = (qs_gb a5 q || decide (q = r * 224 + i))) → post (nn, ip, rc, nd, cs, a1, a2, a3, a4, b, a6, a7, a8, a9, a10, a11, a12, a13, a14, a15, a16, a17, a18, a19, a20, a21, a22, a23, a24, a25, a26, a27)) : wpX_setBit post (nn, ip, rc, nd, cs, a1, a2, a3, a4, a5, a6, a7, a8, a9, a10, a11, a12, a13, a14, a15, a16, a17, a18, a19, a20, a21, a22, a23, a24, a25, a26, a27) p0 p1 := by
  subst h0
  subst h1
  unfold wpX_setBit
  try dsimp only
  rw [qs_ix7 (by omega), nI_clamp (by omega), qs_and31 (by omega)]
  refine ⟨vp_in_nI (by omega) (by decide), vp_in_nI (by omega) (by decide), nm_e (H _ (fun q => ?_))⟩
  rw [qs_gb_set (by omega)]
  congr 1
  exact decide_eq_decide.mpr ⟨fun h => by omega, fun h => by omega⟩
theorem qs_bitAt {post : Int32 → Prop} {p0 p1 : Int32} (r i : Nat) (hr : r < 21) (hi : i < 224) (h0 : p0 = nI r) (h1 : p1 = nI i)
    (H : post (nI (qs_gr a5 r i).toNat)) : wpX_bitAt post (nn, ip, rc, nd, cs, a1, a2, a3, a4, a5, a6, a7, a8, a9, a10, a11, a12, a13, a14, a15, a16, a17, a18, a19, a20, a21, a22, a23, a24, a25, a26, a27) p0 p1 := by
  subst h0
  subst h1
  unfold wpX_bitAt
  try dsimp only
  rw [qs_ix7 (by omega), nI_clamp (by omega), qs_and31 (by omega)]
  refine ⟨vp_in_nI (by omega) (by decide), ?_⟩
  rw [qs_gr_eq] at H
  refine ek_if (qs_bit1 _ (i % 32) (by omega)) (fun z => ?_) (fun z => ?_)
  · rw [z] at H
    exact H
  · rw [Bool.not_eq_false] at z
    rw [z] at H
    exact H
/-- the sums of row r -/
def qs_sumr (a5 a6 a7 : Nat → Int32) (r : Nat) : Prop :=
  (∀ k, k < 8 → a6 (r * 8 + k) = nI (qs_ct (qs_gr a5 r) (32 * k))) ∧ (∀ k, k < 28 → a7 (r * 28 + k) = nI (qs_ct (fun j => qs_gr a5 r (32 * (k / 4) + j)) (8 * (k % 4))))
theorem qs_onesBefore {post : Int32 → Prop} {p0 p1 : Int32} (r i : Nat) (hs : qs_sumr a5 a6 a7 r) (hr : r < 21) (hi : i < 224) (h0 : p0 = nI r) (h1 : p1 = nI i)
    (H : post (nI (qs_ct (qs_gr a5 r) i))) : wpX_onesBefore post (nn, ip, rc, nd, cs, a1, a2, a3, a4, a5, a6, a7, a8, a9, a10, a11, a12, a13, a14, a15, a16, a17, a18, a19, a20, a21, a22, a23, a24, a25, a26, a27) p0 p1 := by
  subst h0
  subst h1
  have key : ∀ m z, m < 256 → z = nI m → qs_pc m = qs_ct (fun j => qs_gr a5 r (32 * (i / 32) + (8 * (i / 8 % 4) + j))) (i % 8) → wX_onesBefore_37 post (nI r) (nI i) z nn ip rc nd cs a1 a2 a3 a4 a5 a6 a7 a8 a9 a10 a11 a12 a13 a14 a15 a16 a17 a18 a19 a20 a21 a22 a23 a24 a25 a26 a27 := by
    intro m z hm hz hc
    unfold wX_onesBefore_37
    rw [qs_ix8 (by omega), qs_ix28 (by omega), nI_clamp (by omega), nI_clamp (by omega)]
    refine ⟨vp_in_nI (by omega) (by decide), vp_in_nI (by omega) (by decide), qs_onesIn m hm hz ?_⟩
    rw [hs.1 (i / 32) (by omega), hs.2 (i / 8) (by omega), nI_add, nI_add, hc]
    have e : qs_ct (qs_gr a5 r) i = qs_ct (qs_gr a5 r) (32 * (i / 32)) + qs_ct (fun j => qs_gr a5 r (32 * (i / 8 / 4) + j)) (8 * (i / 8 % 4)) + qs_ct (fun j => qs_gr a5 r (32 * (i / 32) + (8 * (i / 8 % 4) + j))) (i % 8) := by
      have e1 := qs_ct_add (qs_gr a5 r) (32 * (i / 32)) (8 * (i / 8 % 4) + i % 8)
      rw [qs_ct_add (fun j => qs_gr a5 r (32 * (i / 32) + j)) (8 * (i / 8 % 4)) (i % 8), show 32 * (i / 32) + (8 * (i / 8 % 4) + i % 8) = i by omega] at e1
      rw [e1, show i / 8 / 4 = i / 32 by omega]
      omega
    rw [e] at H
    exact H
  unfold wpX_onesBefore
  try dsimp only
  rw [qs_and7 (by omega), qs_ix7 (by omega), nI_clamp (by omega), qs_and24 i hi]
  refine nm_e (pk_eq (i % 8) 0 (fun e => ?_) (fun e => ⟨vp_in_nI (by omega) (by decide), ?_⟩))
  · refine key 0 0 (by omega) rfl ?_
    rw [e]
    exact (by decide : qs_pc 0 = 0)
  · refine key _ _ ?_ (qs_shm _ _ (8 * (i / 8 % 4)) (i % 8) (by omega) (qs_mask (i % 8) (by omega))) ?_
    · have h2 : 2 ^ (i % 8) ≤ 2 ^ 8 := Nat.pow_le_pow_right (by decide) (by omega)
      exact Nat.lt_of_lt_of_le (Nat.mod_lt _ (Nat.pow_pos (by decide))) h2
    · rw [qs_pc_part _ _ _ (by omega)]
      refine qs_ct_congr (fun j hj => ?_)
      rw [qs_gr_eq, show r * 7 + (32 * (i / 32) + (8 * (i / 8 % 4) + j)) / 32 = r * 7 + i / 32 by omega, show (32 * (i / 32) + (8 * (i / 8 % 4) + j)) % 32 = 8 * (i / 8 % 4) + j by omega]
      rfl
theorem qs_ct_not (P : Nat → Bool) (n : Nat) : qs_ct P n + qs_ct (fun j => !P j) n = n := by
  induction n with
  | zero => rfl
  | succ n ih =>
    show qs_ct P n + (P n).toNat + (qs_ct (fun j => !P j) n + (!P n).toNat) = n + 1
    cases P n <;> simp <;> omega
/-- the bits of row r that are b -/
def qs_gz (a : Nat → Int32) (r : Nat) (b : Bool) (j : Nat) : Bool := qs_gr a r j == b
theorem qs_gz_t (a : Nat → Int32) (r n : Nat) : qs_ct (qs_gz a r true) n = qs_ct (qs_gr a r) n :=
  qs_ct_congr (fun j _ => by unfold qs_gz; cases qs_gr a r j <;> rfl)
theorem qs_gz_f (a : Nat → Int32) (r n : Nat) : qs_ct (qs_gz a r false) n = n - qs_ct (qs_gr a r) n := by
  have h := qs_ct_not (qs_gr a r) n
  have h2 : qs_ct (qs_gz a r false) n = qs_ct (fun j => !qs_gr a r j) n := qs_ct_congr (fun j _ => by unfold qs_gz; cases qs_gr a r j <;> rfl)
  omega
theorem qs_zerosBefore {post : Int32 → Prop} {p0 p1 : Int32} (r i : Nat) (hs : qs_sumr a5 a6 a7 r) (hr : r < 21) (hi : i < 224) (h0 : p0 = nI r) (h1 : p1 = nI i)
    (H : post (nI (i - qs_ct (qs_gr a5 r) i))) : wpX_zerosBefore post (nn, ip, rc, nd, cs, a1, a2, a3, a4, a5, a6, a7, a8, a9, a10, a11, a12, a13, a14, a15, a16, a17, a18, a19, a20, a21, a22, a23, a24, a25, a26, a27) p0 p1 := by
  unfold wpX_zerosBefore
  refine qs_onesBefore r i hs hr hi h0 h1 ?_
  rw [h1, pk_sub (qs_ct_le _ _)]
  exact H
theorem qs_half {lo hi m : Nat} (h : hi ≤ 400) (hl : lo ≤ 400) (hm : m = (lo + hi) / 2) : (nI lo + nI hi) / 2 = nI m := by
  rw [nI_add, hm]
  exact pk_div (by omega) (by decide) (by decide)
theorem qs_placeOfBit {post : Int32 → Prop} {p0 p1 p2 : Int32} (n r k p : Nat) (b : Bool) (hs : qs_sumr a5 a6 a7 r) (hr : r < 21) (hn : n ≤ 200) (hnn : nn = nI n)
    (h0 : p0 = nI r) (h1 : p1 = nI b.toNat) (h2 : p2 = nI k) (hp : p < n) (hb : qs_gr a5 r p = b) (hk : qs_ct (qs_gz a5 r b) p = k) (H : post (nI p)) : wpX_placeOfBit post (nn, ip, rc, nd, cs, a1, a2, a3, a4, a5, a6, a7, a8, a9, a10, a11, a12, a13, a14, a15, a16, a17, a18, a19, a20, a21, a22, a23, a24, a25, a26, a27) p0 p1 p2 := by
  subst h0
  subst h1
  subst h2
  subst hnn
  have hpb : qs_gz a5 r b p = true := by
    unfold qs_gz
    rw [hb]
    cases b <;> rfl
  have hk2 : k ≤ 200 := by
    have := qs_ct_le (qs_gz a5 r b) p
    omega
  refine ⟨n + 1, qs_bs (fun f lo hi => wX_placeOfBit_9 post (nI r) (nI b.toNat) (nI k) (nI n) ip rc nd cs a1 a2 a3 a4 a5 a6 a7 a8 a9 a10 a11 a12 a13 a14 a15 a16 a17 a18 a19 a20 a21 a22 a23 a24 a25 a26 a27 f lo hi) p n ?_ ?_ (n + 1) 0 n (by omega) (by omega) (by omega) (by omega)⟩
  · intro f
    exact pk_le p p (fun _ => H) (fun z => absurd z (by omega))
  · intro f lo hi m g1 g2 g3 hm hA hB
    refine pk_le hi lo (fun z => absurd z (by omega)) (fun _ => ⟨by decide, nm_r (qs_half (by omega) (by omega) hm) ?_⟩)
    have cont : ∀ z, z = nI (qs_ct (qs_gz a5 r b) (m + 1)) → wX_placeOfBit_50 post (wX_placeOfBit_9 post (nI r) (nI b.toNat) (nI k) (nI n) ip rc nd cs a1 a2 a3 a4 a5 a6 a7 a8 a9 a10 a11 a12 a13 a14 a15 a16 a17 a18 a19 a20 a21 a22 a23 a24 a25 a26 a27 f) (nI r) (nI b.toNat) (nI k) (nI lo) (nI hi) (nI m) z (nI n) ip rc nd cs a1 a2 a3 a4 a5 a6 a7 a8 a9 a10 a11 a12 a13 a14 a15 a16 a17 a18 a19 a20 a21 a22 a23 a24 a25 a26 a27 := by
      intro z hz
      have hle := qs_ct_le (qs_gz a5 r b) (m + 1)
      refine pk_lt k (qs_ct (qs_gz a5 r b) (m + 1)) (fun c => ?_) (fun c => ?_) rfl hz (by omega) (by omega)
      · have hm2 : p ≤ m := by
          rcases Nat.lt_or_ge m p with g | g
          · have := qs_ct_mono (qs_gz a5 r b) (show m + 1 ≤ p by omega)
            omega
          · exact g
        exact br_t rfl (br_t rfl (hB hm2))
      · have hm2 : m < p := by
          rcases Nat.lt_or_ge m p with g | g
          · exact g
          · have := qs_ct_lt hpb (show p < m + 1 by omega)
            omega
        have t := hA hm2
        rw [← nI_1] at t
        exact br_f (by decide) (br_f (by decide) t)
    have e := nI_1 m
    cases b with
    | false =>
      refine br_t rfl (qs_zerosBefore r (m + 1) hs hr (by omega) rfl e (cont _ ?_))
      rw [qs_gz_f]
    | true =>
      refine br_f (by decide) (qs_onesBefore r (m + 1) hs hr (by omega) rfl e (cont _ ?_))
      rw [qs_gz_t]
/-! the sums are made -/
theorem qs_sum29 {post : St1 → Prop} {J : Int32 → Int32 → (Nat → Int32) → (Nat → Int32) → (Nat → Int32) → (Nat → Int32) → (Nat → Int32) → (Nat → Int32) → (Nat → Int32) → (Nat → Int32) → (Nat → Int32) → (Nat → Int32) → (Nat → Int32) → (Nat → Int32) → (Nat → Int32) → (Nat → Int32) → (Nat → Int32) → (Nat → Int32) → (Nat → Int32) → (Nat → Int32) → (Nat → Int32) → (Nat → Int32) → (Nat → Int32) → (Nat → Int32) → (Nat → Int32) → (Nat → Int32) → (Nat → Int32) → (Nat → Int32) → (Nat → Int32) → Prop} {r k S : Nat} (hr : r < 21) (hk : k < 7)
    (h7 : ∀ j, j < 4 * k → a7 (r * 28 + j) = nI (qs_ct (fun t => qs_gr a5 r (32 * (j / 4) + t)) (8 * (j % 4))))
    (H : ∀ b7, (∀ j, j < 4 * (k + 1) → b7 (r * 28 + j) = nI (qs_ct (fun t => qs_gr a5 r (32 * (j / 4) + t)) (8 * (j % 4)))) → (∀ j, j / 28 ≠ r → b7 j = a7 j) →
      J (nI (S + qs_ct (fun t => qs_gr a5 r (32 * k + t)) 32)) (nI (k + 1)) a1 a2 a3 a4 a5 a6 b7 a8 a9 a10 a11 a12 a13 a14 a15 a16 a17 a18 a19 a20 a21 a22 a23 a24 a25 a26 a27) :
    ∃ f, wX_sumRow_29 post J (nI r) (nI S) (nI k) nn ip rc nd cs f 0 0 a1 a2 a3 a4 a5 a6 a7 a8 a9 a10 a11 a12 a13 a14 a15 a16 a17 a18 a19 a20 a21 a22 a23 a24 a25 a26 a27 := by
  have e28 : ∀ b, nI r * 28 + 4 * nI k + nI b = nI (r * 28 + 4 * k + b) := by
    intro b
    show nI r * nI 28 + nI 4 * nI k + nI b = _
    rw [pk_mul, pk_mul, nI_add, nI_add]
  have e7 : nI r * 7 + nI k = nI (r * 7 + k) := qs_idx r 7 k
  have e8 : ∀ b, 8 * nI b = nI (8 * b) := fun b => pk_mul 8 b
  refine loop_0 (fun n b s => wX_sumRow_29 post J (nI r) (nI S) (nI k) nn ip rc nd cs n (nI (qs_ct (fun t => qs_gr a5 r (32 * k + t)) (8 * b))) (nI b) a1 a2 a3 a4 a5 a6 s a8 a9 a10 a11 a12 a13 a14 a15 a16 a17 a18 a19 a20 a21 a22 a23 a24 a25 a26 a27)
    (fun b s => (∀ j, j < 4 * k + b → s (r * 28 + j) = nI (qs_ct (fun t => qs_gr a5 r (32 * (j / 4) + t)) (8 * (j % 4)))) ∧ (∀ j, j / 28 ≠ r → s j = a7 j)) 4 a7 ⟨h7, fun _ _ => rfl⟩ ?_ ?_
  · intro n s hI
    refine pk_le 4 4 (fun _ => nm_r (nI_add _ _) (nm_r (nI_1 k) (H s ?_ hI.2))) (fun z => absurd z (by omega))
    intro j hj
    exact hI.1 j (by omega)
  · intro n b s hb hI hw
    refine pk_le 4 b (fun z => absurd z (by omega)) (fun _ => ?_)
    rw [e28, e7, e8, nI_clamp (by omega), nI_clamp (by omega)]
    refine ⟨vp_in_nI (by omega) (by decide), nm_e ⟨vp_in_nI (by omega) (by decide), qs_onesIn _ ?_ (qs_shm _ 255 (8 * b) 8 (by omega) (by decide)) (nm_r ?_ (nm_r (nI_1 b) (hw _ ⟨?_, ?_⟩)))⟩⟩
    · exact Nat.mod_lt _ (by decide)
    · rw [nI_add, show 8 * (b + 1) = 8 * b + 8 by omega, qs_ct_add, qs_pc_part _ _ _ (by omega)]
      congr 2
      refine qs_ct_congr (fun j hj => ?_)
      show _ = qs_gr a5 r (32 * k + (8 * b + j))
      rw [qs_gr_eq, show r * 7 + (32 * k + (8 * b + j)) / 32 = r * 7 + k by omega, show (32 * k + (8 * b + j)) % 32 = 8 * b + j by omega]
      rfl
    · intro j hj
      by_cases e : j = 4 * k + b
      · rw [e, ← Nat.add_assoc, pk_us, qs_b8 _ ?_, show (4 * k + b) / 4 = k by omega, show (4 * k + b) % 4 = b by omega]
        have := qs_ct_le (fun t => qs_gr a5 r (32 * k + t)) (8 * b)
        omega
      · rw [pk_un (by omega)]
        exact hI.1 j (by omega)
    · intro j hj
      rw [pk_un (by omega)]
      exact hI.2 j hj
theorem qs_sumRow {post : St1 → Prop} {p0 : Int32} (r : Nat) (hr : r < 21) (h0 : p0 = nI r)
    (H : ∀ b6 b7, qs_sumr a5 b6 b7 r → (∀ j, j / 8 ≠ r → b6 j = a6 j) → (∀ j, j / 28 ≠ r → b7 j = a7 j) → post (nn, ip, rc, nd, cs, a1, a2, a3, a4, a5, b6, b7, a8, a9, a10, a11, a12, a13, a14, a15, a16, a17, a18, a19, a20, a21, a22, a23, a24, a25, a26, a27)) : wpX_sumRow post (nn, ip, rc, nd, cs, a1, a2, a3, a4, a5, a6, a7, a8, a9, a10, a11, a12, a13, a14, a15, a16, a17, a18, a19, a20, a21, a22, a23, a24, a25, a26, a27) p0 := by
  subst h0
  have e8 : ∀ k, nI r * 8 + nI k = nI (r * 8 + k) := fun k => qs_idx r 8 k
  have e87 : nI r * 8 + 7 = nI (r * 8 + 7) := qs_idx r 8 7
  show ∃ f, wX_sumRow_4 post (nI r) nn ip rc nd cs f 0 0 a1 a2 a3 a4 a5 a6 a7 a8 a9 a10 a11 a12 a13 a14 a15 a16 a17 a18 a19 a20 a21 a22 a23 a24 a25 a26 a27
  refine loop_0 (fun n k (s : (Nat → Int32) × (Nat → Int32)) => wX_sumRow_4 post (nI r) nn ip rc nd cs n (nI (qs_ct (qs_gr a5 r) (32 * k))) (nI k) a1 a2 a3 a4 a5 s.1 s.2 a8 a9 a10 a11 a12 a13 a14 a15 a16 a17 a18 a19 a20 a21 a22 a23 a24 a25 a26 a27)
    (fun k s => (∀ j, j < k → s.1 (r * 8 + j) = nI (qs_ct (qs_gr a5 r) (32 * j))) ∧ (∀ j, j < 4 * k → s.2 (r * 28 + j) = nI (qs_ct (fun t => qs_gr a5 r (32 * (j / 4) + t)) (8 * (j % 4))))
      ∧ (∀ j, j / 8 ≠ r → s.1 j = a6 j) ∧ (∀ j, j / 28 ≠ r → s.2 j = a7 j)) 7 (a6, a7) ⟨fun j hj => absurd hj (by omega), fun j hj => absurd hj (by omega), fun _ _ => rfl, fun _ _ => rfl⟩ ?_ ?_
  · intro n s hI
    obtain ⟨i1, i2, i3, i4⟩ := hI
    have hle := qs_ct_le (qs_gr a5 r) (32 * 7)
    refine pk_le 7 7 (fun _ => ?_) (fun z => absurd z (by omega))
    rw [e87, nI_clamp (by omega)]
    refine ⟨vp_in_nI (by omega) (by decide), nm_e (H _ _ ⟨?_, ?_⟩ ?_ i4)⟩
    · intro k hk
      by_cases e : k = 7
      · rw [e, pk_us, qs_s16 _ (by omega)]
      · rw [pk_un (by omega)]
        exact i1 k (by omega)
    · intro k hk
      exact i2 k (by omega)
    · intro j hj
      rw [pk_un (by omega)]
      exact i3 j hj
  · intro n k s hk hI hw
    obtain ⟨i1, i2, i3, i4⟩ := hI
    have hle := qs_ct_le (qs_gr a5 r) (32 * k)
    refine pk_le 7 k (fun z => absurd z (by omega)) (fun _ => ?_)
    rw [e8, nI_clamp (by omega)]
    refine ⟨vp_in_nI (by omega) (by decide), nm_e (qs_sum29 hr hk i2 (fun b7 g1 g2 => ?_))⟩
    have t := hw (upd s.1 (r * 8 + k) (nI (qs_ct (qs_gr a5 r) (32 * k))).toInt16.toInt32, b7) ⟨?_, g1, ?_, ?_⟩
    · rw [show 32 * (k + 1) = 32 * k + 32 by omega, qs_ct_add] at t
      exact t
    · intro j hj
      show upd s.1 (r * 8 + k) _ (r * 8 + j) = _
      by_cases e : j = k
      · rw [e, pk_us, qs_s16 _ (by omega)]
      · rw [pk_un (by omega)]
        exact i1 j (by omega)
    · intro j hj
      show upd s.1 (r * 8 + k) _ j = _
      rw [pk_un (by omega)]
      exact i3 j hj
    · intro j hj
      exact (g2 j hj).trans (i4 j hj)
end
end
section
section
variable {nn ip rc nd cs : Int32} {a1 a2 a3 a4 a5 a6 a7 a8 a9 a10 a11 a12 a13 a14 a15 a16 a17 a18 a19 a20 a21 a22 a23 a24 a25 a26 a27 : Nat → Int32}
/-! the list of letters -/
/-- the array a1 holds the n letters w; behind them w is 8 -/
def qs_L (n : Nat) (w : Nat → Nat) (a1 : Nat → Int32) : Prop := n ≤ 200 ∧ (∀ i, i < n → w i < 8 ∧ a1 i = nI (w i)) ∧ (∀ i, n ≤ i → w i = 8)
theorem qs_dcg {P Q : Nat → Prop} [DecidablePred P] [DecidablePred Q] {n : Nat} (h : ∀ j, j < n → (P j ↔ Q j)) : qs_ct (fun j => decide (P j)) n = qs_ct (fun j => decide (Q j)) n :=
  qs_ct_congr (fun j hj => decide_eq_decide.mpr (h j hj))
theorem qs_dsum {P Q S : Nat → Prop} [DecidablePred P] [DecidablePred Q] [DecidablePred S] {n : Nat} (h : ∀ j, j < n → (P j ↔ (Q j ∨ S j))) (hd : ∀ j, j < n → Q j → ¬ S j) :
    qs_ct (fun j => decide (P j)) n = qs_ct (fun j => decide (Q j)) n + qs_ct (fun j => decide (S j)) n := by
  refine qs_ct_sum (fun j hj => ?_)
  have h1 := h j hj
  have h2 := hd j hj
  by_cases hq : Q j
  · rw [decide_eq_true hq, decide_eq_false (h2 hq), decide_eq_true (h1.mpr (Or.inl hq))]
    rfl
  · by_cases hs : S j
    · rw [decide_eq_false hq, decide_eq_true hs, decide_eq_true (h1.mpr (Or.inr hs))]
      rfl
    · rw [decide_eq_false hq, decide_eq_false hs, decide_eq_false (fun z => (h1.mp z).elim hq hs)]
      rfl
/-- how many of the first i letters are c -/
def qs_rk (w : Nat → Nat) (c i : Nat) : Nat := qs_ct (fun j => decide (w j = c)) i
/-- the first l digits of a letter, and its digit l -/
def qs_pre (l c : Nat) : Nat := c / 2 ^ (3 - l)
def qs_dg (l c : Nat) : Nat := c / 2 ^ (2 - l) % 2
theorem qs_preE : ∀ l, l < 3 → ∀ c, c < 8 → nI c >>> ((3 - nI l) &&& 31) = nI (qs_pre l c) := by decide +kernel
theorem qs_dgE : ∀ l, l < 3 → ∀ c, c < 8 → (nI c >>> ((2 - nI l) &&& 31)) &&& 1 = nI (qs_dg l c) := by decide +kernel
theorem qs_preS {l : Nat} (h : l < 3) (c : Nat) : qs_pre (l + 1) c = 2 * qs_pre l c + qs_dg l c := by
  unfold qs_pre qs_dg
  rcases (show l = 0 ∨ l = 1 ∨ l = 2 by omega) with rfl | rfl | rfl
  · show c / 4 = 2 * (c / 8) + c / 4 % 2
    omega
  · show c / 2 = 2 * (c / 4) + c / 2 % 2
    omega
  · show c / 1 = 2 * (c / 2) + c / 1 % 2
    omega
theorem qs_dg2 (l c : Nat) : qs_dg l c < 2 := Nat.mod_lt _ (by decide)
theorem qs_pre0 {c : Nat} (h : c < 8) : qs_pre 0 c = 0 := Nat.div_eq_of_lt h
theorem qs_pre3 (c : Nat) : qs_pre 3 c = c := Nat.div_one c
theorem qs_preL : ∀ l, l < 4 → ∀ c, c < 8 → qs_pre l c < 2 ^ l := by decide +kernel
theorem qs_digitOf {post : Int32 → Prop} {u : St2} {p0 p1 : Int32} (l c : Nat) (hl : l < 3) (hc : c < 8) (h0 : p0 = nI c) (h1 : p1 = nI l) (H : post (nI (qs_dg l c))) : wpX_digitOf post u p0 p1 := by
  unfold wpX_digitOf
  rw [h0, h1, qs_dgE l hl c hc]
  exact H
/-! the tree's rows: pure -/
section
variable (n : Nat) (w : Nat → Nat) (l : Nat)
/-- where the letter at i stands among those sorted by l digits, if its digits are p -/
def qs_A (p i : Nat) : Nat := qs_ct (fun j => decide (qs_pre l (w j) < p)) n + qs_ct (fun j => decide (qs_pre l (w j) = p)) i
def qs_O (p i : Nat) : Nat := qs_ct (fun j => decide (qs_pre l (w j) < p ∧ qs_dg l (w j) = 1)) n + qs_ct (fun j => decide (qs_pre l (w j) = p ∧ qs_dg l (w j) = 1)) i
def qs_Z (p i : Nat) : Nat := qs_ct (fun j => decide (qs_pre l (w j) < p ∧ qs_dg l (w j) = 0)) n + qs_ct (fun j => decide (qs_pre l (w j) = p ∧ qs_dg l (w j) = 0)) i
theorem qs_A_OZ (p i : Nat) : qs_A n w l p i = qs_O n w l p i + qs_Z n w l p i := by
  unfold qs_A qs_O qs_Z
  rw [qs_dsum (P := fun j => qs_pre l (w j) < p) (Q := fun j => qs_pre l (w j) < p ∧ qs_dg l (w j) = 1) (S := fun j => qs_pre l (w j) < p ∧ qs_dg l (w j) = 0) (fun j _ => by have := qs_dg2 l (w j); omega) (fun j _ => by omega),
    qs_dsum (P := fun j => qs_pre l (w j) = p) (Q := fun j => qs_pre l (w j) = p ∧ qs_dg l (w j) = 1) (S := fun j => qs_pre l (w j) = p ∧ qs_dg l (w j) = 0) (fun j _ => by have := qs_dg2 l (w j); omega) (fun j _ => by omega)]
  omega
theorem qs_A_n (p : Nat) : qs_A n w l p n = qs_A n w l (p + 1) 0 := by
  unfold qs_A
  rw [← qs_dsum (P := fun j => qs_pre l (w j) < p + 1) (Q := fun j => qs_pre l (w j) < p) (S := fun j => qs_pre l (w j) = p) (fun j _ => by omega) (fun j _ => by omega)]
  rfl
theorem qs_O_n (p : Nat) : qs_O n w l p n = qs_O n w l (p + 1) 0 := by
  unfold qs_O
  rw [← qs_dsum (P := fun j => qs_pre l (w j) < p + 1 ∧ qs_dg l (w j) = 1) (Q := fun j => qs_pre l (w j) < p ∧ qs_dg l (w j) = 1) (S := fun j => qs_pre l (w j) = p ∧ qs_dg l (w j) = 1) (fun j _ => by omega) (fun j _ => by omega)]
  rfl
theorem qs_A_le {p i : Nat} (h : i ≤ n) : qs_A n w l p i ≤ n := by
  have h1 := qs_A_n n w l p
  have h2 : qs_A n w l p i ≤ qs_A n w l p n := Nat.add_le_add_left (qs_ct_mono _ h) _
  have h3 : qs_A n w l (p + 1) 0 ≤ n := qs_ct_le (fun j => decide (qs_pre l (w j) < p + 1)) n
  omega
theorem qs_A_S {p i : Nat} (h : qs_pre l (w i) = p) : qs_A n w l p (i + 1) = qs_A n w l p i + 1 := by
  unfold qs_A
  rw [qs_ctT (n := i) (decide_eq_true h)]
  omega
theorem qs_A_N {p i : Nat} (h : qs_pre l (w i) ≠ p) : qs_A n w l p (i + 1) = qs_A n w l p i := by
  unfold qs_A
  rw [qs_ctF (n := i) (decide_eq_false h)]
theorem qs_O_S {p i : Nat} (h : qs_pre l (w i) = p) : qs_O n w l p (i + 1) = qs_O n w l p i + (decide (qs_dg l (w i) = 1)).toNat := by
  unfold qs_O
  rw [qs_ctS _ i, show decide (qs_pre l (w i) = p ∧ qs_dg l (w i) = 1) = decide (qs_dg l (w i) = 1) from decide_eq_decide.mpr ⟨fun z => z.2, fun z => ⟨h, z⟩⟩]
  omega
theorem qs_O_N {p i : Nat} (h : qs_pre l (w i) ≠ p) : qs_O n w l p (i + 1) = qs_O n w l p i := by
  unfold qs_O
  rw [qs_ctF (n := i) (decide_eq_false (fun z => h z.1))]
end
/-- the tree's rows hold what they shall -/
def qs_TF (n : Nat) (w : Nat → Nat) (R : Nat → Nat → Bool) : Prop :=
  ∀ l, l < 3 → ∀ p, p < 2 ^ l → ∀ i, i ≤ n → qs_ct (R l) (qs_A n w l p i) = qs_O n w l p i
theorem qs_TF_bit {n : Nat} {w : Nat → Nat} {R : Nat → Nat → Bool} (h : qs_TF n w R) {l i : Nat} (hl : l < 3) (hi : i < n) (hw : w i < 8) : R l (qs_A n w l (qs_pre l (w i)) i) = decide (qs_dg l (w i) = 1) := by
  have hp := qs_preL l (by omega) (w i) hw
  have h1 := h l hl _ hp i (by omega)
  have h2 := h l hl _ hp (i + 1) (by omega)
  rw [qs_A_S n w l rfl, qs_O_S n w l rfl, qs_ctS, h1] at h2
  cases hr : R l (qs_A n w l (qs_pre l (w i)) i) <;> cases hd : decide (qs_dg l (w i) = 1) <;> rw [hr, hd] at h2 <;> first | rfl | (exact absurd h2 (by simp))
/-- packTree at digits p, place i -/
def qs_ptI (n : Nat) (w : Nat → Nat) (l : Nat) (c0 : Nat → Int32) (p i : Nat) (b : Nat → Int32) : Prop :=
  (∀ q, qs_A n w l p i ≤ q → q < 224 → qs_gr b l q = false)
  ∧ (∀ p' i', (p' < p ∧ i' ≤ n ∨ p' = p ∧ i' ≤ i) → qs_A n w l p' i' ≤ qs_A n w l p i ∧ qs_ct (qs_gr b l) (qs_A n w l p' i') = qs_O n w l p' i')
  ∧ (∀ q, q / 224 ≠ l → qs_gb b q = qs_gb c0 q)
theorem qs_pt_step {n : Nat} {w : Nat → Nat} {l : Nat} {c0 b b' : Nat → Int32} {p i : Nat} (hn : n ≤ 200) (hi : i < n) (hp : qs_pre l (w i) = p) (h : qs_ptI n w l c0 p i b)
    (hb : ∀ q, qs_gb b' q = (qs_gb b q || (decide (q = l * 224 + qs_A n w l p i) && decide (qs_dg l (w i) = 1)))) : qs_ptI n w l c0 p (i + 1) b' := by
  obtain ⟨h1, h2, h3⟩ := h
  have hA := qs_A_S n w l hp
  have hle := qs_A_le n w l (p := p) (show i + 1 ≤ n by omega)
  have hO := qs_O_S n w l hp
  have hg : ∀ q, q ≠ qs_A n w l p i → qs_gr b' l q = qs_gr b l q := by
    intro q hq
    unfold qs_gr
    rw [hb, decide_eq_false (by omega), Bool.false_and, Bool.or_false]
  have hg2 : qs_gr b' l (qs_A n w l p i) = decide (qs_dg l (w i) = 1) := by
    have := h1 _ (Nat.le_refl _) (by omega)
    unfold qs_gr at this ⊢
    rw [hb, this, decide_eq_true rfl, Bool.true_and, Bool.false_or]
  have old : ∀ p' i', (p' < p ∧ i' ≤ n ∨ p' = p ∧ i' ≤ i) → qs_A n w l p' i' ≤ qs_A n w l p (i + 1) ∧ qs_ct (qs_gr b' l) (qs_A n w l p' i') = qs_O n w l p' i' := by
    intro p' i' hc
    obtain ⟨g1, g2⟩ := h2 p' i' hc
    refine ⟨by omega, ?_⟩
    rw [← g2]
    exact qs_ct_congr (fun j hj => hg j (by omega))
  refine ⟨fun q hq hq2 => ?_, fun p' i' hc => ?_, fun q hq => ?_⟩
  · rw [hg q (by omega)]
    exact h1 q (by omega) hq2
  · by_cases e : p' = p ∧ i' = i + 1
    · obtain ⟨rfl, rfl⟩ := e
      refine ⟨Nat.le_refl _, ?_⟩
      rw [hA, qs_ctS, hg2, hO, (old p' i (Or.inr ⟨rfl, Nat.le_refl _⟩)).2]
    · exact old p' i' (by omega)
  · rw [hb, decide_eq_false (by omega), Bool.false_and, Bool.or_false]
    exact h3 q hq
theorem qs_pt_skip {n : Nat} {w : Nat → Nat} {l : Nat} {c0 b : Nat → Int32} {p i : Nat} (hp : qs_pre l (w i) ≠ p) (h : qs_ptI n w l c0 p i b) : qs_ptI n w l c0 p (i + 1) b := by
  obtain ⟨h1, h2, h3⟩ := h
  have hA := qs_A_N n w l hp
  have hO := qs_O_N n w l hp
  refine ⟨fun q hq hq2 => h1 q (by omega) hq2, fun p' i' hc => ?_, h3⟩
  by_cases e : p' = p ∧ i' = i + 1
  · obtain ⟨rfl, rfl⟩ := e
    rw [hA, hO]
    exact h2 p' i (Or.inr ⟨rfl, Nat.le_refl _⟩)
  · rw [hA]
    exact h2 p' i' (by omega)
theorem qs_pt_next {n : Nat} {w : Nat → Nat} {l : Nat} {c0 b : Nat → Int32} {p : Nat} (h : qs_ptI n w l c0 p n b) : qs_ptI n w l c0 (p + 1) 0 b := by
  obtain ⟨h1, h2, h3⟩ := h
  refine ⟨fun q hq hq2 => h1 q (by rw [qs_A_n]; exact hq) hq2, fun p' i' hc => ?_, h3⟩
  rw [← qs_A_n]
  by_cases e : p' = p + 1
  · have e2 : i' = 0 := by omega
    rw [e, e2, ← qs_A_n, ← qs_O_n]
    exact h2 p n (Or.inr ⟨rfl, Nat.le_refl _⟩)
  · exact h2 p' i' (by omega)
theorem qs_pt_zero {n : Nat} {w : Nat → Nat} {l : Nat} {c0 : Nat → Int32} (h : ∀ q, q < 224 → qs_gr c0 l q = false) : qs_ptI n w l c0 0 0 c0 := by
  refine ⟨fun q _ hq => h q hq, fun p' i' hc => ?_, fun _ _ => rfl⟩
  have e1 : p' = 0 := by omega
  have e2 : i' = 0 := by omega
  rw [e1, e2]
  have z : qs_A n w l 0 0 = 0 := by
    show qs_ct (fun j => decide (qs_pre l (w j) < 0)) n + 0 = 0
    rw [qs_ct_zero (fun j _ => decide_eq_false (by omega))]
  have z2 : qs_O n w l 0 0 = 0 := by
    show qs_ct (fun j => decide (qs_pre l (w j) < 0 ∧ qs_dg l (w j) = 1)) n + 0 = 0
    rw [qs_ct_zero (fun j _ => decide_eq_false (by omega))]
  rw [z, z2]
  exact ⟨Nat.le_refl _, rfl⟩
/-! packTree -/
theorem qs_pt21 {post : St1 → Prop} {J2 : Int32 → Int32 → Int32 → Int32 → Int32 → Int32 → (Nat → Int32) → (Nat → Int32) → (Nat → Int32) → (Nat → Int32) → (Nat → Int32) → (Nat → Int32) → (Nat → Int32) → (Nat → Int32) → (Nat → Int32) → (Nat → Int32) → (Nat → Int32) → (Nat → Int32) → (Nat → Int32) → (Nat → Int32) → (Nat → Int32) → (Nat → Int32) → (Nat → Int32) → (Nat → Int32) → (Nat → Int32) → (Nat → Int32) → (Nat → Int32) → (Nat → Int32) → (Nat → Int32) → (Nat → Int32) → (Nat → Int32) → (Nat → Int32) → (Nat → Int32) → Prop} {J11 : Int32 → Int32 → Int32 → Int32 → Int32 → Int32 → Int32 → (Nat → Int32) → (Nat → Int32) → (Nat → Int32) → (Nat → Int32) → (Nat → Int32) → (Nat → Int32) → (Nat → Int32) → (Nat → Int32) → (Nat → Int32) → (Nat → Int32) → (Nat → Int32) → (Nat → Int32) → (Nat → Int32) → (Nat → Int32) → (Nat → Int32) → (Nat → Int32) → (Nat → Int32) → (Nat → Int32) → (Nat → Int32) → (Nat → Int32) → (Nat → Int32) → (Nat → Int32) → (Nat → Int32) → (Nat → Int32) → (Nat → Int32) → (Nat → Int32) → (Nat → Int32) → Prop} {n l p : Nat} {w : Nat → Nat} {c0 : Nat → Int32} (hL : qs_L n w a1) (hl : l < 3)
    (h0 : qs_ptI n w l c0 p 0 a5) (H : ∀ b, qs_ptI n w l c0 p n b → J11 (nI (qs_A n w l p n)) (nI (p + 1)) (nI n) ip rc nd cs a1 a2 a3 a4 b a6 a7 a8 a9 a10 a11 a12 a13 a14 a15 a16 a17 a18 a19 a20 a21 a22 a23 a24 a25 a26 a27) (hp : p < 8) :
    ∃ f, wX_packTree_21 post J2 J11 (nI l) (nI p) f (nI (qs_A n w l p 0)) 0 (nI n) ip rc nd cs a1 a2 a3 a4 a5 a6 a7 a8 a9 a10 a11 a12 a13 a14 a15 a16 a17 a18 a19 a20 a21 a22 a23 a24 a25 a26 a27 := by
  obtain ⟨hn, ha, _⟩ := hL
  refine loop_0 (fun f i s => wX_packTree_21 post J2 J11 (nI l) (nI p) f (nI (qs_A n w l p i)) (nI i) (nI n) ip rc nd cs a1 a2 a3 a4 s a6 a7 a8 a9 a10 a11 a12 a13 a14 a15 a16 a17 a18 a19 a20 a21 a22 a23 a24 a25 a26 a27) (fun i s => qs_ptI n w l c0 p i s) n a5 h0 ?_ ?_
  · intro f s hI
    exact pk_le n n (fun _ => nm_r (nI_1 p) (H s hI)) (fun z => absurd z (by omega))
  · intro f i s hi hI hw
    refine pk_le n i (fun z => absurd z (by omega)) (fun _ => ?_)
    obtain ⟨w8, aw⟩ := ha i hi
    have hle := qs_A_le n w l (p := p) (show i ≤ n by omega)
    rw [nI_clamp (show i < 2 ^ 31 by omega), aw]
    refine ⟨vp_in_nI (by omega) (by decide), ?_⟩
    have hpl := qs_preL l (by omega) (w i) w8
    have h8 : 2 ^ l ≤ 2 ^ 3 := Nat.pow_le_pow_right (by decide) (by omega)
    refine pk_eq (qs_pre l (w i)) p (fun e => ⟨vp_in_nI (by omega) (by decide), qs_digitOf l (w i) hl w8 rfl rfl ?_⟩) (fun e => nm_r (nI_1 i) ?_) (qs_preE l hl _ w8) rfl (by omega) (by omega)
    · have hd := qs_dg2 l (w i)
      have eA := qs_A_S n w l e
      refine pk_eq (qs_dg l (w i)) 1 (fun d => ?_) (fun d => ?_)
      · refine qs_setBit l (qs_A n w l p i) (by omega) (by omega) (nI_add 0 l |>.trans (by rw [Nat.zero_add])) rfl (fun b hb => ?_)
        have t := hw b (qs_pt_step hn hi e hI (fun q => by rw [hb, d, decide_eq_true (rfl : (1 : Nat) = 1), Bool.and_true]))
        try dsimp only at t
        rw [eA] at t
        exact nm_r (nI_1 _) (nm_r (nI_1 i) t)
      · have t := hw s (qs_pt_step hn hi e hI (fun q => by rw [decide_eq_false d, Bool.and_false, Bool.or_false]))
        try dsimp only at t
        rw [eA] at t
        exact nm_r (nI_1 _) (nm_r (nI_1 i) t)
    · have t := hw s (qs_pt_skip e hI)
      try dsimp only at t
      rw [qs_A_N n w l e] at t
      exact t
theorem qs_packTree {post : St1 → Prop} {n : Nat} {w : Nat → Nat} (hL : qs_L n w a1) (hz : ∀ q, q < 672 → qs_gb a5 q = false)
    (H : ∀ b, qs_TF n w (qs_gr b) → (∀ q, 672 ≤ q → qs_gb b q = qs_gb a5 q) → post (nI n, ip, rc, nd, cs, a1, a2, a3, a4, b, a6, a7, a8, a9, a10, a11, a12, a13, a14, a15, a16, a17, a18, a19, a20, a21, a22, a23, a24, a25, a26, a27)) : wpX_packTree post (nI n, ip, rc, nd, cs, a1, a2, a3, a4, a5, a6, a7, a8, a9, a10, a11, a12, a13, a14, a15, a16, a17, a18, a19, a20, a21, a22, a23, a24, a25, a26, a27) := by
  show ∃ f, wX_packTree_2 post f 0 (nI n) ip rc nd cs a1 a2 a3 a4 a5 a6 a7 a8 a9 a10 a11 a12 a13 a14 a15 a16 a17 a18 a19 a20 a21 a22 a23 a24 a25 a26 a27
  refine loop_0 (fun f l s => wX_packTree_2 post f (nI l) (nI n) ip rc nd cs a1 a2 a3 a4 s a6 a7 a8 a9 a10 a11 a12 a13 a14 a15 a16 a17 a18 a19 a20 a21 a22 a23 a24 a25 a26 a27)
    (fun l s => (∀ l', l' < l → ∀ p, p < 2 ^ l' → ∀ i, i ≤ n → qs_ct (qs_gr s l') (qs_A n w l' p i) = qs_O n w l' p i) ∧ (∀ q, l * 224 ≤ q → qs_gb s q = qs_gb a5 q)) 3 a5
    ⟨fun l' hl' => absurd hl' (by omega), fun _ _ => rfl⟩ ?_ ?_
  · intro f s hI
    exact pk_le 3 3 (fun _ => H s hI.1 hI.2) (fun z => absurd z (by omega))
  · intro f l s hl hI hw
    refine pk_le 3 l (fun z => absurd z (by omega)) (fun _ => ?_)
    have h8 : 2 ^ l ≤ 2 ^ 3 := Nat.pow_le_pow_right (by decide) (by omega)
    have hA0 : qs_A n w l 0 0 = 0 := by
      show qs_ct (fun j => decide (qs_pre l (w j) < 0)) n + 0 = 0
      rw [qs_ct_zero (fun j _ => decide_eq_false (by omega))]
    have main : ∃ f', wX_packTree_11 post (wX_packTree_2 post f) (nI l) f' (nI (qs_A n w l 0 0)) (nI 0) (nI n) ip rc nd cs a1 a2 a3 a4 s a6 a7 a8 a9 a10 a11 a12 a13 a14 a15 a16 a17 a18 a19 a20 a21 a22 a23 a24 a25 a26 a27 := by
      refine loop_0 (fun f' p b => wX_packTree_11 post (wX_packTree_2 post f) (nI l) f' (nI (qs_A n w l p 0)) (nI p) (nI n) ip rc nd cs a1 a2 a3 a4 b a6 a7 a8 a9 a10 a11 a12 a13 a14 a15 a16 a17 a18 a19 a20 a21 a22 a23 a24 a25 a26 a27) (fun p b => qs_ptI n w l s p 0 b) (2 ^ l) s
        (qs_pt_zero (fun q hq => ?_)) ?_ ?_
      · unfold qs_gr
        rw [hI.2 _ (by omega)]
        exact hz _ (by omega)
      · intro f' b hb
        refine pk_le (2 ^ l) (2 ^ l) (fun _ => nm_r (nI_1 l) (hw b ⟨fun l' hl' p hp i hi => ?_, fun q hq => ?_⟩)) (fun z => absurd z (by omega)) (qs_oneN (by omega)) rfl (by omega) (by omega)
        · by_cases e : l' = l
          · rw [e] at hp ⊢
            exact (hb.2.1 p i (Or.inl ⟨hp, hi⟩)).2
          · rw [← hI.1 l' (by omega) p hp i hi]
            have hle := qs_A_le n w l' (p := p) hi
            have hn := hL.1
            refine qs_ct_congr (fun j hj => ?_)
            unfold qs_gr
            exact hb.2.2 _ (by omega)
        · rw [hb.2.2 q (by omega)]
          exact hI.2 q (by omega)
      · intro f' p b hp hb hw2
        refine pk_le (2 ^ l) p (fun z => absurd z (by omega)) (fun _ => ?_) (qs_oneN (by omega)) rfl (by omega) (by omega)
        refine qs_pt21 hL hl hb (fun b' hb' => ?_) (by omega)
        have t := hw2 b' (qs_pt_next hb')
        try dsimp only at t
        rw [← qs_A_n] at t
        exact t
    rw [hA0] at main
    exact main
/-! the tree is asked -/
section
variable {n : Nat} {w : Nat → Nat} {l : Nat}
theorem qs_t1 (hl : l < 3) (p i : Nat) : qs_ct (fun j => decide (qs_pre (l + 1) (w j) = 2 * p)) i = qs_ct (fun j => decide (qs_pre l (w j) = p ∧ qs_dg l (w j) = 0)) i :=
  qs_dcg (P := fun j => qs_pre (l + 1) (w j) = 2 * p) (Q := fun j => qs_pre l (w j) = p ∧ qs_dg l (w j) = 0) (fun j _ => by have := qs_dg2 l (w j); rw [qs_preS hl]; omega)
theorem qs_t2 (hl : l < 3) (p i : Nat) : qs_ct (fun j => decide (qs_pre (l + 1) (w j) = 2 * p + 1)) i = qs_ct (fun j => decide (qs_pre l (w j) = p ∧ qs_dg l (w j) = 1)) i :=
  qs_dcg (P := fun j => qs_pre (l + 1) (w j) = 2 * p + 1) (Q := fun j => qs_pre l (w j) = p ∧ qs_dg l (w j) = 1) (fun j _ => by have := qs_dg2 l (w j); rw [qs_preS hl]; omega)
theorem qs_t3 (hl : l < 3) (p i : Nat) : qs_ct (fun j => decide (qs_pre (l + 1) (w j) < 2 * p)) i = qs_ct (fun j => decide (qs_pre l (w j) < p)) i :=
  qs_dcg (P := fun j => qs_pre (l + 1) (w j) < 2 * p) (Q := fun j => qs_pre l (w j) < p) (fun j _ => by have := qs_dg2 l (w j); rw [qs_preS hl]; omega)
theorem qs_t4 (hl : l < 3) (p i : Nat) : qs_ct (fun j => decide (qs_pre (l + 1) (w j) < 2 * p + 1)) i = qs_ct (fun j => decide (qs_pre l (w j) < p)) i + qs_ct (fun j => decide (qs_pre l (w j) = p ∧ qs_dg l (w j) = 0)) i :=
  qs_dsum (P := fun j => qs_pre (l + 1) (w j) < 2 * p + 1) (Q := fun j => qs_pre l (w j) < p) (S := fun j => qs_pre l (w j) = p ∧ qs_dg l (w j) = 0) (fun j _ => by have := qs_dg2 l (w j); rw [qs_preS hl]; omega) (fun j _ => by omega)
theorem qs_t5 (p i : Nat) : qs_ct (fun j => decide (qs_pre l (w j) = p)) i = qs_ct (fun j => decide (qs_pre l (w j) = p ∧ qs_dg l (w j) = 0)) i + qs_ct (fun j => decide (qs_pre l (w j) = p ∧ qs_dg l (w j) = 1)) i :=
  qs_dsum (P := fun j => qs_pre l (w j) = p) (Q := fun j => qs_pre l (w j) = p ∧ qs_dg l (w j) = 0) (S := fun j => qs_pre l (w j) = p ∧ qs_dg l (w j) = 1) (fun j _ => by have := qs_dg2 l (w j); omega) (fun j _ => by omega)
end
/-- the three sums that a level asks for -/
theorem qs_t_zeros {n : Nat} {w : Nat → Nat} {post : Int32 → Prop} {p0 p1 : Int32} (l p i : Nat) (hT : qs_TF n w (qs_gr a5)) (hS : ∀ r, r < 21 → qs_sumr a5 a6 a7 r) (hn : n ≤ 200) (hl : l < 3) (hp : p < 2 ^ l) (hi : i ≤ n)
    (h0 : p0 = nI l) (h1 : p1 = nI (qs_A n w l p i)) (H : post (nI (qs_Z n w l p i))) : wpX_zerosBefore post (nn, ip, rc, nd, cs, a1, a2, a3, a4, a5, a6, a7, a8, a9, a10, a11, a12, a13, a14, a15, a16, a17, a18, a19, a20, a21, a22, a23, a24, a25, a26, a27) p0 p1 := by
  have hle := qs_A_le n w l (p := p) hi
  refine qs_zerosBefore l (qs_A n w l p i) (hS l (by omega)) (by omega) (by omega) h0 h1 ?_
  have h3 := hT l hl p hp i hi
  have h4 := qs_A_OZ n w l p i
  rw [h3, show qs_A n w l p i - qs_O n w l p i = qs_Z n w l p i by omega]
  exact H
/-- how many of the first i letters are below c -/
def qs_bl (w : Nat → Nat) (c i : Nat) : Nat := qs_ct (fun j => decide (w j < c)) i
def qs_m (w : Nat → Nat) (l p i : Nat) : Nat := qs_ct (fun j => decide (qs_pre l (w j) = p)) i
def qs_m0 (w : Nat → Nat) (l p i : Nat) : Nat := qs_ct (fun j => decide (qs_pre l (w j) = p ∧ qs_dg l (w j) = 0)) i
section
variable {n : Nat} {w : Nat → Nat} {l : Nat}
theorem qs_Am (p i : Nat) : nI (qs_A n w l p 0) + nI (qs_m w l p i) = nI (qs_A n w l p i) := by
  rw [nI_add]
  unfold qs_A qs_m
  rw [show qs_ct (fun j => decide (qs_pre l (w j) = p)) 0 = 0 from rfl, Nat.add_zero]
theorem qs_Zm (p i : Nat) : nI (qs_Z n w l p i) - nI (qs_Z n w l p 0) = nI (qs_m0 w l p i) := by
  have e : qs_Z n w l p i = qs_Z n w l p 0 + qs_m0 w l p i := by
    unfold qs_Z qs_m0
    rw [show qs_ct (fun j => decide (qs_pre l (w j) = p ∧ qs_dg l (w j) = 0)) 0 = 0 from rfl, Nat.add_zero]
  rw [e, pk_sub (by omega), Nat.add_sub_cancel_left]
theorem qs_t_one (hl : l < 3) (p i : Nat) : nI (qs_A n w (l + 1) (2 * p + 1) 0) = nI (qs_A n w l p 0) + nI (qs_m0 w l p n) ∧ nI (qs_A n w (l + 1) (2 * p + 1) n) = nI (qs_A n w l p n)
    ∧ nI (qs_m w (l + 1) (2 * p + 1) i) = nI (qs_m w l p i) - nI (qs_m0 w l p i) := by
  have h2 := qs_t2 (w := w) hl p
  have h4 := qs_t4 (w := w) hl p n
  have h5 := qs_t5 (w := w) (l := l) p
  unfold qs_A qs_m qs_m0
  refine ⟨?_, ?_, ?_⟩
  · rw [nI_add, h4, show qs_ct (fun j => decide (qs_pre (l + 1) (w j) = 2 * p + 1)) 0 = 0 from rfl, show qs_ct (fun j => decide (qs_pre l (w j) = p)) 0 = 0 from rfl, Nat.add_zero, Nat.add_zero]
  · rw [h4, h2 n, h5 n, Nat.add_assoc]
  · rw [h2 i, h5 i, pk_sub (by omega), Nat.add_sub_cancel_left]
theorem qs_t_zero (hl : l < 3) (p i : Nat) : nI (qs_A n w (l + 1) (2 * p) 0) = nI (qs_A n w l p 0) ∧ nI (qs_A n w (l + 1) (2 * p) n) = nI (qs_A n w l p 0) + nI (qs_m0 w l p n)
    ∧ nI (qs_m w (l + 1) (2 * p) i) = nI (qs_m0 w l p i) := by
  have h1 := qs_t1 (w := w) hl p
  have h3 := qs_t3 (w := w) hl p n
  unfold qs_A qs_m qs_m0
  refine ⟨?_, ?_, ?_⟩
  · rw [h3]
    rfl
  · rw [nI_add, h3, h1 n, show qs_ct (fun j => decide (qs_pre l (w j) = p)) 0 = 0 from rfl, Nat.add_zero]
  · rw [h1 i]
theorem qs_t_start {a1 : Nat → Int32} (hL : qs_L n w a1) : qs_A n w 0 0 0 = 0 ∧ qs_A n w 0 0 n = n ∧ (∀ i, i ≤ n → qs_m w 0 0 i = i) := by
  obtain ⟨hn, ha, _⟩ := hL
  have hm : ∀ i, i ≤ n → qs_m w 0 0 i = i := fun i hi => qs_ct_all (fun j hj => decide_eq_true (qs_pre0 (ha j (by omega)).1))
  have hz : qs_ct (fun j => decide (qs_pre 0 (w j) < 0)) n = 0 := qs_ct_zero (fun j _ => decide_eq_false (by omega))
  refine ⟨?_, ?_, hm⟩
  · unfold qs_A
    rw [hz]
    rfl
  · have := hm n (Nat.le_refl n)
    unfold qs_m at this
    unfold qs_A
    rw [hz, this, Nat.zero_add]
end
theorem qs_z0 (l : Nat) : 0 + nI l = nI l := (nI_add 0 l).trans (by rw [Nat.zero_add])
theorem qs_rankInTree {n : Nat} {w : Nat → Nat} {post : Int32 → Prop} {p0 p1 : Int32} (c i : Nat) (hT : qs_TF n w (qs_gr a5)) (hS : ∀ r, r < 21 → qs_sumr a5 a6 a7 r) (hL : qs_L n w a1) (hc : c < 8) (hi : i ≤ n) (hnn : nn = nI n)
    (h0 : p0 = nI c) (h1 : p1 = nI i) (H : post (nI (qs_rk w c i))) : wpX_rankInTree post (nn, ip, rc, nd, cs, a1, a2, a3, a4, a5, a6, a7, a8, a9, a10, a11, a12, a13, a14, a15, a16, a17, a18, a19, a20, a21, a22, a23, a24, a25, a26, a27) p0 p1 := by
  subst h0
  subst h1
  subst hnn
  have hn := hL.1
  obtain ⟨s1, s2, s3⟩ := qs_t_start hL
  have main : ∃ f, wX_rankInTree_14 post (nI c) (nI n) ip rc nd cs a1 a2 a3 a4 a5 a6 a7 a8 a9 a10 a11 a12 a13 a14 a15 a16 a17 a18 a19 a20 a21 a22 a23 a24 a25 a26 a27 f (nI (qs_A n w 0 (qs_pre 0 c) 0)) (nI (qs_A n w 0 (qs_pre 0 c) n)) (nI (qs_m w 0 (qs_pre 0 c) i)) (nI 0) := by
    refine loop_0 (σ := Unit) (fun f l _ => wX_rankInTree_14 post (nI c) (nI n) ip rc nd cs a1 a2 a3 a4 a5 a6 a7 a8 a9 a10 a11 a12 a13 a14 a15 a16 a17 a18 a19 a20 a21 a22 a23 a24 a25 a26 a27 f (nI (qs_A n w l (qs_pre l c) 0)) (nI (qs_A n w l (qs_pre l c) n)) (nI (qs_m w l (qs_pre l c) i)) (nI l)) (fun _ _ => True) 3 () trivial ?_ ?_
    · intro f _ _
      refine pk_le 3 3 (fun _ => ?_) (fun z => absurd z (by omega))
      have e : qs_m w 3 (qs_pre 3 c) i = qs_rk w c i := qs_dcg (P := fun j => qs_pre 3 (w j) = qs_pre 3 c) (Q := fun j => w j = c) (fun j _ => by rw [qs_pre3, qs_pre3])
      rw [e]
      exact H
    · intro f l _ hl _ hw
      have hp := qs_preL l (by omega) c hc
      have t := hw () trivial
      try dsimp only at t
      rw [qs_preS hl] at t
      refine pk_le 3 l (fun z => absurd z (by omega)) (fun _ => nm_r (qs_z0 l) (qs_t_zeros l (qs_pre l c) 0 hT hS hn hl hp (by omega) rfl rfl (qs_t_zeros l (qs_pre l c) n hT hS hn hl hp (by omega) rfl rfl
        (nm_r (qs_Zm _ _) (qs_t_zeros l (qs_pre l c) i hT hS hn hl hp hi rfl (qs_Am _ _) (nm_r (qs_Zm _ _) (qs_digitOf l c hl hc rfl rfl ?_)))))))
      have hd := qs_dg2 l c
      refine pk_eq (qs_dg l c) 1 (fun d => ?_) (fun d => ?_)
      · obtain ⟨e1, e2, e3⟩ := qs_t_one (n := n) (w := w) hl (qs_pre l c) i
        rw [d, e1, e2, e3] at t
        exact br_f (by decide) (br_f (by decide) (br_f (by decide) (nm_r (nI_1 l) t)))
      · obtain ⟨e1, e2, e3⟩ := qs_t_zero (n := n) (w := w) hl (qs_pre l c) i
        rw [show qs_dg l c = 0 by omega, Nat.add_zero (2 * qs_pre l c), e1, e2, e3] at t
        exact br_t rfl (br_t rfl (br_t rfl (nm_e (nm_r (nI_1 l) t))))
  rw [qs_pre0 hc, s1, s2, s3 i hi] at main
  exact main
theorem qs_belowInTree {n : Nat} {w : Nat → Nat} {post : Int32 → Prop} {p0 p1 : Int32} (c i : Nat) (hT : qs_TF n w (qs_gr a5)) (hS : ∀ r, r < 21 → qs_sumr a5 a6 a7 r) (hL : qs_L n w a1) (hc : c < 8) (hi : i ≤ n) (hnn : nn = nI n)
    (h0 : p0 = nI c) (h1 : p1 = nI i) (H : post (nI (qs_bl w c i))) : wpX_belowInTree post (nn, ip, rc, nd, cs, a1, a2, a3, a4, a5, a6, a7, a8, a9, a10, a11, a12, a13, a14, a15, a16, a17, a18, a19, a20, a21, a22, a23, a24, a25, a26, a27) p0 p1 := by
  subst h0
  subst h1
  subst hnn
  have hn := hL.1
  obtain ⟨s1, s2, s3⟩ := qs_t_start hL
  have main : ∃ f, wX_belowInTree_17 post (nI c) (nI n) ip rc nd cs a1 a2 a3 a4 a5 a6 a7 a8 a9 a10 a11 a12 a13 a14 a15 a16 a17 a18 a19 a20 a21 a22 a23 a24 a25 a26 a27 f (nI (qs_A n w 0 (qs_pre 0 c) 0)) (nI (qs_A n w 0 (qs_pre 0 c) n)) (nI (qs_m w 0 (qs_pre 0 c) i)) (nI (qs_ct (fun j => decide (qs_pre 0 (w j) < qs_pre 0 c)) i)) (nI 0) := by
    refine loop_0 (σ := Unit) (fun f l _ => wX_belowInTree_17 post (nI c) (nI n) ip rc nd cs a1 a2 a3 a4 a5 a6 a7 a8 a9 a10 a11 a12 a13 a14 a15 a16 a17 a18 a19 a20 a21 a22 a23 a24 a25 a26 a27 f (nI (qs_A n w l (qs_pre l c) 0)) (nI (qs_A n w l (qs_pre l c) n)) (nI (qs_m w l (qs_pre l c) i)) (nI (qs_ct (fun j => decide (qs_pre l (w j) < qs_pre l c)) i)) (nI l)) (fun _ _ => True) 3 () trivial ?_ ?_
    · intro f _ _
      refine pk_le 3 3 (fun _ => ?_) (fun z => absurd z (by omega))
      have e : qs_ct (fun j => decide (qs_pre 3 (w j) < qs_pre 3 c)) i = qs_bl w c i := qs_dcg (P := fun j => qs_pre 3 (w j) < qs_pre 3 c) (Q := fun j => w j < c) (fun j _ => by rw [qs_pre3, qs_pre3])
      rw [e]
      exact H
    · intro f l _ hl _ hw
      have hp := qs_preL l (by omega) c hc
      have t := hw () trivial
      try dsimp only at t
      rw [qs_preS hl c] at t
      refine pk_le 3 l (fun z => absurd z (by omega)) (fun _ => nm_r (qs_z0 l) (qs_t_zeros l (qs_pre l c) 0 hT hS hn hl hp (by omega) rfl rfl (qs_t_zeros l (qs_pre l c) n hT hS hn hl hp (by omega) rfl rfl
        (nm_r (qs_Zm _ _) (qs_t_zeros l (qs_pre l c) i hT hS hn hl hp hi rfl (qs_Am _ _) (nm_r (qs_Zm _ _) (qs_digitOf l c hl hc rfl rfl ?_)))))))
      have hd := qs_dg2 l c
      refine pk_eq (qs_dg l c) 1 (fun d => ?_) (fun d => ?_)
      · obtain ⟨e1, e2, e3⟩ := qs_t_one (n := n) (w := w) hl (qs_pre l c) i
        rw [d, e1, e2, e3, qs_t4 hl] at t
        exact br_f (by decide) (nm_r (nI_add _ _) (br_f (by decide) (br_f (by decide) (br_f (by decide) (nm_r (nI_1 l) t)))))
      · obtain ⟨e1, e2, e3⟩ := qs_t_zero (n := n) (w := w) hl (qs_pre l c) i
        rw [show qs_dg l c = 0 by omega, Nat.add_zero (2 * qs_pre l c), e1, e2, e3, qs_t3 hl] at t
        exact br_t rfl (nm_r (nI_add _ 0) (br_t rfl (br_t rfl (br_t rfl (nm_e (nm_r (nI_1 l) t))))))
  rw [qs_pre0 hc, s1, s2, s3 i hi, qs_ct_zero (fun j _ => decide_eq_false (by omega))] at main
  exact main
theorem qs_atInTree {n : Nat} {w : Nat → Nat} {post : Int32 → Prop} {p0 : Int32} (i : Nat) (hT : qs_TF n w (qs_gr a5)) (hS : ∀ r, r < 21 → qs_sumr a5 a6 a7 r) (hL : qs_L n w a1) (hi : i < n) (hnn : nn = nI n)
    (h0 : p0 = nI i) (H : post (nI (w i))) : wpX_atInTree post (nn, ip, rc, nd, cs, a1, a2, a3, a4, a5, a6, a7, a8, a9, a10, a11, a12, a13, a14, a15, a16, a17, a18, a19, a20, a21, a22, a23, a24, a25, a26, a27) p0 := by
  subst h0
  subst hnn
  have hn := hL.1
  have hc := (hL.2.1 i hi).1
  obtain ⟨s1, s2, s3⟩ := qs_t_start hL
  have main : ∃ f, wX_atInTree_16 post (nI n) ip rc nd cs a1 a2 a3 a4 a5 a6 a7 a8 a9 a10 a11 a12 a13 a14 a15 a16 a17 a18 a19 a20 a21 a22 a23 a24 a25 a26 a27 f (nI (qs_pre 0 (w i))) (nI (qs_A n w 0 (qs_pre 0 (w i)) 0)) (nI (qs_A n w 0 (qs_pre 0 (w i)) n)) (nI (qs_m w 0 (qs_pre 0 (w i)) i)) (nI 0) := by
    refine loop_0 (σ := Unit) (fun f l _ => wX_atInTree_16 post (nI n) ip rc nd cs a1 a2 a3 a4 a5 a6 a7 a8 a9 a10 a11 a12 a13 a14 a15 a16 a17 a18 a19 a20 a21 a22 a23 a24 a25 a26 a27 f (nI (qs_pre l (w i))) (nI (qs_A n w l (qs_pre l (w i)) 0)) (nI (qs_A n w l (qs_pre l (w i)) n)) (nI (qs_m w l (qs_pre l (w i)) i)) (nI l)) (fun _ _ => True) 3 () trivial ?_ ?_
    · intro f _ _
      refine pk_le 3 3 (fun _ => ?_) (fun z => absurd z (by omega))
      rw [qs_pre3]
      exact H
    · intro f l _ hl _ hw
      have hp := qs_preL l (by omega) (w i) hc
      have hle := qs_A_le n w l (p := qs_pre l (w i)) (show i ≤ n by omega)
      have t := hw () trivial
      try dsimp only at t
      rw [qs_preS hl (w i)] at t
      have hb := qs_TF_bit hT hl hi hc
      refine pk_le 3 l (fun z => absurd z (by omega)) (fun _ => nm_r (qs_z0 l) (qs_t_zeros l (qs_pre l (w i)) 0 hT hS hn hl hp (by omega) rfl rfl (qs_t_zeros l (qs_pre l (w i)) n hT hS hn hl hp (by omega) rfl rfl
        (nm_r (qs_Zm _ _) (qs_t_zeros l (qs_pre l (w i)) i hT hS hn hl hp (by omega) rfl (qs_Am _ _) (nm_r (qs_Zm _ _) (qs_bitAt l (qs_A n w l (qs_pre l (w i)) i) (by omega) (by omega) rfl (qs_Am _ _) ?_)))))))
      rw [hb]
      have hd := qs_dg2 l (w i)
      by_cases d : qs_dg l (w i) = 1
      · obtain ⟨e1, e2, e3⟩ := qs_t_one (n := n) (w := w) hl (qs_pre l (w i)) i
        rw [decide_eq_true d]
        rw [d, e1, e2, e3] at t
        exact br_f (by decide) (nm_r ((congrArg (· + 1) (pk_mul 2 _)).trans (nI_1 _)) (br_f (by decide) (br_f (by decide) (br_f (by decide) (nm_r (nI_1 l) t)))))
      · obtain ⟨e1, e2, e3⟩ := qs_t_zero (n := n) (w := w) hl (qs_pre l (w i)) i
        rw [decide_eq_false d]
        rw [show qs_dg l (w i) = 0 by omega, Nat.add_zero (2 * qs_pre l (w i)), e1, e2, e3] at t
        exact br_t rfl (nm_r ((congrArg (· + 0) (pk_mul 2 _)).trans (nI_add _ 0)) (br_t rfl (br_t rfl (br_t rfl (nm_e (nm_r (nI_1 l) t))))))
  rw [qs_pre0 hc, s1, s2, s3 i (by omega)] at main
  exact main
end
end
section
section
variable {nn ip rc nd cs : Int32} {a1 a2 a3 a4 a5 a6 a7 a8 a9 a10 a11 a12 a13 a14 a15 a16 a17 a18 a19 a20 a21 a22 a23 a24 a25 a26 a27 : Nat → Int32}
def qs_up {α : Type} (f : Nat → α) (k : Nat) (v : α) : Nat → α := fun j => if j = k then v else f j
theorem qs_up_s {α : Type} (f : Nat → α) (k : Nat) (v : α) : qs_up f k v k = v := if_pos rfl
theorem qs_up_n {α : Type} (f : Nat → α) {k j : Nat} (v : α) (h : j ≠ k) : qs_up f k v j = f j := if_neg h
/-! the matrix: pure -/
def qs_zz (s : Nat → Nat) (l i : Nat) : Nat := qs_ct (fun j => decide (qs_dg l (s j) = 0)) i
def qs_oo (s : Nat → Nat) (l i : Nat) : Nat := qs_ct (fun j => decide (qs_dg l (s j) = 1)) i
/-- where a place goes on the next level -/
def qs_dn (s : Nat → Nat) (l n d i : Nat) : Nat := if d = 1 then qs_zz s l n + qs_oo s l i else qs_zz s l i
theorem qs_zo (s : Nat → Nat) (l i : Nat) : qs_zz s l i + qs_oo s l i = i := by
  have h := qs_dsum (n := i) (P := fun _ => True) (Q := fun j => qs_dg l (s j) = 0) (S := fun j => qs_dg l (s j) = 1) (fun j _ => by have := qs_dg2 l (s j); simp; omega) (fun j _ => by omega)
  rw [qs_ct_all (fun j _ => decide_eq_true trivial)] at h
  unfold qs_zz qs_oo
  omega
theorem qs_zz_mono (s : Nat → Nat) (l : Nat) {a b : Nat} (h : a ≤ b) : qs_zz s l a ≤ qs_zz s l b := qs_ct_mono _ h
theorem qs_oo_mono (s : Nat → Nat) (l : Nat) {a b : Nat} (h : a ≤ b) : qs_oo s l a ≤ qs_oo s l b := qs_ct_mono _ h
theorem qs_zz_lt {s : Nat → Nat} {l : Nat} {a b : Nat} (h : a < b) (hd : qs_dg l (s a) = 0) : qs_zz s l a < qs_zz s l b := qs_ct_lt (P := fun j => decide (qs_dg l (s j) = 0)) (decide_eq_true hd) h
theorem qs_oo_lt {s : Nat → Nat} {l : Nat} {a b : Nat} (h : a < b) (hd : qs_dg l (s a) = 1) : qs_oo s l a < qs_oo s l b := qs_ct_lt (P := fun j => decide (qs_dg l (s j) = 1)) (decide_eq_true hd) h
theorem qs_zz_S0 {s : Nat → Nat} {l i : Nat} (hd : qs_dg l (s i) = 0) : qs_zz s l (i + 1) = qs_zz s l i + 1 ∧ qs_oo s l (i + 1) = qs_oo s l i := by
  refine ⟨qs_ctT (P := fun j => decide (qs_dg l (s j) = 0)) (decide_eq_true hd), qs_ctF (P := fun j => decide (qs_dg l (s j) = 1)) (decide_eq_false (by omega))⟩
theorem qs_zz_S1 {s : Nat → Nat} {l i : Nat} (hd : qs_dg l (s i) = 1) : qs_zz s l (i + 1) = qs_zz s l i ∧ qs_oo s l (i + 1) = qs_oo s l i + 1 := by
  refine ⟨qs_ctF (P := fun j => decide (qs_dg l (s j) = 0)) (decide_eq_false (by omega)), qs_ctT (P := fun j => decide (qs_dg l (s j) = 1)) (decide_eq_true hd)⟩
theorem qs_dn_mono (s : Nat → Nat) (l n d : Nat) {a b : Nat} (h : a ≤ b) : qs_dn s l n d a ≤ qs_dn s l n d b := by
  have h1 := qs_zz_mono s l h
  have h2 := qs_oo_mono s l h
  unfold qs_dn
  split <;> omega
theorem qs_dn_le (s : Nat → Nat) (l n d : Nat) {a : Nat} (h : a ≤ n) : qs_dn s l n d a ≤ n := by
  have h1 := qs_zz_mono s l h
  have h2 := qs_oo_mono s l h
  have h3 := qs_zo s l n
  unfold qs_dn
  split <;> omega
theorem qs_dn_lt {s : Nat → Nat} {l n : Nat} {a : Nat} (h : a < n) : qs_dn s l n (qs_dg l (s a)) a < n := by
  have h3 := qs_zo s l n
  have h4 := qs_dg2 l (s a)
  unfold qs_dn
  split
  · have := qs_oo_lt h (by assumption)
    omega
  · have := qs_zz_lt h (show qs_dg l (s a) = 0 by omega)
    omega
theorem qs_dn_ne {s : Nat → Nat} {l n : Nat} {a b : Nat} (h : a < b) (hb : b < n) : qs_dn s l n (qs_dg l (s a)) a ≠ qs_dn s l n (qs_dg l (s b)) b := by
  have h4 := qs_dg2 l (s a)
  have h5 := qs_dg2 l (s b)
  unfold qs_dn
  split <;> split
  · have := qs_oo_lt h (by assumption)
    omega
  · have := qs_zz_lt hb (show qs_dg l (s b) = 0 by omega)
    omega
  · have := qs_zz_lt (Nat.lt_trans h hb) (show qs_dg l (s a) = 0 by omega)
    omega
  · have := qs_zz_lt h (show qs_dg l (s a) = 0 by omega)
    omega
theorem qs_dn_sur (s : Nat → Nat) (l n : Nat) {k : Nat} (hk : k < n) : ∃ i, i < n ∧ qs_dn s l n (qs_dg l (s i)) i = k := by
  have h3 := qs_zo s l n
  by_cases h : k < qs_zz s l n
  · obtain ⟨i, g1, g2, g3⟩ := qs_sel h
    have g4 : qs_dg l (s i) = 0 := of_decide_eq_true g2
    refine ⟨i, g1, ?_⟩
    unfold qs_dn
    rw [g4, if_neg (by decide)]
    exact g3
  · obtain ⟨i, g1, g2, g3⟩ := qs_sel (P := fun j => decide (qs_dg l (s j) = 1)) (n := n) (k := k - qs_zz s l n) (by unfold qs_oo at h3; omega)
    have g4 : qs_dg l (s i) = 1 := of_decide_eq_true g2
    refine ⟨i, g1, ?_⟩
    unfold qs_dn
    rw [g4, if_pos rfl]
    unfold qs_oo
    omega
/-- a stable parting -/
theorem qs_part {s s' : Nat → Nat} {l n : Nat} (h : ∀ i, i < n → s' (qs_dn s l n (qs_dg l (s i)) i) = s i) (f : Nat → Bool) (d : Nat) (hd : d < 2) :
    ∀ i, i ≤ n → qs_ct (fun j => f (s' j)) (qs_dn s l n d i) = qs_ct (fun j => f (s' j)) (qs_dn s l n d 0) + qs_ct (fun j => f (s j) && decide (qs_dg l (s j) = d)) i := by
  intro i
  induction i with
  | zero => intro _; rfl
  | succ i ih =>
    intro hi
    have h1 := ih (by omega)
    have h2 := h i (by omega)
    rw [qs_ctS]
    by_cases e : qs_dg l (s i) = d
    · have e2 : qs_dn s l n d (i + 1) = qs_dn s l n d i + 1 := by
        rcases (show d = 0 ∨ d = 1 by omega) with rfl | rfl
        · have := qs_zz_S0 e
          unfold qs_dn
          rw [if_neg (by decide), if_neg (by decide)]
          omega
        · have := qs_zz_S1 e
          unfold qs_dn
          rw [if_pos rfl, if_pos rfl]
          omega
      rw [e] at h2
      rw [e2, qs_ctS, h2, h1, e, decide_eq_true rfl, Bool.and_true, Nat.add_assoc]
    · have e2 : qs_dn s l n d (i + 1) = qs_dn s l n d i := by
        have e3 := qs_dg2 l (s i)
        rcases (show d = 0 ∨ d = 1 by omega) with rfl | rfl
        · have := qs_zz_S1 (show qs_dg l (s i) = 1 by omega)
          unfold qs_dn
          rw [if_neg (by decide), if_neg (by decide)]
          omega
        · have := qs_zz_S0 (show qs_dg l (s i) = 0 by omega)
          unfold qs_dn
          rw [if_pos rfl, if_pos rfl]
          omega
      rw [e2, h1, decide_eq_false e, Bool.and_false]
      rfl
/-- the matrix's rows, its zeros, and the letters s l on every level -/
def qs_MF (n : Nat) (w : Nat → Nat) (R : Nat → Nat → Bool) (a8 : Nat → Int32) (s : Nat → Nat → Nat) : Prop :=
  (∀ i, i < n → s 0 i = w i) ∧ (∀ l, l < 3 → (∀ i, i < n → R (3 + l) i = decide (qs_dg l (s l i) = 1)) ∧ a8 l = nI (qs_zz (s l) l n) ∧ (∀ i, i < n → s (l + 1) (qs_dn (s l) l n (qs_dg l (s l i)) i) = s l i))
  ∧ (∀ l, l < 4 → ∀ i, i < n → s l i < 8)
/-- the letters of the stretch [a, b) on level l are those of [i, j) whose first digits are p -/
def qs_Q (n : Nat) (w : Nat → Nat) (s : Nat → Nat → Nat) (l p i j a b : Nat) : Prop :=
  a ≤ b ∧ b ≤ n ∧ ∀ f : Nat → Bool, qs_ct (fun t => f (s l t)) b + qs_ct (fun t => f (w t) && decide (qs_pre l (w t) = p)) i = qs_ct (fun t => f (s l t)) a + qs_ct (fun t => f (w t) && decide (qs_pre l (w t) = p)) j
theorem qs_Q0 {n : Nat} {w : Nat → Nat} {R : Nat → Nat → Bool} {a1 a8 : Nat → Int32} {s : Nat → Nat → Nat} (hM : qs_MF n w R a8 s) (hL : qs_L n w a1) {i j : Nat} (hi : i ≤ j) (hj : j ≤ n) : qs_Q n w s 0 0 i j i j := by
  refine ⟨hi, hj, fun f => ?_⟩
  have e : ∀ k, k ≤ n → qs_ct (fun t => f (s 0 t)) k = qs_ct (fun t => f (w t) && decide (qs_pre 0 (w t) = 0)) k := by
    intro k hk
    refine qs_ct_congr (fun t ht => ?_)
    rw [hM.1 t (by omega), decide_eq_true (qs_pre0 (hL.2.1 t (by omega)).1), Bool.and_true]
  rw [e i (by omega), e j hj]
  omega
theorem qs_QS {n : Nat} {w : Nat → Nat} {R : Nat → Nat → Bool} {a8 : Nat → Int32} {s : Nat → Nat → Nat} (hM : qs_MF n w R a8 s) {l p i j a b d : Nat} (hl : l < 3) (hd : d < 2) (h : qs_Q n w s l p i j a b) :
    qs_Q n w s (l + 1) (2 * p + d) i j (qs_dn (s l) l n d a) (qs_dn (s l) l n d b) := by
  obtain ⟨h1, h2, h3⟩ := h
  refine ⟨qs_dn_mono _ _ _ _ h1, qs_dn_le _ _ _ _ h2, fun f => ?_⟩
  have hp := qs_part (hM.2.1 l hl).2.2 f d hd
  have e : ∀ k, qs_ct (fun t => f (w t) && decide (qs_pre (l + 1) (w t) = 2 * p + d)) k = qs_ct (fun t => (fun c => f c && decide (qs_dg l c = d)) (w t) && decide (qs_pre l (w t) = p)) k := by
    intro k
    refine qs_ct_congr (fun t _ => ?_)
    have hg := qs_dg2 l (w t)
    rw [qs_preS hl]
    show _ = ((f (w t) && decide (qs_dg l (w t) = d)) && decide (qs_pre l (w t) = p))
    rw [Bool.and_assoc, ← Bool.decide_and]
    congr 1
    exact decide_eq_decide.mpr ⟨fun z => ⟨by omega, by omega⟩, fun z => by omega⟩
  have h4 := h3 (fun c => f c && decide (qs_dg l c = d))
  rw [hp a (by omega), hp b h2, e i, e j]
  try dsimp only at h4 ⊢
  omega
theorem qs_Q_len {n : Nat} {w : Nat → Nat} {s : Nat → Nat → Nat} {l p i j a b : Nat} (h : qs_Q n w s l p i j a b) : b + qs_m w l p i = a + qs_m w l p j := by
  have h3 := h.2.2 (fun _ => true)
  rw [qs_ct_all (fun _ _ => rfl), qs_ct_all (fun _ _ => rfl)] at h3
  exact h3
/-- down by the digits of c -/
def qs_tr (s : Nat → Nat → Nat) (n c : Nat) : Nat → Nat → Nat
  | 0, x => x
  | l + 1, x => qs_dn (s l) l n (qs_dg l c) (qs_tr s n c l x)
theorem qs_tr_le (s : Nat → Nat → Nat) (n c : Nat) {x : Nat} (h : x ≤ n) (l : Nat) : qs_tr s n c l x ≤ n := by
  induction l with
  | zero => exact h
  | succ l ih => exact qs_dn_le _ _ _ _ ih
theorem qs_tr_Q {n : Nat} {w : Nat → Nat} {R : Nat → Nat → Bool} {a1 a8 : Nat → Int32} {s : Nat → Nat → Nat} (hM : qs_MF n w R a8 s) (hL : qs_L n w a1) {c i j : Nat} (hc : c < 8) (hi : i ≤ j) (hj : j ≤ n) :
    ∀ l, l ≤ 3 → qs_Q n w s l (qs_pre l c) i j (qs_tr s n c l i) (qs_tr s n c l j) := by
  intro l
  induction l with
  | zero => intro _; rw [qs_pre0 hc]; exact qs_Q0 hM hL hi hj
  | succ l ih => intro hl; rw [qs_preS (by omega)]; exact qs_QS hM (by omega) (qs_dg2 l c) (ih (by omega))
theorem qs_m3 (w : Nat → Nat) (c i : Nat) : qs_m w 3 c i = qs_rk w c i := qs_dcg (P := fun j => qs_pre 3 (w j) = c) (Q := fun j => w j = c) (fun j _ => by rw [qs_pre3])
theorem qs_tr_rk {n : Nat} {w : Nat → Nat} {R : Nat → Nat → Bool} {a1 a8 : Nat → Int32} {s : Nat → Nat → Nat} (hM : qs_MF n w R a8 s) (hL : qs_L n w a1) {c i : Nat} (hc : c < 8) (hi : i ≤ n) : qs_tr s n c 3 i = qs_tr s n c 3 0 + qs_rk w c i := by
  have h := qs_Q_len (qs_tr_Q hM hL hc (Nat.zero_le i) hi 3 (by omega))
  rw [qs_pre3, qs_m3, qs_m3] at h
  exact h
theorem qs_tr_at {n : Nat} {w : Nat → Nat} {R : Nat → Nat → Bool} {a8 : Nat → Int32} {s : Nat → Nat → Nat} (hM : qs_MF n w R a8 s) {q : Nat} (hq : q < n) : ∀ l, l ≤ 3 → qs_tr s n (w q) l q < n ∧ s l (qs_tr s n (w q) l q) = w q := by
  intro l
  induction l with
  | zero => intro _; exact ⟨hq, hM.1 q hq⟩
  | succ l ih =>
    intro hl
    obtain ⟨h1, h2⟩ := ih (by omega)
    have h3 := (hM.2.1 l (by omega)).2.2 _ h1
    have h4 := qs_dn_lt (s := s l) (l := l) h1
    rw [h2] at h3 h4
    exact ⟨h4, h3⟩
/-! the matrix is packed -/
theorem qs_pl86 {post : St1 → Prop} {n : Nat} {v : Nat → Nat} (hn : n ≤ 200) (h4 : ∀ i, i < n → v i < 8 ∧ a4 i = nI (v i))
    (H : ∀ b3, (∀ i, i < n → b3 i = nI (v i)) → post (nI n, ip, rc, nd, cs, a1, a2, b3, a4, a5, a6, a7, a8, a9, a10, a11, a12, a13, a14, a15, a16, a17, a18, a19, a20, a21, a22, a23, a24, a25, a26, a27)) : ∃ f, wX_partLevel_86 post (nI n) ip rc nd cs f 0 a1 a2 a3 a4 a5 a6 a7 a8 a9 a10 a11 a12 a13 a14 a15 a16 a17 a18 a19 a20 a21 a22 a23 a24 a25 a26 a27 := by
  refine loop_0 (fun f i s => wX_partLevel_86 post (nI n) ip rc nd cs f (nI i) a1 a2 s a4 a5 a6 a7 a8 a9 a10 a11 a12 a13 a14 a15 a16 a17 a18 a19 a20 a21 a22 a23 a24 a25 a26 a27) (fun i s => ∀ j, j < i → s j = nI (v j)) n a3 (fun j hj => absurd hj (by omega)) ?_ ?_
  · intro f s hI
    exact pk_le n n (fun _ => H s hI) (fun z => absurd z (by omega))
  · intro f i s hi hI hw
    refine pk_le n i (fun z => absurd z (by omega)) (fun _ => ?_)
    obtain ⟨v8, av⟩ := h4 i hi
    rw [nI_clamp (show i < 2 ^ 31 by omega), av, qs_vb (by omega)]
    refine ⟨vp_in_nI (by omega) (by decide), vp_in_nI (by omega) (by decide), nm_e (nm_r (nI_1 i) (hw _ (fun j hj => ?_)))⟩
    by_cases e : j = i
    · rw [e, pk_us]
    · rw [pk_un e]
      exact hI j (by omega)
theorem qs_partLevel {post : St1 → Prop} {p0 p1 : Int32} {n l : Nat} {s : Nat → Nat} (hn : n ≤ 200) (hl : l < 3) (h3 : ∀ i, i < n → s i < 8 ∧ a3 i = nI (s i)) (hz : ∀ q, q < 224 → qs_gr a5 (3 + l) q = false)
    (h0 : p0 = nI l) (h1 : p1 = nI (qs_zz s l n))
    (H : ∀ (b3 b4 b5 : Nat → Int32) (s' : Nat → Nat), (∀ i, i < n → s' i < 8 ∧ b3 i = nI (s' i)) → (∀ i, i < n → s' (qs_dn s l n (qs_dg l (s i)) i) = s i) → (∀ i, i < n → qs_gr b5 (3 + l) i = decide (qs_dg l (s i) = 1)) → (∀ q, q / 224 ≠ 3 + l → qs_gb b5 q = qs_gb a5 q) →
      post (nI n, ip, rc, nd, cs, a1, a2, b3, b4, b5, a6, a7, a8, a9, a10, a11, a12, a13, a14, a15, a16, a17, a18, a19, a20, a21, a22, a23, a24, a25, a26, a27)) : wpX_partLevel post (nI n, ip, rc, nd, cs, a1, a2, a3, a4, a5, a6, a7, a8, a9, a10, a11, a12, a13, a14, a15, a16, a17, a18, a19, a20, a21, a22, a23, a24, a25, a26, a27) p0 p1 := by
  subst h0
  subst h1
  have hzn : qs_zz s l n ≤ n := qs_ct_le _ _
  have hzo := qs_zo s l n
  show ∃ f, wX_partLevel_8 post (nI l) f 0 (nI (qs_zz s l n)) 0 (nI n) ip rc nd cs a1 a2 a3 a4 a5 a6 a7 a8 a9 a10 a11 a12 a13 a14 a15 a16 a17 a18 a19 a20 a21 a22 a23 a24 a25 a26 a27
  refine loop_0 (fun f i (t : (Nat → Int32) × (Nat → Int32)) => wX_partLevel_8 post (nI l) f (nI (qs_zz s l i)) (nI (qs_zz s l n + qs_oo s l i)) (nI i) (nI n) ip rc nd cs a1 a2 a3 t.1 t.2 a6 a7 a8 a9 a10 a11 a12 a13 a14 a15 a16 a17 a18 a19 a20 a21 a22 a23 a24 a25 a26 a27)
    (fun i t => (∀ j, j < i → t.1 (qs_dn s l n (qs_dg l (s j)) j) = nI (s j)) ∧ (∀ j, i ≤ j → j < 224 → qs_gr t.2 (3 + l) j = false) ∧ (∀ j, j < i → qs_gr t.2 (3 + l) j = decide (qs_dg l (s j) = 1)) ∧ (∀ q, q / 224 ≠ 3 + l → qs_gb t.2 q = qs_gb a5 q)) n (a4, a5)
    ⟨fun j hj => absurd hj (by omega), fun j _ hj => hz j hj, fun j hj => absurd hj (by omega), fun _ _ => rfl⟩ ?_ ?_
  · intro f t hI
    obtain ⟨i1, i2, i3, i4⟩ := hI
    refine pk_le n n (fun _ => ?_) (fun z => absurd z (by omega))
    have hv : ∀ k, k < n → (t.1 k).toNatClampNeg < 8 ∧ t.1 k = nI (t.1 k).toNatClampNeg := by
      intro k hk
      obtain ⟨i, g1, g2⟩ := qs_dn_sur s l n hk
      have g3 := i1 i g1
      have g4 := (h3 i g1).1
      rw [g2] at g3
      rw [g3, nI_clamp (by omega)]
      exact ⟨g4, rfl⟩
    refine qs_pl86 hn hv (fun b3 hb => H b3 t.1 t.2 (fun k => (t.1 k).toNatClampNeg) (fun k hk => ⟨(hv k hk).1, hb k hk⟩) (fun i hi => ?_) i3 i4)
    have g4 := (h3 i hi).1
    show (t.1 (qs_dn s l n (qs_dg l (s i)) i)).toNatClampNeg = s i
    rw [i1 i hi, nI_clamp (by omega)]
  · intro f i t hi hI hw
    obtain ⟨i1, i2, i3, i4⟩ := hI
    refine pk_le n i (fun z => absurd z (by omega)) (fun _ => ?_)
    obtain ⟨v8, av⟩ := h3 i hi
    have hd := qs_dg2 l (s i)
    have hlt := qs_dn_lt (s := s) (l := l) hi
    rw [nI_clamp (show i < 2 ^ 31 by omega), av]
    refine ⟨vp_in_nI (by omega) (by decide), qs_digitOf l (s i) hl v8 rfl rfl (pk_eq (qs_dg l (s i)) 1 (fun d => ?_) (fun d => ?_))⟩
    · refine qs_setBit (3 + l) i (by omega) (by omega) (nI_add 3 l) rfl (fun b hb => ?_)
      try dsimp only
      have hdn : qs_dn s l n (qs_dg l (s i)) i = qs_zz s l n + qs_oo s l i := by
        unfold qs_dn
        rw [if_pos d]
      rw [av, qs_vb (by omega), nI_clamp (by omega)]
      have hgr : ∀ j, j < 224 → qs_gr b (3 + l) j = (qs_gr t.2 (3 + l) j || decide (j = i)) := by
        intro j hj
        unfold qs_gr
        rw [hb]
        congr 1
        exact decide_eq_decide.mpr ⟨fun z => by omega, fun z => by omega⟩
      have t' := hw (upd t.1 (qs_zz s l n + qs_oo s l i) (nI (s i)), b) ⟨fun j hj => ?_, fun j hj hj2 => ?_, fun j hj => ?_, fun q hq => ?_⟩
      · try dsimp only at t'
        obtain ⟨e1, e2⟩ := qs_zz_S1 d
        rw [e1, e2, ← Nat.add_assoc] at t'
        exact ⟨vp_in_nI (by omega) (by decide), vp_in_nI (by omega) (by decide), nm_e (nm_r (nI_1 _) (nm_r (nI_1 i) t'))⟩
      · show upd t.1 (qs_zz s l n + qs_oo s l i) (nI (s i)) _ = _
        rw [← hdn]
        by_cases e : j = i
        · rw [e, pk_us]
        · rw [pk_un (qs_dn_ne (by omega) hi)]
          exact i1 j (by omega)
      · show qs_gr b (3 + l) j = false
        rw [hgr j hj2, i2 j (by omega) hj2, decide_eq_false (by omega)]
        rfl
      · show qs_gr b (3 + l) j = _
        rw [hgr j (by omega)]
        by_cases e : j = i
        · rw [e, i2 i (by omega) (by omega), decide_eq_true rfl, decide_eq_true d]
          rfl
        · rw [i3 j (by omega), decide_eq_false e, Bool.or_false]
      · show qs_gb b q = _
        rw [hb, i4 q hq, decide_eq_false (by omega), Bool.or_false]
    · have d0 : qs_dg l (s i) = 0 := by omega
      have hdn : qs_dn s l n (qs_dg l (s i)) i = qs_zz s l i := by
        unfold qs_dn
        rw [if_neg d]
      rw [qs_vb (by omega), nI_clamp (by omega)]
      have t' := hw (upd t.1 (qs_zz s l i) (nI (s i)), t.2) ⟨fun j hj => ?_, fun j hj hj2 => i2 j (by omega) hj2, fun j hj => ?_, i4⟩
      · try dsimp only at t'
        obtain ⟨e1, e2⟩ := qs_zz_S0 d0
        rw [e1, e2] at t'
        exact ⟨vp_in_nI (by omega) (by decide), vp_in_nI (by omega) (by decide), nm_e (nm_r (nI_1 _) (nm_r (nI_1 i) t'))⟩
      · show upd t.1 (qs_zz s l i) (nI (s i)) _ = _
        rw [← hdn]
        by_cases e : j = i
        · rw [e, pk_us]
        · rw [pk_un (qs_dn_ne (by omega) hi)]
          exact i1 j (by omega)
      · show qs_gr t.2 (3 + l) j = _
        by_cases e : j = i
        · rw [e, i2 i (by omega) (by omega), decide_eq_false d]
        · exact i3 j (by omega)
theorem qs_packMatrix {post : St1 → Prop} {n : Nat} {w : Nat → Nat} (hL : qs_L n w a1) (hz : ∀ q, 672 ≤ q → q < 1344 → qs_gb a5 q = false)
    (H : ∀ b3 b4 b5 b8 s, qs_MF n w (qs_gr b5) b8 s → (∀ q, q < 672 ∨ 1344 ≤ q → qs_gb b5 q = qs_gb a5 q) → post (nI n, ip, rc, nd, cs, a1, a2, b3, b4, b5, a6, a7, b8, a9, a10, a11, a12, a13, a14, a15, a16, a17, a18, a19, a20, a21, a22, a23, a24, a25, a26, a27)) : wpX_packMatrix post (nI n, ip, rc, nd, cs, a1, a2, a3, a4, a5, a6, a7, a8, a9, a10, a11, a12, a13, a14, a15, a16, a17, a18, a19, a20, a21, a22, a23, a24, a25, a26, a27) := by
  obtain ⟨hn, ha, _⟩ := hL
  have lev : ∀ c3, (∀ i, i < n → c3 i = nI (w i)) → ∃ f, wX_packMatrix_30 post f 0 (nI n) ip rc nd cs a1 a2 c3 a4 a5 a6 a7 a8 a9 a10 a11 a12 a13 a14 a15 a16 a17 a18 a19 a20 a21 a22 a23 a24 a25 a26 a27 := by
    intro c3 hc3
    refine loop_0 (fun f l (t : (Nat → Int32) × (Nat → Int32) × (Nat → Int32) × (Nat → Int32)) => wX_packMatrix_30 post f (nI l) (nI n) ip rc nd cs a1 a2 t.1 t.2.1 t.2.2.1 a6 a7 t.2.2.2 a9 a10 a11 a12 a13 a14 a15 a16 a17 a18 a19 a20 a21 a22 a23 a24 a25 a26 a27)
      (fun l t => ∃ s : Nat → Nat → Nat, (∀ i, i < n → s 0 i = w i) ∧ (∀ l', l' < l → (∀ i, i < n → qs_gr t.2.2.1 (3 + l') i = decide (qs_dg l' (s l' i) = 1)) ∧ t.2.2.2 l' = nI (qs_zz (s l') l' n) ∧ (∀ i, i < n → s (l' + 1) (qs_dn (s l') l' n (qs_dg l' (s l' i)) i) = s l' i))
        ∧ (∀ l', l' < l + 1 → ∀ i, i < n → s l' i < 8) ∧ (∀ i, i < n → t.1 i = nI (s l i)) ∧ (∀ q, q < 672 ∨ (3 + l) * 224 ≤ q → qs_gb t.2.2.1 q = qs_gb a5 q)) 3 (c3, a4, a5, a8)
      ⟨fun _ => w, fun _ _ => rfl, fun l' hl' => absurd hl' (by omega), fun l' _ i hi => (ha i hi).1, hc3, fun _ _ => rfl⟩ ?_ ?_
    · intro f t hI
      obtain ⟨s, i1, i2, i3, i4, i5⟩ := hI
      exact pk_le 3 3 (fun _ => H _ _ _ _ s ⟨i1, i2, i3⟩ i5) (fun z => absurd z (by omega))
    · intro f l t hl hI hw
      obtain ⟨s, i1, i2, i3, i4, i5⟩ := hI
      refine pk_le 3 l (fun z => absurd z (by omega)) (fun _ => ?_)
      refine loop_0 (σ := Unit) (fun f' i _ => wX_packMatrix_39 post (wX_packMatrix_30 post f) (nI l) (nI n) ip rc nd cs a1 a2 t.1 t.2.1 t.2.2.1 a6 a7 t.2.2.2 a9 a10 a11 a12 a13 a14 a15 a16 a17 a18 a19 a20 a21 a22 a23 a24 a25 a26 a27 f' (nI (qs_zz (s l) l i)) (nI i)) (fun _ _ => True) n () trivial ?_ ?_
      · intro f' _ _
        have hzn : qs_zz (s l) l n ≤ n := qs_ct_le _ _
        refine pk_le n n (fun _ => ?_) (fun z => absurd z (by omega))
        rw [nI_clamp (show l < 2 ^ 31 by omega), qs_s16 _ (by omega)]
        refine ⟨vp_in_nI (by omega) (by decide), nm_e (qs_partLevel (s := s l) hn hl (fun i hi => ⟨i3 l (by omega) i hi, i4 i hi⟩) (fun q hq => ?_) rfl rfl (fun b3 b4 b5 s' g1 g2 g3 g4 => ?_))⟩
        · unfold qs_gr
          rw [i5 _ (by omega)]
          exact hz _ (by omega) (by omega)
        · refine nm_r (nI_1 l) (hw (b3, b4, b5, upd t.2.2.2 l (nI (qs_zz (s l) l n))) ⟨qs_up s (l + 1) s', ?_, ?_, ?_, ?_, ?_⟩)
          · intro i hi
            rw [qs_up_n _ _ (by omega)]
            exact i1 i hi
          · intro l' hl'
            try dsimp only
            rw [qs_up_n _ _ (show l' ≠ l + 1 by omega)]
            by_cases e : l' = l
            · rw [e, qs_up_s, pk_us]
              exact ⟨g3, rfl, g2⟩
            · rw [qs_up_n _ _ (show l' + 1 ≠ l + 1 by omega), pk_un e]
              obtain ⟨k1, k2, k3⟩ := i2 l' (by omega)
              refine ⟨fun i hi => ?_, k2, k3⟩
              rw [← k1 i hi]
              unfold qs_gr
              exact g4 _ (by omega)
          · intro l' hl' i hi
            try dsimp only
            by_cases e : l' = l + 1
            · rw [e, qs_up_s]
              exact (g1 i hi).1
            · rw [qs_up_n _ _ e]
              exact i3 l' (by omega) i hi
          · intro i hi
            try dsimp only
            rw [qs_up_s]
            exact (g1 i hi).2
          · intro q hq
            try dsimp only
            rw [g4 q (by omega)]
            exact i5 q (by omega)
      · intro f' i _ hi _ hw2
        refine pk_le n i (fun z => absurd z (by omega)) (fun _ => ?_)
        have s8 := i3 l (by omega) i hi
        have hd := qs_dg2 l (s l i)
        have t' := hw2 () trivial
        try dsimp only at t'
        rw [nI_clamp (show i < 2 ^ 31 by omega), i4 i hi]
        refine ⟨vp_in_nI (by omega) (by decide), qs_digitOf l (s l i) hl s8 rfl rfl (pk_eq (qs_dg l (s l i)) 0 (fun d => ?_) (fun d => ?_))⟩
        · rw [(qs_zz_S0 d).1] at t'
          exact nm_r (nI_1 _) (nm_r (nI_1 i) t')
        · rw [(qs_zz_S1 (show qs_dg l (s l i) = 1 by omega)).1] at t'
          exact nm_r (nI_add _ 0) (nm_r (nI_1 i) t')
  show ∃ f, wX_packMatrix_2 post (nI n) ip rc nd cs f 0 a1 a2 a3 a4 a5 a6 a7 a8 a9 a10 a11 a12 a13 a14 a15 a16 a17 a18 a19 a20 a21 a22 a23 a24 a25 a26 a27
  refine loop_0 (fun f i s => wX_packMatrix_2 post (nI n) ip rc nd cs f (nI i) a1 a2 s a4 a5 a6 a7 a8 a9 a10 a11 a12 a13 a14 a15 a16 a17 a18 a19 a20 a21 a22 a23 a24 a25 a26 a27) (fun i s => ∀ j, j < i → s j = nI (w j)) n a3 (fun j hj => absurd hj (by omega)) ?_ ?_
  · intro f s hI
    exact pk_le n n (fun _ => lev s hI) (fun z => absurd z (by omega))
  · intro f i s hi hI hw
    refine pk_le n i (fun z => absurd z (by omega)) (fun _ => ?_)
    obtain ⟨v8, av⟩ := ha i hi
    rw [nI_clamp (show i < 2 ^ 31 by omega), av, qs_vb (by omega)]
    refine ⟨vp_in_nI (by omega) (by decide), vp_in_nI (by omega) (by decide), nm_e (nm_r (nI_1 i) (hw _ (fun j hj => ?_)))⟩
    by_cases e : j = i
    · rw [e, pk_us]
    · rw [pk_un e]
      exact hI j (by omega)
end
end
section
section
variable {nn ip rc nd cs : Int32} {a1 a2 a3 a4 a5 a6 a7 a8 a9 a10 a11 a12 a13 a14 a15 a16 a17 a18 a19 a20 a21 a22 a23 a24 a25 a26 a27 : Nat → Int32}
/-! the matrix is asked -/
theorem qs_M_ones {n : Nat} {w : Nat → Nat} {a5 a8 : Nat → Int32} {s : Nat → Nat → Nat} (hM : qs_MF n w (qs_gr a5) a8 s) {l i : Nat} (hl : l < 3) (hi : i ≤ n) : qs_ct (qs_gr a5 (3 + l)) i = qs_oo (s l) l i :=
  qs_ct_congr (fun j hj => (hM.2.1 l hl).1 j (by omega))
theorem qs_down {n : Nat} {w : Nat → Nat} {s : Nat → Nat → Nat} {post : Int32 → Prop} {p0 p1 p2 : Int32} (l i d : Nat) (hM : qs_MF n w (qs_gr a5) a8 s) (hS : ∀ r, r < 21 → qs_sumr a5 a6 a7 r) (hn : n ≤ 200) (hl : l < 3) (hi : i ≤ n) (hd : d < 2)
    (h0 : p0 = nI l) (h1 : p1 = nI i) (h2 : p2 = nI d) (H : post (nI (qs_dn (s l) l n d i))) : wpX_downInMatrix post (nn, ip, rc, nd, cs, a1, a2, a3, a4, a5, a6, a7, a8, a9, a10, a11, a12, a13, a14, a15, a16, a17, a18, a19, a20, a21, a22, a23, a24, a25, a26, a27) p0 p1 p2 := by
  subst h0
  subst h1
  subst h2
  unfold wpX_downInMatrix
  refine qs_onesBefore (3 + l) i (hS _ (by omega)) (by omega) (by omega) (nI_add 3 l) rfl ?_
  have hz := qs_zo (s l) l i
  rw [qs_M_ones hM hl hi]
  refine pk_eq d 0 (fun e => ?_) (fun e => ⟨vp_in_nI (by omega) (by decide), ?_⟩)
  · rw [pk_sub (by omega), show i - qs_oo (s l) l i = qs_zz (s l) l i by omega]
    unfold qs_dn at H
    rw [if_neg (by omega)] at H
    exact H
  · rw [nI_clamp (by omega), (hM.2.1 l hl).2.1, nI_add]
    unfold qs_dn at H
    rw [if_pos (by omega)] at H
    exact H
theorem qs_rankInMatrix {n : Nat} {w : Nat → Nat} {s : Nat → Nat → Nat} {post : Int32 → Prop} {p0 p1 : Int32} (c i : Nat) (hM : qs_MF n w (qs_gr a5) a8 s) (hS : ∀ r, r < 21 → qs_sumr a5 a6 a7 r) (hL : qs_L n w a1) (hc : c < 8) (hi : i ≤ n)
    (h0 : p0 = nI c) (h1 : p1 = nI i) (H : post (nI (qs_rk w c i))) : wpX_rankInMatrix post (nn, ip, rc, nd, cs, a1, a2, a3, a4, a5, a6, a7, a8, a9, a10, a11, a12, a13, a14, a15, a16, a17, a18, a19, a20, a21, a22, a23, a24, a25, a26, a27) p0 p1 := by
  subst h0
  subst h1
  have hn := hL.1
  show ∃ f, wX_rankInMatrix_8 post (nI c) nn ip rc nd cs a1 a2 a3 a4 a5 a6 a7 a8 a9 a10 a11 a12 a13 a14 a15 a16 a17 a18 a19 a20 a21 a22 a23 a24 a25 a26 a27 f 0 (nI i) 0
  refine loop_0 (σ := Unit) (fun f l _ => wX_rankInMatrix_8 post (nI c) nn ip rc nd cs a1 a2 a3 a4 a5 a6 a7 a8 a9 a10 a11 a12 a13 a14 a15 a16 a17 a18 a19 a20 a21 a22 a23 a24 a25 a26 a27 f (nI (qs_tr s n c l 0)) (nI (qs_tr s n c l i)) (nI l)) (fun _ _ => True) 3 () trivial ?_ ?_
  · intro f _ _
    refine pk_le 3 3 (fun _ => ?_) (fun z => absurd z (by omega))
    have h := qs_tr_rk hM hL hc hi
    rw [pk_sub (by omega), show qs_tr s n c 3 i - qs_tr s n c 3 0 = qs_rk w c i by omega]
    exact H
  · intro f l _ hl _ hw
    have t := hw () trivial
    try dsimp only at t
    have hd := qs_dg2 l c
    have ha := qs_tr_le s n c (Nat.zero_le n) l
    have hb := qs_tr_le s n c hi l
    refine pk_le 3 l (fun z => absurd z (by omega)) (fun _ => qs_digitOf l c hl hc rfl rfl (pk_eq (qs_dg l c) 1 (fun d => ?_) (fun d => ?_)))
    · have e : (1 : Int32) = nI (qs_dg l c) := by rw [d]; rfl
      exact qs_down l _ (qs_dg l c) hM hS hn hl ha hd rfl rfl e (qs_down l _ (qs_dg l c) hM hS hn hl hb hd rfl rfl e (nm_r (nI_1 l) t))
    · have e : (0 : Int32) = nI (qs_dg l c) := by rw [show qs_dg l c = 0 by omega]; rfl
      exact qs_down l _ (qs_dg l c) hM hS hn hl ha hd rfl rfl e (qs_down l _ (qs_dg l c) hM hS hn hl hb hd rfl rfl e (nm_r (nI_1 l) t))
theorem qs_atInMatrix {n : Nat} {w : Nat → Nat} {s : Nat → Nat → Nat} {post : Int32 → Prop} {p0 : Int32} (q : Nat) (hM : qs_MF n w (qs_gr a5) a8 s) (hS : ∀ r, r < 21 → qs_sumr a5 a6 a7 r) (hL : qs_L n w a1) (hq : q < n)
    (h0 : p0 = nI q) (H : post (nI (w q))) : wpX_atInMatrix post (nn, ip, rc, nd, cs, a1, a2, a3, a4, a5, a6, a7, a8, a9, a10, a11, a12, a13, a14, a15, a16, a17, a18, a19, a20, a21, a22, a23, a24, a25, a26, a27) p0 := by
  subst h0
  have hn := hL.1
  have hc := (hL.2.1 q hq).1
  have main : ∃ f, wX_atInMatrix_7 post nn ip rc nd cs a1 a2 a3 a4 a5 a6 a7 a8 a9 a10 a11 a12 a13 a14 a15 a16 a17 a18 a19 a20 a21 a22 a23 a24 a25 a26 a27 f (nI (qs_pre 0 (w q))) (nI (qs_tr s n (w q) 0 q)) (nI 0) := by
    refine loop_0 (σ := Unit) (fun f l _ => wX_atInMatrix_7 post nn ip rc nd cs a1 a2 a3 a4 a5 a6 a7 a8 a9 a10 a11 a12 a13 a14 a15 a16 a17 a18 a19 a20 a21 a22 a23 a24 a25 a26 a27 f (nI (qs_pre l (w q))) (nI (qs_tr s n (w q) l q)) (nI l)) (fun _ _ => True) 3 () trivial ?_ ?_
    · intro f _ _
      refine pk_le 3 3 (fun _ => ?_) (fun z => absurd z (by omega))
      rw [qs_pre3]
      exact H
    · intro f l _ hl _ hw
      have t := hw () trivial
      try dsimp only at t
      obtain ⟨g1, g2⟩ := qs_tr_at hM hq l (by omega)
      have hr := (hM.2.1 l hl).1 _ g1
      rw [g2] at hr
      have hd := qs_dg2 l (w q)
      have hz := qs_zo (s l) l (qs_tr s n (w q) l q)
      refine pk_le 3 l (fun z => absurd z (by omega)) (fun _ => qs_bitAt (3 + l) (qs_tr s n (w q) l q) (by omega) (by omega) (nI_add 3 l) rfl ?_)
      rw [hr]
      rw [qs_preS hl, show qs_tr s n (w q) (l + 1) q = qs_dn (s l) l n (qs_dg l (w q)) (qs_tr s n (w q) l q) from rfl] at t
      unfold qs_dn at t
      by_cases d : qs_dg l (w q) = 1
      · rw [decide_eq_true d]
        rw [if_pos d, d] at t
        refine br_f (by decide) (nm_r ((congrArg (· + 1) (pk_mul 2 _)).trans (nI_1 _)) (qs_onesBefore (3 + l) _ (hS _ (by omega)) (by omega) (by omega) (nI_add 3 l) rfl (br_f (by decide) ⟨vp_in_nI (by omega) (by decide), nm_r ?_ (nm_r (nI_1 l) t)⟩)))
        rw [nI_clamp (by omega), (hM.2.1 l hl).2.1, qs_M_ones hM hl (by omega), nI_add]
      · rw [decide_eq_false d]
        rw [if_neg d, show qs_dg l (w q) = 0 by omega] at t
        refine br_t rfl (nm_r ((congrArg (· + 0) (pk_mul 2 _)).trans (nI_add _ 0)) (qs_onesBefore (3 + l) _ (hS _ (by omega)) (by omega) (by omega) (nI_add 3 l) rfl (br_t rfl (nm_r ?_ (nm_r (nI_1 l) t)))))
        rw [qs_M_ones hM hl (by omega), pk_sub (by omega)]
        congr 1
        omega
  rw [qs_pre0 hc] at main
  exact main
theorem qs_selectInMatrix {n : Nat} {w : Nat → Nat} {s : Nat → Nat → Nat} {post : Int32 → Prop} {p0 p1 : Int32} (c k q : Nat) (hM : qs_MF n w (qs_gr a5) a8 s) (hS : ∀ r, r < 21 → qs_sumr a5 a6 a7 r) (hL : qs_L n w a1) (hnn : nn = nI n) (hq : q < n) (hc : w q = c) (hk : qs_rk w c q = k)
    (h0 : p0 = nI c) (h1 : p1 = nI k) (H : post (nI q)) : wpX_selectInMatrix post (nn, ip, rc, nd, cs, a1, a2, a3, a4, a5, a6, a7, a8, a9, a10, a11, a12, a13, a14, a15, a16, a17, a18, a19, a20, a21, a22, a23, a24, a25, a26, a27) p0 p1 := by
  subst h0
  subst h1
  subst hnn
  have hn := hL.1
  have hc8 := (hL.2.1 q hq).1
  rw [hc] at hc8
  have step : ∀ f l, l < 3 → wX_selectInMatrix_51 post (nI c) (nI n) ip rc nd cs a1 a2 a3 a4 a5 a6 a7 a8 a9 a10 a11 a12 a13 a14 a15 a16 a17 a18 a19 a20 a21 a22 a23 a24 a25 a26 a27 f (nI (qs_tr s n c l q)) (nI l + (-1)) → wX_selectInMatrix_51 post (nI c) (nI n) ip rc nd cs a1 a2 a3 a4 a5 a6 a7 a8 a9 a10 a11 a12 a13 a14 a15 a16 a17 a18 a19 a20 a21 a22 a23 a24 a25 a26 a27 (f + 1) (nI (qs_tr s n c (l + 1) q)) (nI l) := by
    intro f l hl t
    have g := qs_tr_at hM hq l (by omega)
    rw [hc] at g
    obtain ⟨g1, g2⟩ := g
    have hr := (hM.2.1 l hl).1 _ g1
    rw [g2] at hr
    have hd := qs_dg2 l c
    have hz := qs_zo (s l) l (qs_tr s n c l q)
    refine br_f (nI_pos (by omega)) (qs_digitOf l c hl hc8 rfl rfl (pk_eq (qs_dg l c) 1 (fun d => ?_) (fun d => ?_)))
    · rw [decide_eq_true d] at hr
      refine br_f (by decide) ⟨vp_in_nI (by omega) (by decide), qs_placeOfBit n (3 + l) (qs_oo (s l) l (qs_tr s n c l q)) (qs_tr s n c l q) true (hS _ (by omega)) (by omega) hn rfl (nI_add 3 l) rfl ?_ g1 hr ?_ (nm_e t)⟩
      · rw [show qs_tr s n c (l + 1) q = qs_dn (s l) l n (qs_dg l c) (qs_tr s n c l q) from rfl]
        unfold qs_dn
        rw [if_pos d, nI_clamp (by omega), (hM.2.1 l hl).2.1, pk_sub (by omega), Nat.add_sub_cancel_left]
      · rw [qs_gz_t, qs_M_ones hM hl (by omega)]
    · rw [decide_eq_false d] at hr
      refine br_t rfl (qs_placeOfBit n (3 + l) (qs_zz (s l) l (qs_tr s n c l q)) (qs_tr s n c l q) false (hS _ (by omega)) (by omega) hn rfl (nI_add 3 l) rfl ?_ g1 hr ?_ (nm_e t))
      · rw [show qs_tr s n c (l + 1) q = qs_dn (s l) l n (qs_dg l c) (qs_tr s n c l q) from rfl]
        unfold qs_dn
        rw [if_neg d]
      · rw [qs_gz_f, qs_M_ones hM hl (by omega)]
        omega
  have fin : wX_selectInMatrix_51 post (nI c) (nI n) ip rc nd cs a1 a2 a3 a4 a5 a6 a7 a8 a9 a10 a11 a12 a13 a14 a15 a16 a17 a18 a19 a20 a21 a22 a23 a24 a25 a26 a27 4 (nI (qs_tr s n c 3 q)) 2 := by
    refine step 3 2 (by omega) (step 2 1 (by omega) (step 1 0 (by omega) ?_))
    exact br_t (by decide) H
  show ∃ f, wX_selectInMatrix_5 post (nI c) (nI k) (nI n) ip rc nd cs a1 a2 a3 a4 a5 a6 a7 a8 a9 a10 a11 a12 a13 a14 a15 a16 a17 a18 a19 a20 a21 a22 a23 a24 a25 a26 a27 f 0 0
  refine loop_0 (σ := Unit) (fun f l _ => wX_selectInMatrix_5 post (nI c) (nI k) (nI n) ip rc nd cs a1 a2 a3 a4 a5 a6 a7 a8 a9 a10 a11 a12 a13 a14 a15 a16 a17 a18 a19 a20 a21 a22 a23 a24 a25 a26 a27 f (nI (qs_tr s n c l 0)) (nI l)) (fun _ _ => True) 3 () trivial ?_ ?_
  · intro f _ _
    refine pk_le 3 3 (fun _ => nm_r ?_ ⟨4, fin⟩) (fun z => absurd z (by omega))
    rw [nI_add, qs_tr_rk hM hL hc8 (Nat.le_of_lt hq), hk]
  · intro f l _ hl _ hw
    have t := hw () trivial
    try dsimp only at t
    have hd := qs_dg2 l c
    have ha := qs_tr_le s n c (Nat.zero_le n) l
    refine pk_le 3 l (fun z => absurd z (by omega)) (fun _ => qs_digitOf l c hl hc8 rfl rfl (pk_eq (qs_dg l c) 1 (fun d => ?_) (fun d => ?_)))
    · have e : (1 : Int32) = nI (qs_dg l c) := by rw [d]; rfl
      exact qs_down l _ (qs_dg l c) hM hS hn hl ha hd rfl rfl e (nm_r (nI_1 l) t)
    · have e : (0 : Int32) = nI (qs_dg l c) := by rw [show qs_dg l c = 0 by omega]; rfl
      exact qs_down l _ (qs_dg l c) hM hS hn hl ha hd rfl rfl e (nm_r (nI_1 l) t)
/-- c is the letter number k of the stretch [i, j), in order -/
def qs_od (w : Nat → Nat) (i j k c : Nat) : Prop := c < 8 ∧ qs_bl w c j ≤ k + qs_bl w c i ∧ k + qs_bl w (c + 1) i < qs_bl w (c + 1) j
theorem qs_bl_S (w : Nat → Nat) (c i : Nat) : qs_bl w (c + 1) i = qs_bl w c i + qs_rk w c i :=
  qs_dsum (P := fun j => w j < c + 1) (Q := fun j => w j < c) (S := fun j => w j = c) (fun j _ => by omega) (fun j _ => by omega)
theorem qs_orderedInMatrix {n : Nat} {w : Nat → Nat} {s : Nat → Nat → Nat} {post : Int32 → Prop} {p0 p1 p2 : Int32} (i j k : Nat) (hM : qs_MF n w (qs_gr a5) a8 s) (hS : ∀ r, r < 21 → qs_sumr a5 a6 a7 r) (hL : qs_L n w a1) (hj : j ≤ n) (hk : i + k < j)
    (h0 : p0 = nI i) (h1 : p1 = nI j) (h2 : p2 = nI k) (H : ∀ c, qs_od w i j k c → post (nI c)) : wpX_orderedInMatrix post (nn, ip, rc, nd, cs, a1, a2, a3, a4, a5, a6, a7, a8, a9, a10, a11, a12, a13, a14, a15, a16, a17, a18, a19, a20, a21, a22, a23, a24, a25, a26, a27) p0 p1 p2 := by
  subst h0
  subst h1
  subst h2
  have hn := hL.1
  show ∃ f, wX_orderedInMatrix_15 post nn ip rc nd cs a1 a2 a3 a4 a5 a6 a7 a8 a9 a10 a11 a12 a13 a14 a15 a16 a17 a18 a19 a20 a21 a22 a23 a24 a25 a26 a27 f 0 (nI i) (nI j) (nI k) 0
  refine loop_0 (fun f l (t : Nat × Nat × Nat × Nat) => wX_orderedInMatrix_15 post nn ip rc nd cs a1 a2 a3 a4 a5 a6 a7 a8 a9 a10 a11 a12 a13 a14 a15 a16 a17 a18 a19 a20 a21 a22 a23 a24 a25 a26 a27 f (nI t.1) (nI t.2.1) (nI t.2.2.1) (nI t.2.2.2) (nI l))
    (fun l t => t.1 < 2 ^ l ∧ qs_Q n w s l t.1 i j t.2.1 t.2.2.1 ∧ t.2.1 + t.2.2.2 < t.2.2.1 ∧ t.2.2.2 + qs_ct (fun x => decide (qs_pre l (w x) < t.1)) j = k + qs_ct (fun x => decide (qs_pre l (w x) < t.1)) i) 3 (0, i, j, k) ⟨Nat.one_pos, qs_Q0 hM hL (by omega) hj, hk, ?_⟩ ?_ ?_
  · rw [qs_ct_zero (fun x _ => decide_eq_false (by omega)), qs_ct_zero (fun x _ => decide_eq_false (by omega))]
  · intro f t hI
    obtain ⟨i1, i2, i3, i4⟩ := hI
    refine pk_le 3 3 (fun _ => H t.1 ⟨i1, ?_⟩) (fun z => absurd z (by omega))
    have e := qs_Q_len i2
    rw [qs_m3, qs_m3] at e
    have e2 : ∀ x, qs_ct (fun y => decide (qs_pre 3 (w y) < t.1)) x = qs_bl w t.1 x := fun x => qs_dcg (P := fun y => qs_pre 3 (w y) < t.1) (Q := fun y => w y < t.1) (fun y _ => by rw [qs_pre3])
    rw [e2, e2] at i4
    rw [qs_bl_S, qs_bl_S]
    omega
  · intro f l t hl hI hw
    obtain ⟨p, a, b, x⟩ := t
    obtain ⟨i1, i2, i3, i4⟩ := hI
    try dsimp only at i1 i2 i3 i4
    have q0 := qs_QS hM hl (d := 0) (by omega) i2
    have q1 := qs_QS hM hl (d := 1) (by omega) i2
    have z0 := qs_Q_len q0
    have za := qs_zo (s l) l a
    have zb := qs_zo (s l) l b
    have zn := qs_zo (s l) l n
    have ab := i2.1
    have bn := i2.2.1
    have m1 := q0.1
    have d0 : ∀ y, qs_dn (s l) l n 0 y = qs_zz (s l) l y := fun y => by unfold qs_dn; rw [if_neg (by decide)]
    have d1 : ∀ y, qs_dn (s l) l n 1 y = qs_zz (s l) l n + qs_oo (s l) l y := fun y => by unfold qs_dn; rw [if_pos rfl]
    have p2 : (2 : Nat) ^ (l + 1) = 2 * 2 ^ l := by rw [Nat.pow_succ, Nat.mul_comm]
    have t3 := fun y => qs_t3 (w := w) hl p y
    have t4 := fun y => qs_t4 (w := w) hl p y
    have t1 := fun y => qs_t1 (w := w) hl p y
    unfold qs_m at z0
    rw [Nat.add_zero (2 * p), t1, t1, d0, d0] at z0
    have hp8 : 2 ^ l ≤ 2 ^ 3 := Nat.pow_le_pow_right (by decide) (by omega)
    refine pk_le 3 l (fun z => absurd z (by omega)) (fun _ => ?_)
    refine qs_down l a 0 hM hS hn hl (by omega) (by omega) rfl rfl rfl (qs_down l b 0 hM hS hn hl bn (by omega) rfl rfl rfl ?_)
    rw [d0, d0] at m1
    rw [d0, d0, pk_sub m1]
    refine pk_lt x (qs_zz (s l) l b - qs_zz (s l) l a) (fun h => ?_) (fun h => ?_) rfl rfl (by omega) (by omega)
    · have t' := hw (2 * p, qs_zz (s l) l a, qs_zz (s l) l b, x) ⟨?_, ?_, ?_, ?_⟩
      · try dsimp only at t'
        exact br_t rfl (nm_r (show nI x - 0 = nI x from pk_sub (b := 0) (Nat.zero_le x)) (br_t rfl (nm_r ((congrArg (· + 0) (pk_mul 2 p)).trans (nI_add _ 0)) (br_t rfl (br_t rfl (nm_r (nI_1 l) t'))))))
      · try dsimp only
        omega
      · rw [d0, d0] at q0
        exact q0
      · try dsimp only
        omega
      · try dsimp only
        rw [t3, t3]
        exact i4
    · have t' := hw (2 * p + 1, qs_dn (s l) l n 1 a, qs_dn (s l) l n 1 b, x - (qs_zz (s l) l b - qs_zz (s l) l a)) ⟨?_, q1, ?_, ?_⟩
      · try dsimp only at t'
        refine br_f (by decide) ?_
        rw [pk_sub m1]
        exact nm_r (pk_sub h) (br_f (by decide) (nm_r ((congrArg (· + 1) (pk_mul 2 p)).trans (nI_1 _)) (br_f (by decide) (qs_down l a 1 hM hS hn hl (by omega) (by omega) rfl rfl rfl (br_f (by decide) (qs_down l b 1 hM hS hn hl bn (by omega) rfl rfl rfl (nm_r (nI_1 l) t')))))))
      · try dsimp only
        omega
      · try dsimp only
        rw [d1, d1]
        omega
      · try dsimp only
        rw [t4, t4]
        omega
end
end
section
section
variable {nn ip rc nd cs : Int32} {a1 a2 a3 a4 a5 a6 a7 a8 a9 a10 a11 a12 a13 a14 a15 a16 a17 a18 a19 a20 a21 a22 a23 a24 a25 a26 a27 : Nat → Int32}
/-! one row for each letter -/
theorem qs_packMaps {post : St1 → Prop} {n : Nat} {w : Nat → Nat} (hL : qs_L n w a1) (hz : ∀ q, 1344 ≤ q → q < 3136 → qs_gb a5 q = false)
    (H : ∀ b, (∀ c, c < 8 → ∀ i, i < 224 → qs_gr b (6 + c) i = decide (w i = c)) → (∀ q, q < 1344 ∨ 3136 ≤ q → qs_gb b q = qs_gb a5 q) → post (nI n, ip, rc, nd, cs, a1, a2, a3, a4, b, a6, a7, a8, a9, a10, a11, a12, a13, a14, a15, a16, a17, a18, a19, a20, a21, a22, a23, a24, a25, a26, a27)) : wpX_packMaps post (nI n, ip, rc, nd, cs, a1, a2, a3, a4, a5, a6, a7, a8, a9, a10, a11, a12, a13, a14, a15, a16, a17, a18, a19, a20, a21, a22, a23, a24, a25, a26, a27) := by
  obtain ⟨hn, ha, h8⟩ := hL
  show ∃ f, wX_packMaps_2 post f 0 (nI n) ip rc nd cs a1 a2 a3 a4 a5 a6 a7 a8 a9 a10 a11 a12 a13 a14 a15 a16 a17 a18 a19 a20 a21 a22 a23 a24 a25 a26 a27
  refine loop_0 (fun f i s => wX_packMaps_2 post f (nI i) (nI n) ip rc nd cs a1 a2 a3 a4 s a6 a7 a8 a9 a10 a11 a12 a13 a14 a15 a16 a17 a18 a19 a20 a21 a22 a23 a24 a25 a26 a27) (fun i s => (∀ c, c < 8 → ∀ j, j < 224 → qs_gr s (6 + c) j = decide (j < i ∧ w j = c)) ∧ (∀ q, q < 1344 ∨ 3136 ≤ q → qs_gb s q = qs_gb a5 q)) n a5
    ⟨fun c hc j hj => ?_, fun _ _ => rfl⟩ ?_ ?_
  · rw [decide_eq_false (by omega)]
    exact hz _ (by omega) (by omega)
  · intro f s hI
    refine pk_le n n (fun _ => H s (fun c hc i hi => ?_) hI.2) (fun z => absurd z (by omega))
    rw [hI.1 c hc i hi]
    refine decide_eq_decide.mpr ⟨fun z => z.2, fun z => ⟨?_, z⟩⟩
    rcases Nat.lt_or_ge i n with g | g
    · exact g
    · have := h8 i g
      omega
  · intro f i s hi hI hw
    refine pk_le n i (fun z => absurd z (by omega)) (fun _ => ?_)
    obtain ⟨w8, aw⟩ := ha i hi
    rw [nI_clamp (show i < 2 ^ 31 by omega), aw]
    refine ⟨vp_in_nI (by omega) (by decide), qs_setBit (6 + w i) i (by omega) (by omega) (nI_add 6 (w i)) rfl (fun b hb => nm_r (nI_1 i) (hw b ⟨fun c hc j hj => ?_, fun q hq => ?_⟩))⟩
    · have h1 := hI.1 c hc j hj
      unfold qs_gr at h1 ⊢
      rw [hb, h1, ← Bool.decide_or]
      refine decide_eq_decide.mpr ⟨fun z => ?_, fun z => ?_⟩
      · rcases z with ⟨z1, z2⟩ | z
        · exact ⟨by omega, z2⟩
        · have e1 : c = w i := by omega
          have e2 : j = i := by omega
          rw [e1, e2]
          exact ⟨by omega, rfl⟩
      · obtain ⟨z1, z2⟩ := z
        by_cases e : j = i
        · rw [e] at z2
          right
          omega
        · left
          exact ⟨by omega, z2⟩
    · rw [hb, hI.2 q hq, decide_eq_false (by omega), Bool.or_false]
/-! low and high parts -/
def qs_hv (wd i : Nat) : Nat := i / 2 ^ wd
theorem qs_hv_mono (wd : Nat) {a b : Nat} (h : a ≤ b) : qs_hv wd a ≤ qs_hv wd b := Nat.div_le_div_right h
theorem qs_hv_le (wd i : Nat) : qs_hv wd i ≤ i := Nat.div_le_self _ _
theorem qs_hv_0 (wd : Nat) : qs_hv wd 0 = 0 := Nat.zero_div _
/-- the places of the letter c, parted at wd bits -/
def qs_PFc (n : Nat) (w : Nat → Nat) (c wd : Nat) (a11 a12 : Nat → Int32) (i : Nat) : Prop := ∀ q, q < i → w q = c → a11 (qs_bl w c n + qs_rk w c q) = nI (q % 2 ^ wd) ∧ qs_gb a12 (c * 416 + (qs_hv wd q + qs_rk w c q)) = true
  ∧ qs_ct (fun t => qs_gb a12 (c * 416 + t)) (qs_hv wd q + qs_rk w c q) = qs_rk w c q
theorem qs_rk_S {w : Nat → Nat} {c i : Nat} (h : w i = c) : qs_rk w c (i + 1) = qs_rk w c i + 1 := qs_ctT (P := fun j => decide (w j = c)) (decide_eq_true h)
theorem qs_rk_N {w : Nat → Nat} {c i : Nat} (h : w i ≠ c) : qs_rk w c (i + 1) = qs_rk w c i := qs_ctF (P := fun j => decide (w j = c)) (decide_eq_false h)
theorem qs_rk_lt {w : Nat → Nat} {c i n : Nat} (h : w i = c) (hi : i < n) : qs_rk w c i < qs_rk w c n := qs_ct_lt (P := fun j => decide (w j = c)) (decide_eq_true h) hi
theorem qs_rk_mono (w : Nat → Nat) (c : Nat) {a b : Nat} (h : a ≤ b) : qs_rk w c a ≤ qs_rk w c b := qs_ct_mono _ h
theorem qs_rk_le (w : Nat → Nat) (c i : Nat) : qs_rk w c i ≤ i := qs_ct_le _ _
theorem qs_bl_le (w : Nat → Nat) (c i : Nat) : qs_bl w c i ≤ i := qs_ct_le _ _
theorem qs_bl_mono (w : Nat → Nat) {c d : Nat} (h : c ≤ d) (i : Nat) : qs_bl w c i ≤ qs_bl w d i := by
  obtain ⟨e, rfl⟩ := Nat.exists_eq_add_of_le h
  induction e with
  | zero => exact Nat.le_refl _
  | succ e ih =>
    have := qs_bl_S w (c + e) i
    have := ih (by omega)
    rw [← Nat.add_assoc]
    omega
theorem qs_rk_sel {w : Nat → Nat} {c n k : Nat} (h : k < qs_rk w c n) : ∃ q, q < n ∧ w q = c ∧ qs_rk w c q = k := by
  obtain ⟨q, h1, h2, h3⟩ := qs_sel h
  exact ⟨q, h1, of_decide_eq_true h2, h3⟩
theorem qs_ix13 {r i : Nat} (hi : i < 2 ^ 31) : nI r * 13 + (nI i >>> ((5 : Int32) &&& 31)) = nI (r * 13 + i / 32) := by
  rw [qs_sh5 hi]
  exact qs_idx r 13 (i / 32)
theorem qs_setHigh {post : St1 → Prop} {p0 p1 : Int32} (r i : Nat) (hr : r < 8) (hi : i < 416) (h0 : p0 = nI r) (h1 : p1 = nI i)
    (H : ∀ b, (∀ q, qs_gb b q = (qs_gb a12 q || decide (q = r * 416 + i))) → post (nn, ip, rc, nd, cs, a1, a2, a3, a4, a5, a6, a7, a8, a9, a10, a11, b, a13, a14, a15, a16, a17, a18, a19, a20, a21, a22, a23, a24, a25, a26, a27)) : wpX_setHigh post (nn, ip, rc, nd, cs, a1, a2, a3, a4, a5, a6, a7, a8, a9, a10, a11, a12, a13, a14, a15, a16, a17, a18, a19, a20, a21, a22, a23, a24, a25, a26, a27) p0 p1 := by
  subst h0
  subst h1
  unfold wpX_setHigh
  try dsimp only
  rw [qs_ix13 (by omega), nI_clamp (by omega), qs_and31 (by omega)]
  refine ⟨vp_in_nI (by omega) (by decide), vp_in_nI (by omega) (by decide), nm_e (H _ (fun q => ?_))⟩
  rw [qs_gb_set (by omega)]
  congr 1
  exact decide_eq_decide.mpr ⟨fun h => by omega, fun h => by omega⟩
theorem qs_highAt {post : Int32 → Prop} {p0 p1 : Int32} (r i : Nat) (hr : r < 8) (hi : i < 416) (h0 : p0 = nI r) (h1 : p1 = nI i)
    (H : post (nI (qs_gb a12 (r * 416 + i)).toNat)) : wpX_highAt post (nn, ip, rc, nd, cs, a1, a2, a3, a4, a5, a6, a7, a8, a9, a10, a11, a12, a13, a14, a15, a16, a17, a18, a19, a20, a21, a22, a23, a24, a25, a26, a27) p0 p1 := by
  subst h0
  subst h1
  unfold wpX_highAt
  try dsimp only
  rw [qs_ix13 (by omega), nI_clamp (by omega), qs_and31 (by omega)]
  refine ⟨vp_in_nI (by omega) (by decide), ?_⟩
  unfold qs_gb at H
  rw [show (r * 416 + i) / 32 = r * 13 + i / 32 by omega, show (r * 416 + i) % 32 = i % 32 by omega] at H
  refine ek_if (qs_bit1 _ (i % 32) (by omega)) (fun z => ?_) (fun z => ?_)
  · rw [z] at H
    exact H
  · rw [Bool.not_eq_false] at z
    rw [z] at H
    exact H
/-- packParts at letter c, place i -/
def qs_ppI (n : Nat) (w : Nat → Nat) (c wd : Nat) (c11 c12 : Nat → Int32) (i : Nat) (b11 b12 : Nat → Int32) : Prop :=
  qs_PFc n w c wd b11 b12 i ∧ (∀ t, qs_hv wd i + qs_rk w c i ≤ t → t < 416 → qs_gb b12 (c * 416 + t) = false) ∧ qs_ct (fun t => qs_gb b12 (c * 416 + t)) (qs_hv wd i + qs_rk w c i) = qs_rk w c i
  ∧ (∀ j, j < qs_bl w c n → b11 j = c11 j) ∧ (∀ q, q / 416 ≠ c → qs_gb b12 q = qs_gb c12 q)
theorem qs_pp_skip {n : Nat} {w : Nat → Nat} {c wd : Nat} {c11 c12 : Nat → Int32} {i : Nat} {b11 b12 : Nat → Int32} (h : qs_ppI n w c wd c11 c12 i b11 b12) (hi : i < 200) (hc : w i ≠ c) : qs_ppI n w c wd c11 c12 (i + 1) b11 b12 := by
  obtain ⟨h1, h2, h3, h4, h5⟩ := h
  have hd : qs_hv wd i ≤ qs_hv wd (i + 1) := qs_hv_mono wd (by omega)
  have hd2 : qs_hv wd (i + 1) ≤ i + 1 := qs_hv_le _ _
  have hr := qs_rk_le w c i
  refine ⟨fun q hq hw => ?_, fun t ht ht2 => ?_, ?_, h4, h5⟩
  · by_cases e : q = i
    · rw [e] at hw
      exact absurd hw hc
    · exact h1 q (by omega) hw
  · rw [qs_rk_N hc] at ht
    exact h2 t (by omega) ht2
  · rw [qs_rk_N hc, qs_ct_same (a := qs_hv wd i + qs_rk w c i) (by omega) (fun t g1 g2 => h2 t g1 (by omega))]
    exact h3
theorem qs_pp_step {n : Nat} {w : Nat → Nat} {c wd : Nat} {c11 c12 : Nat → Int32} {i : Nat} {b11 b12 b : Nat → Int32} (h : qs_ppI n w c wd c11 c12 i b11 b12) (hi : i < 200) (hc : w i = c)
    (hb : ∀ q, qs_gb b q = (qs_gb b12 q || decide (q = c * 416 + (qs_hv wd i + qs_rk w c i)))) : qs_ppI n w c wd c11 c12 (i + 1) (upd b11 (qs_bl w c n + qs_rk w c i) (nI (i % 2 ^ wd))) b := by
  obtain ⟨h1, h2, h3, h4, h5⟩ := h
  have hd : qs_hv wd i ≤ qs_hv wd (i + 1) := qs_hv_mono wd (by omega)
  have hd2 : qs_hv wd (i + 1) ≤ i + 1 := qs_hv_le _ _
  have hr := qs_rk_le w c i
  have hS := qs_rk_S hc
  have hg : ∀ t, t ≠ qs_hv wd i + qs_rk w c i → qs_gb b (c * 416 + t) = qs_gb b12 (c * 416 + t) := by
    intro t ht
    rw [hb, decide_eq_false (by omega), Bool.or_false]
  have hg2 : qs_gb b (c * 416 + (qs_hv wd i + qs_rk w c i)) = true := by
    rw [hb, decide_eq_true rfl, Bool.or_true]
  have hk : qs_ct (fun t => qs_gb b (c * 416 + t)) (qs_hv wd i + qs_rk w c i) = qs_rk w c i := by
    exact (qs_ct_congr (fun t ht => hg t (by omega))).trans h3
  refine ⟨fun q hq hw => ?_, fun t ht ht2 => ?_, ?_, fun j hj => ?_, fun q hq => ?_⟩
  · by_cases e : q = i
    · rw [e, pk_us]
      exact ⟨rfl, hg2, hk⟩
    · obtain ⟨k1, k2, k3⟩ := h1 q (by omega) hw
      have hlt := qs_rk_lt hw (show q < i by omega)
      have hle : qs_hv wd q ≤ qs_hv wd i := qs_hv_mono wd (by omega)
      rw [pk_un (by omega)]
      refine ⟨k1, ?_, ?_⟩
      · rw [hg _ (by omega)]
        exact k2
      · exact (qs_ct_congr (fun t ht => hg t (by omega))).trans k3
  · rw [hg t (by omega)]
    exact h2 t (by omega) ht2
  · rw [qs_ct_same (a := qs_hv wd i + qs_rk w c i + 1) (by omega) (fun t g1 g2 => by rw [hg t (by omega)]; exact h2 t (by omega) (by omega)), qs_ctT (P := fun t => qs_gb b (c * 416 + t)) hg2, hk, hS]
  · rw [pk_un (by omega)]
    exact h4 j hj
  · rw [hb, decide_eq_false (by omega), Bool.or_false]
    exact h5 q hq
theorem qs_low : ∀ wd, wd < 8 → ∀ i, i < 200 → (nI i &&& (((1 : Int32) <<< (nI wd &&& 31)) - 1)).toInt16.toInt32 = nI (i % 2 ^ wd) := by decide +kernel
theorem qs_hig {wd i : Nat} (h : wd < 8) (hi : i < 200) : nI i >>> (nI wd &&& 31) = nI (qs_hv wd i) := pk_shrN (by omega) _ wd (qs_sl wd (by omega))
theorem qs_both : ∀ wd, wd < 8 → ∀ q, q < 200 → (nI (qs_hv wd q) <<< (nI wd &&& 31)) ||| nI (q % 2 ^ wd) = nI q := by decide +kernel
theorem qs_pp84 {post : St1 → Prop} {J : Int32 → Int32 → Int32 → Int32 → Int32 → Int32 → Int32 → (Nat → Int32) → (Nat → Int32) → (Nat → Int32) → (Nat → Int32) → (Nat → Int32) → (Nat → Int32) → (Nat → Int32) → (Nat → Int32) → (Nat → Int32) → (Nat → Int32) → (Nat → Int32) → (Nat → Int32) → (Nat → Int32) → (Nat → Int32) → (Nat → Int32) → (Nat → Int32) → (Nat → Int32) → (Nat → Int32) → (Nat → Int32) → (Nat → Int32) → (Nat → Int32) → (Nat → Int32) → (Nat → Int32) → (Nat → Int32) → (Nat → Int32) → (Nat → Int32) → (Nat → Int32) → Prop} {n c wd : Nat} {w : Nat → Nat} (hL : qs_L n w a1) (hc : c < 8) (hwd : wd < 8) (h10 : a10 c = nI (qs_bl w c n)) (hz : ∀ t, t < 416 → qs_gb a12 (c * 416 + t) = false)
    (H : ∀ b11 b12, qs_ppI n w c wd a11 a12 n b11 b12 → J (nI (qs_bl w (c + 1) n)) (nI (c + 1)) (nI n) ip rc nd cs a1 a2 a3 a4 a5 a6 a7 a8 a9 a10 b11 b12 a13 a14 a15 a16 a17 a18 a19 a20 a21 a22 a23 a24 a25 a26 a27) :
    ∃ f, wX_packParts_84 post J (nI c) (nI wd) f (nI (qs_bl w c n)) 0 (nI n) ip rc nd cs a1 a2 a3 a4 a5 a6 a7 a8 a9 a10 a11 a12 a13 a14 a15 a16 a17 a18 a19 a20 a21 a22 a23 a24 a25 a26 a27 := by
  obtain ⟨hn, ha, _⟩ := hL
  have hbl := qs_bl_S w c n
  have hble := qs_bl_le w (c + 1) n
  refine loop_0 (fun f i (t : (Nat → Int32) × (Nat → Int32)) => wX_packParts_84 post J (nI c) (nI wd) f (nI (qs_bl w c n + qs_rk w c i)) (nI i) (nI n) ip rc nd cs a1 a2 a3 a4 a5 a6 a7 a8 a9 a10 t.1 t.2 a13 a14 a15 a16 a17 a18 a19 a20 a21 a22 a23 a24 a25 a26 a27) (fun i t => qs_ppI n w c wd a11 a12 i t.1 t.2) n (a11, a12)
    ⟨fun q hq => absurd hq (by omega), fun t _ ht => hz t ht, ?_, fun _ _ => rfl, fun _ _ => rfl⟩ ?_ ?_
  · rw [qs_hv_0]
    rfl
  · intro f t hI
    refine pk_le n n (fun _ => nm_r (nI_1 c) ?_) (fun z => absurd z (by omega))
    rw [← hbl]
    exact H _ _ hI
  · intro f i t hi hI hw
    refine pk_le n i (fun z => absurd z (by omega)) (fun _ => ?_)
    obtain ⟨w8, aw⟩ := ha i hi
    have hdv : qs_hv wd i ≤ i := qs_hv_le _ _
    have hrk := qs_rk_le w c i
    rw [nI_clamp (show i < 2 ^ 31 by omega), aw]
    refine ⟨vp_in_nI (by omega) (by decide), pk_eq (w i) c (fun e => ?_) (fun e => ?_)⟩
    · have hlt := qs_rk_lt e hi
      rw [nI_clamp (show qs_bl w c n + qs_rk w c i < 2 ^ 31 by omega), nI_clamp (show c < 2 ^ 31 by omega), qs_low wd hwd i (by omega), qs_hig hwd (by omega), h10]
      refine ⟨vp_in_nI (by omega) (by decide), nm_e ⟨vp_in_nI (by omega) (by decide), qs_setHigh c (qs_hv wd i + qs_rk w c i) hc (by omega) rfl ?_ (fun b hb => ?_)⟩⟩
      · rw [nI_add, pk_sub (by omega)]
        congr 1
        omega
      · have t' := hw (upd t.1 (qs_bl w c n + qs_rk w c i) (nI (i % 2 ^ wd)), b) (qs_pp_step hI (by omega) e hb)
        try dsimp only at t'
        rw [qs_rk_S e, ← Nat.add_assoc] at t'
        exact nm_r (nI_1 _) (nm_r (nI_1 i) t')
    · have t' := hw t (qs_pp_skip hI (by omega) e)
      try dsimp only at t'
      rw [qs_rk_N e] at t'
      exact nm_r (nI_1 i) t'
/-- all that engine 3 keeps -/
def qs_PF (n : Nat) (w : Nat → Nat) (a9 a10 a11 a12 : Nat → Int32) (C : Nat) : Prop := ∀ c, c < C → ∃ wd, wd < 8 ∧ a9 c = nI wd ∧ a10 c = nI (qs_bl w c n) ∧ qs_PFc n w c wd a11 a12 n
theorem qs_packParts {post : St1 → Prop} {n : Nat} {w : Nat → Nat} (hL : qs_L n w a1) (h2 : ∀ c, c < 8 → a2 c = nI (qs_rk w c n))
    (H : ∀ b9 b10 b11 b12, qs_PF n w b9 b10 b11 b12 8 → post (nI n, ip, rc, nd, cs, a1, a2, a3, a4, a5, a6, a7, a8, b9, b10, b11, b12, a13, a14, a15, a16, a17, a18, a19, a20, a21, a22, a23, a24, a25, a26, a27)) : wpX_packParts post (nI n, ip, rc, nd, cs, a1, a2, a3, a4, a5, a6, a7, a8, a9, a10, a11, a12, a13, a14, a15, a16, a17, a18, a19, a20, a21, a22, a23, a24, a25, a26, a27) := by
  have hn := hL.1
  have main : ∀ c12, (∀ q, q < 3328 → qs_gb c12 q = false) → ∃ f, wX_packParts_25 post f 0 0 (nI n) ip rc nd cs a1 a2 a3 a4 a5 a6 a7 a8 a9 a10 a11 c12 a13 a14 a15 a16 a17 a18 a19 a20 a21 a22 a23 a24 a25 a26 a27 := by
    intro c12 hc12
    have main2 : ∃ f, wX_packParts_25 post f (nI (qs_bl w 0 n)) (nI 0) (nI n) ip rc nd cs a1 a2 a3 a4 a5 a6 a7 a8 a9 a10 a11 c12 a13 a14 a15 a16 a17 a18 a19 a20 a21 a22 a23 a24 a25 a26 a27 := by
      refine loop_0 (fun f c (t : (Nat → Int32) × (Nat → Int32) × (Nat → Int32) × (Nat → Int32)) => wX_packParts_25 post f (nI (qs_bl w c n)) (nI c) (nI n) ip rc nd cs a1 a2 a3 a4 a5 a6 a7 a8 t.1 t.2.1 t.2.2.1 t.2.2.2 a13 a14 a15 a16 a17 a18 a19 a20 a21 a22 a23 a24 a25 a26 a27)
        (fun c t => qs_PF n w t.1 t.2.1 t.2.2.1 t.2.2.2 c ∧ (∀ q, c * 416 ≤ q → q < 3328 → qs_gb t.2.2.2 q = false)) 8 (a9, a10, a11, c12) ⟨fun c hc => absurd hc (by omega), fun q _ hq => hc12 q hq⟩ ?_ ?_
      · intro f t hI
        refine pk_le 8 8 (fun _ => nm_e (H _ _ _ _ (fun c hc => ?_))) (fun z => absurd z (by omega))
        obtain ⟨wd, k1, k2, k3, k4⟩ := hI.1 c hc
        refine ⟨wd, k1, k2, ?_, k4⟩
        rw [pk_un (by omega)]
        exact k3
      · intro f c t hc hI hw
        obtain ⟨i1, i2⟩ := hI
        have hble := qs_bl_le w c n
        have hrk := qs_rk_le w c n
        refine pk_le 8 c (fun z => absurd z (by omega)) (fun _ => ?_)
        rw [nI_clamp (show c < 2 ^ 31 by omega), qs_s16 _ (by omega)]
        refine ⟨vp_in_nI (by omega) (by decide), nm_e ?_⟩
        have exit : ∀ wd, wd < 8 → wX_packParts_73 post (wX_packParts_25 post f) (nI (qs_bl w c n)) (nI c) (nI wd) (nI n) ip rc nd cs a1 a2 a3 a4 a5 a6 a7 a8 t.1 (upd t.2.1 c (nI (qs_bl w c n))) t.2.2.1 t.2.2.2 a13 a14 a15 a16 a17 a18 a19 a20 a21 a22 a23 a24 a25 a26 a27 := by
          intro wd hwd
          unfold wX_packParts_73
          rw [nI_clamp (show c < 2 ^ 31 by omega), qs_b8 _ (by omega)]
          refine ⟨vp_in_nI (by omega) (by decide), nm_e (qs_pp84 hL hc hwd pk_us (fun x hx => i2 _ (by omega) (by omega)) (fun b11 b12 hb => hw (upd t.1 c (nI wd), upd t.2.1 c (nI (qs_bl w c n)), b11, b12) ⟨fun c' hc' => ?_, fun q hq hq2 => ?_⟩))⟩
          · obtain ⟨g1, g2, g3, g4, g5⟩ := hb
            try dsimp only
            by_cases e : c' = c
            · rw [e]
              exact ⟨wd, hwd, pk_us, pk_us, g1⟩
            · obtain ⟨wd', k1, k2, k3, k4⟩ := i1 c' (by omega)
              refine ⟨wd', k1, ?_, ?_, fun q hq hwq => ?_⟩
              · rw [pk_un e]
                exact k2
              · rw [pk_un e]
                exact k3
              · obtain ⟨k5, k6, k7⟩ := k4 q hq hwq
                have m1 := qs_bl_mono w (show c' + 1 ≤ c by omega) n
                have m2 := qs_bl_S w c' n
                have m3 := qs_rk_lt hwq hq
                have m4 := qs_rk_le w c' q
                have m5 : qs_hv wd' q ≤ q := qs_hv_le _ _
                rw [g4 _ (by omega), g5 _ (by omega)]
                refine ⟨k5, k6, ?_⟩
                exact (qs_ct_congr (fun x hx => g5 _ (by omega))).trans k7
          · rw [hb.2.2.2.2 q (by omega)]
            exact i2 q (by omega) hq2
        have hN := h2 c hc
        have lp : ∀ g x3, x3 < 8 → 8 - x3 < g → wX_packParts_41 post (wX_packParts_25 post f) (nI (qs_bl w c n)) (nI c) (nI n) ip rc nd cs a1 a2 a3 a4 a5 a6 a7 a8 t.1 (upd t.2.1 c (nI (qs_bl w c n))) t.2.2.1 t.2.2.2 a13 a14 a15 a16 a17 a18 a19 a20 a21 a22 a23 a24 a25 a26 a27 g (nI x3) := by
          intro g
          induction g with
          | zero => intro x3 _ hx; exact absurd hx (by omega)
          | succ g ih =>
            intro x3 hx hg
            refine ⟨vp_in_nI (by omega) (by decide), ?_⟩
            rw [nI_clamp (show c < 2 ^ 31 by omega), hN]
            have p8 : 2 ^ (x3 + 1) ≤ 2 ^ 8 := Nat.pow_le_pow_right (by decide) (by omega)
            have hmul : qs_rk w c n * 2 ^ (x3 + 1) ≤ 200 * 2 ^ 8 := Nat.mul_le_mul (by omega) p8
            refine pk_le (qs_rk w c n) 0 (fun e => exit x3 hx) (fun e => ⟨vp_in_nI (by omega) (by decide), ?_⟩)
            refine pk_lt n (qs_rk w c n * 2 ^ (x3 + 1)) (fun e2 => exit x3 hx) (fun e2 => nm_r (nI_1 x3) (ih (x3 + 1) ?_ (by omega))) rfl ?_ (by omega) (by omega)
            · by_cases e3 : x3 = 7
              · rw [e3] at e2
                omega
              · omega
            · rw [nI_1]
              exact pk_shlN _ (x3 + 1) (qs_sl _ (by omega)) (by omega)
        exact ⟨9, lp 9 0 (by omega) (by omega)⟩
    have e0 : qs_bl w 0 n = 0 := qs_ct_zero (fun j _ => decide_eq_false (by omega))
    rw [e0] at main2
    exact main2
  show ∃ f, wX_packParts_2 post (nI n) ip rc nd cs f 0 a1 a2 a3 a4 a5 a6 a7 a8 a9 a10 a11 a12 a13 a14 a15 a16 a17 a18 a19 a20 a21 a22 a23 a24 a25 a26 a27
  refine loop_0 (fun f i s => wX_packParts_2 post (nI n) ip rc nd cs f (nI i) a1 a2 a3 a4 a5 a6 a7 a8 a9 a10 a11 s a13 a14 a15 a16 a17 a18 a19 a20 a21 a22 a23 a24 a25 a26 a27) (fun i s => ∀ q, q < i * 32 → qs_gb s q = false) 104 a12 (fun q hq => absurd hq (by omega)) ?_ ?_
  · intro f s hI
    exact pk_le 104 104 (fun _ => main s (fun q hq => hI q (by omega))) (fun z => absurd z (by omega))
  · intro f i s hi hI hw
    refine pk_le 104 i (fun z => absurd z (by omega)) (fun _ => ?_)
    rw [nI_clamp (show i < 2 ^ 31 by omega)]
    refine ⟨vp_in_nI (by omega) (by decide), nm_e (nm_r (nI_1 i) (hw _ (fun q hq => ?_)))⟩
    rw [qs_gb_0]
    by_cases e : q / 32 = i
    · rw [if_pos e]
    · rw [if_neg e]
      exact hI q (by omega)
theorem qs_selectInParts {n : Nat} {w : Nat → Nat} {post : Int32 → Prop} {p0 p1 : Int32} (c k q : Nat) (hP : qs_PF n w a9 a10 a11 a12 8) (hn : n ≤ 200) (hc8 : c < 8) (hq : q < n) (hc : w q = c) (hk : qs_rk w c q = k)
    (h0 : p0 = nI c) (h1 : p1 = nI k) (H : post (nI q)) : wpX_selectInParts post (nn, ip, rc, nd, cs, a1, a2, a3, a4, a5, a6, a7, a8, a9, a10, a11, a12, a13, a14, a15, a16, a17, a18, a19, a20, a21, a22, a23, a24, a25, a26, a27) p0 p1 := by
  subst h0
  subst h1
  obtain ⟨wd, w1, w2, w3, w4⟩ := hP c hc8
  obtain ⟨g1, g2, g3⟩ := w4 q hq hc
  rw [hk] at g1 g2 g3
  have hkq := qs_rk_le w c q
  have hdv : qs_hv wd q ≤ q := qs_hv_le _ _
  have hlt := qs_rk_lt hc hq
  have hbl := qs_bl_S w c n
  have hble := qs_bl_le w (c + 1) n
  have fin : ∀ f x, wX_selectInParts_8 post (nI c) (nI k) nn ip rc nd cs a1 a2 a3 a4 a5 a6 a7 a8 a9 a10 a11 a12 a13 a14 a15 a16 a17 a18 a19 a20 a21 a22 a23 a24 a25 a26 a27 (f + 1) (nI (qs_hv wd q + k)) x 0 := by
    intro f x
    refine br_t rfl ⟨vp_in_nI (by omega) (by decide), vp_in_nI (by omega) (by decide), ?_⟩
    rw [nI_clamp (show c < 2 ^ 31 by omega), w2, w3, nI_add, nI_clamp (by omega), g1, pk_sub (by omega), Nat.add_sub_cancel, qs_both wd w1 q (by omega)]
    exact ⟨vp_in_nI (by omega) (by decide), H⟩
  have lp : ∀ f i, i ≤ qs_hv wd q + k → qs_hv wd q + k + 1 - i < f → wX_selectInParts_8 post (nI c) (nI k) nn ip rc nd cs a1 a2 a3 a4 a5 a6 a7 a8 a9 a10 a11 a12 a13 a14 a15 a16 a17 a18 a19 a20 a21 a22 a23 a24 a25 a26 a27 f (nI i) (nI (qs_ct (fun t => qs_gb a12 (c * 416 + t)) i)) 1 := by
    intro f
    induction f with
    | zero => intro i _ h; exact absurd h (by omega)
    | succ f ih =>
      intro i hi hf
      refine br_f (by decide) (qs_highAt c i hc8 (by omega) rfl rfl ?_)
      have hle := qs_ct_le (fun t => qs_gb a12 (c * 416 + t)) i
      by_cases e : i = qs_hv wd q + k
      · obtain ⟨f', rfl⟩ : ∃ f', f = f' + 1 := ⟨f - 1, by omega⟩
        rw [e, g2, g3]
        exact br_f (by decide) (br_t rfl (br_f (by decide) (nm_e (br_t rfl (nm_r (nI_add _ 0) (fin f' _))))))
      · have t := ih (i + 1) (by omega) (by omega)
        cases hb : qs_gb a12 (c * 416 + i) with
        | false =>
          rw [qs_ctF (P := fun t => qs_gb a12 (c * 416 + t)) hb] at t
          exact br_t rfl (br_t rfl (nm_r (nI_add _ 0) (br_f (by decide) (nm_r (nI_1 i) t))))
        | true =>
          have e2 : qs_ct (fun t => qs_gb a12 (c * 416 + t)) i ≠ k := by
            intro z
            have := qs_ct_lt (P := fun t => qs_gb a12 (c * 416 + t)) hb (show i < qs_hv wd q + k by omega)
            omega
          rw [qs_ctT (P := fun t => qs_gb a12 (c * 416 + t)) hb] at t
          exact br_f (by decide) (br_f (fun z => e2 ((nI_eq (by omega) (by omega)).mp z)) (br_f (by decide) (nm_r (nI_1 _) (br_f (by decide) (nm_r (nI_1 i) t)))))
  exact ⟨qs_hv wd q + k + 2, lp _ 0 (by omega) (by omega)⟩
theorem qs_rankInParts {n : Nat} {w : Nat → Nat} {post : Int32 → Prop} {p0 p1 : Int32} (c i : Nat) (hP : qs_PF n w a9 a10 a11 a12 8) (hn : n ≤ 200) (h2 : a2 c = nI (qs_rk w c n)) (hc8 : c < 8) (hi : i ≤ n)
    (h0 : p0 = nI c) (h1 : p1 = nI i) (H : post (nI (qs_rk w c i))) : wpX_rankInParts post (nn, ip, rc, nd, cs, a1, a2, a3, a4, a5, a6, a7, a8, a9, a10, a11, a12, a13, a14, a15, a16, a17, a18, a19, a20, a21, a22, a23, a24, a25, a26, a27) p0 p1 := by
  subst h0
  subst h1
  have hr := qs_rk_le w c n
  have hm := qs_rk_mono w c hi
  refine ⟨vp_in_nI (by omega) (by decide), nm_r (e' := nI (qs_rk w c n)) ?_ ⟨qs_rk w c n + 1, qs_bs (fun f lo hi => wX_rankInParts_10 post (nI c) (nI i) nn ip rc nd cs a1 a2 a3 a4 a5 a6 a7 a8 a9 a10 a11 a12 a13 a14 a15 a16 a17 a18 a19 a20 a21 a22 a23 a24 a25 a26 a27 f lo hi) (qs_rk w c i) (qs_rk w c n) ?_ ?_ (qs_rk w c n + 1) 0 (qs_rk w c n) (by omega) hm (by omega) (by omega)⟩⟩
  · rw [nI_clamp (by omega), h2]
  · intro f
    exact pk_le (qs_rk w c i) (qs_rk w c i) (fun _ => H) (fun z => absurd z (by omega))
  · intro f lo hi m g1 g2 g3 hmm hA hB
    refine pk_le hi lo (fun z => absurd z (by omega)) (fun _ => ⟨by decide, nm_r (qs_half (by omega) (by omega) hmm) ?_⟩)
    obtain ⟨q, q1, q2, q3⟩ := qs_rk_sel (w := w) (c := c) (n := n) (k := m) (by omega)
    refine qs_selectInParts c m q hP hn hc8 q1 q2 q3 rfl rfl (pk_le i q (fun z => ?_) (fun z => ?_))
    · have := qs_rk_mono w c z
      exact br_t rfl (br_t rfl (hB (by omega)))
    · have := qs_rk_lt q2 z
      have t := hA (by omega)
      rw [← nI_1] at t
      exact br_f (by decide) (br_f (by decide) t)
end
end
section
section
variable {nn ip rc nd cs : Int32} {a1 a2 a3 a4 a5 a6 a7 a8 a9 a10 a11 a12 a13 a14 a15 a16 a17 a18 a19 a20 a21 a22 a23 a24 a25 a26 a27 : Nat → Int32}
/-! choices -/
def qs_C : Nat → Nat → Nat
  | _, 0 => 1
  | 0, _ + 1 => 0
  | i + 1, k + 1 => qs_C i k + qs_C i (k + 1)
/-- the table of choices -/
def qs_ch (a16 : Nat → Int32) : Prop := ∀ i, i < 8 → ∀ k, k < 8 → a16 (i * 8 + k) = nI (qs_C i k)
theorem qs_C_big : ∀ i, i < 8 → ∀ k, k < 8 → i < k → qs_C i k = 0 := by decide +kernel
theorem qs_C_le : ∀ i, i < 8 → ∀ k, k < 8 → qs_C i k < 64 := by decide +kernel
theorem qs_or (a b : Nat) : nI a ||| nI b = nI (a ||| b) := by
  apply Int32.toBitVec_inj.1
  show BitVec.ofNat 32 a ||| BitVec.ofNat 32 b = BitVec.ofNat 32 (a ||| b)
  apply BitVec.eq_of_getLsbD_eq
  intro i hi
  simp [hi]
theorem qs_tb {m i : Nat} (hm : m < 2 ^ 31) (hi : i < 31) : (nI m >>> (nI i &&& 31)) &&& 1 = nI (m.testBit i).toNat := by
  have h : m / 2 ^ i ≤ m := Nat.div_le_self _ _
  rw [pk_shrN hm _ i (qs_sl i (by omega)), pk_andN (by omega) 1 (by decide), Nat.toNat_testBit]
/-- the number made of the first i bits P -/
def qs_bb (P : Nat → Bool) : Nat → Nat
  | 0 => 0
  | i + 1 => qs_bb P i ||| (if P i = true then 2 ^ i else 0)
theorem qs_bb_bit (P : Nat → Bool) (i j : Nat) : (qs_bb P i).testBit j = (decide (j < i) && P j) := by
  induction i with
  | zero =>
    show (0 : Nat).testBit j = _
    rw [Nat.zero_testBit, decide_eq_false (by omega), Bool.false_and]
  | succ i ih =>
    show (qs_bb P i ||| (if P i = true then 2 ^ i else 0)).testBit j = _
    rw [Nat.testBit_or, ih]
    by_cases e : j = i
    · rw [e, decide_eq_false (by omega), decide_eq_true (show i < i + 1 by omega), Bool.false_and, Bool.true_and, Bool.false_or]
      cases hp : P i with
      | false => rw [if_neg (by decide), Nat.zero_testBit]
      | true => rw [if_pos rfl, Nat.testBit_two_pow, decide_eq_true rfl]
    · have e2 : (if P i = true then 2 ^ i else 0).testBit j = false := by
        cases hp : P i with
        | false => rw [if_neg (by decide), Nat.zero_testBit]
        | true => rw [if_pos rfl, Nat.testBit_two_pow, decide_eq_false (by omega)]
      rw [e2, Bool.or_false]
      congr 1
      exact decide_eq_decide.mpr ⟨fun z => by omega, fun z => by omega⟩
theorem qs_bb_lt (P : Nat → Bool) (i : Nat) : qs_bb P i < 2 ^ i := by
  refine Nat.lt_pow_two_of_testBit _ (fun j hj => ?_)
  rw [qs_bb_bit, decide_eq_false (by omega), Bool.false_and]
theorem qs_bb_pc (P : Nat → Bool) {k : Nat} (hk : k ≤ 7) : qs_pc (qs_bb P 7 % 2 ^ k) = qs_ct P k := by
  have h := qs_pc_part (qs_bb P 7) 0 k (by omega)
  rw [Nat.pow_zero, Nat.div_one] at h
  rw [h]
  refine qs_ct_congr (fun j hj => ?_)
  rw [Nat.zero_add, qs_bb_bit, decide_eq_true (by omega), Bool.true_and]
theorem qs_bb_pc7 (P : Nat → Bool) : qs_pc (qs_bb P 7) = qs_ct P 7 := by
  have h := qs_bb_pc P (Nat.le_refl 7)
  rw [Nat.mod_eq_of_lt (qs_bb_lt P 7)] at h
  exact h
/-! the number of a block, and back -/
def qs_wo (i left : Nat) : Nat := if left ≤ 6 - i then qs_C (6 - i) left else 0
def qs_num (m : Nat) : Nat → Nat → Nat → Nat → Nat
  | 0, _, _, acc => acc
  | f + 1, i, left, acc => if left = 0 then acc else if m.testBit i = true then qs_num m f (i + 1) (left - 1) (acc + qs_wo i left) else qs_num m f (i + 1) left acc
def qs_dec : Nat → Nat → Nat → Nat → Nat → Nat
  | 0, _, _, _, bits => bits
  | f + 1, i, left, rank, bits => if left = 0 then bits else if rank < qs_wo i left then qs_dec f (i + 1) left rank bits else qs_dec f (i + 1) (left - 1) (rank - qs_wo i left) (bits ||| 2 ^ i)
theorem qs_dec_num : ∀ m, m < 128 → qs_num m 7 0 (qs_pc m) 0 < 128 ∧ qs_dec 7 0 (qs_pc m) (qs_num m 7 0 (qs_pc m) 0) 0 = m := by decide +kernel
theorem qs_ix88 (a b : Nat) : nI a * 8 + nI b = nI (a * 8 + b) := qs_idx a 8 b
theorem qs_num_loop {post : Int32 → Prop} {m : Nat} (hm : m < 128) (hC : qs_ch a16) : ∀ f i left acc, i + f = 7 → left ≤ 7 → post (nI (qs_num m f i left acc)) → wX_numberOf_8 post (nI m) nn ip rc nd cs a1 a2 a3 a4 a5 a6 a7 a8 a9 a10 a11 a12 a13 a14 a15 a16 a17 a18 a19 a20 a21 a22 a23 a24 a25 a26 a27 (f + 1) (nI acc) (nI left) (nI i) := by
  intro f
  induction f with
  | zero =>
    intro i left acc hi hl hp
    exact pk_le 7 i (fun _ => hp) (fun z => absurd z (by omega))
  | succ f ih =>
    intro i left acc hi hl hp
    refine pk_le 7 i (fun z => absurd z (by omega)) (fun _ => pk_le left 0 (fun z => ?_) (fun z => nm_r (e' := nI (6 - i)) (pk_sub (a := 6) (b := i) (by omega)) ?_))
    · rw [show qs_num m (f + 1) i left acc = acc by unfold qs_num; rw [if_pos (by omega)]] at hp
      exact hp
    · rw [show qs_num m (f + 1) i left acc = if m.testBit i = true then qs_num m f (i + 1) (left - 1) (acc + qs_wo i left) else qs_num m f (i + 1) left acc by
        rw [qs_num]; rw [if_neg (by omega)]] at hp
      rw [qs_tb (by omega) (by omega)]
      cases hb : m.testBit i with
      | false =>
        rw [hb, if_neg (by decide)] at hp
        exact br_t rfl (nm_r (nI_1 i) (ih _ _ _ (by omega) hl hp))
      | true =>
        rw [hb, if_pos rfl] at hp
        refine br_f (by decide) (pk_lt (6 - i) left (fun z => ?_) (fun z => ?_))
        · unfold qs_wo at hp
          rw [if_neg (by omega)] at hp
          exact nm_r (nI_add acc 0) (nm_r (sb_m1 (by omega)) (nm_r (nI_1 i) (ih _ _ _ (by omega) (by omega) hp)))
        · unfold qs_wo at hp
          rw [if_pos z] at hp
          rw [qs_ix88, nI_clamp (by omega), hC (6 - i) (by omega) left (by omega)]
          exact ⟨vp_in_nI (by omega) (by decide), nm_r (nI_add _ _) (nm_r (sb_m1 (by omega)) (nm_r (nI_1 i) (ih _ _ _ (by omega) (by omega) hp)))⟩
theorem qs_numberOf {post : Int32 → Prop} {p0 p1 : Int32} (m : Nat) (hm : m < 128) (hC : qs_ch a16) (h0 : p0 = nI m) (h1 : p1 = nI (qs_pc m)) (hp7 : qs_pc m ≤ 7) (H : post (nI (qs_num m 7 0 (qs_pc m) 0))) : wpX_numberOf post (nn, ip, rc, nd, cs, a1, a2, a3, a4, a5, a6, a7, a8, a9, a10, a11, a12, a13, a14, a15, a16, a17, a18, a19, a20, a21, a22, a23, a24, a25, a26, a27) p0 p1 := by
  subst h0
  subst h1
  exact ⟨8, qs_num_loop hm hC 7 0 (qs_pc m) 0 rfl hp7 H⟩
theorem qs_dec_loop {post : Int32 → Prop} (hC : qs_ch a16) : ∀ f i left rank bits, i + f = 7 → left ≤ 7 → rank < 128 → post (nI (qs_dec f i left rank bits)) → wX_bitsOf_11 post nn ip rc nd cs a1 a2 a3 a4 a5 a6 a7 a8 a9 a10 a11 a12 a13 a14 a15 a16 a17 a18 a19 a20 a21 a22 a23 a24 a25 a26 a27 (f + 1) (nI bits) (nI left) (nI rank) (nI i) := by
  intro f
  induction f with
  | zero =>
    intro i left rank bits hi hl hr hp
    exact pk_le 7 i (fun _ => hp) (fun z => absurd z (by omega))
  | succ f ih =>
    intro i left rank bits hi hl hr hp
    refine pk_le 7 i (fun z => absurd z (by omega)) (fun _ => pk_le left 0 (fun z => ?_) (fun z => nm_r (e' := nI (6 - i)) (pk_sub (a := 6) (b := i) (by omega)) ?_))
    · rw [show qs_dec (f + 1) i left rank bits = bits by rw [qs_dec]; rw [if_pos (by omega)]] at hp
      exact hp
    · rw [show qs_dec (f + 1) i left rank bits = if rank < qs_wo i left then qs_dec f (i + 1) left rank bits else qs_dec f (i + 1) (left - 1) (rank - qs_wo i left) (bits ||| 2 ^ i) by
        rw [qs_dec]; rw [if_neg (by omega)]] at hp
      have key : ∀ x, x = nI (qs_wo i left) → qs_wo i left < 128 → wX_bitsOf_54 post (wX_bitsOf_11 post nn ip rc nd cs a1 a2 a3 a4 a5 a6 a7 a8 a9 a10 a11 a12 a13 a14 a15 a16 a17 a18 a19 a20 a21 a22 a23 a24 a25 a26 a27 (f + 1)) (nI bits) (nI left) (nI rank) (nI i) x nn ip rc nd cs a1 a2 a3 a4 a5 a6 a7 a8 a9 a10 a11 a12 a13 a14 a15 a16 a17 a18 a19 a20 a21 a22 a23 a24 a25 a26 a27 := by
        intro x hx hx2
        refine pk_lt rank (qs_wo i left) (fun z2 => ?_) (fun z2 => ?_) rfl hx (by omega) (by omega)
        · rw [if_pos z2] at hp
          exact nm_r (nI_1 i) (ih _ _ _ _ (by omega) hl hr hp)
        · rw [if_neg (by omega)] at hp
          rw [hx]
          exact nm_r (pk_sub z2) (nm_r (by rw [qs_oneN (by omega), qs_or]) (nm_r (sb_m1 (by omega)) (nm_r (nI_1 i) (ih _ _ _ _ (by omega) (by omega) (by omega) hp))))
      refine pk_lt (6 - i) left (fun z2 => key 0 ?_ ?_) (fun z2 => ?_)
      · unfold qs_wo
        rw [if_neg (by omega)]
        rfl
      · unfold qs_wo
        rw [if_neg (by omega)]
        decide
      · have hc := qs_C_le (6 - i) (by omega) left (by omega)
        rw [qs_ix88, nI_clamp (by omega), hC (6 - i) (by omega) left (by omega)]
        refine ⟨vp_in_nI (by omega) (by decide), key _ ?_ ?_⟩
        · unfold qs_wo
          rw [if_pos z2]
        · unfold qs_wo
          rw [if_pos z2]
          omega
theorem qs_bitsOf {post : Int32 → Prop} {p0 p1 : Int32} (m : Nat) (hm : m < 128) (hC : qs_ch a16) (h0 : p0 = nI (qs_num m 7 0 (qs_pc m) 0)) (h1 : p1 = nI (qs_pc m)) (hp7 : qs_pc m ≤ 7) (H : post (nI m)) : wpX_bitsOf post (nn, ip, rc, nd, cs, a1, a2, a3, a4, a5, a6, a7, a8, a9, a10, a11, a12, a13, a14, a15, a16, a17, a18, a19, a20, a21, a22, a23, a24, a25, a26, a27) p0 p1 := by
  subst h0
  subst h1
  obtain ⟨g1, g2⟩ := qs_dec_num m hm
  refine ⟨8, qs_dec_loop hC 7 0 (qs_pc m) _ 0 rfl hp7 g1 ?_⟩
  rw [g2]
  exact H
/-! blocks -/
/-- the block b of letter c -/
def qs_bm (w : Nat → Nat) (c b : Nat) : Nat := qs_bb (fun i => decide (w (7 * b + i) = c)) 7
theorem qs_blockBits {post : Int32 → Prop} {p0 p1 : Int32} {n : Nat} {w : Nat → Nat} (c b : Nat) (hL : qs_L n w a1) (hnn : nn = nI n) (hc : c < 8) (hb : b < 30) (h0 : p0 = nI c) (h1 : p1 = nI b) (H : post (nI (qs_bm w c b))) : wpX_blockBits post (nn, ip, rc, nd, cs, a1, a2, a3, a4, a5, a6, a7, a8, a9, a10, a11, a12, a13, a14, a15, a16, a17, a18, a19, a20, a21, a22, a23, a24, a25, a26, a27) p0 p1 := by
  subst h0
  subst h1
  subst hnn
  obtain ⟨hn, ha, h8⟩ := hL
  show ∃ f, wX_blockBits_5 post (nI c) (nI b) (nI n) ip rc nd cs a1 a2 a3 a4 a5 a6 a7 a8 a9 a10 a11 a12 a13 a14 a15 a16 a17 a18 a19 a20 a21 a22 a23 a24 a25 a26 a27 f 0 0
  refine loop_0 (σ := Unit) (fun f i _ => wX_blockBits_5 post (nI c) (nI b) (nI n) ip rc nd cs a1 a2 a3 a4 a5 a6 a7 a8 a9 a10 a11 a12 a13 a14 a15 a16 a17 a18 a19 a20 a21 a22 a23 a24 a25 a26 a27 f (nI (qs_bb (fun i => decide (w (7 * b + i) = c)) i)) (nI i)) (fun _ _ => True) 7 () trivial ?_ ?_
  · intro f _ _
    exact pk_le 7 7 (fun _ => H) (fun z => absurd z (by omega))
  · intro f i _ hi _ hw
    have t := hw () trivial
    try dsimp only at t
    have e7 : nI b * 7 + nI i = nI (b * 7 + i) := qs_idx b 7 i
    have tN : ¬ w (b * 7 + i) = c → qs_bb (fun i => decide (w (7 * b + i) = c)) (i + 1) = qs_bb (fun i => decide (w (7 * b + i) = c)) i ||| 0 := by
      intro z
      show qs_bb _ i ||| (if decide (w (7 * b + i) = c) = true then 2 ^ i else 0) = _
      rw [decide_eq_false (by rw [show 7 * b + i = b * 7 + i by omega]; exact z), if_neg (by decide)]
    have tY : w (b * 7 + i) = c → qs_bb (fun i => decide (w (7 * b + i) = c)) (i + 1) = qs_bb (fun i => decide (w (7 * b + i) = c)) i ||| 2 ^ i := by
      intro z
      show qs_bb _ i ||| (if decide (w (7 * b + i) = c) = true then 2 ^ i else 0) = _
      rw [decide_eq_true (by rw [show 7 * b + i = b * 7 + i by omega]; exact z), if_pos rfl]
    refine pk_le 7 i (fun z => absurd z (by omega)) (fun _ => nm_r e7 (pk_le n (b * 7 + i) (fun z => ?_) (fun z => ?_)))
    · rw [tN (by have := h8 _ z; omega)] at t
      exact nm_r (qs_or _ 0) (nm_r (nI_1 i) t)
    · obtain ⟨w8, aw⟩ := ha (b * 7 + i) z
      rw [nI_clamp (by omega), aw]
      refine ⟨vp_in_nI (by omega) (by decide), pk_eq (w (b * 7 + i)) c (fun e => ?_) (fun e => ?_)⟩
      · rw [tY e] at t
        exact nm_r (by rw [qs_oneN (by omega), qs_or]) (nm_r (nI_1 i) t)
      · rw [tN e] at t
        exact nm_r (qs_or _ 0) (nm_r (nI_1 i) t)
/-- all that engine 4 keeps, of the blocks ahead of number K -/
def qs_BF (w : Nat → Nat) (a13 a14 a15 : Nat → Int32) (K : Nat) : Prop := ∀ c b, b < 30 → c * 30 + b < K → a13 (c * 30 + b) = nI (qs_pc (qs_bm w c b)) ∧ a14 (c * 30 + b) = nI (qs_num (qs_bm w c b) 7 0 (qs_pc (qs_bm w c b)) 0) ∧ a15 (c * 31 + b) = nI (qs_rk w c (7 * b))
theorem qs_bm_lt (w : Nat → Nat) (c b : Nat) : qs_bm w c b < 128 := qs_bb_lt _ 7
theorem qs_bm_pc (w : Nat → Nat) (c b : Nat) : qs_pc (qs_bm w c b) ≤ 7 := by
  unfold qs_bm
  rw [qs_bb_pc7]
  exact qs_ct_le _ _
theorem qs_rk_add (w : Nat → Nat) (c a b : Nat) : qs_rk w c (a + b) = qs_rk w c a + qs_ct (fun i => decide (w (a + i) = c)) b := qs_ct_add _ _ _
theorem qs_packBlocks {post : St1 → Prop} {n : Nat} {w : Nat → Nat} (hL : qs_L n w a1) (hC : qs_ch a16)
    (H : ∀ b13 b14 b15, qs_BF w b13 b14 b15 240 → post (nI n, ip, rc, nd, cs, a1, a2, a3, a4, a5, a6, a7, a8, a9, a10, a11, a12, b13, b14, b15, a16, a17, a18, a19, a20, a21, a22, a23, a24, a25, a26, a27)) : wpX_packBlocks post (nI n, ip, rc, nd, cs, a1, a2, a3, a4, a5, a6, a7, a8, a9, a10, a11, a12, a13, a14, a15, a16, a17, a18, a19, a20, a21, a22, a23, a24, a25, a26, a27) := by
  show ∃ f, wX_packBlocks_2 post (nI n) ip rc nd cs f 0 a1 a2 a3 a4 a5 a6 a7 a8 a9 a10 a11 a12 a13 a14 a15 a16 a17 a18 a19 a20 a21 a22 a23 a24 a25 a26 a27
  refine loop_0 (fun f c (t : (Nat → Int32) × (Nat → Int32) × (Nat → Int32)) => wX_packBlocks_2 post (nI n) ip rc nd cs f (nI c) a1 a2 a3 a4 a5 a6 a7 a8 a9 a10 a11 a12 t.1 t.2.1 t.2.2 a16 a17 a18 a19 a20 a21 a22 a23 a24 a25 a26 a27) (fun c t => qs_BF w t.1 t.2.1 t.2.2 (c * 30)) 8 (a13, a14, a15)
    (fun c b _ hb => absurd hb (by omega)) ?_ ?_
  · intro f t hI
    exact pk_le 8 8 (fun _ => H _ _ _ hI) (fun z => absurd z (by omega))
  · intro f c t hc hI hw
    refine pk_le 8 c (fun z => absurd z (by omega)) (fun _ => ?_)
    have main : ∃ f', wX_packBlocks_12 post (wX_packBlocks_2 post (nI n) ip rc nd cs f) (nI c) (nI n) ip rc nd cs f' (nI (qs_rk w c (7 * 0))) (nI 0) a1 a2 a3 a4 a5 a6 a7 a8 a9 a10 a11 a12 t.1 t.2.1 t.2.2 a16 a17 a18 a19 a20 a21 a22 a23 a24 a25 a26 a27 := by
      refine loop_0 (fun f' b (t : (Nat → Int32) × (Nat → Int32) × (Nat → Int32)) => wX_packBlocks_12 post (wX_packBlocks_2 post (nI n) ip rc nd cs f) (nI c) (nI n) ip rc nd cs f' (nI (qs_rk w c (7 * b))) (nI b) a1 a2 a3 a4 a5 a6 a7 a8 a9 a10 a11 a12 t.1 t.2.1 t.2.2 a16 a17 a18 a19 a20 a21 a22 a23 a24 a25 a26 a27) (fun b t => qs_BF w t.1 t.2.1 t.2.2 (c * 30 + b)) 30 t hI ?_ ?_
      · intro f' t hI
        refine pk_le 30 30 (fun _ => ?_) (fun z => absurd z (by omega))
        have e : nI c * 31 + 30 = nI (c * 31 + 30) := qs_idx c 31 30
        rw [e, nI_clamp (by omega)]
        refine ⟨vp_in_nI (by omega) (by decide), nm_e (nm_r (nI_1 c) (hw (t.1, t.2.1, upd t.2.2 (c * 31 + 30) _) (fun c' b' hb' hk => ?_)))⟩
        obtain ⟨k1, k2, k3⟩ := hI c' b' hb' (by omega)
        refine ⟨k1, k2, ?_⟩
        show upd t.2.2 (c * 31 + 30) _ (c' * 31 + b') = _
        rw [pk_un (by omega)]
        exact k3
      · intro f' b t hb hI hw2
        have e1 : nI c * 31 + nI b = nI (c * 31 + b) := qs_idx c 31 b
        have e2 : nI c * 30 + nI b = nI (c * 30 + b) := qs_idx c 30 b
        have m1 := qs_bm_lt w c b
        have m2 := qs_bm_pc w c b
        have m3 := (qs_dec_num _ m1).1
        have m4 := qs_rk_le w c (7 * b)
        refine pk_le 30 b (fun z => absurd z (by omega)) (fun _ => qs_blockBits c b hL rfl hc hb rfl rfl (qs_onesIn (qs_bm w c b) (by omega) rfl ?_))
        rw [e1, e2, nI_clamp (by omega), nI_clamp (by omega), qs_s16 _ (by omega), qs_b8 _ (by omega)]
        refine ⟨vp_in_nI (by omega) (by decide), nm_e ⟨vp_in_nI (by omega) (by decide), nm_e (qs_numberOf (qs_bm w c b) m1 hC rfl rfl m2 ?_)⟩⟩
        rw [qs_b8 _ m3]
        have t' := hw2 (upd t.1 (c * 30 + b) (nI (qs_pc (qs_bm w c b))), upd t.2.1 (c * 30 + b) (nI (qs_num (qs_bm w c b) 7 0 (qs_pc (qs_bm w c b)) 0)), upd t.2.2 (c * 31 + b) (nI (qs_rk w c (7 * b)))) (fun c' b' hb' hk => ?_)
        · try dsimp only at t'
          rw [show 7 * (b + 1) = 7 * b + 7 by omega, qs_rk_add, ← qs_bb_pc7] at t'
          exact ⟨vp_in_nI (by omega) (by decide), nm_e (nm_r (nI_add _ _) (nm_r (nI_1 b) t'))⟩
        · try dsimp only
          by_cases e : c' * 30 + b' = c * 30 + b
          · have ec : c' = c := by omega
            have eb : b' = b := by omega
            rw [ec, eb, pk_us, pk_us, pk_us]
            exact ⟨rfl, rfl, rfl⟩
          · rw [pk_un e, pk_un e, pk_un (by omega)]
            exact hI c' b' hb' (by omega)
    exact main
theorem qs_rankInBlocks {n : Nat} {w : Nat → Nat} {post : Int32 → Prop} {p0 p1 : Int32} (c i : Nat) (hB : qs_BF w a13 a14 a15 240) (hC : qs_ch a16) (hn : n ≤ 200) (hc : c < 8) (hi : i ≤ n)
    (h0 : p0 = nI c) (h1 : p1 = nI i) (H : post (nI (qs_rk w c i))) : wpX_rankInBlocks post (nn, ip, rc, nd, cs, a1, a2, a3, a4, a5, a6, a7, a8, a9, a10, a11, a12, a13, a14, a15, a16, a17, a18, a19, a20, a21, a22, a23, a24, a25, a26, a27) p0 p1 := by
  subst h0
  subst h1
  have e1 : nI c * 31 + nI (i / 7) = nI (c * 31 + i / 7) := qs_idx c 31 (i / 7)
  have e2 : nI c * 30 + nI (i / 7) = nI (c * 30 + i / 7) := qs_idx c 30 (i / 7)
  obtain ⟨k1, k2, k3⟩ := hB c (i / 7) (by omega) (by omega)
  refine ⟨by decide, nm_r (e' := nI (i / 7)) (pk_div (by omega) (by decide) (by decide)) ⟨by decide, nm_r (e' := nI (i % 7)) (pk_rem (by omega) (by decide) (by decide)) ?_⟩⟩
  rw [e1, e2, nI_clamp (by omega), nI_clamp (by omega), k1, k2, k3]
  refine ⟨vp_in_nI (by omega) (by decide), vp_in_nI (by omega) (by decide), qs_bitsOf (qs_bm w c (i / 7)) (qs_bm_lt _ _ _) hC rfl rfl (qs_bm_pc _ _ _) ⟨vp_in_nI (by omega) (by decide), ?_⟩⟩
  have m1 := qs_bm_lt w c (i / 7)
  have m2 : qs_bm w c (i / 7) % 2 ^ (i % 7) ≤ qs_bm w c (i / 7) := Nat.mod_le _ _
  refine qs_onesIn (qs_bm w c (i / 7) % 2 ^ (i % 7)) (by omega) (pk_andN (by omega) _ (qs_mask _ (by omega))) ?_
  have e3 := qs_rk_add w c (7 * (i / 7)) (i % 7)
  rw [show 7 * (i / 7) + i % 7 = i by omega] at e3
  unfold qs_bm
  rw [qs_bb_pc _ (by omega), nI_add, ← e3]
  exact H
end
end
section
section
variable {nn ip rc nd cs : Int32} {a1 a2 a3 a4 a5 a6 a7 a8 a9 a10 a11 a12 a13 a14 a15 a16 a17 a18 a19 a20 a21 a22 a23 a24 a25 a26 a27 : Nat → Int32}
/-! runs: pure -/
/-- v names the last run ahead of r with the letter c, or is -1 -/
def qs_PL (w st : Nat → Nat) (c r : Nat) (v : Int32) : Prop :=
  (v = -1 ∧ ∀ x, x < r → w (st x) ≠ c) ∨ (∃ r', r' < r ∧ v = nI r' ∧ w (st r') = c ∧ ∀ x, r' < x → x < r → w (st x) ≠ c)
/-- the first i letters stand in m runs -/
def qs_RI (n : Nat) (w : Nat → Nat) (i m : Nat) (st : Nat → Nat) (a17 a18 a19 a20 a21 : Nat → Int32) : Prop :=
  m ≤ i ∧ st 0 = 0 ∧ st m = i ∧ (∀ r, r < m → st r < st (r + 1)) ∧ (∀ r, r < m → ∀ j, st r ≤ j → j < st (r + 1) → w j = w (st r))
  ∧ (∀ r, r < m → a17 r = nI (st r)) ∧ (0 < m → a17 m = nI n)
  ∧ (∀ r, r < m → a18 r = nI (w (st r)) ∧ a19 r = nI (qs_rk w (w (st r)) (st r)) ∧ qs_PL w st (w (st r)) r (a20 r)) ∧ (∀ c, c < 8 → qs_PL w st c m (a21 c))
theorem qs_PL_congr {w st st' : Nat → Nat} {c r : Nat} {v : Int32} (h : qs_PL w st c r v) (e : ∀ x, x < r → st' x = st x) : qs_PL w st' c r v := by
  rcases h with ⟨h1, h2⟩ | ⟨r', h1, h2, h3, h4⟩
  · exact Or.inl ⟨h1, fun x hx => by rw [e x hx]; exact h2 x hx⟩
  · exact Or.inr ⟨r', h1, h2, by rw [e r' h1]; exact h3, fun x hx hx2 => by rw [e x hx2]; exact h4 x hx hx2⟩
section
variable {n : Nat} {w : Nat → Nat} {i m : Nat} {st : Nat → Nat}
theorem qs_st_mono (hs : ∀ r, r < m → st r < st (r + 1)) {a b : Nat} (h : a ≤ b) (hb : b ≤ m) : st a ≤ st b := by
  obtain ⟨d, rfl⟩ := Nat.exists_eq_add_of_le h
  induction d with
  | zero => exact Nat.le_refl _
  | succ d ih =>
    have h1 := ih (by omega) (by omega)
    have h2 := hs (a + d) (by omega)
    rw [← Nat.add_assoc]
    omega
theorem qs_st_in (h0 : st 0 = 0) (hs : ∀ r, r < m → st r < st (r + 1)) : ∀ k, k ≤ m → ∀ j, j < st k → ∃ r, r < k ∧ st r ≤ j ∧ j < st (r + 1) := by
  intro k
  induction k with
  | zero => intro _ j hj; rw [h0] at hj; exact absurd hj (by omega)
  | succ k ih =>
    intro hk j hj
    by_cases e : j < st k
    · obtain ⟨r, h1, h2, h3⟩ := ih (by omega) j e
      exact ⟨r, by omega, h2, h3⟩
    · exact ⟨k, by omega, by omega, hj⟩
theorem qs_rk_in (hw : ∀ r, r < m → ∀ j, st r ≤ j → j < st (r + 1) → w j = w (st r)) {r j : Nat} (hr : r < m) (h1 : st r ≤ j) (h2 : j ≤ st (r + 1)) : qs_rk w (w (st r)) j = qs_rk w (w (st r)) (st r) + (j - st r) :=
  qs_ct_run h1 (fun x g1 g2 => decide_eq_true (hw r hr x g1 (by omega)))
theorem qs_rk_out (hw : ∀ r, r < m → ∀ j, st r ≤ j → j < st (r + 1) → w j = w (st r)) {r j c : Nat} (hr : r < m) (hc : w (st r) ≠ c) (h1 : st r ≤ j) (h2 : j ≤ st (r + 1)) : qs_rk w c j = qs_rk w c (st r) :=
  qs_ct_same h1 (fun x g1 g2 => decide_eq_false (by rw [hw r hr x g1 (by omega)]; exact hc))
theorem qs_rk_gap (hs : ∀ r, r < m → st r < st (r + 1)) (hw : ∀ r, r < m → ∀ j, st r ≤ j → j < st (r + 1) → w j = w (st r)) {c a : Nat} : ∀ b, a ≤ b → b ≤ m → (∀ x, a ≤ x → x < b → w (st x) ≠ c) → qs_rk w c (st b) = qs_rk w c (st a) := by
  intro b
  induction b with
  | zero => intro h _ _; rw [show a = 0 by omega]
  | succ b ih =>
    intro h hb hx
    by_cases e : a = b + 1
    · rw [e]
    · rw [qs_rk_out hw (r := b) (by omega) (hx b (by omega) (by omega)) (Nat.le_of_lt (hs b (by omega))) (Nat.le_refl _)]
      exact ih (by omega) (by omega) (fun x g1 g2 => hx x g1 (by omega))
theorem qs_PL_rk (h0 : st 0 = 0) (hs : ∀ r, r < m → st r < st (r + 1)) (hw : ∀ r, r < m → ∀ j, st r ≤ j → j < st (r + 1) → w j = w (st r)) {c r : Nat} {v : Int32} (hr : r ≤ m) (h : qs_PL w st c r v) :
    (v = -1 ∧ qs_rk w c (st r) = 0) ∨ (∃ r', r' < r ∧ v = nI r' ∧ w (st r') = c ∧ qs_rk w c (st r) = qs_rk w c (st (r' + 1))) := by
  rcases h with ⟨h1, h2⟩ | ⟨r', h1, h2, h3, h4⟩
  · left
    refine ⟨h1, ?_⟩
    rw [qs_rk_gap hs hw r (Nat.zero_le r) hr (fun x _ hx => h2 x hx), h0]
    rfl
  · right
    exact ⟨r', h1, h2, h3, qs_rk_gap hs hw r (by omega) hr (fun x g1 g2 => h4 x (by omega) g2)⟩
end
theorem qs_RI_same {n : Nat} {w : Nat → Nat} {i m : Nat} {st : Nat → Nat} {a17 a18 a19 a20 a21 : Nat → Int32} (h : qs_RI n w i m st a17 a18 a19 a20 a21) (h0 : 0 < i) (hw : w i = w (i - 1)) :
    qs_RI n w (i + 1) m (fun r => if r = m then i + 1 else st r) a17 a18 a19 a20 a21 := by
  obtain ⟨g1, g2, g3, g4, g5, g6, g7, g8, g9⟩ := h
  have hm : 0 < m := by
    rcases Nat.eq_zero_or_pos m with z | z
    · rw [z, g2] at g3
      omega
    · exact z
  have e : ∀ x, x < m → (fun r => if r = m then i + 1 else st r) x = st x := fun x hx => if_neg (by omega)
  refine ⟨by omega, ?_, if_pos rfl, fun r hr => ?_, fun r hr j hj1 hj2 => ?_, fun r hr => ?_, g7, fun r hr => ?_, fun c hc => qs_PL_congr (g9 c hc) e⟩
  · rw [e 0 hm]
    exact g2
  · rw [e r hr]
    try dsimp only
    have := g4 r hr
    by_cases z : r + 1 = m
    · rw [if_pos z]
      rw [z, g3] at this
      omega
    · rw [if_neg z]
      exact this
  · rw [e r hr] at hj1 ⊢
    try dsimp only at hj2
    by_cases z : r + 1 = m
    · rw [if_pos z] at hj2
      have h5 := g5 r hr
      have h4 := g4 r hr
      rw [z, g3] at h5 h4
      by_cases ej : j = i
      · rw [ej, hw]
        exact h5 (i - 1) (by omega) (by omega)
      · exact h5 j hj1 (by omega)
    · rw [if_neg z] at hj2
      exact g5 r hr j hj1 hj2
  · rw [e r hr]
    exact g6 r hr
  · rw [e r hr]
    obtain ⟨k1, k2, k3⟩ := g8 r hr
    exact ⟨k1, k2, qs_PL_congr k3 (fun x hx => e x (by omega))⟩
theorem qs_RI_new {n : Nat} {w : Nat → Nat} {i m : Nat} {st : Nat → Nat} {a17 a18 a19 a20 a21 : Nat → Int32} (h : qs_RI n w i m st a17 a18 a19 a20 a21) (hc : w i < 8) :
    qs_RI n w (i + 1) (m + 1) (fun r => if r = m + 1 then i + 1 else st r) (upd (upd a17 m (nI i)) (m + 1) (nI n)) (upd a18 m (nI (w i))) (upd a19 m (nI (qs_rk w (w i) i))) (upd a20 m (a21 (w i))) (upd a21 (w i) (nI m)) := by
  obtain ⟨g1, g2, g3, g4, g5, g6, g7, g8, g9⟩ := h
  have e : ∀ x, x < m + 1 → (fun r => if r = m + 1 then i + 1 else st r) x = st x := fun x hx => if_neg (by omega)
  refine ⟨by omega, ?_, if_pos rfl, fun r hr => ?_, fun r hr j hj1 hj2 => ?_, fun r hr => ?_, fun _ => pk_us, fun r hr => ?_, fun c hc2 => ?_⟩
  · rw [e 0 (by omega)]
    exact g2
  · rw [e r hr]
    try dsimp only
    by_cases z : r = m
    · rw [z, if_pos rfl, g3]
      omega
    · rw [if_neg (by omega)]
      exact g4 r (by omega)
  · rw [e r hr] at hj1 ⊢
    try dsimp only at hj2
    by_cases z : r = m
    · rw [z, if_pos rfl] at hj2
      rw [z] at hj1 ⊢
      rw [g3] at hj1 ⊢
      rw [show j = i by omega]
    · rw [if_neg (by omega)] at hj2
      exact g5 r (by omega) j hj1 hj2
  · rw [e r hr, pk_un (by omega)]
    by_cases z : r = m
    · rw [z, pk_us, g3]
    · rw [pk_un z]
      exact g6 r (by omega)
  · rw [e r hr]
    by_cases z : r = m
    · rw [z, pk_us, pk_us, pk_us, g3]
      exact ⟨rfl, rfl, qs_PL_congr (g9 _ hc) (fun x hx => e x (by omega))⟩
    · rw [pk_un z, pk_un z, pk_un z]
      obtain ⟨k1, k2, k3⟩ := g8 r (by omega)
      exact ⟨k1, k2, qs_PL_congr k3 (fun x hx => e x (by omega))⟩
  · by_cases z : c = w i
    · rw [z, pk_us]
      refine Or.inr ⟨m, by omega, rfl, ?_, fun x h1 h2 => absurd h2 (by omega)⟩
      rw [e m (by omega), g3]
    · rw [pk_un z]
      refine qs_PL_congr (st := st) ?_ e
      have hne : w (st m) ≠ c := by
        rw [g3]
        exact fun z2 => z z2.symm
      rcases g9 c hc2 with ⟨k1, k2⟩ | ⟨r', k1, k2, k3, k4⟩
      · refine Or.inl ⟨k1, fun x hx => ?_⟩
        by_cases ex : x = m
        · rw [ex]
          exact hne
        · exact k2 x (by omega)
      · refine Or.inr ⟨r', by omega, k2, k3, fun x hx1 hx2 => ?_⟩
        by_cases ex : x = m
        · rw [ex]
          exact hne
        · exact k4 x hx1 (by omega)
/-! packRuns -/
def qs_RF (n : Nat) (w : Nat → Nat) (m : Nat) (st : Nat → Nat) (a17 a18 a19 a20 a21 : Nat → Int32) : Prop := qs_RI n w n m st a17 a18 a19 a20 a21
theorem qs_pr57 {post : St1 → Prop} {J : Int32 → Int32 → (Nat → Int32) → (Nat → Int32) → (Nat → Int32) → (Nat → Int32) → (Nat → Int32) → (Nat → Int32) → (Nat → Int32) → (Nat → Int32) → (Nat → Int32) → (Nat → Int32) → (Nat → Int32) → (Nat → Int32) → (Nat → Int32) → (Nat → Int32) → (Nat → Int32) → (Nat → Int32) → (Nat → Int32) → (Nat → Int32) → (Nat → Int32) → (Nat → Int32) → (Nat → Int32) → (Nat → Int32) → (Nat → Int32) → (Nat → Int32) → (Nat → Int32) → (Nat → Int32) → (Nat → Int32) → Prop} {n i m : Nat} {w st : Nat → Nat} (hL : qs_L n w a1) (hi : i < n) (h : qs_RI n w i m st a17 a18 a19 a20 a21)
    (H : ∀ b17 b18 b19 b20 b21, (∃ st', qs_RI n w (i + 1) (m + 1) st' b17 b18 b19 b20 b21) → J (nI (i + 1)) (nI (m + 1)) a1 a2 a3 a4 a5 a6 a7 a8 a9 a10 a11 a12 a13 a14 a15 a16 b17 b18 b19 b20 b21 a22 a23 a24 a25 a26 a27) :
    wX_packRuns_57 post J (nI i) (nI n) ip (nI m) nd cs a1 a2 a3 a4 a5 a6 a7 a8 a9 a10 a11 a12 a13 a14 a15 a16 a17 a18 a19 a20 a21 a22 a23 a24 a25 a26 a27 := by
  obtain ⟨hn, ha, _⟩ := hL
  obtain ⟨w8, aw⟩ := ha i hi
  have hm : m ≤ i := h.1
  have hk := qs_rk_le w (w i) i
  have fin : ∀ b17 b18 b20 z0, b17 = upd a17 m (nI i) → b18 = upd a18 m (nI (w i)) → b20 = upd a20 m (a21 (w i)) → z0 = nI (qs_rk w (w i) i) →
      wX_packRuns_142 post J (nI i) (nI (w i)) z0 (nI m) (nI n) ip (nI m) nd cs a1 a2 a3 a4 a5 a6 a7 a8 a9 a10 a11 a12 a13 a14 a15 a16 b17 b18 a19 b20 a21 a22 a23 a24 a25 a26 a27 := by
    intro b17 b18 b20 z0 e1 e2 e3 e4
    unfold wX_packRuns_142
    rw [nI_clamp (show m < 2 ^ 31 by omega), nI_clamp (show w i < 2 ^ 31 by omega), e4, qs_s16 _ (by omega), qs_s16 m (by omega), qs_s16 n (by omega)]
    refine ⟨vp_in_nI (by omega) (by decide), nm_e ⟨vp_in_nI (by omega) (by decide), nm_e (nm_r (nI_1 m) ?_)⟩⟩
    rw [nI_clamp (show m + 1 < 2 ^ 31 by omega)]
    refine ⟨vp_in_nI (by omega) (by decide), nm_e (nm_r (nI_1 i) (H _ _ _ _ _ ⟨fun r => if r = m + 1 then i + 1 else st r, ?_⟩))⟩
    rw [e1, e2, e3]
    exact qs_RI_new h w8
  obtain ⟨g1, g2, g3, g4, g5, g6, g7, g8, g9⟩ := h
  have hpl := qs_PL_rk g2 g4 g5 (Nat.le_refl m) (g9 (w i) w8)
  rw [g3] at hpl
  unfold wX_packRuns_57
  rw [nI_clamp (show i < 2 ^ 31 by omega), aw]
  refine ⟨vp_in_nI (by omega) (by decide), nm_e ⟨vp_in_nI (by omega) (by decide), ?_⟩⟩
  rw [nI_clamp (show w i < 2 ^ 31 by omega), nI_clamp (show m < 2 ^ 31 by omega), qs_s16 i (by omega), qs_b8 _ (by omega)]
  refine nm_e ⟨vp_in_nI (by omega) (by decide), nm_e ⟨vp_in_nI (by omega) (by decide), nm_e ⟨vp_in_nI (by omega) (by decide), ?_⟩⟩⟩
  rcases hpl with ⟨e1, e2⟩ | ⟨r', e1, e2, e3, e4⟩
  · refine nm_e ?_
    rw [e1]
    refine br_f (by decide) (fin _ _ _ _ rfl rfl ?_ ?_)
    · rw [e1]
      rfl
    · rw [e2]
      rfl
  · refine nm_e ?_
    rw [e2]
    have q1 : upd a17 m (nI i) r' = nI (st r') := by
      rw [pk_un (by omega)]
      exact g6 r' e1
    have q2 : upd a17 m (nI i) (r' + 1) = nI (st (r' + 1)) := by
      by_cases z : r' + 1 = m
      · rw [z, pk_us, g3]
      · rw [pk_un z]
        exact g6 (r' + 1) (by omega)
    have q3 := (g8 r' e1).2.1
    have q4 := qs_rk_in g5 e1 (Nat.le_of_lt (g4 r' e1)) (Nat.le_refl _)
    have q5 := g4 r' e1
    rw [e3] at q3 q4
    rw [nI_1, nI_clamp (show r' < 2 ^ 31 by omega), nI_clamp (show r' + 1 < 2 ^ 31 by omega), q1, q2, q3]
    refine br_t (nI_pos' (by omega)) ⟨vp_in_nI (by omega) (by decide), vp_in_nI (by omega) (by decide), vp_in_nI (by omega) (by decide), fin _ _ _ _ rfl rfl ?_ ?_⟩
    · rw [e2, qs_s16 _ (by omega)]
    · rw [nI_add, pk_sub (by omega), e4, q4]
      congr 1
      omega
theorem qs_packRuns {post : St1 → Prop} {n : Nat} {w : Nat → Nat} (hL : qs_L n w a1)
    (H : ∀ m st b17 b18 b19 b20 b21, qs_RF n w m st b17 b18 b19 b20 b21 → post (nI n, ip, nI m, nd, cs, a1, a2, a3, a4, a5, a6, a7, a8, a9, a10, a11, a12, a13, a14, a15, a16, b17, b18, b19, b20, b21, a22, a23, a24, a25, a26, a27)) : wpX_packRuns post (nI n, ip, rc, nd, cs, a1, a2, a3, a4, a5, a6, a7, a8, a9, a10, a11, a12, a13, a14, a15, a16, a17, a18, a19, a20, a21, a22, a23, a24, a25, a26, a27) := by
  have hn := hL.1
  have main : ∀ c21, (∀ c, c < 8 → c21 c = -1) → ∃ f, wX_packRuns_28 post (nI n) ip nd cs f 0 0 a1 a2 a3 a4 a5 a6 a7 a8 a9 a10 a11 a12 a13 a14 a15 a16 a17 a18 a19 a20 c21 a22 a23 a24 a25 a26 a27 := by
    intro c21 h21
    refine loop_0 (fun f i (t : Nat × (Nat → Int32) × (Nat → Int32) × (Nat → Int32) × (Nat → Int32) × (Nat → Int32)) => wX_packRuns_28 post (nI n) ip nd cs f (nI i) (nI t.1) a1 a2 a3 a4 a5 a6 a7 a8 a9 a10 a11 a12 a13 a14 a15 a16 t.2.1 t.2.2.1 t.2.2.2.1 t.2.2.2.2.1 t.2.2.2.2.2 a22 a23 a24 a25 a26 a27)
      (fun i t => ∃ st, qs_RI n w i t.1 st t.2.1 t.2.2.1 t.2.2.2.1 t.2.2.2.2.1 t.2.2.2.2.2) n (0, a17, a18, a19, a20, c21)
      ⟨fun _ => 0, Nat.le_refl 0, rfl, rfl, fun r hr => absurd hr (by omega), fun r hr => absurd hr (by omega), fun r hr => absurd hr (by omega), fun hr => absurd hr (by omega), fun r hr => absurd hr (by omega), fun c hc => Or.inl ⟨h21 c hc, fun x hx => absurd hx (by omega)⟩⟩ ?_ ?_
    · intro f t hI
      obtain ⟨st, hI⟩ := hI
      exact pk_le n n (fun _ => H _ _ _ _ _ _ _ hI) (fun z => absurd z (by omega))
    · intro f i t hi hI hw
      obtain ⟨m, b17, b18, b19, b20, b21⟩ := t
      obtain ⟨st, hI⟩ := hI
      try dsimp only at hI
      have new : wX_packRuns_57 post (wX_packRuns_28 post (nI n) ip nd cs f) (nI i) (nI n) ip (nI m) nd cs a1 a2 a3 a4 a5 a6 a7 a8 a9 a10 a11 a12 a13 a14 a15 a16 b17 b18 b19 b20 b21 a22 a23 a24 a25 a26 a27 :=
        qs_pr57 hL hi hI (fun c17 c18 c19 c20 c21 hc => hw (m + 1, c17, c18, c19, c20, c21) hc)
      refine pk_le n i (fun z => absurd z (by omega)) (fun _ => pk_eq i 0 (fun z => new) (fun z => ?_))
      have e1 : nI i - 1 = nI (i - 1) := pk_sub (a := i) (b := 1) (by omega)
      obtain ⟨w8, aw⟩ := hL.2.1 i hi
      obtain ⟨w8', aw'⟩ := hL.2.1 (i - 1) (by omega)
      rw [e1, nI_clamp (show i < 2 ^ 31 by omega), nI_clamp (show i - 1 < 2 ^ 31 by omega), aw, aw']
      refine ⟨vp_in_nI (by omega) (by decide), vp_in_nI (by omega) (by decide), pk_eq (w i) (w (i - 1)) (fun e => ?_) (fun e => new)⟩
      exact nm_r (nI_1 i) (hw (m, b17, b18, b19, b20, b21) ⟨_, qs_RI_same hI (by omega) e⟩)
  show ∃ f, wX_packRuns_7 post (nI n) ip 0 nd cs f 0 a1 a2 a3 a4 a5 a6 a7 a8 a9 a10 a11 a12 a13 a14 a15 a16 a17 a18 a19 a20 a21 a22 a23 a24 a25 a26 a27
  refine loop_0 (fun f i s => wX_packRuns_7 post (nI n) ip 0 nd cs f (nI i) a1 a2 a3 a4 a5 a6 a7 a8 a9 a10 a11 a12 a13 a14 a15 a16 a17 a18 a19 a20 s a22 a23 a24 a25 a26 a27) (fun i s => ∀ c, c < i → s c = -1) 8 a21 (fun c hc => absurd hc (by omega)) ?_ ?_
  · intro f s hI
    exact pk_le 8 8 (fun _ => main s hI) (fun z => absurd z (by omega))
  · intro f i s hi hI hw
    refine pk_le 8 i (fun z => absurd z (by omega)) (fun _ => ?_)
    rw [nI_clamp (show i < 2 ^ 31 by omega)]
    refine ⟨vp_in_nI (by omega) (by decide), nm_e (nm_r (nI_1 i) (hw _ (fun c hc => ?_)))⟩
    by_cases e : c = i
    · rw [e, pk_us]
    · rw [pk_un e]
      exact hI c (by omega)
/-! the runs are asked -/
theorem qs_RF_17 {n : Nat} {w : Nat → Nat} {m : Nat} {st : Nat → Nat} {a17 a18 a19 a20 a21 : Nat → Int32} (h : qs_RF n w m st a17 a18 a19 a20 a21) {r : Nat} (hr : r ≤ m) (hm : 0 < m) : a17 r = nI (st r) := by
  obtain ⟨g1, g2, g3, g4, g5, g6, g7, g8, g9⟩ := h
  by_cases e : r = m
  · rw [e, g7 hm, g3]
  · exact g6 r (by omega)
theorem qs_runBeforePlace {n : Nat} {w : Nat → Nat} {m : Nat} {st : Nat → Nat} {post : Int32 → Prop} {p0 : Int32} (i : Nat) (hR : qs_RF n w m st a17 a18 a19 a20 a21) (hn : n ≤ 200) (hrc : rc = nI m) (hi : i ≤ n) (h0 : p0 = nI i)
    (H0 : i = 0 → post (-1)) (H1 : ∀ r, r < m → st r < i → i ≤ st (r + 1) → post (nI r)) : wpX_runBeforePlace post (nn, ip, rc, nd, cs, a1, a2, a3, a4, a5, a6, a7, a8, a9, a10, a11, a12, a13, a14, a15, a16, a17, a18, a19, a20, a21, a22, a23, a24, a25, a26, a27) p0 := by
  subst h0
  subst hrc
  have hR' := hR
  obtain ⟨g1, g2, g3, g4, g5, g6, g7, g8, g9⟩ := hR
  have main : ∀ k, k ≤ m → post (nI k - 1) → (∀ x, x < k → st x < i) → (∀ x, k ≤ x → x < m → i ≤ st x) → wpX_runBeforePlace post (nn, ip, nI m, nd, cs, a1, a2, a3, a4, a5, a6, a7, a8, a9, a10, a11, a12, a13, a14, a15, a16, a17, a18, a19, a20, a21, a22, a23, a24, a25, a26, a27) (nI i) := by
    intro k hk hp hA hB
    refine ⟨m + 1, qs_bs (fun f lo hi => wX_runBeforePlace_7 post (nI i) nn ip (nI m) nd cs a1 a2 a3 a4 a5 a6 a7 a8 a9 a10 a11 a12 a13 a14 a15 a16 a17 a18 a19 a20 a21 a22 a23 a24 a25 a26 a27 f lo hi) k m ?_ ?_ (m + 1) 0 m (by omega) hk (by omega) (by omega)⟩
    · intro f
      exact pk_le k k (fun _ => hp) (fun z => absurd z (by omega))
    · intro f lo hi x x1 x2 x3 hx tA tB
      have hst := qs_st_mono g4 (show x ≤ m by omega) (Nat.le_refl m)
      refine pk_le hi lo (fun z => absurd z (by omega)) (fun _ => ⟨by decide, nm_r (qs_half (by omega) (by omega) hx) ?_⟩)
      rw [nI_clamp (by omega), g6 x (by omega)]
      refine ⟨vp_in_nI (by omega) (by decide), pk_le i (st x) (fun z => ?_) (fun z => ?_)⟩
      · have : k ≤ x := by
          rcases Nat.lt_or_ge x k with y | y
          · have := hA x y
            omega
          · exact y
        exact br_t rfl (br_t rfl (tB this))
      · have : x < k := by
          rcases Nat.lt_or_ge x k with y | y
          · exact y
          · have := hB x y (by omega)
            omega
        have t := tA this
        rw [← nI_1] at t
        exact br_f (by decide) (br_f (by decide) t)
  by_cases e : i = 0
  · exact main 0 (by omega) (H0 e) (fun x hx => absurd hx (by omega)) (fun x _ _ => by omega)
  · obtain ⟨r, k1, k2, k3⟩ := qs_st_in g2 g4 m (Nat.le_refl m) (i - 1) (by omega)
    refine main (r + 1) (by omega) ?_ (fun x hx => ?_) (fun x hx hx2 => ?_)
    · rw [nI_pred]
      exact H1 r k1 (by omega) (by omega)
    · have := qs_st_mono g4 (show x ≤ r by omega) (by omega)
      omega
    · have := qs_st_mono g4 hx (by omega)
      omega
theorem qs_rankInRuns {n : Nat} {w : Nat → Nat} {m : Nat} {st : Nat → Nat} {post : Int32 → Prop} {p0 p1 : Int32} (c i : Nat) (hR : qs_RF n w m st a17 a18 a19 a20 a21) (hL : qs_L n w a1) (hrc : rc = nI m) (hc : c < 8) (hi : i ≤ n)
    (h0 : p0 = nI c) (h1 : p1 = nI i) (H : post (nI (qs_rk w c i))) : wpX_rankInRuns post (nn, ip, rc, nd, cs, a1, a2, a3, a4, a5, a6, a7, a8, a9, a10, a11, a12, a13, a14, a15, a16, a17, a18, a19, a20, a21, a22, a23, a24, a25, a26, a27) p0 p1 := by
  subst h0
  subst h1
  have hn := hL.1
  have hR' := hR
  obtain ⟨g1, g2, g3, g4, g5, g6, g7, g8, g9⟩ := hR
  have neg : ∀ f, qs_rk w c i = 0 → wX_rankInRuns_6 post (nI c) (nI i) nn ip rc nd cs a1 a2 a3 a4 a5 a6 a7 a8 a9 a10 a11 a12 a13 a14 a15 a16 a17 a18 a19 a20 a21 a22 a23 a24 a25 a26 a27 (f + 1) (-1) := by
    intro f h
    rw [h] at H
    exact br_t (by decide) (br_f (by decide) H)
  have lp : ∀ r, r < m → st r < i → qs_rk w c (min (st (r + 1)) i) = qs_rk w c i → ∀ f, r + 1 < f → wX_rankInRuns_6 post (nI c) (nI i) nn ip rc nd cs a1 a2 a3 a4 a5 a6 a7 a8 a9 a10 a11 a12 a13 a14 a15 a16 a17 a18 a19 a20 a21 a22 a23 a24 a25 a26 a27 f (nI r) := by
    intro r
    induction r with
    | zero =>
      intro hr hs hk f hf
      obtain ⟨f, rfl⟩ : ∃ f', f = f' + 2 := ⟨f - 2, by omega⟩
      obtain ⟨k1, k2, k3⟩ := g8 0 hr
      have hlt := g4 0 hr
      have hst := qs_st_mono g4 (show 0 + 1 ≤ m by omega) (Nat.le_refl m)
      have hw8 := (hL.2.1 (st 0) (by omega)).1
      refine br_f (nI_pos (by omega)) ⟨vp_in_nI (by omega) (by decide), ?_⟩
      rw [nI_clamp (by omega), k1]
      refine pk_eq (w (st 0)) c (fun e => ?_) (fun e => nm_r (e' := -1) (by decide) (neg f ?_))
      · have q := qs_rk_in g5 hr (j := min (st (0 + 1)) i) (by omega) (by omega)
        have qle := qs_rk_le w c i
        rw [e] at q k2
        refine br_t (nI_pos' (by omega)) ?_
        rw [nI_1, nI_clamp (by omega), qs_RF_17 hR' (show 0 + 1 ≤ m by omega) (by omega)]
        refine ⟨vp_in_nI (by omega) (by decide), pk_le i (st (0 + 1)) (fun z => ⟨vp_in_nI (by omega) (by decide), vp_in_nI (by omega) (by decide), ?_⟩) (fun z => ⟨vp_in_nI (by omega) (by decide), vp_in_nI (by omega) (by decide), vp_in_nI (by omega) (by decide), ?_⟩)⟩
        · rw [nI_clamp (by omega), k2, g6 0 hr, nI_add, pk_sub (by omega), show qs_rk w c (st 0) + i - st 0 = qs_rk w c i by omega]
          exact H
        · rw [nI_clamp (by omega), k2, g6 0 hr, nI_add, pk_sub (by omega), show qs_rk w c (st 0) + st (0 + 1) - st 0 = qs_rk w c i by omega]
          exact H
      · rw [← hk, qs_rk_out g5 hr e (by omega) (by omega), g2]
        rfl
    | succ r ih =>
      intro hr hs hk f hf
      obtain ⟨f, rfl⟩ : ∃ f', f = f' + 1 := ⟨f - 1, by omega⟩
      obtain ⟨k1, k2, k3⟩ := g8 (r + 1) hr
      have hlt := g4 (r + 1) hr
      have hlt2 := g4 r (by omega)
      have hst := qs_st_mono g4 (show r + 1 + 1 ≤ m by omega) (Nat.le_refl m)
      have hw8 := (hL.2.1 (st (r + 1)) (by omega)).1
      refine br_f (nI_pos (by omega)) ⟨vp_in_nI (by omega) (by decide), ?_⟩
      rw [nI_clamp (by omega), k1]
      refine pk_eq (w (st (r + 1))) c (fun e => ?_) (fun e => nm_r (pk_m1 r) (ih (by omega) (by omega) ?_ f (by omega)))
      · have q := qs_rk_in g5 hr (j := min (st (r + 1 + 1)) i) (by omega) (by omega)
        have qle := qs_rk_le w c i
        rw [e] at q k2
        refine br_t (nI_pos' (by omega)) ?_
        rw [nI_1, nI_clamp (by omega), qs_RF_17 hR' (show r + 1 + 1 ≤ m by omega) (by omega)]
        refine ⟨vp_in_nI (by omega) (by decide), pk_le i (st (r + 1 + 1)) (fun z => ⟨vp_in_nI (by omega) (by decide), vp_in_nI (by omega) (by decide), ?_⟩) (fun z => ⟨vp_in_nI (by omega) (by decide), vp_in_nI (by omega) (by decide), vp_in_nI (by omega) (by decide), ?_⟩)⟩
        · rw [nI_clamp (by omega), k2, g6 (r + 1) hr, nI_add, pk_sub (by omega), show qs_rk w c (st (r + 1)) + i - st (r + 1) = qs_rk w c i by omega]
          exact H
        · rw [nI_clamp (by omega), k2, g6 (r + 1) hr, nI_add, pk_sub (by omega), show qs_rk w c (st (r + 1)) + st (r + 1 + 1) - st (r + 1) = qs_rk w c i by omega]
          exact H
      · rw [show min (st (r + 1)) i = st (r + 1) by omega, ← hk]
        exact (qs_rk_out g5 hr e (j := min (st (r + 1 + 1)) i) (by omega) (by omega)).symm
  refine qs_runBeforePlace i hR' hn hrc hi rfl (fun e => ⟨1, neg 0 ?_⟩) (fun r r1 r2 r3 => ⟨r + 2, lp r r1 r2 ?_ (r + 2) (by omega)⟩)
  · rw [e]
    rfl
  · rw [show min (st (r + 1)) i = i by omega]
theorem qs_selectInRuns {n : Nat} {w : Nat → Nat} {m : Nat} {st : Nat → Nat} {post : Int32 → Prop} {p0 p1 : Int32} (c k q : Nat) (hR : qs_RF n w m st a17 a18 a19 a20 a21) (hn : n ≤ 200) (hc8 : c < 8) (hq : q < n) (hc : w q = c) (hk : qs_rk w c q = k)
    (h0 : p0 = nI c) (h1 : p1 = nI k) (H : post (nI q)) : wpX_selectInRuns post (nn, ip, rc, nd, cs, a1, a2, a3, a4, a5, a6, a7, a8, a9, a10, a11, a12, a13, a14, a15, a16, a17, a18, a19, a20, a21, a22, a23, a24, a25, a26, a27) p0 p1 := by
  subst h0
  subst h1
  have hkn := qs_rk_lt hc hq
  have hkq := qs_rk_le w c q
  obtain ⟨g1, g2, g3, g4, g5, g6, g7, g8, g9⟩ := hR
  have lp : ∀ f r, r < m → w (st r) = c → k < qs_rk w c (st (r + 1)) → r < f → wX_selectInRuns_7 post (nI k) nn ip rc nd cs a1 a2 a3 a4 a5 a6 a7 a8 a9 a10 a11 a12 a13 a14 a15 a16 a17 a18 a19 a20 a21 a22 a23 a24 a25 a26 a27 f (nI r) := by
    intro f
    induction f with
    | zero => intro r _ _ _ h; exact absurd h (by omega)
    | succ f ih =>
      intro r hr hw hlt hf
      obtain ⟨k1, k2, k3⟩ := g8 r hr
      have s1 := g4 r hr
      have s2 := qs_st_mono g4 (show r + 1 ≤ m by omega) (Nat.le_refl m)
      have rle := qs_rk_le w c (st r)
      rw [hw] at k2 k3
      refine ⟨vp_in_nI (by omega) (by decide), ?_⟩
      rw [nI_clamp (by omega), k2]
      refine pk_le (qs_rk w c (st r)) k (fun z => ⟨vp_in_nI (by omega) (by decide), vp_in_nI (by omega) (by decide), ?_⟩) (fun z => ⟨vp_in_nI (by omega) (by decide), ?_⟩)
      · have e1 := qs_rk_in g5 hr (j := st (r + 1)) (by omega) (Nat.le_refl _)
        rw [hw] at e1
        have e2 := qs_rk_in g5 hr (j := st r + k - qs_rk w c (st r)) (by omega) (by omega)
        have e3 := g5 r hr (st r + k - qs_rk w c (st r)) (by omega) (by omega)
        rw [hw] at e2 e3
        have e4 : st r + k - qs_rk w c (st r) = q := by
          refine qs_sel_inj (P := fun j => decide (w j = c)) (decide_eq_true e3) (decide_eq_true hc) ?_
          show qs_rk w c _ = qs_rk w c q
          omega
        rw [g6 r hr, nI_add, pk_sub (by omega), e4]
        exact H
      · rcases qs_PL_rk g2 g4 g5 (Nat.le_of_lt hr) k3 with ⟨_, e2⟩ | ⟨r', e1, e2, e3, e4⟩
        · omega
        · exact nm_r e2 (ih r' (by omega) e3 (by omega) (by omega))
  refine ⟨vp_in_nI (by omega) (by decide), ?_⟩
  rw [nI_clamp (by omega)]
  rcases qs_PL_rk g2 g4 g5 (Nat.le_refl m) (g9 c hc8) with ⟨_, e2⟩ | ⟨r', e1, e2, e3, e4⟩
  · rw [g3] at e2
    omega
  · rw [g3] at e4
    exact nm_r e2 ⟨m, lp m r' e1 e3 (by omega) e1⟩
/-- there are at least as many runs as letters -/
theorem qs_runs_ge {n : Nat} {w : Nat → Nat} {m : Nat} {st : Nat → Nat} {a17 a18 a19 a20 a21 : Nat → Int32} (hR : qs_RF n w m st a17 a18 a19 a20 a21) : qs_ct (fun c => decide (0 < qs_rk w c n)) 8 ≤ m := by
  obtain ⟨g1, g2, g3, g4, g5, g6, g7, g8, g9⟩ := hR
  have one : ∀ (P : Nat → Bool) (x k : Nat), qs_ct (fun c => P c || decide (c = x)) k ≤ qs_ct P k + (if x < k then 1 else 0) := by
    intro P x k
    induction k with
    | zero => exact Nat.zero_le _
    | succ k ih =>
      show qs_ct (fun c => P c || decide (c = x)) k + (P k || decide (k = x)).toNat ≤ qs_ct P k + (P k).toNat + _
      by_cases e : k = x
      · rw [decide_eq_true e, Bool.or_true, if_pos (by omega)]
        rw [if_neg (by omega)] at ih
        show _ + 1 ≤ _
        omega
      · rw [decide_eq_false e, Bool.or_false]
        have : (if x < k then 1 else 0) ≤ (if x < k + 1 then 1 else 0) := by
          by_cases z : x < k
          · rw [if_pos z, if_pos (by omega)]
            omega
          · rw [if_neg z]
            omega
        omega
  have main : ∀ r, r ≤ m → ∃ P : Nat → Bool, (∀ x, x < r → P (w (st x)) = true) ∧ qs_ct P 8 ≤ r := by
    intro r
    induction r with
    | zero => intro _; exact ⟨fun _ => false, fun x hx => absurd hx (by omega), by rw [qs_ct_zero (fun _ _ => rfl)]; omega⟩
    | succ r ih =>
      intro hr
      obtain ⟨P, p1, p2⟩ := ih (by omega)
      refine ⟨fun c => P c || decide (c = w (st r)), fun x hx => ?_, ?_⟩
      · try dsimp only
        by_cases e : x = r
        · rw [e, decide_eq_true rfl, Bool.or_true]
        · rw [p1 x (by omega), Bool.true_or]
      · have := one P (w (st r)) 8
        have h2 : (if w (st r) < 8 then 1 else 0) ≤ 1 := by
          by_cases z : w (st r) < 8
          · rw [if_pos z]
            omega
          · rw [if_neg z]
            omega
        omega
  obtain ⟨P, p1, p2⟩ := main m (Nat.le_refl m)
  refine Nat.le_trans ?_ p2
  have le : ∀ (Q P : Nat → Bool) (k : Nat), (∀ j, j < k → Q j = true → P j = true) → qs_ct Q k ≤ qs_ct P k := by
    intro Q P k h
    induction k with
    | zero => exact Nat.le_refl _
    | succ k ih =>
      have h1 := ih (fun j hj => h j (by omega))
      rw [qs_ctS, qs_ctS]
      cases hq : Q k with
      | false =>
        show qs_ct Q k + 0 ≤ _
        omega
      | true =>
        rw [h k (by omega) hq]
        omega
  refine le _ _ 8 (fun c hc hq => ?_)
  have hq2 : 0 < qs_rk w c n := of_decide_eq_true hq
  obtain ⟨q, q1, q2, q3⟩ := qs_rk_sel hq2
  obtain ⟨r, r1, r2, r3⟩ := qs_st_in g2 g4 m (Nat.le_refl m) q (by omega)
  rw [← q2, g5 r r1 q r2 r3]
  exact p1 r r1
end
end
section
/-! sums -/
def qs_sm (f : Nat → Nat) : Nat → Nat
  | 0 => 0
  | k + 1 => qs_sm f k + f k
theorem qs_smS (f : Nat → Nat) (k : Nat) : qs_sm f (k + 1) = qs_sm f k + f k := rfl
theorem qs_sm_eq4 {f g h u : Nat → Nat} {k : Nat} (e : ∀ t, t < k → f t + g t = h t + u t) : qs_sm f k + qs_sm g k = qs_sm h k + qs_sm u k := by
  induction k with
  | zero => rfl
  | succ k ih =>
    have h1 := ih (fun t ht => e t (by omega))
    have h2 := e k (by omega)
    rw [qs_smS, qs_smS, qs_smS, qs_smS]
    omega
theorem qs_sm_congr {f g : Nat → Nat} {k : Nat} (e : ∀ t, t < k → f t = g t) : qs_sm f k = qs_sm g k := by
  induction k with
  | zero => rfl
  | succ k ih => rw [qs_smS, qs_smS, ih (fun t ht => e t (by omega)), e k (by omega)]
theorem qs_sm_le {f g : Nat → Nat} {k : Nat} (e : ∀ t, t < k → f t ≤ g t) : qs_sm f k ≤ qs_sm g k := by
  induction k with
  | zero => exact Nat.le_refl _
  | succ k ih =>
    have h1 := ih (fun t ht => e t (by omega))
    have h2 := e k (by omega)
    rw [qs_smS, qs_smS]
    omega
theorem qs_sm_add (f g : Nat → Nat) (k : Nat) : qs_sm (fun t => f t + g t) k = qs_sm f k + qs_sm g k := by
  induction k with
  | zero => rfl
  | succ k ih =>
    show qs_sm (fun t => f t + g t) k + (f k + g k) = qs_sm f k + f k + (qs_sm g k + g k)
    omega
theorem qs_sm_zero {f : Nat → Nat} {k : Nat} (e : ∀ t, t < k → f t = 0) : qs_sm f k = 0 := by
  induction k with
  | zero => rfl
  | succ k ih => rw [qs_smS, ih (fun t ht => e t (by omega)), e k (by omega)]
/-- c at x, nothing elsewhere -/
def qs_dl (x c t : Nat) : Nat := if t = x then c else 0
theorem qs_dl_s (x c : Nat) : qs_dl x c x = c := if_pos rfl
theorem qs_dl_n {x t : Nat} (c : Nat) (h : t ≠ x) : qs_dl x c t = 0 := if_neg h
theorem qs_sm_dl {x c : Nat} : ∀ {k : Nat}, x < k → qs_sm (qs_dl x c) k = c := by
  intro k
  induction k with
  | zero => intro h; exact absurd h (by omega)
  | succ k ih =>
    intro h
    rw [qs_smS]
    by_cases e : x = k
    · rw [e, qs_dl_s, qs_sm_zero (fun t ht => qs_dl_n c (by omega)), Nat.zero_add]
    · rw [ih (by omega), qs_dl_n c (by omega), Nat.add_zero]
theorem qs_sm_ge {f : Nat → Nat} {x k : Nat} (h : x < k) : f x ≤ qs_sm f k := by
  have h1 : qs_sm (qs_dl x (f x)) k ≤ qs_sm f k := qs_sm_le (fun t ht => by
    by_cases e : t = x
    · rw [e, qs_dl_s]
      exact Nat.le_refl _
    · rw [qs_dl_n _ e]
      exact Nat.zero_le _)
  rw [qs_sm_dl h] at h1
  exact h1
theorem qs_sm_ge2 {f : Nat → Nat} {x y k : Nat} (hx : x < k) (hy : y < k) (h : x ≠ y) : f x + f y ≤ qs_sm f k := by
  have h1 : qs_sm (fun t => qs_dl x (f x) t + qs_dl y (f y) t) k ≤ qs_sm f k := qs_sm_le (fun t ht => by
    by_cases e : t = x
    · rw [e, qs_dl_s, qs_dl_n _ h]
      exact Nat.le_refl _
    · by_cases e2 : t = y
      · rw [e2, qs_dl_s, qs_dl_n _ (fun z => h z.symm), Nat.zero_add]
        exact Nat.le_refl _
      · rw [qs_dl_n _ e, qs_dl_n _ e2]
        exact Nat.zero_le _)
  rw [qs_sm_add, qs_sm_dl hx, qs_sm_dl hy] at h1
  exact h1
theorem qs_sm_dvd {f : Nat → Nat} {d k : Nat} (h : ∀ t, t < k → d ∣ f t) : d ∣ qs_sm f k := by
  induction k with
  | zero => exact Nat.dvd_zero d
  | succ k ih => exact Nat.dvd_add (ih (fun t ht => h t (by omega))) (h k (by omega))
/-! lengths that fit -/
def qs_kr (fr : Nat → Bool) (len : Nat → Nat) (t : Nat) : Nat := if fr t = true then 2 ^ (3 - len t) else 0
def qs_co (fr : Nat → Bool) (wt len : Nat → Nat) (t : Nat) : Nat := if fr t = true then wt t * len t else 0
def qs_fw (fr : Nat → Bool) (wt : Nat → Nat) (t : Nat) : Nat := if fr t = true then wt t else 0
theorem qs_kr_t {fr : Nat → Bool} {len : Nat → Nat} {t : Nat} (h : fr t = true) : qs_kr fr len t = 2 ^ (3 - len t) := if_pos h
theorem qs_kr_f {fr : Nat → Bool} {len : Nat → Nat} {t : Nat} (h : fr t = false) : qs_kr fr len t = 0 := if_neg (by rw [h]; decide)
theorem qs_co_t {fr : Nat → Bool} {wt len : Nat → Nat} {t : Nat} (h : fr t = true) : qs_co fr wt len t = wt t * len t := if_pos h
theorem qs_co_f {fr : Nat → Bool} {wt len : Nat → Nat} {t : Nat} (h : fr t = false) : qs_co fr wt len t = 0 := if_neg (by rw [h]; decide)
theorem qs_fw_t {fr : Nat → Bool} {wt : Nat → Nat} {t : Nat} (h : fr t = true) : qs_fw fr wt t = wt t := if_pos h
theorem qs_fw_f {fr : Nat → Bool} {wt : Nat → Nat} {t : Nat} (h : fr t = false) : qs_fw fr wt t = 0 := if_neg (by rw [h]; decide)
theorem qs_kr_same {fr : Nat → Bool} {len len' : Nat → Nat} {t : Nat} (h : len' t = len t) : qs_kr fr len' t = qs_kr fr len t := by
  unfold qs_kr
  rw [h]
theorem qs_co_same {fr : Nat → Bool} {wt len len' : Nat → Nat} {t : Nat} (h : len' t = len t) : qs_co fr wt len' t = qs_co fr wt len t := by
  unfold qs_co
  rw [h]
/-- two have the greatest length, or lengths can be cut -/
theorem qs_kraft_max {fr : Nat → Bool} {wt : Nat → Nat} {a b : Nat} (ha : a < 16) (hb : b < 16) (hab : a ≠ b) (fa : fr a = true) (fb : fr b = true) : ∀ L, L ≤ 3 → ∀ len : Nat → Nat, (∀ t, t < 16 → fr t = true → len t ≤ L) → qs_sm (qs_kr fr len) 16 ≤ 8 →
    ∃ (len1 : Nat → Nat) (L1 t1 t2 : Nat), 1 ≤ L1 ∧ L1 ≤ 3 ∧ t1 ≠ t2 ∧ t1 < 16 ∧ t2 < 16 ∧ fr t1 = true ∧ fr t2 = true ∧ len1 t1 = L1 ∧ len1 t2 = L1 ∧ (∀ t, t < 16 → fr t = true → len1 t ≤ L1)
      ∧ qs_sm (qs_kr fr len1) 16 ≤ 8 ∧ qs_sm (qs_co fr wt len1) 16 ≤ qs_sm (qs_co fr wt len) 16 := by
  intro L
  induction L with
  | zero =>
    intro _ len h1 h2
    have h3 := qs_sm_ge2 (f := qs_kr fr len) ha hb hab
    have ea : len a = 0 := by
      have := h1 a ha fa
      omega
    have eb : len b = 0 := by
      have := h1 b hb fb
      omega
    rw [qs_kr_t fa, qs_kr_t fb, ea, eb] at h3
    have : (2 : Nat) ^ (3 - 0) = 8 := rfl
    omega
  | succ L ih =>
    intro hL len h1 h2
    by_cases c1 : ∃ t1, t1 < 16 ∧ fr t1 = true ∧ len t1 = L + 1
    · obtain ⟨t1, k1, k2, k3⟩ := c1
      by_cases c2 : ∃ t2, t2 < 16 ∧ fr t2 = true ∧ len t2 = L + 1 ∧ t2 ≠ t1
      · obtain ⟨t2, j1, j2, j3, j4⟩ := c2
        exact ⟨len, L + 1, t1, t2, by omega, hL, fun z => j4 z.symm, k1, j1, k2, j2, k3, j3, h1, h2, Nat.le_refl _⟩
      · have ho : ∀ t, t < 16 → fr t = true → t ≠ t1 → len t ≤ L := by
          intro t ht hf hne
          have := h1 t ht hf
          by_cases e : len t = L + 1
          · exact absurd ⟨t, ht, hf, e, hne⟩ c2
          · omega
        have hsum : qs_sm (qs_kr fr (qs_up len t1 L)) 16 + qs_sm (qs_dl t1 (2 ^ (3 - (L + 1)))) 16 = qs_sm (qs_kr fr len) 16 + qs_sm (qs_dl t1 (2 ^ (3 - L))) 16 := qs_sm_eq4 (fun t ht => by
          by_cases e : t = t1
          · rw [e, qs_kr_t k2, qs_kr_t k2, qs_dl_s, qs_dl_s, qs_up_s, k3]
            omega
          · rw [qs_dl_n _ e, qs_dl_n _ e, qs_kr_same (qs_up_n len L e)])
        rw [qs_sm_dl k1, qs_sm_dl k1] at hsum
        have hrest : qs_sm (qs_kr fr len) 16 + qs_sm (fun _ => 0) 16 = qs_sm (fun t => if t = t1 then 0 else qs_kr fr len t) 16 + qs_sm (qs_dl t1 (2 ^ (3 - (L + 1)))) 16 := qs_sm_eq4 (fun t ht => by
          by_cases e : t = t1
          · rw [e, qs_kr_t k2, qs_dl_s, k3, if_pos rfl]
            omega
          · rw [qs_dl_n _ e, if_neg e])
        rw [qs_sm_dl k1, qs_sm_zero (f := fun _ => 0) (fun _ _ => rfl)] at hrest
        have hdv : 2 ^ (3 - L) ∣ qs_sm (fun t => if t = t1 then 0 else qs_kr fr len t) 16 := qs_sm_dvd (fun t ht => by
          by_cases e : t = t1
          · rw [if_pos e]
            exact Nat.dvd_zero _
          · rw [if_neg e]
            cases hf : fr t with
            | false =>
              rw [qs_kr_f hf]
              exact Nat.dvd_zero _
            | true =>
              rw [qs_kr_t hf]
              have := ho t ht hf e
              exact Nat.pow_dvd_pow 2 (by omega))
        obtain ⟨q, hq⟩ := hdv
        have hk8 : qs_sm (qs_kr fr (qs_up len t1 L)) 16 ≤ 8 := by
          rw [hq] at hrest
          rcases (show L = 0 ∨ L = 1 ∨ L = 2 by omega) with rfl | rfl | rfl
          · have e1 : (2 : Nat) ^ (3 - 0) = 8 := rfl
            have e2 : (2 : Nat) ^ (3 - (0 + 1)) = 4 := rfl
            rw [e1, e2] at hsum
            rw [e1, e2] at hrest
            omega
          · have e1 : (2 : Nat) ^ (3 - 1) = 4 := rfl
            have e2 : (2 : Nat) ^ (3 - (1 + 1)) = 2 := rfl
            rw [e1, e2] at hsum
            rw [e1, e2] at hrest
            omega
          · have e1 : (2 : Nat) ^ (3 - 2) = 2 := rfl
            have e2 : (2 : Nat) ^ (3 - (2 + 1)) = 1 := rfl
            rw [e1, e2] at hsum
            rw [e1, e2] at hrest
            omega
        have hco : qs_sm (qs_co fr wt (qs_up len t1 L)) 16 ≤ qs_sm (qs_co fr wt len) 16 := qs_sm_le (fun t ht => by
          by_cases e : t = t1
          · rw [e, qs_co_t k2, qs_co_t k2, qs_up_s, k3]
            exact Nat.mul_le_mul_left _ (by omega)
          · rw [qs_co_same (qs_up_n len L e)]
            exact Nat.le_refl _)
        obtain ⟨len1, L1, u1, u2, z1, z2, z3, z4, z5, z6, z7, z8, z9, z10, z11, z12⟩ := ih (by omega) (qs_up len t1 L) (fun t ht hf => by
          by_cases e : t = t1
          · rw [e, qs_up_s]
            exact Nat.le_refl _
          · rw [qs_up_n _ _ e]
            exact ho t ht hf e) hk8
        exact ⟨len1, L1, u1, u2, z1, z2, z3, z4, z5, z6, z7, z8, z9, z10, z11, Nat.le_trans z12 hco⟩
    · exact ih (by omega) len (fun t ht hf => by
        have := h1 t ht hf
        by_cases e : len t = L + 1
        · exact absurd ⟨t, ht, hf, e⟩ c1
        · omega) h2
theorem qs_mulsw {p q x y : Nat} (hx : x ≤ y) (hy : y ≤ 3) (hp : p ≤ q) : p * y + q * x ≤ p * x + q * y := by
  rcases (show y = 0 ∨ y = 1 ∨ y = 2 ∨ y = 3 by omega) with rfl | rfl | rfl | rfl <;> rcases (show x = 0 ∨ x = 1 ∨ x = 2 ∨ x = 3 by omega) with rfl | rfl | rfl | rfl <;> omega
/-- the lighter one takes the greater length -/
theorem qs_swap {fr : Nat → Bool} {wt len : Nat → Nat} {x y : Nat} (hx : x < 16) (hy : y < 16) (hxy : x ≠ y) (fx : fr x = true) (fy : fr y = true) (hw : wt x ≤ wt y) (hl : len x ≤ len y) (h3 : len y ≤ 3) :
    qs_sm (qs_kr fr (qs_up (qs_up len x (len y)) y (len x))) 16 = qs_sm (qs_kr fr len) 16 ∧ qs_sm (qs_co fr wt (qs_up (qs_up len x (len y)) y (len x))) 16 ≤ qs_sm (qs_co fr wt len) 16 := by
  have ex : qs_up (qs_up len x (len y)) y (len x) x = len y := by rw [qs_up_n _ _ hxy, qs_up_s]
  have ey : qs_up (qs_up len x (len y)) y (len x) y = len x := qs_up_s _ _ _
  have eo : ∀ t, t ≠ x → t ≠ y → qs_up (qs_up len x (len y)) y (len x) t = len t := fun t h1 h2 => by rw [qs_up_n _ _ h2, qs_up_n _ _ h1]
  have k := qs_sm_eq4 (k := 16) (f := qs_kr fr (qs_up (qs_up len x (len y)) y (len x))) (g := fun t => qs_dl x (2 ^ (3 - len x)) t + qs_dl y (2 ^ (3 - len y)) t) (h := qs_kr fr len) (u := fun t => qs_dl x (2 ^ (3 - len y)) t + qs_dl y (2 ^ (3 - len x)) t) (fun t ht => by
    try dsimp only
    by_cases e1 : t = x
    · rw [e1, qs_kr_t fx, qs_kr_t fx, ex, qs_dl_s, qs_dl_s, qs_dl_n _ hxy, qs_dl_n _ hxy]
      omega
    · by_cases e2 : t = y
      · rw [e2, qs_kr_t fy, qs_kr_t fy, ey, qs_dl_s, qs_dl_s, qs_dl_n _ (fun z => hxy z.symm), qs_dl_n _ (fun z => hxy z.symm)]
        omega
      · rw [qs_kr_same (eo t e1 e2), qs_dl_n _ e1, qs_dl_n _ e1, qs_dl_n _ e2, qs_dl_n _ e2])
  have c := qs_sm_eq4 (k := 16) (f := qs_co fr wt (qs_up (qs_up len x (len y)) y (len x))) (g := fun t => qs_dl x (wt x * len x) t + qs_dl y (wt y * len y) t) (h := qs_co fr wt len) (u := fun t => qs_dl x (wt x * len y) t + qs_dl y (wt y * len x) t) (fun t ht => by
    try dsimp only
    by_cases e1 : t = x
    · rw [e1, qs_co_t fx, qs_co_t fx, ex, qs_dl_s, qs_dl_s, qs_dl_n _ hxy, qs_dl_n _ hxy]
      omega
    · by_cases e2 : t = y
      · rw [e2, qs_co_t fy, qs_co_t fy, ey, qs_dl_s, qs_dl_s, qs_dl_n _ (fun z => hxy z.symm), qs_dl_n _ (fun z => hxy z.symm)]
        omega
      · rw [qs_co_same (eo t e1 e2), qs_dl_n _ e1, qs_dl_n _ e1, qs_dl_n _ e2, qs_dl_n _ e2])
  rw [qs_sm_add, qs_sm_add, qs_sm_dl hx, qs_sm_dl hx, qs_sm_dl hy, qs_sm_dl hy] at k c
  have m := qs_mulsw hl h3 hw
  exact ⟨by omega, by omega⟩
theorem qs_kraft_step {fr fr' : Nat → Bool} {wt wt' len : Nat → Nat} {a b v : Nat} (ha : a < 16) (hb : b < 16) (hv : v < 16) (hab : a ≠ b) (fa : fr a = true) (fb : fr b = true) (fv : fr v = false)
    (ga : fr' a = false) (gb : fr' b = false) (gv : fr' v = true) (go : ∀ t, t ≠ a → t ≠ b → t ≠ v → fr' t = fr t) (wv : wt' v = wt a + wt b) (wo : ∀ t, t ≠ v → wt' t = wt t)
    (ma : ∀ t, t < 16 → fr t = true → wt a ≤ wt t) (mb : ∀ t, t < 16 → fr t = true → t ≠ a → wt b ≤ wt t) (h3 : ∀ t, t < 16 → fr t = true → len t ≤ 3) (hk : qs_sm (qs_kr fr len) 16 ≤ 8) :
    ∃ len', (∀ t, t < 16 → fr' t = true → len' t ≤ 3) ∧ qs_sm (qs_kr fr' len') 16 ≤ 8 ∧ qs_sm (qs_co fr' wt' len') 16 + (wt a + wt b) ≤ qs_sm (qs_co fr wt len) 16 := by
  obtain ⟨len1, L, t1, t2, z1, z2, z3, z4, z5, z6, z7, z8, z9, z10, z11, z12⟩ := qs_kraft_max (wt := wt) ha hb hab fa fb 3 (Nat.le_refl 3) len h3 hk
  have sA : ∃ (len2 : Nat → Nat) (t' : Nat), t' ≠ a ∧ t' < 16 ∧ fr t' = true ∧ len2 a = L ∧ len2 t' = L ∧ (∀ t, t < 16 → fr t = true → len2 t ≤ L) ∧ qs_sm (qs_kr fr len2) 16 ≤ 8 ∧ qs_sm (qs_co fr wt len2) 16 ≤ qs_sm (qs_co fr wt len1) 16 := by
    by_cases e1 : t1 = a
    · exact ⟨len1, t2, fun z => z3 (by rw [e1, z]), z5, z7, by rw [← e1]; exact z8, z9, z10, z11, Nat.le_refl _⟩
    · by_cases e2 : t2 = a
      · exact ⟨len1, t1, e1, z4, z6, by rw [← e2]; exact z9, z8, z10, z11, Nat.le_refl _⟩
      · have hla := z10 a ha fa
        obtain ⟨s1, s2⟩ := qs_swap (fr := fr) (wt := wt) (len := len1) ha z4 (fun z => e1 z.symm) fa z6 (ma t1 z4 z6) (by omega) (by omega)
        refine ⟨_, t2, e2, z5, z7, ?_, ?_, ?_, by rw [s1]; exact z11, s2⟩
        · rw [qs_up_n _ _ (fun z => e1 z.symm), qs_up_s, z8]
        · rw [qs_up_n _ _ (fun z => z3 z.symm), qs_up_n _ _ e2, z9]
        · intro t ht hf
          by_cases g1 : t = t1
          · rw [g1, qs_up_s]
            exact hla
          · rw [qs_up_n _ _ g1]
            by_cases g2 : t = a
            · rw [g2, qs_up_s, z8]
              exact Nat.le_refl _
            · rw [qs_up_n _ _ g2]
              exact z10 t ht hf
  obtain ⟨len2, t', y1, y2, y3, y4, y5, y6, y7, y8⟩ := sA
  have sB : ∃ len3 : Nat → Nat, len3 a = L ∧ len3 b = L ∧ (∀ t, t < 16 → fr t = true → len3 t ≤ L) ∧ qs_sm (qs_kr fr len3) 16 ≤ 8 ∧ qs_sm (qs_co fr wt len3) 16 ≤ qs_sm (qs_co fr wt len2) 16 := by
    by_cases e1 : t' = b
    · exact ⟨len2, y4, by rw [← e1]; exact y5, y6, y7, Nat.le_refl _⟩
    · have hlb := y6 b hb fb
      obtain ⟨s1, s2⟩ := qs_swap (fr := fr) (wt := wt) (len := len2) hb y2 (fun z => e1 z.symm) fb y3 (mb t' y2 y3 y1) (by omega) (by omega)
      refine ⟨_, ?_, ?_, ?_, by rw [s1]; exact y7, s2⟩
      · rw [qs_up_n _ _ (fun z => y1 z.symm), qs_up_n _ _ hab, y4]
      · rw [qs_up_n _ _ (fun z => e1 z.symm), qs_up_s, y5]
      · intro t ht hf
        by_cases g1 : t = t'
        · rw [g1, qs_up_s]
          exact hlb
        · rw [qs_up_n _ _ g1]
          by_cases g2 : t = b
          · rw [g2, qs_up_s, y5]
            exact Nat.le_refl _
          · rw [qs_up_n _ _ g2]
            exact y6 t ht hf
  obtain ⟨len3, x1, x2, x3, x4, x5⟩ := sB
  have hva : v ≠ a := fun z => by rw [z, fa] at fv; exact absurd fv (by decide)
  have hvb : v ≠ b := fun z => by rw [z, fb] at fv; exact absurd fv (by decide)
  have p2 : 2 ^ (3 - (L - 1)) = 2 ^ (3 - L) + 2 ^ (3 - L) := by
    rw [show 3 - (L - 1) = (3 - L) + 1 by omega, Nat.pow_succ]
    omega
  refine ⟨qs_up len3 v (L - 1), fun t ht hf => ?_, ?_, ?_⟩
  · by_cases e : t = v
    · rw [e, qs_up_s]
      omega
    · rw [qs_up_n _ _ e]
      by_cases ea : t = a
      · rw [ea, ga] at hf
        exact absurd hf (by decide)
      · by_cases eb : t = b
        · rw [eb, gb] at hf
          exact absurd hf (by decide)
        · rw [go t ea eb e] at hf
          have := x3 t ht hf
          omega
  · have k := qs_sm_eq4 (k := 16) (f := qs_kr fr' (qs_up len3 v (L - 1))) (g := fun t => qs_dl a (2 ^ (3 - L)) t + qs_dl b (2 ^ (3 - L)) t) (h := qs_kr fr len3) (u := qs_dl v (2 ^ (3 - (L - 1)))) (fun t ht => by
      try dsimp only
      by_cases ea : t = a
      · rw [ea, qs_kr_f ga, qs_kr_t fa, x1, qs_dl_s, qs_dl_n _ hab, qs_dl_n _ (fun z => hva z.symm)]
        omega
      · by_cases eb : t = b
        · rw [eb, qs_kr_f gb, qs_kr_t fb, x2, qs_dl_s, qs_dl_n _ (fun z => hab z.symm), qs_dl_n _ (fun z => hvb z.symm)]
          omega
        · by_cases ev : t = v
          · rw [ev, qs_kr_t gv, qs_kr_f fv, qs_up_s, qs_dl_s, qs_dl_n _ hva, qs_dl_n _ hvb]
            omega
          · unfold qs_kr
            rw [go t ea eb ev, qs_up_n _ _ ev, qs_dl_n _ ea, qs_dl_n _ eb, qs_dl_n _ ev])
    rw [qs_sm_add, qs_sm_dl ha, qs_sm_dl hb, qs_sm_dl hv] at k
    omega
  · have c := qs_sm_eq4 (k := 16) (f := qs_co fr' wt' (qs_up len3 v (L - 1))) (g := fun t => qs_dl a (wt a * L) t + qs_dl b (wt b * L) t) (h := qs_co fr wt len3) (u := qs_dl v ((wt a + wt b) * (L - 1))) (fun t ht => by
      try dsimp only
      by_cases ea : t = a
      · rw [ea, qs_co_f ga, qs_co_t fa, x1, qs_dl_s, qs_dl_n _ hab, qs_dl_n _ (fun z => hva z.symm)]
        omega
      · by_cases eb : t = b
        · rw [eb, qs_co_f gb, qs_co_t fb, x2, qs_dl_s, qs_dl_n _ (fun z => hab z.symm), qs_dl_n _ (fun z => hvb z.symm)]
          omega
        · by_cases ev : t = v
          · rw [ev, qs_co_t gv, qs_co_f fv, qs_up_s, wv, qs_dl_s, qs_dl_n _ hva, qs_dl_n _ hvb]
            omega
          · unfold qs_co
            rw [go t ea eb ev, qs_up_n _ _ ev, wo t ev, qs_dl_n _ ea, qs_dl_n _ eb, qs_dl_n _ ev])
    rw [qs_sm_add, qs_sm_dl ha, qs_sm_dl hb, qs_sm_dl hv] at c
    obtain ⟨L', rfl⟩ : ∃ L', L = L' + 1 := ⟨L - 1, by omega⟩
    rw [Nat.add_sub_cancel, Nat.mul_add, Nat.mul_add, Nat.add_mul] at c
    rw [Nat.add_sub_cancel]
    omega
end
section
section
variable {nn ip rc nd cs : Int32} {a1 a2 a3 a4 a5 a6 a7 a8 a9 a10 a11 a12 a13 a14 a15 a16 a17 a18 a19 a20 a21 a22 a23 a24 a25 a26 a27 : Nat → Int32}
/-! the two rarest are joined -/
def qs_fr (jn : Nat → Bool) (wt : Nat → Nat) (t : Nat) : Bool := !jn t && decide (0 < wt t)
theorem qs_fr_t {jn : Nat → Bool} {wt : Nat → Nat} {t : Nat} (h1 : jn t = false) (h2 : 0 < wt t) : qs_fr jn wt t = true := by
  unfold qs_fr
  rw [h1, decide_eq_true h2]
  rfl
theorem qs_fr_j {jn : Nat → Bool} {wt : Nat → Nat} {t : Nat} (h1 : jn t = true) : qs_fr jn wt t = false := by
  unfold qs_fr
  rw [h1]
  rfl
theorem qs_fr_w {jn : Nat → Bool} {wt : Nat → Nat} {t : Nat} (h2 : wt t = 0) : qs_fr jn wt t = false := by
  unfold qs_fr
  rw [decide_eq_false (by omega), Bool.and_false]
theorem qs_fr_e {jn : Nat → Bool} {wt : Nat → Nat} {t : Nat} (h : qs_fr jn wt t = true) : jn t = false ∧ 0 < wt t := by
  unfold qs_fr at h
  cases hj : jn t with
  | true =>
    rw [hj] at h
    exact absurd h (by simp)
  | false =>
    rw [hj] at h
    exact ⟨rfl, of_decide_eq_true h⟩
theorem qs_rarest {post : Int32 → Prop} {N : Nat} {wt : Nat → Nat} {jn : Nat → Bool} (hN : N ≤ 7) (hnd : nd = nI N) (h24 : ∀ t, t < 16 → a24 t = nI (wt t)) (hwt : ∀ t, wt t ≤ 200) (h25 : ∀ t, t < 16 → a25 t = nI (jn t).toNat)
    (H0 : (∀ t, t < 8 + N → qs_fr jn wt t = false) → post (-1)) (H1 : ∀ t, t < 8 + N → qs_fr jn wt t = true → (∀ t', t' < 8 + N → qs_fr jn wt t' = true → wt t ≤ wt t') → post (nI t)) : wpX_rarest post (nn, ip, rc, nd, cs, a1, a2, a3, a4, a5, a6, a7, a8, a9, a10, a11, a12, a13, a14, a15, a16, a17, a18, a19, a20, a21, a22, a23, a24, a25, a26, a27) := by
  subst hnd
  show ∃ f, wX_rarest_4 post nn ip rc (nI N) cs a1 a2 a3 a4 a5 a6 a7 a8 a9 a10 a11 a12 a13 a14 a15 a16 a17 a18 a19 a20 a21 a22 a23 a24 a25 a26 a27 f (-1) 0
  refine loop_0 (fun f x (b : Int32) => wX_rarest_4 post nn ip rc (nI N) cs a1 a2 a3 a4 a5 a6 a7 a8 a9 a10 a11 a12 a13 a14 a15 a16 a17 a18 a19 a20 a21 a22 a23 a24 a25 a26 a27 f b (nI x))
    (fun x b => (b = -1 ∧ ∀ t, t < x → qs_fr jn wt t = false) ∨ (∃ y, y < x ∧ b = nI y ∧ qs_fr jn wt y = true ∧ ∀ t, t < x → qs_fr jn wt t = true → wt y ≤ wt t)) (8 + N) (-1) (Or.inl ⟨rfl, fun t ht => absurd ht (by omega)⟩) ?_ ?_
  · intro f b hI
    refine pk_le (8 + N) (8 + N) (fun _ => ?_) (fun z => absurd z (by omega)) (nI_add 8 N) rfl (by omega) (by omega)
    rcases hI with ⟨h1, h2⟩ | ⟨y, h1, h2, h3, h4⟩
    · rw [h1]
      exact H0 h2
    · rw [h2]
      exact H1 y h1 h3 h4
  · intro f x b hx hI hw
    refine pk_le (8 + N) x (fun z => absurd z (by omega)) (fun _ => ?_) (nI_add 8 N) rfl (by omega) (by omega)
    have skip : qs_fr jn wt x = false → wX_rarest_37 post (wX_rarest_4 post nn ip rc (nI N) cs a1 a2 a3 a4 a5 a6 a7 a8 a9 a10 a11 a12 a13 a14 a15 a16 a17 a18 a19 a20 a21 a22 a23 a24 a25 a26 a27 f) b (nI x) nn ip rc (nI N) cs a1 a2 a3 a4 a5 a6 a7 a8 a9 a10 a11 a12 a13 a14 a15 a16 a17 a18 a19 a20 a21 a22 a23 a24 a25 a26 a27 := by
      intro hf
      refine br_t rfl (nm_r (nI_1 x) (hw b ?_))
      rcases hI with ⟨h1, h2⟩ | ⟨y, h1, h2, h3, h4⟩
      · refine Or.inl ⟨h1, fun t ht => ?_⟩
        by_cases e : t = x
        · rw [e]
          exact hf
        · exact h2 t (by omega)
      · refine Or.inr ⟨y, by omega, h2, h3, fun t ht hft => ?_⟩
        by_cases e : t = x
        · rw [e, hf] at hft
          exact absurd hft (by decide)
        · exact h4 t (by omega) hft
    have wx := hwt x
    rw [nI_clamp (show x < 2 ^ 31 by omega), h25 x (by omega), h24 x (by omega)]
    refine ⟨vp_in_nI (by omega) (by decide), ?_⟩
    cases hj : jn x with
    | true => exact br_f (by decide) (skip (qs_fr_j hj))
    | false =>
      refine br_t rfl ⟨vp_in_nI (by omega) (by decide), pk_le (wt x) 0 (fun z => skip (qs_fr_w (by omega))) (fun z => br_f (by decide) ?_)⟩
      have hf := qs_fr_t hj z
      rcases hI with ⟨h1, h2⟩ | ⟨y, h1, h2, h3, h4⟩
      · rw [h1]
        refine br_t (by decide) (nm_r (nI_1 x) (hw (nI x) (Or.inr ⟨x, by omega, rfl, hf, fun t ht hft => ?_⟩)))
        by_cases e : t = x
        · rw [e]
          exact Nat.le_refl _
        · rw [h2 t (by omega)] at hft
          exact absurd hft (by decide)
      · have wy := hwt y
        rw [h2]
        refine br_f (nI_pos (by omega)) ⟨vp_in_nI (by omega) (by decide), vp_in_nI (by omega) (by decide), ?_⟩
        rw [nI_clamp (show x < 2 ^ 31 by omega), nI_clamp (show y < 2 ^ 31 by omega), h24 x (by omega), h24 y (by omega)]
        refine pk_le (wt y) (wt x) (fun g => nm_r (nI_1 x) (hw (nI y) (Or.inr ⟨y, by omega, rfl, h3, fun t ht hft => ?_⟩))) (fun g => nm_r (nI_1 x) (hw (nI x) (Or.inr ⟨x, by omega, rfl, hf, fun t ht hft => ?_⟩)))
        · by_cases e : t = x
          · rw [e]
            exact g
          · exact h4 t (by omega) hft
        · by_cases e : t = x
          · rw [e]
            exact Nat.le_refl _
          · have := h4 t (by omega) hft
            omega
/-- the children of N nodes -/
def qs_KI (N : Nat) (wt : Nat → Nat) (jn : Nat → Bool) (lf rt : Nat → Nat) : Prop :=
  (∀ x, x < N → lf x < 8 + x ∧ rt x < 8 + x ∧ lf x ≠ rt x ∧ jn (lf x) = true ∧ jn (rt x) = true ∧ 0 < wt (lf x) ∧ 0 < wt (rt x))
  ∧ (∀ x y, x < N → y < N → x ≠ y → lf x ≠ lf y ∧ lf x ≠ rt y ∧ rt x ≠ rt y) ∧ (∀ t, jn t = true → ∃ x, x < N ∧ (lf x = t ∨ rt x = t))
def qs_HI (n : Nat) (w : Nat → Nat) (N S : Nat) (wt : Nat → Nat) (jn : Nat → Bool) (lf rt : Nat → Nat) : Prop :=
  N ≤ 7 ∧ qs_sm (fun t => (qs_fr jn wt t).toNat) 16 + N ≤ 8 ∧ (∀ c, c < 8 → wt c = qs_rk w c n) ∧ (∀ t, 8 + N ≤ t → wt t = 0) ∧ (∀ x, x < N → 0 < wt (8 + x)) ∧ qs_sm (qs_fw (qs_fr jn wt) wt) 16 = n ∧ (∀ t, wt t ≤ n)
  ∧ (0 < N → jn (8 + (N - 1)) = false ∧ wt (8 + (N - 1)) ≤ S)
  ∧ (∃ len : Nat → Nat, (∀ t, t < 16 → qs_fr jn wt t = true → len t ≤ 3) ∧ qs_sm (qs_kr (qs_fr jn wt) len) 16 ≤ 8 ∧ S + qs_sm (qs_co (qs_fr jn wt) wt len) 16 ≤ 3 * n) ∧ qs_KI N wt jn lf rt
theorem qs_HI_step {n : Nat} {w : Nat → Nat} {N S : Nat} {wt : Nat → Nat} {jn : Nat → Bool} {lf rt : Nat → Nat} {a b : Nat} (h : qs_HI n w N S wt jn lf rt) (ha : a < 8 + N) (hb : b < 8 + N) (hab : a ≠ b) (fa : qs_fr jn wt a = true) (fb : qs_fr jn wt b = true)
    (ma : ∀ t, t < 8 + N → qs_fr jn wt t = true → wt a ≤ wt t) (mb : ∀ t, t < 8 + N → qs_fr jn wt t = true → t ≠ a → wt b ≤ wt t) :
    N ≤ 6 ∧ wt a + wt b ≤ n ∧ qs_HI n w (N + 1) (S + (wt a + wt b)) (qs_up wt (8 + N) (wt a + wt b)) (qs_up (qs_up jn a true) b true) (qs_up lf N a) (qs_up rt N b) := by
  obtain ⟨h1, h2, h3, h4, h5, h6, h7, h8, ⟨len, l1, l2, l3⟩, k1, k2, k3⟩ := h
  have c2 := qs_sm_ge2 (f := fun t => (qs_fr jn wt t).toNat) (show a < 16 by omega) (show b < 16 by omega) hab
  try dsimp only at c2
  rw [fa, fb] at c2
  have c2' : (true).toNat = 1 := rfl
  rw [c2'] at c2
  have s2 := qs_sm_ge2 (f := qs_fw (qs_fr jn wt) wt) (show a < 16 by omega) (show b < 16 by omega) hab
  rw [qs_fw_t fa, qs_fw_t fb] at s2
  obtain ⟨ja, wa⟩ := qs_fr_e fa
  obtain ⟨jb, wb⟩ := qs_fr_e fb
  have jv : jn (8 + N) = false := by
    cases hj : jn (8 + N) with
    | false => rfl
    | true =>
      obtain ⟨x, x1, x2⟩ := k3 _ hj
      have := k1 x x1
      omega
  have wv0 : wt (8 + N) = 0 := h4 _ (Nat.le_refl _)
  have fv : qs_fr jn wt (8 + N) = false := qs_fr_w wv0
  have go : ∀ t, t ≠ a → t ≠ b → t ≠ 8 + N → qs_fr (qs_up (qs_up jn a true) b true) (qs_up wt (8 + N) (wt a + wt b)) t = qs_fr jn wt t := by
    intro t t1 t2 t3
    unfold qs_fr
    rw [qs_up_n _ _ t2, qs_up_n _ _ t1, qs_up_n _ _ t3]
  have ja' : qs_up (qs_up jn a true) b true a = true := by rw [qs_up_n _ _ hab, qs_up_s]
  have jb' : qs_up (qs_up jn a true) b true b = true := qs_up_s _ _ _
  have jv' : qs_up (qs_up jn a true) b true (8 + N) = false := by rw [qs_up_n _ _ (by omega), qs_up_n _ _ (by omega), jv]
  have wv : qs_up wt (8 + N) (wt a + wt b) (8 + N) = wt a + wt b := qs_up_s _ _ _
  have wo : ∀ t, t ≠ 8 + N → qs_up wt (8 + N) (wt a + wt b) t = wt t := fun t ht => qs_up_n _ _ ht
  have ga := qs_fr_j (wt := qs_up wt (8 + N) (wt a + wt b)) ja'
  have gb := qs_fr_j (wt := qs_up wt (8 + N) (wt a + wt b)) jb'
  have gv := qs_fr_t (wt := qs_up wt (8 + N) (wt a + wt b)) jv' (by rw [wv]; omega)
  have jm : ∀ t, jn t = true → qs_up (qs_up jn a true) b true t = true := by
    intro t ht
    by_cases e : t = b
    · rw [e]
      exact jb'
    · rw [qs_up_n _ _ e]
      by_cases e2 : t = a
      · rw [e2, qs_up_s]
      · rw [qs_up_n _ _ e2]
        exact ht
  refine ⟨by omega, by omega, by omega, ?_, fun c hc => ?_, fun t ht => ?_, fun x hx => ?_, ?_, fun t => ?_, fun _ => ⟨jv', ?_⟩, ?_, fun x hx => ?_, fun x y hx hy hxy => ?_, fun t ht => ?_⟩
  · have e := qs_sm_eq4 (k := 16) (f := fun t => (qs_fr (qs_up (qs_up jn a true) b true) (qs_up wt (8 + N) (wt a + wt b)) t).toNat) (g := fun t => qs_dl a 1 t + qs_dl b 1 t) (h := fun t => (qs_fr jn wt t).toNat) (u := qs_dl (8 + N) 1) (fun t ht => by
      try dsimp only
      by_cases ea : t = a
      · rw [ea, ga, fa, qs_dl_s, qs_dl_n _ hab, qs_dl_n _ (by omega)]
        rfl
      · by_cases eb : t = b
        · rw [eb, gb, fb, qs_dl_s, qs_dl_n _ (fun z => hab z.symm), qs_dl_n _ (by omega)]
          rfl
        · by_cases ev : t = 8 + N
          · rw [ev, gv, fv, qs_dl_s, qs_dl_n _ (by omega), qs_dl_n _ (by omega)]
            rfl
          · rw [go t ea eb ev, qs_dl_n _ ea, qs_dl_n _ eb, qs_dl_n _ ev])
    rw [qs_sm_add, qs_sm_dl (by omega), qs_sm_dl (by omega), qs_sm_dl (by omega)] at e
    omega
  · rw [wo c (by omega)]
    exact h3 c hc
  · rw [wo t (by omega)]
    exact h4 t (by omega)
  · by_cases e : x = N
    · rw [e, wv]
      omega
    · rw [wo _ (by omega)]
      exact h5 x (by omega)
  · have e := qs_sm_eq4 (k := 16) (f := qs_fw (qs_fr (qs_up (qs_up jn a true) b true) (qs_up wt (8 + N) (wt a + wt b))) (qs_up wt (8 + N) (wt a + wt b))) (g := fun t => qs_dl a (wt a) t + qs_dl b (wt b) t) (h := qs_fw (qs_fr jn wt) wt) (u := qs_dl (8 + N) (wt a + wt b)) (fun t ht => by
      try dsimp only
      by_cases ea : t = a
      · rw [ea, qs_fw_f ga, qs_fw_t fa, qs_dl_s, qs_dl_n _ hab, qs_dl_n _ (by omega)]
        omega
      · by_cases eb : t = b
        · rw [eb, qs_fw_f gb, qs_fw_t fb, qs_dl_s, qs_dl_n _ (fun z => hab z.symm), qs_dl_n _ (by omega)]
          omega
        · by_cases ev : t = 8 + N
          · rw [ev, qs_fw_t gv, qs_fw_f fv, wv, qs_dl_s, qs_dl_n _ (by omega), qs_dl_n _ (by omega)]
            omega
          · unfold qs_fw
            rw [go t ea eb ev, wo t ev, qs_dl_n _ ea, qs_dl_n _ eb, qs_dl_n _ ev])
    rw [qs_sm_add, qs_sm_dl (by omega), qs_sm_dl (by omega), qs_sm_dl (by omega)] at e
    omega
  · by_cases e : t = 8 + N
    · rw [e, wv]
      omega
    · rw [wo t e]
      exact h7 t
  · show qs_up wt (8 + N) (wt a + wt b) (8 + N) ≤ _
    rw [wv]
    omega
  · have m16 : ∀ t, t < 16 → qs_fr jn wt t = true → t < 8 + N := by
      intro t _ hf
      rcases Nat.lt_or_ge t (8 + N) with z | z
      · exact z
      · rw [qs_fr_w (h4 t z)] at hf
        exact absurd hf (by decide)
    obtain ⟨len', q1, q2, q3⟩ := qs_kraft_step (show a < 16 by omega) (show b < 16 by omega) (show 8 + N < 16 by omega) hab fa fb fv ga gb gv go wv wo (fun t ht hf => ma t (m16 t ht hf) hf) (fun t ht hf hne => mb t (m16 t ht hf) hf hne) l1 l2
    exact ⟨len', q1, q2, by omega⟩
  · by_cases e : x = N
    · rw [e, qs_up_s, qs_up_s, wo a (by omega), wo b (by omega)]
      exact ⟨ha, hb, hab, ja', jb', wa, wb⟩
    · rw [qs_up_n _ _ e, qs_up_n _ _ e]
      obtain ⟨q1, q2, q3, q4, q5, q6, q7⟩ := k1 x (by omega)
      rw [wo _ (by omega), wo _ (by omega)]
      exact ⟨q1, q2, q3, jm _ q4, jm _ q5, q6, q7⟩
  · have nl : ∀ z, z < N → lf z ≠ a ∧ rt z ≠ a ∧ lf z ≠ b ∧ rt z ≠ b := by
      intro z hz
      obtain ⟨q1, q2, q3, q4, q5, q6, q7⟩ := k1 z hz
      refine ⟨fun e => ?_, fun e => ?_, fun e => ?_, fun e => ?_⟩
      · rw [e, ja] at q4
        exact absurd q4 (by decide)
      · rw [e, ja] at q5
        exact absurd q5 (by decide)
      · rw [e, jb] at q4
        exact absurd q4 (by decide)
      · rw [e, jb] at q5
        exact absurd q5 (by decide)
    by_cases ex : x = N
    · rw [ex, qs_up_s, qs_up_s, qs_up_n _ _ (by omega), qs_up_n _ _ (by omega)]
      obtain ⟨q1, q2, q3, q4⟩ := nl y (by omega)
      exact ⟨fun e => q1 e.symm, fun e => q2 e.symm, fun e => q4 e.symm⟩
    · by_cases ey : y = N
      · rw [ey, qs_up_s, qs_up_s, qs_up_n _ _ (by omega), qs_up_n _ _ (by omega)]
        obtain ⟨q1, q2, q3, q4⟩ := nl x (by omega)
        exact ⟨q1, q3, q4⟩
      · rw [qs_up_n _ _ ex, qs_up_n _ _ ex, qs_up_n _ _ ey, qs_up_n _ _ ey]
        exact k2 x y (by omega) (by omega) hxy
  · by_cases e : t = b
    · exact ⟨N, by omega, Or.inr (by rw [qs_up_s, e])⟩
    · by_cases e2 : t = a
      · exact ⟨N, by omega, Or.inl (by rw [qs_up_s, e2])⟩
      · rw [qs_up_n _ _ e, qs_up_n _ _ e2] at ht
        obtain ⟨x, x1, x2⟩ := k3 t ht
        refine ⟨x, by omega, ?_⟩
        rw [qs_up_n _ _ (by omega), qs_up_n _ _ (by omega)]
        exact x2
theorem qs_merge {post : St1 → Prop} {n : Nat} {w : Nat → Nat} (hn : n ≤ 200)
    (K : ∀ f N S wt jn lf rt b22 b23 b24 b25, qs_HI n w N S wt jn lf rt → (∃ a, ∀ t, t < 8 + N → qs_fr jn wt t = true → t = a) → (∀ x, x < N → b22 x = nI (lf x) ∧ b23 x = nI (rt x)) →
      wX_packCodes_69 post nn ip rc (f + 1) 0 (nI N) (nI S) a1 a2 a3 a4 a5 a6 a7 a8 a9 a10 a11 a12 a13 a14 a15 a16 a17 a18 a19 a20 a21 b22 b23 b24 b25 a26 a27) :
    ∀ f N S wt jn lf rt b22 b23 b24 b25, qs_HI n w N S wt jn lf rt → (∀ x, x < N → b22 x = nI (lf x) ∧ b23 x = nI (rt x)) → (∀ t, t < 16 → b24 t = nI (wt t)) → (∀ t, t < 16 → b25 t = nI (jn t).toNat) → 9 - N < f →
      wX_packCodes_69 post nn ip rc f 1 (nI N) (nI S) a1 a2 a3 a4 a5 a6 a7 a8 a9 a10 a11 a12 a13 a14 a15 a16 a17 a18 a19 a20 a21 b22 b23 b24 b25 a26 a27 := by
  intro f
  induction f with
  | zero => intro N S wt jn lf rt b22 b23 b24 b25 _ _ _ _ h; exact absurd h (by omega)
  | succ f ih =>
    intro N S wt jn lf rt b22 b23 b24 b25 hI h2 h24 h25 hf
    have hN := hI.1
    have hwt : ∀ t, wt t ≤ 200 := fun t => Nat.le_trans (hI.2.2.2.2.2.2.1 t) hn
    obtain ⟨f, rfl⟩ : ∃ f', f = f' + 1 := ⟨f - 1, by omega⟩
    refine br_f (by decide) (qs_rarest hN rfl h24 hwt h25 (fun g0 => br_t (by decide) (qs_rarest hN rfl h24 hwt h25 (fun _ => br_t (by decide) (br_t rfl (K f N S wt jn lf rt _ _ _ _ hI ⟨0, fun t ht hft => ?_⟩ h2))) (fun t ht hft _ => ?_))) (fun a ha fa ma => br_f (nI_pos (by omega)) ⟨vp_in_nI (by omega) (by decide), nm_e ?_⟩))
    · rw [g0 t ht] at hft
      exact absurd hft (by decide)
    · rw [g0 t ht] at hft
      exact absurd hft (by decide)
    · rw [nI_clamp (show a < 2 ^ 31 by omega)]
      have h25' : ∀ t, t < 16 → upd b25 a 1 t = nI (qs_up jn a true t).toNat := by
        intro t ht
        by_cases e : t = a
        · rw [e, pk_us, qs_up_s]
          rfl
        · rw [pk_un e, qs_up_n _ _ e]
          exact h25 t ht
      have hfo : ∀ t, t ≠ a → qs_fr (qs_up jn a true) wt t = qs_fr jn wt t := by
        intro t ht
        unfold qs_fr
        rw [qs_up_n _ _ ht]
      refine qs_rarest hN rfl h24 hwt h25' (fun g0 => br_t (by decide) (br_t rfl (K f N S wt jn lf rt _ _ _ _ hI ⟨a, fun t ht hft => ?_⟩ h2))) (fun b hb fb mb => br_f (nI_pos (by omega)) (br_f (by decide) ?_))
      · by_cases e : t = a
        · exact e
        · rw [← hfo t e, g0 t ht] at hft
          exact absurd hft (by decide)
      · have hba : b ≠ a := by
          intro e
          have := (qs_fr_e fb).1
          rw [e, qs_up_s] at this
          exact absurd this (by decide)
        rw [hfo b hba] at fb
        obtain ⟨N6, wn, hI'⟩ := qs_HI_step hI ha hb (fun e => hba e.symm) fa fb ma (fun t ht hft hne => mb t ht (by rw [hfo t hne]; exact hft))
        have e8 : 8 + nI N = nI (8 + N) := nI_add 8 N
        rw [e8, nI_clamp (show a < 2 ^ 31 by omega), nI_clamp (show b < 2 ^ 31 by omega), nI_clamp (show N < 2 ^ 31 by omega), nI_clamp (show 8 + N < 2 ^ 31 by omega), h24 a (by omega), h24 b (by omega), nI_add, qs_s16 _ (by omega), qs_b8 a (by omega), qs_b8 b (by omega)]
        refine ⟨vp_in_nI (by omega) (by decide), nm_e ⟨vp_in_nI (by omega) (by decide), nm_e ⟨vp_in_nI (by omega) (by decide), nm_e ⟨vp_in_nI (by omega) (by decide), vp_in_nI (by omega) (by decide), vp_in_nI (by omega) (by decide), nm_e ⟨vp_in_nI (by omega) (by decide), vp_in_nI (by omega) (by decide), nm_r (e' := nI (S + (wt a + wt b))) ?_ (nm_r (nI_1 N) (ih (N + 1) (S + (wt a + wt b)) _ _ _ _ _ _ _ _ hI' (fun x hx => ?_) (fun t ht => ?_) (fun t ht => ?_) (by omega)))⟩⟩⟩⟩⟩
        · rw [pk_un (by omega), pk_un (by omega), h24 a (by omega), h24 b (by omega), nI_add, nI_add]
        · by_cases e : x = N
          · rw [e, pk_us, pk_us, qs_up_s, qs_up_s]
            exact ⟨rfl, rfl⟩
          · rw [pk_un e, pk_un e, qs_up_n _ _ e, qs_up_n _ _ e]
            exact h2 x (by omega)
        · by_cases e : t = 8 + N
          · rw [e, pk_us, qs_up_s]
          · rw [pk_un e, qs_up_n _ _ e]
            exact h24 t ht
        · by_cases e : t = b
          · rw [e, pk_us, qs_up_s]
            rfl
          · rw [pk_un e, qs_up_n _ _ e]
            exact h25' t ht
end
end
section
section
variable {nn ip rc nd cs : Int32} {a1 a2 a3 a4 a5 a6 a7 a8 a9 a10 a11 a12 a13 a14 a15 a16 a17 a18 a19 a20 a21 a22 a23 a24 a25 a26 a27 : Nat → Int32}
/-! codes -/
/-- two codes differ at a digit that both have -/
def qs_Inc (len cb : Nat → Nat) (p t : Nat) : Prop := ∃ d, d < len p ∧ d < len t ∧ (cb p).testBit d ≠ (cb t).testBit d
/-- the code of t goes on from that of p -/
def qs_Pre (len cb : Nat → Nat) (p t : Nat) : Prop := len p < len t ∧ ∀ d, d < len p → (cb t).testBit d = (cb p).testBit d
theorem qs_Inc_symm {len cb : Nat → Nat} {p t : Nat} (h : qs_Inc len cb p t) : qs_Inc len cb t p := by
  obtain ⟨d, h1, h2, h3⟩ := h
  exact ⟨d, h2, h1, fun z => h3 z.symm⟩
/-- named, not yet taken apart, when the nodes from X on are -/
def qs_Fr (live : Nat → Prop) (lf rt : Nat → Nat) (X t : Nat) : Prop := live t ∧ t < 8 + X ∧ ∀ y, y < X → lf y ≠ t ∧ rt y ≠ t
def qs_NC (N : Nat) (live : Nat → Prop) (lf rt : Nat → Nat) (X : Nat) (len cb : Nat → Nat) : Prop :=
  (∀ t, cb t < 2 ^ len t ∧ len t + X ≤ N)
  ∧ (∀ t1 t2, qs_Fr live lf rt X t1 → qs_Fr live lf rt X t2 → t1 ≠ t2 → qs_Inc len cb t1 t2)
  ∧ (∀ y, X ≤ y → y < N → ∀ t, qs_Fr live lf rt X t → qs_Inc len cb (8 + y) t ∨ qs_Pre len cb (8 + y) t)
  ∧ (∀ y, X ≤ y → y < N → len (lf y) = len (8 + y) + 1 ∧ cb (lf y) = cb (8 + y) ∧ len (rt y) = len (8 + y) + 1 ∧ cb (rt y) = cb (8 + y) ||| 2 ^ len (8 + y))
  ∧ (∀ t, (∀ y, X ≤ y → y < N → lf y ≠ t ∧ rt y ≠ t) → len t = 0 ∧ cb t = 0)
/-- the shape of the tree of codes -/
def qs_TS (N : Nat) (live : Nat → Prop) (lf rt : Nat → Nat) : Prop :=
  (∀ x, x < N → lf x < 8 + x ∧ rt x < 8 + x ∧ lf x ≠ rt x ∧ live (lf x) ∧ live (rt x) ∧ live (8 + x)) ∧ (∀ x y, x < N → y < N → x ≠ y → lf x ≠ lf y ∧ lf x ≠ rt y ∧ rt x ≠ rt y)
theorem qs_or_bits {B L : Nat} (h : B < 2 ^ L) : (∀ d, d < L → (B ||| 2 ^ L).testBit d = B.testBit d) ∧ (B ||| 2 ^ L).testBit L = true ∧ B.testBit L = false ∧ B ||| 2 ^ L < 2 ^ (L + 1) := by
  refine ⟨fun d hd => ?_, ?_, Nat.testBit_lt_two_pow h, ?_⟩
  · rw [Nat.testBit_or, Nat.testBit_two_pow, decide_eq_false (by omega), Bool.or_false]
  · rw [Nat.testBit_or, Nat.testBit_two_pow, decide_eq_true rfl, Bool.or_true]
  · exact Nat.or_lt_two_pow (Nat.lt_trans h (Nat.pow_lt_pow_right (by decide) (by omega))) (Nat.pow_lt_pow_right (by decide) (by omega))
theorem qs_NC_step {N : Nat} {live : Nat → Prop} {lf rt : Nat → Nat} {x : Nat} {len cb : Nat → Nat} (hT : qs_TS N live lf rt) (hx : x < N) (h : qs_NC N live lf rt (x + 1) len cb) :
    qs_NC N live lf rt x (qs_up (qs_up len (lf x) (len (8 + x) + 1)) (rt x) (len (8 + x) + 1)) (qs_up (qs_up cb (lf x) (cb (8 + x))) (rt x) (cb (8 + x) ||| 2 ^ len (8 + x))) := by
  obtain ⟨t1, t2⟩ := hT
  obtain ⟨n1, n2, n3, n4, n5⟩ := h
  obtain ⟨s1, s2, s3, s4, s5, s6⟩ := t1 x hx
  generalize hlen : qs_up (qs_up len (lf x) (len (8 + x) + 1)) (rt x) (len (8 + x) + 1) = len'
  generalize hcb : qs_up (qs_up cb (lf x) (cb (8 + x))) (rt x) (cb (8 + x) ||| 2 ^ len (8 + x)) = cb'
  have eo : ∀ t, t ≠ lf x → t ≠ rt x → len' t = len t ∧ cb' t = cb t := by
    intro t h1 h2
    rw [← hlen, ← hcb, qs_up_n _ _ h2, qs_up_n _ _ h1, qs_up_n _ _ h2, qs_up_n _ _ h1]
    exact ⟨rfl, rfl⟩
  have el : len' (lf x) = len (8 + x) + 1 ∧ cb' (lf x) = cb (8 + x) := by
    rw [← hlen, ← hcb, qs_up_n _ _ s3, qs_up_s, qs_up_n _ _ s3, qs_up_s]
    exact ⟨rfl, rfl⟩
  have er : len' (rt x) = len (8 + x) + 1 ∧ cb' (rt x) = cb (8 + x) ||| 2 ^ len (8 + x) := by
    rw [← hlen, ← hcb, qs_up_s, qs_up_s]
    exact ⟨rfl, rfl⟩
  obtain ⟨b1, b2⟩ := n1 (8 + x)
  obtain ⟨o1, o2, o3, o4⟩ := qs_or_bits b1
  have ep := eo (8 + x) (by omega) (by omega)
  have ey : ∀ y, len' (8 + (x + 1 + y)) = len (8 + (x + 1 + y)) ∧ cb' (8 + (x + 1 + y)) = cb (8 + (x + 1 + y)) := fun y => eo _ (by omega) (by omega)
  have ey' : ∀ y, x + 1 ≤ y → len' (8 + y) = len (8 + y) ∧ cb' (8 + y) = cb (8 + y) := fun y hy => eo _ (by omega) (by omega)
  have kid : ∀ u, u = lf x ∨ u = rt x → len' u = len (8 + x) + 1 ∧ ∀ d, d < len (8 + x) → (cb' u).testBit d = (cb (8 + x)).testBit d := by
    intro u hu
    rcases hu with rfl | rfl
    · rw [el.1, el.2]
      exact ⟨rfl, fun d _ => rfl⟩
    · rw [er.1, er.2]
      exact ⟨rfl, o1⟩
  have fp : qs_Fr live lf rt (x + 1) (8 + x) := ⟨s6, by omega, fun y hy => by have := t1 y (by omega); omega⟩
  have fo : ∀ t, qs_Fr live lf rt x t → (t = lf x ∨ t = rt x) ∨ (qs_Fr live lf rt (x + 1) t ∧ t ≠ 8 + x ∧ t ≠ lf x ∧ t ≠ rt x) := by
    intro t ⟨f1, f2, f3⟩
    by_cases c1 : t = lf x
    · exact Or.inl (Or.inl c1)
    · by_cases c2 : t = rt x
      · exact Or.inl (Or.inr c2)
      · refine Or.inr ⟨⟨f1, by omega, fun y hy => ?_⟩, by omega, c1, c2⟩
        by_cases c3 : y = x
        · rw [c3]
          exact ⟨fun z => c1 z.symm, fun z => c2 z.symm⟩
        · exact f3 y (by omega)
  have ko : ∀ u t, (u = lf x ∨ u = rt x) → qs_Inc len cb (8 + x) t → t ≠ lf x → t ≠ rt x → qs_Inc len' cb' u t := by
    intro u t hu ⟨d, d1, d2, d3⟩ c1 c2
    obtain ⟨k1, k2⟩ := kid u hu
    obtain ⟨e1, e2⟩ := eo t c1 c2
    refine ⟨d, by omega, by omega, ?_⟩
    rw [k2 d d1, e2]
    exact d3
  have oo : ∀ u t, qs_Inc len cb u t → len' u = len u ∧ cb' u = cb u → len' t = len t ∧ cb' t = cb t → qs_Inc len' cb' u t := by
    intro u t ⟨d, d1, d2, d3⟩ ⟨e1, e2⟩ ⟨e3, e4⟩
    refine ⟨d, by omega, by omega, ?_⟩
    rw [e2, e4]
    exact d3
  have kk : qs_Inc len' cb' (lf x) (rt x) := by
    refine ⟨len (8 + x), by omega, by omega, ?_⟩
    rw [el.2, er.2, o2, o3]
    decide
  refine ⟨fun t => ?_, fun u1 u2 f1 f2 hne => ?_, fun y hy hyN t ft => ?_, fun y hy hyN => ?_, fun t ht => ?_⟩
  · by_cases c1 : t = lf x
    · rw [c1, el.1, el.2]
      refine ⟨Nat.lt_trans b1 (Nat.pow_lt_pow_right (by decide) (by omega)), by omega⟩
    · by_cases c2 : t = rt x
      · rw [c2, er.1, er.2]
        exact ⟨o4, by omega⟩
      · obtain ⟨e1, e2⟩ := eo t c1 c2
        obtain ⟨q1, q2⟩ := n1 t
        rw [e1, e2]
        exact ⟨q1, by omega⟩
  · rcases fo u1 f1 with k1 | ⟨g1, g2, g3, g4⟩
    · rcases fo u2 f2 with k2 | ⟨j1, j2, j3, j4⟩
      · rcases k1 with rfl | rfl <;> rcases k2 with rfl | rfl
        · exact absurd rfl hne
        · exact kk
        · exact qs_Inc_symm kk
        · exact absurd rfl hne
      · exact ko u1 u2 k1 (n2 (8 + x) u2 fp j1 (fun z => j2 z.symm)) j3 j4
    · rcases fo u2 f2 with k2 | ⟨j1, j2, j3, j4⟩
      · exact qs_Inc_symm (ko u2 u1 k2 (n2 (8 + x) u1 fp g1 (fun z => g2 z.symm)) g3 g4)
      · exact oo u1 u2 (n2 u1 u2 g1 j1 hne) (eo u1 g3 g4) (eo u2 j3 j4)
  · by_cases cy : y = x
    · rw [cy]
      rcases fo t ft with k | ⟨g1, g2, g3, g4⟩
      · obtain ⟨k1, k2⟩ := kid t k
        right
        refine ⟨by omega, fun d hd => ?_⟩
        rw [ep.1] at hd
        rw [k2 d hd, ep.2]
      · left
        exact oo _ _ (n2 (8 + x) t fp g1 (fun z => g2 z.symm)) ep (eo t g3 g4)
    · have ey := ey' y (by omega)
      rcases fo t ft with k | ⟨g1, g2, g3, g4⟩
      · obtain ⟨k1, k2⟩ := kid t k
        rcases n3 y (by omega) hyN (8 + x) fp with ⟨d, d1, d2, d3⟩ | ⟨p1, p2⟩
        · left
          refine ⟨d, by omega, by omega, ?_⟩
          rw [ey.2, k2 d d2]
          exact d3
        · right
          refine ⟨by omega, fun d hd => ?_⟩
          rw [ey.1] at hd
          rw [k2 d (by omega), ey.2]
          exact p2 d hd
      · rcases n3 y (by omega) hyN t g1 with i | ⟨p1, p2⟩
        · left
          exact oo _ _ i ey (eo t g3 g4)
        · right
          obtain ⟨e1, e2⟩ := eo t g3 g4
          refine ⟨by omega, fun d hd => ?_⟩
          rw [ey.1] at hd
          rw [e2, ey.2]
          exact p2 d hd
  · by_cases cy : y = x
    · rw [cy, el.1, el.2, er.1, er.2, ep.1, ep.2]
      exact ⟨rfl, rfl, rfl, rfl⟩
    · have ey := ey' y (by omega)
      have hne := t2 x y hx hyN (fun z => cy z.symm)
      have hne2 := t2 y x hyN hx cy
      have e1 := eo (lf y) (fun z => hne.1 z.symm) hne2.2.1
      have e2 := eo (rt y) (fun z => hne.2.1 z.symm) (fun z => hne.2.2 z.symm)
      rw [e1.1, e1.2, e2.1, e2.2, ey.1, ey.2]
      exact n4 y (by omega) hyN
  · have hx2 := ht x (Nat.le_refl x) hx
    obtain ⟨e1, e2⟩ := eo t (fun z => hx2.1 z.symm) (fun z => hx2.2 z.symm)
    rw [e1, e2]
    exact n5 t (fun y hy hyN => ht y (by omega) hyN)
theorem qs_NC_0 {N : Nat} {live : Nat → Prop} {lf rt : Nat → Nat} (hr : ∀ t1 t2, live t1 → live t2 → (∀ y, y < N → lf y ≠ t1 ∧ rt y ≠ t1) → (∀ y, y < N → lf y ≠ t2 ∧ rt y ≠ t2) → t1 = t2) : qs_NC N live lf rt N (fun _ => 0) (fun _ => 0) := by
  refine ⟨fun t => ⟨Nat.one_pos, Nat.le_of_eq (Nat.zero_add N)⟩, fun t1 t2 f1 f2 hne => ?_, fun y hy hyN => absurd hyN (by omega), fun y hy hyN => absurd hyN (by omega), fun t _ => ⟨rfl, rfl⟩⟩
  exact absurd (hr t1 t2 f1.1 f2.1 f1.2.2 f2.2.2) hne
theorem qs_m1 (x : Nat) : nI x + (-1) = nI x - 1 := (Int32.sub_eq_add_neg (nI x) 1).symm
theorem qs_nameCodes {post : St1 → Prop} {N : Nat} {live : Nat → Prop} {lf rt : Nat → Nat} (hN : N ≤ 7) (hnd : nd = nI N) (hT : qs_TS N live lf rt) (hr : ∀ t1 t2, live t1 → live t2 → (∀ y, y < N → lf y ≠ t1 ∧ rt y ≠ t1) → (∀ y, y < N → lf y ≠ t2 ∧ rt y ≠ t2) → t1 = t2)
    (h2 : ∀ x, x < N → a22 x = nI (lf x) ∧ a23 x = nI (rt x)) (h26 : ∀ t, t < 16 → a26 t = 0) (h27 : ∀ t, t < 16 → a27 t = 0)
    (H : ∀ len cb b26 b27, qs_NC N live lf rt 0 len cb → (∀ t, t < 16 → b26 t = nI (len t) ∧ b27 t = nI (cb t)) → post (nn, ip, rc, nd, cs, a1, a2, a3, a4, a5, a6, a7, a8, a9, a10, a11, a12, a13, a14, a15, a16, a17, a18, a19, a20, a21, a22, a23, a24, a25, b26, b27)) : wpX_nameCodes post (nn, ip, rc, nd, cs, a1, a2, a3, a4, a5, a6, a7, a8, a9, a10, a11, a12, a13, a14, a15, a16, a17, a18, a19, a20, a21, a22, a23, a24, a25, a26, a27) := by
  subst hnd
  have lp : ∀ X, X ≤ N → ∀ f len cb b26 b27, X < f → qs_NC N live lf rt X len cb → (∀ t, t < 16 → b26 t = nI (len t) ∧ b27 t = nI (cb t)) → wX_nameCodes_7 post nn ip rc (nI N) cs f (nI X - 1) a1 a2 a3 a4 a5 a6 a7 a8 a9 a10 a11 a12 a13 a14 a15 a16 a17 a18 a19 a20 a21 a22 a23 a24 a25 b26 b27 := by
    intro X
    induction X with
    | zero =>
      intro _ f len cb b26 b27 hf hI hp
      obtain ⟨f, rfl⟩ : ∃ f', f = f' + 1 := ⟨f - 1, by omega⟩
      exact br_t (by decide) (H len cb b26 b27 hI hp)
    | succ x ih =>
      intro hX f len cb b26 b27 hf hI hp
      obtain ⟨f, rfl⟩ : ∃ f', f = f' + 1 := ⟨f - 1, by omega⟩
      rw [nI_pred]
      obtain ⟨g1, g2⟩ := h2 x (by omega)
      obtain ⟨s1, s2, s3, s4, s5, s6⟩ := hT.1 x (by omega)
      obtain ⟨p1, p2⟩ := hp (8 + x) (by omega)
      obtain ⟨c1, c2⟩ := hI.1 (8 + x)
      obtain ⟨o1, o2, o3, o4⟩ := qs_or_bits c1
      have c3 : 2 ^ (len (8 + x) + 1) ≤ 2 ^ 7 := Nat.pow_le_pow_right (by decide) (by omega)
      have c4 : 2 ^ len (8 + x) ≤ 2 ^ 7 := Nat.pow_le_pow_right (by decide) (by omega)
      have e8 : 8 + nI x = nI (8 + x) := nI_add 8 x
      refine br_f (nI_pos (by omega)) ?_
      rw [e8, nI_clamp (show 8 + x < 2 ^ 31 by omega), nI_clamp (show x < 2 ^ 31 by omega), p1, p2, g1, g2, nI_clamp (show lf x < 2 ^ 31 by omega), nI_clamp (show rt x < 2 ^ 31 by omega)]
      refine ⟨vp_in_nI (by omega) (by decide), nm_e ⟨vp_in_nI (by omega) (by decide), nm_e ⟨vp_in_nI (by omega) (by decide), vp_in_nI (by omega) (by decide), nm_e ⟨vp_in_nI (by omega) (by decide), vp_in_nI (by omega) (by decide), nm_e ⟨vp_in_nI (by omega) (by decide), vp_in_nI (by omega) (by decide), nm_e ⟨vp_in_nI (by omega) (by decide), vp_in_nI (by omega) (by decide), nm_e (nm_r (qs_m1 x) (ih (by omega) f _ _ _ _ (by omega) (qs_NC_step hT (by omega) hI) (fun t ht => ?_)))⟩⟩⟩⟩⟩⟩
      by_cases e1 : t = rt x
      · rw [e1, pk_us, pk_us, qs_up_s, qs_up_s, nI_1, qs_b8 _ (by omega), qs_oneN (by omega), qs_or, qs_b8 _ (by omega)]
        exact ⟨rfl, rfl⟩
      · rw [pk_un e1, pk_un e1, qs_up_n _ _ e1, qs_up_n _ _ e1]
        by_cases e2 : t = lf x
        · rw [e2, pk_us, pk_us, qs_up_s, qs_up_s, nI_1, qs_b8 _ (by omega), qs_b8 _ (by omega)]
          exact ⟨rfl, rfl⟩
        · rw [pk_un e2, pk_un e2, qs_up_n _ _ e2, qs_up_n _ _ e2]
          exact hp t ht
  exact nm_e ⟨N + 1, lp N (Nat.le_refl N) (N + 1) _ _ a26 a27 (by omega) (qs_NC_0 hr) (fun t ht => ⟨h26 t ht, h27 t ht⟩)⟩
/-! the row of a node -/
def qs_U (w len cb : Nat → Nat) (x j : Nat) : Bool := decide (len (8 + x) < len (w j) ∧ cb (w j) % 2 ^ len (8 + x) = cb (8 + x))
def qs_D (w len cb : Nat → Nat) (x j : Nat) : Bool := (cb (w j)).testBit (len (8 + x))
def qs_pnI (w len cb : Nat → Nat) (x : Nat) (c0 : Nat → Int32) (i : Nat) (b : Nat → Int32) : Prop :=
  (∀ q, qs_ct (qs_U w len cb x) i ≤ q → q < 224 → qs_gr b (14 + x) q = false) ∧ (∀ i', i' ≤ i → qs_ct (qs_gr b (14 + x)) (qs_ct (qs_U w len cb x) i') = qs_ct (fun j => qs_U w len cb x j && qs_D w len cb x j) i')
  ∧ (∀ q, q / 224 ≠ 14 + x → qs_gb b q = qs_gb c0 q)
theorem qs_pn_skip {w len cb : Nat → Nat} {x : Nat} {c0 : Nat → Int32} {i : Nat} {b : Nat → Int32} (h : qs_pnI w len cb x c0 i b) (hu : qs_U w len cb x i = false) : qs_pnI w len cb x c0 (i + 1) b := by
  obtain ⟨h1, h2, h3⟩ := h
  refine ⟨fun q hq hq2 => h1 q (by rw [qs_ctF hu] at hq; exact hq) hq2, fun i' hi' => ?_, h3⟩
  by_cases e : i' = i + 1
  · rw [e, qs_ctF hu, qs_ctF (P := fun j => qs_U w len cb x j && qs_D w len cb x j) (by rw [hu, Bool.false_and])]
    exact h2 i (Nat.le_refl _)
  · exact h2 i' (by omega)
theorem qs_pn_step {w len cb : Nat → Nat} {x : Nat} {c0 : Nat → Int32} {i : Nat} {b b' : Nat → Int32} (h : qs_pnI w len cb x c0 i b) (hi : i < 200) (hu : qs_U w len cb x i = true)
    (hb : ∀ q, qs_gb b' q = (qs_gb b q || (decide (q = (14 + x) * 224 + qs_ct (qs_U w len cb x) i) && qs_D w len cb x i))) : qs_pnI w len cb x c0 (i + 1) b' := by
  obtain ⟨h1, h2, h3⟩ := h
  have hle := qs_ct_le (qs_U w len cb x) i
  have hg : ∀ q, q ≠ qs_ct (qs_U w len cb x) i → qs_gr b' (14 + x) q = qs_gr b (14 + x) q := by
    intro q hq
    unfold qs_gr
    rw [hb, decide_eq_false (by omega), Bool.false_and, Bool.or_false]
  have hg2 : qs_gr b' (14 + x) (qs_ct (qs_U w len cb x) i) = qs_D w len cb x i := by
    have := h1 _ (Nat.le_refl _) (by omega)
    unfold qs_gr at this ⊢
    rw [hb, this, decide_eq_true rfl, Bool.true_and, Bool.false_or]
  have old : ∀ i', i' ≤ i → qs_ct (qs_gr b' (14 + x)) (qs_ct (qs_U w len cb x) i') = qs_ct (fun j => qs_U w len cb x j && qs_D w len cb x j) i' := by
    intro i' hi'
    rw [← h2 i' hi']
    have := qs_ct_mono (qs_U w len cb x) hi'
    exact qs_ct_congr (fun j hj => hg j (by omega))
  refine ⟨fun q hq hq2 => ?_, fun i' hi' => ?_, fun q hq => ?_⟩
  · rw [qs_ctT hu] at hq
    rw [hg q (by omega)]
    exact h1 q (by omega) hq2
  · by_cases e : i' = i + 1
    · rw [e, qs_ctT hu, qs_ctS, hg2, old i (Nat.le_refl _), qs_ctS]
      try dsimp only
      rw [hu, Bool.true_and]
    · exact old i' (by omega)
  · rw [hb, decide_eq_false (by omega), Bool.false_and, Bool.or_false]
    exact h3 q hq
theorem qs_packNode {post : St1 → Prop} {p0 : Int32} {n : Nat} {w len cb : Nat → Nat} (x : Nat) (hx : x < 7) (hL : qs_L n w a1) (hp : ∀ t, t < 16 → a26 t = nI (len t) ∧ a27 t = nI (cb t)) (hb : ∀ t, cb t < 2 ^ len t ∧ len t ≤ 7) (hz : ∀ q, q < 224 → qs_gr a5 (14 + x) q = false)
    (h0 : p0 = nI x) (H : ∀ b, (∀ i, i ≤ n → qs_ct (qs_gr b (14 + x)) (qs_ct (qs_U w len cb x) i) = qs_ct (fun j => qs_U w len cb x j && qs_D w len cb x j) i) → (∀ q, q / 224 ≠ 14 + x → qs_gb b q = qs_gb a5 q) → post (nI n, ip, rc, nd, cs, a1, a2, a3, a4, b, a6, a7, a8, a9, a10, a11, a12, a13, a14, a15, a16, a17, a18, a19, a20, a21, a22, a23, a24, a25, a26, a27)) :
    wpX_packNode post (nI n, ip, rc, nd, cs, a1, a2, a3, a4, a5, a6, a7, a8, a9, a10, a11, a12, a13, a14, a15, a16, a17, a18, a19, a20, a21, a22, a23, a24, a25, a26, a27) p0 := by
  subst h0
  obtain ⟨hn, ha, _⟩ := hL
  obtain ⟨p1, p2⟩ := hp (8 + x) (by omega)
  obtain ⟨b1, b2⟩ := hb (8 + x)
  have e8 : 8 + nI x = nI (8 + x) := nI_add 8 x
  have small : ∀ t, cb t < 128 := fun t => by
    obtain ⟨q1, q2⟩ := hb t
    have : 2 ^ len t ≤ 2 ^ 7 := Nat.pow_le_pow_right (by decide) q2
    omega
  have main : ∃ f, wX_packNode_26 post (nI x) (nI (len (8 + x))) (nI (cb (8 + x))) f (nI (qs_ct (qs_U w len cb x) 0)) (nI 0) (nI n) ip rc nd cs a1 a2 a3 a4 a5 a6 a7 a8 a9 a10 a11 a12 a13 a14 a15 a16 a17 a18 a19 a20 a21 a22 a23 a24 a25 a26 a27 := by
    refine loop_0 (fun f i s => wX_packNode_26 post (nI x) (nI (len (8 + x))) (nI (cb (8 + x))) f (nI (qs_ct (qs_U w len cb x) i)) (nI i) (nI n) ip rc nd cs a1 a2 a3 a4 s a6 a7 a8 a9 a10 a11 a12 a13 a14 a15 a16 a17 a18 a19 a20 a21 a22 a23 a24 a25 a26 a27) (fun i s => qs_pnI w len cb x a5 i s) n a5 ⟨fun q _ hq => hz q hq, fun i' hi' => ?_, fun _ _ => rfl⟩ ?_ ?_
    · rw [show i' = 0 by omega]
      rfl
    · intro f s hI
      exact pk_le n n (fun _ => H s hI.2.1 hI.2.2) (fun z => absurd z (by omega))
    · intro f i s hi hI hw
      refine pk_le n i (fun z => absurd z (by omega)) (fun _ => ?_)
      obtain ⟨w8, aw⟩ := ha i hi
      obtain ⟨q1, q2⟩ := hp (w i) (by omega)
      obtain ⟨r1, r2⟩ := hb (w i)
      have r3 := small (w i)
      have r4 := small (8 + x)
      have hle := qs_ct_le (qs_U w len cb x) i
      have skip : qs_U w len cb x i = false → wX_packNode_76 post (wX_packNode_26 post (nI x) (nI (len (8 + x))) (nI (cb (8 + x))) f) (nI x) (nI (len (8 + x))) (nI (cb (8 + x))) (nI (qs_ct (qs_U w len cb x) i)) (nI i) (nI (w i)) (nI n) ip rc nd cs a1 a2 a3 a4 s a6 a7 a8 a9 a10 a11 a12 a13 a14 a15 a16 a17 a18 a19 a20 a21 a22 a23 a24 a25 a26 a27 := by
        intro hu
        have t := hw s (qs_pn_skip hI hu)
        try dsimp only at t
        rw [qs_ctF hu] at t
        exact br_t rfl (nm_r (nI_1 i) t)
      rw [nI_clamp (show i < 2 ^ 31 by omega), aw]
      refine ⟨vp_in_nI (by omega) (by decide), nm_e ?_⟩
      rw [nI_clamp (show w i < 2 ^ 31 by omega), q1, q2]
      refine ⟨vp_in_nI (by omega) (by decide), pk_le (len (w i)) (len (8 + x)) (fun z => skip (decide_eq_false (by omega))) (fun z => ⟨vp_in_nI (by omega) (by decide), ?_⟩)⟩
      have hmod : cb (w i) % 2 ^ len (8 + x) ≤ cb (w i) := Nat.mod_le _ _
      refine pk_eq (cb (w i) % 2 ^ len (8 + x)) (cb (8 + x)) (fun e => ?_) (fun e => skip (decide_eq_false (fun z2 => e z2.2))) (pk_andN (by omega) _ (qs_mask _ (by omega))) rfl (by omega) (by omega)
      have hu : qs_U w len cb x i = true := decide_eq_true ⟨z, e⟩
      refine br_f (by decide) ⟨vp_in_nI (by omega) (by decide), ?_⟩
      rw [nI_clamp (show w i < 2 ^ 31 by omega), q2, qs_tb (by omega) (by omega)]
      cases hd : (cb (w i)).testBit (len (8 + x)) with
      | false =>
        have t := hw s (qs_pn_step hI (by omega) hu (fun q => by unfold qs_D; rw [hd, Bool.and_false, Bool.or_false]))
        try dsimp only at t
        rw [qs_ctT hu] at t
        exact br_t rfl (nm_r (nI_1 _) (nm_r (nI_1 i) t))
      | true =>
        refine br_f (by decide) (qs_setBit (14 + x) (qs_ct (qs_U w len cb x) i) (by omega) (by omega) (nI_add 14 x) rfl (fun b hb2 => ?_))
        have t := hw b (qs_pn_step hI (by omega) hu (fun q => by unfold qs_D; rw [hd, Bool.and_true]; exact hb2 q))
        try dsimp only at t
        rw [qs_ctT hu] at t
        exact nm_r (nI_1 _) (nm_r (nI_1 i) t)
  unfold wpX_packNode
  try dsimp only
  rw [e8, nI_clamp (show 8 + x < 2 ^ 31 by omega), p1, p2]
  exact ⟨vp_in_nI (by omega) (by decide), nm_e ⟨vp_in_nI (by omega) (by decide), nm_e main⟩⟩
end
end
section
section
variable {nn ip rc nd cs : Int32} {a1 a2 a3 a4 a5 a6 a7 a8 a9 a10 a11 a12 a13 a14 a15 a16 a17 a18 a19 a20 a21 a22 a23 a24 a25 a26 a27 : Nat → Int32}
/-! all that engine 6 keeps -/
def qs_CF (n : Nat) (w : Nat → Nat) (N S : Nat) (lf rt len cb : Nat → Nat) : Prop :=
  N ≤ 7 ∧ (∀ t, cb t < 2 ^ len t ∧ len t ≤ 7) ∧ (N = 0 → (∀ i j, i < n → j < n → w i = w j) ∧ ∀ t, len t = 0) ∧ (0 < N → len (8 + (N - 1)) = 0 ∧ n ≤ S ∧ S ≤ 3 * n)
  ∧ (∀ c1 c2, c1 < 8 → c2 < 8 → 0 < qs_rk w c1 n → 0 < qs_rk w c2 n → c1 ≠ c2 → qs_Inc len cb c1 c2)
  ∧ (∀ y, y < N → ∀ c, c < 8 → 0 < qs_rk w c n → qs_Inc len cb (8 + y) c ∨ qs_Pre len cb (8 + y) c)
  ∧ (∀ y, y < N → lf y < 8 + y ∧ rt y < 8 + y ∧ (lf y < 8 → 0 < qs_rk w (lf y) n) ∧ (rt y < 8 → 0 < qs_rk w (rt y) n) ∧ len (lf y) = len (8 + y) + 1 ∧ cb (lf y) = cb (8 + y) ∧ len (rt y) = len (8 + y) + 1 ∧ cb (rt y) = cb (8 + y) ||| 2 ^ len (8 + y))
theorem qs_sm_tail {f : Nat → Nat} {a : Nat} (d : Nat) (h : ∀ t, a ≤ t → f t = 0) : qs_sm f (a + d) = qs_sm f a := by
  induction d with
  | zero => rfl
  | succ d ih =>
    show qs_sm f (a + d) + f (a + d) = _
    rw [ih, h _ (by omega), Nat.add_zero]
theorem qs_sm_mul (c : Nat) (f : Nat → Nat) (k : Nat) : qs_sm (fun t => c * f t) k = c * qs_sm f k := by
  induction k with
  | zero => rfl
  | succ k ih =>
    show qs_sm (fun t => c * f t) k + c * f k = c * (qs_sm f k + f k)
    rw [ih, Nat.mul_add]
theorem qs_sm_rk (w : Nat → Nat) (i : Nat) : ∀ k, qs_sm (fun c => qs_rk w c i) k = qs_bl w k i := by
  intro k
  induction k with
  | zero => exact (qs_ct_zero (fun j _ => decide_eq_false (by omega))).symm
  | succ k ih => rw [qs_smS, ih, qs_bl_S]
theorem qs_bl8 {n : Nat} {w : Nat → Nat} {a1 : Nat → Int32} (hL : qs_L n w a1) {i : Nat} (hi : i ≤ n) : qs_bl w 8 i = i := qs_ct_all (fun j hj => decide_eq_true (hL.2.1 j (by omega)).1)
/-- the weights at the start -/
def qs_wz (n : Nat) (w : Nat → Nat) (t : Nat) : Nat := if t < 8 then qs_rk w t n else 0
theorem qs_wz_l {n : Nat} {w : Nat → Nat} {t : Nat} (h : t < 8) : qs_wz n w t = qs_rk w t n := if_pos h
theorem qs_wz_g {n : Nat} {w : Nat → Nat} {t : Nat} (h : 8 ≤ t) : qs_wz n w t = 0 := if_neg (by omega)
theorem qs_HI_0 {n : Nat} {w : Nat → Nat} {a1 : Nat → Int32} (hL : qs_L n w a1) (lf rt : Nat → Nat) : qs_HI n w 0 0 (qs_wz n w) (fun _ => false) lf rt := by
  have hfw : qs_sm (qs_fw (qs_fr (fun _ => false) (qs_wz n w)) (qs_wz n w)) 16 = n := by
    have e1 := qs_sm_tail (f := qs_wz n w) (a := 8) 8 (fun t ht => qs_wz_g ht)
    have e2 : qs_sm (qs_wz n w) 8 = qs_sm (fun c => qs_rk w c n) 8 := qs_sm_congr (fun t ht => qs_wz_l ht)
    rw [e2, qs_sm_rk, qs_bl8 hL (Nat.le_refl n)] at e1
    refine (qs_sm_congr (fun t ht => ?_)).trans e1
    by_cases z : 0 < qs_wz n w t
    · exact qs_fw_t (qs_fr_t rfl z)
    · have z2 : qs_wz n w t = 0 := by omega
      rw [qs_fw_f (qs_fr_w z2), z2]
  have hfc : qs_sm (fun t => (qs_fr (fun _ => false) (qs_wz n w) t).toNat) 16 ≤ 8 := by
    have e : qs_sm (fun t => if t < 8 then 1 else 0) 16 = 8 := by decide
    refine Nat.le_trans (qs_sm_le (fun t ht => ?_)) (Nat.le_of_eq e)
    by_cases z : t < 8
    · rw [if_pos z]
      exact Bool.toNat_le _
    · rw [if_neg z, qs_fr_w (qs_wz_g (by omega))]
      exact Nat.le_refl _
  refine ⟨by omega, hfc, fun c hc => qs_wz_l hc, fun t ht => qs_wz_g (by omega), fun x hx => absurd hx (by omega), hfw, fun t => ?_, fun h => absurd h (by omega), ⟨fun _ => 3, fun _ _ _ => Nat.le_refl 3, ?_, ?_⟩, fun x hx => absurd hx (by omega), fun x y hx => absurd hx (by omega), fun t ht => absurd ht Bool.false_ne_true⟩
  · by_cases z : t < 8
    · rw [qs_wz_l z]
      exact qs_rk_le w t n
    · rw [qs_wz_g (by omega)]
      omega
  · refine Nat.le_trans (Nat.le_of_eq (qs_sm_congr (fun t ht => ?_))) hfc
    cases hf : qs_fr (fun _ => false) (qs_wz n w) t with
    | false => rw [qs_kr_f hf]; rfl
    | true => rw [qs_kr_t hf]; rfl
  · have e : qs_sm (qs_co (qs_fr (fun _ => false) (qs_wz n w)) (qs_wz n w) (fun _ => 3)) 16 = qs_sm (fun t => 3 * qs_fw (qs_fr (fun _ => false) (qs_wz n w)) (qs_wz n w) t) 16 := qs_sm_congr (fun t ht => by
      cases hf : qs_fr (fun _ => false) (qs_wz n w) t with
      | false => rw [qs_co_f hf, qs_fw_f hf]
      | true => rw [qs_co_t hf, qs_fw_t hf, Nat.mul_comm])
    rw [e, qs_sm_mul, hfw]
    omega
/-- the joined forest, its codes named, is what engine 6 needs -/
theorem qs_CF_of {n : Nat} {w : Nat → Nat} {a1 : Nat → Int32} {N S : Nat} {wt : Nat → Nat} {jn : Nat → Bool} {lf rt len cb : Nat → Nat} (hL : qs_L n w a1) (hH : qs_HI n w N S wt jn lf rt) {a : Nat} (hu : ∀ t, t < 8 + N → qs_fr jn wt t = true → t = a)
    (hC : qs_NC N (fun t => 0 < wt t) lf rt 0 len cb) : qs_CF n w N S lf rt len cb := by
  obtain ⟨h1, h2, h3, h4, h5, h6, h7, h8, ⟨l0, l1, l2, l3⟩, k1, k2, k3⟩ := hH
  obtain ⟨n1, n2, n3, n4, n5⟩ := hC
  have fl : ∀ c, c < 8 → 0 < qs_rk w c n → qs_Fr (fun t => 0 < wt t) lf rt 0 c := fun c hc hr => ⟨by show 0 < wt c; rw [h3 c hc]; exact hr, by omega, fun y hy => absurd hy (by omega)⟩
  refine ⟨h1, fun t => ⟨(n1 t).1, by have := (n1 t).2; omega⟩, fun hN => ⟨fun i j hi hj => ?_, fun t => by have := (n1 t).2; omega⟩, fun hN => ⟨?_, ?_, by omega⟩, fun c1 c2 g1 g2 g3 g4 g5 => n2 c1 c2 (fl c1 g1 g3) (fl c2 g2 g4) g5, fun y hy c hc hr => n3 y (Nat.zero_le y) hy c (fl c hc hr), fun y hy => ?_⟩
  · have one : ∀ i, i < n → w i = a := by
      intro i hi
      have w8 := (hL.2.1 i hi).1
      refine hu (w i) (by omega) (qs_fr_t ?_ ?_)
      · cases hj : jn (w i) with
        | false => rfl
        | true =>
          obtain ⟨x, hx, _⟩ := k3 _ hj
          omega
      · rw [h3 _ w8]
        have := qs_rk_lt (rfl : w i = w i) hi
        omega
    rw [one i hi, one j hj]
  · exact (n5 (8 + (N - 1)) (fun y _ hy => by have := k1 y hy; omega)).1
  · obtain ⟨q1, q2⟩ := h8 hN
    have q3 := h5 (N - 1) (by omega)
    have q4 := hu (8 + (N - 1)) (by omega) (qs_fr_t q1 q3)
    have e : qs_sm (qs_fw (qs_fr jn wt) wt) 16 = qs_sm (qs_dl (8 + (N - 1)) (wt (8 + (N - 1)))) 16 := qs_sm_congr (fun t ht => by
      by_cases z : t = 8 + (N - 1)
      · rw [z, qs_dl_s, qs_fw_t (qs_fr_t q1 q3)]
      · rw [qs_dl_n _ z]
        refine qs_fw_f ?_
        cases hf : qs_fr jn wt t with
        | false => rfl
        | true =>
          exfalso
          refine z (Eq.trans (hu t ?_ hf) q4.symm)
          rcases Nat.lt_or_ge t (8 + N) with y | y
          · exact y
          · have := h4 t y
            have := (qs_fr_e hf).2
            omega)
    rw [h6, qs_sm_dl (by omega)] at e
    omega
  · obtain ⟨q1, q2, q3, q4, q5, q6, q7⟩ := k1 y hy
    obtain ⟨r1, r2, r3, r4⟩ := n4 y (Nat.zero_le y) hy
    refine ⟨q1, q2, fun z => ?_, fun z => ?_, r1, r2, r3, r4⟩
    · rw [← h3 _ z]
      exact q6
    · rw [← h3 _ z]
      exact q7
/-- the rows of the nodes -/
def qs_NF (n : Nat) (w len cb : Nat → Nat) (N : Nat) (R : Nat → Nat → Bool) : Prop := ∀ x, x < N → ∀ i, i ≤ n → qs_ct (R (14 + x)) (qs_ct (qs_U w len cb x) i) = qs_ct (fun j => qs_U w len cb x j && qs_D w len cb x j) i
theorem qs_packCodes {post : St1 → Prop} {n : Nat} {w : Nat → Nat} (hL : qs_L n w a1) (h2 : ∀ c, c < 8 → a2 c = nI (qs_rk w c n)) (hz : ∀ q, 3136 ≤ q → q < 4704 → qs_gb a5 q = false)
    (H : ∀ N S lf rt len cb b5 b22 b23 b24 b25 b26 b27, qs_CF n w N S lf rt len cb → (∀ x, x < N → b22 x = nI (lf x) ∧ b23 x = nI (rt x)) → (∀ t, t < 16 → b26 t = nI (len t) ∧ b27 t = nI (cb t)) → qs_NF n w len cb N (qs_gr b5) → (∀ q, q < 3136 → qs_gb b5 q = qs_gb a5 q) →
      post (nI n, ip, rc, nI N, nI S, a1, a2, a3, a4, b5, a6, a7, a8, a9, a10, a11, a12, a13, a14, a15, a16, a17, a18, a19, a20, a21, b22, b23, b24, b25, b26, b27)) : wpX_packCodes post (nI n, ip, rc, nd, cs, a1, a2, a3, a4, a5, a6, a7, a8, a9, a10, a11, a12, a13, a14, a15, a16, a17, a18, a19, a20, a21, a22, a23, a24, a25, a26, a27) := by
  have hn := hL.1
  have main : ∀ c24 c25 c26 c27, (∀ t, t < 16 → c24 t = nI (qs_wz n w t) ∧ c25 t = 0 ∧ c26 t = 0 ∧ c27 t = 0) → ∃ f, wX_packCodes_69 post (nI n) ip rc f 1 0 0 a1 a2 a3 a4 a5 a6 a7 a8 a9 a10 a11 a12 a13 a14 a15 a16 a17 a18 a19 a20 a21 a22 a23 c24 c25 c26 c27 := by
    intro c24 c25 c26 c27 hc
    refine ⟨11, qs_merge (w := w) hn ?_ 11 0 0 _ _ (fun _ => 0) (fun _ => 0) a22 a23 c24 c25 (qs_HI_0 hL _ _) (fun x hx => absurd hx (by omega)) (fun t ht => (hc t ht).1) (fun t ht => (hc t ht).2.1) (by omega)⟩
    intro f N S wt jn lf rt b22 b23 b24 b25 hH hu hk
    obtain ⟨a, hu⟩ := hu
    have hH' := hH
    obtain ⟨h1, _, h3, h4, h5, _, _, _, _, k1, k2, k3⟩ := hH
    refine br_t rfl (qs_nameCodes (live := fun t => 0 < wt t) (lf := lf) (rt := rt) h1 rfl ⟨fun x hx => ?_, k2⟩ (fun t1 t2 l1 l2 g1 g2 => ?_) hk (fun t ht => (hc t ht).2.2.1) (fun t ht => (hc t ht).2.2.2) (fun len cb b26 b27 hNC hp => ?_))
    · obtain ⟨q1, q2, q3, q4, q5, q6, q7⟩ := k1 x hx
      exact ⟨q1, q2, q3, q6, q7, h5 x hx⟩
    · have un : ∀ t, 0 < wt t → (∀ y, y < N → lf y ≠ t ∧ rt y ≠ t) → t = a := by
        intro t l g
        refine hu t ?_ (qs_fr_t ?_ l)
        · rcases Nat.lt_or_ge t (8 + N) with z | z
          · exact z
          · have := h4 t z
            omega
        · cases hj : jn t with
          | false => rfl
          | true =>
            obtain ⟨x, x1, x2⟩ := k3 t hj
            have := g x x1
            exact absurd x2 (by omega)
      rw [un t1 l1 g1, un t2 l2 g2]
    · have hCF := qs_CF_of hL hH' hu hNC
      refine loop_0 (fun f x s => wX_packCodes_204 post f (nI x) (nI n) ip rc (nI N) (nI S) a1 a2 a3 a4 s a6 a7 a8 a9 a10 a11 a12 a13 a14 a15 a16 a17 a18 a19 a20 a21 b22 b23 b24 b25 b26 b27) (fun x s => qs_NF n w len cb x (qs_gr s) ∧ (∀ q, q < 3136 ∨ (14 + x) * 224 ≤ q → qs_gb s q = qs_gb a5 q)) N a5
        ⟨fun x hx => absurd hx (by omega), fun _ _ => rfl⟩ ?_ ?_
      · intro f s hI
        exact pk_le N N (fun _ => H N S lf rt len cb s b22 b23 b24 b25 b26 b27 hCF hk hp hI.1 (fun q hq => hI.2 q (Or.inl hq))) (fun z => absurd z (by omega))
      · intro f x s hx hI hw
        obtain ⟨i1, i2⟩ := hI
        refine pk_le N x (fun z => absurd z (by omega)) (fun _ => qs_packNode (len := len) (cb := cb) x (by omega) hL hp hCF.2.1 (fun q hq => ?_) rfl (fun b g1 g2 => nm_r (nI_1 x) (hw b ⟨fun x' hx' i hi => ?_, fun q hq => ?_⟩)))
        · unfold qs_gr
          rw [i2 _ (by omega)]
          exact hz _ (by omega) (by omega)
        · by_cases e : x' = x
          · rw [e]
            exact g1 i hi
          · rw [← i1 x' (by omega) i hi]
            have := qs_ct_le (qs_U w len cb x') i
            refine qs_ct_congr (fun j hj => ?_)
            unfold qs_gr
            exact g2 _ (by omega)
        · rw [g2 q (by omega)]
          exact i2 q (by omega)
  show ∃ f, wX_packCodes_12 post (nI n) ip rc 0 0 f 0 a1 a2 a3 a4 a5 a6 a7 a8 a9 a10 a11 a12 a13 a14 a15 a16 a17 a18 a19 a20 a21 a22 a23 a24 a25 a26 a27
  refine loop_0 (fun f i (t : (Nat → Int32) × (Nat → Int32) × (Nat → Int32) × (Nat → Int32)) => wX_packCodes_12 post (nI n) ip rc 0 0 f (nI i) a1 a2 a3 a4 a5 a6 a7 a8 a9 a10 a11 a12 a13 a14 a15 a16 a17 a18 a19 a20 a21 a22 a23 t.1 t.2.1 t.2.2.1 t.2.2.2)
    (fun i s => ∀ t, t < i → s.1 t = nI (qs_wz n w t) ∧ s.2.1 t = 0 ∧ s.2.2.1 t = 0 ∧ s.2.2.2 t = 0) 16 (a24, a25, a26, a27) (fun t ht => absurd ht (by omega)) ?_ ?_
  · intro f s hI
    exact pk_le 16 16 (fun _ => main _ _ _ _ hI) (fun z => absurd z (by omega))
  · intro f i s hi hI hw
    have key : ∀ z0, z0 = nI (qs_wz n w i) → wX_packCodes_39 post (wX_packCodes_12 post (nI n) ip rc 0 0 f) (nI i) z0 (nI i) (nI n) ip rc 0 0 a1 a2 a3 a4 a5 a6 a7 a8 a9 a10 a11 a12 a13 a14 a15 a16 a17 a18 a19 a20 a21 a22 a23 s.1 s.2.1 s.2.2.1 s.2.2.2 := by
      intro z0 hz0
      have hle : qs_wz n w i < 256 := by
        have := qs_rk_le w i n
        by_cases z : i < 8
        · rw [qs_wz_l z]
          omega
        · rw [qs_wz_g (by omega)]
          omega
      unfold wX_packCodes_39
      rw [hz0, qs_vs hle, nI_clamp (show i < 2 ^ 31 by omega)]
      refine ⟨vp_in_nI (by omega) (by decide), nm_e ⟨vp_in_nI (by omega) (by decide), nm_e ⟨vp_in_nI (by omega) (by decide), nm_e ⟨vp_in_nI (by omega) (by decide), nm_e (nm_r (nI_1 i) (hw (upd s.1 i (nI (qs_wz n w i)), upd s.2.1 i 0, upd s.2.2.1 i 0, upd s.2.2.2 i 0) (fun t ht => ?_)))⟩⟩⟩⟩
      try dsimp only
      by_cases e : t = i
      · rw [e, pk_us, pk_us, pk_us, pk_us]
        exact ⟨rfl, rfl, rfl, rfl⟩
      · rw [pk_un e, pk_un e, pk_un e, pk_un e]
        exact hI t (by omega)
    refine pk_le 16 i (fun z => absurd z (by omega)) (fun _ => pk_le 8 i (fun z => key 0 ?_) (fun z => ⟨vp_in_nI (by omega) (by decide), key _ ?_⟩))
    · rw [qs_wz_g z]
      rfl
    · rw [qs_wz_l z, nI_clamp (by omega), h2 i z]
/-! the codes are asked: pure -/
def qs_ag (len cb : Nat → Nat) (t c : Nat) : Bool := decide (len t ≤ len c ∧ cb c % 2 ^ len t = cb t)
def qs_Uc (len cb : Nat → Nat) (x c : Nat) : Bool := decide (len (8 + x) < len c ∧ cb c % 2 ^ len (8 + x) = cb (8 + x))
theorem qs_mod_bits {A B L : Nat} (hB : B < 2 ^ L) : A % 2 ^ L = B ↔ ∀ d, d < L → A.testBit d = B.testBit d := by
  constructor
  · intro h d hd
    rw [← h, Nat.testBit_mod_two_pow, decide_eq_true hd, Bool.true_and]
  · intro h
    refine Nat.eq_of_testBit_eq (fun d => ?_)
    rw [Nat.testBit_mod_two_pow]
    by_cases e : d < L
    · rw [decide_eq_true e, Bool.true_and]
      exact h d e
    · rw [decide_eq_false e, Bool.false_and, Nat.testBit_lt_two_pow (Nat.lt_of_lt_of_le hB (Nat.pow_le_pow_right (by decide) (by omega)))]
section
variable {n : Nat} {w : Nat → Nat} {N S : Nat} {lf rt len cb : Nat → Nat}
theorem qs_ag_letter (h : qs_CF n w N S lf rt len cb) {u c : Nat} (hu : u < 8) (hc : c < 8) (lu : 0 < qs_rk w u n) (lc : 0 < qs_rk w c n) : qs_ag len cb u c = decide (c = u) := by
  obtain ⟨_, b, _, _, i, _, _⟩ := h
  refine decide_eq_decide.mpr ⟨fun ⟨h1, h2⟩ => ?_, fun e => ?_⟩
  · by_cases e : c = u
    · exact e
    · obtain ⟨d, d1, d2, d3⟩ := i u c hu hc lu lc (fun z => e z.symm)
      exact absurd (((qs_mod_bits (b u).1).mp h2) d d1).symm d3
  · rw [e, Nat.mod_eq_of_lt (b u).1]
    exact ⟨Nat.le_refl _, rfl⟩
theorem qs_ag_node (h : qs_CF n w N S lf rt len cb) {y c : Nat} (hy : y < N) (hc : c < 8) (lc : 0 < qs_rk w c n) : qs_ag len cb (8 + y) c = qs_Uc len cb y c := by
  obtain ⟨_, b, _, _, _, j, _⟩ := h
  refine decide_eq_decide.mpr ⟨fun ⟨h1, h2⟩ => ⟨?_, h2⟩, fun ⟨h1, h2⟩ => ⟨by omega, h2⟩⟩
  rcases j y hy c hc lc with ⟨d, d1, d2, d3⟩ | ⟨p1, p2⟩
  · exact absurd (((qs_mod_bits (b (8 + y)).1).mp h2) d d1).symm d3
  · exact p1
/-- the child of node y on side s -/
def qs_kd (lf rt : Nat → Nat) (y : Nat) (s : Bool) : Nat := if s = true then rt y else lf y
theorem qs_kd_ag (h : qs_CF n w N S lf rt len cb) {y : Nat} (hy : y < N) (s : Bool) (c : Nat) : qs_ag len cb (qs_kd lf rt y s) c = (qs_Uc len cb y c && ((cb c).testBit (len (8 + y)) == s)) := by
  obtain ⟨_, b, _, _, _, _, k⟩ := h
  obtain ⟨_, _, _, _, k1, k2, k3, k4⟩ := k y hy
  obtain ⟨o1, o2, o3, o4⟩ := qs_or_bits (b (8 + y)).1
  have e : len (qs_kd lf rt y s) = len (8 + y) + 1 ∧ (∀ d, d < len (8 + y) → (cb (qs_kd lf rt y s)).testBit d = (cb (8 + y)).testBit d) ∧ (cb (qs_kd lf rt y s)).testBit (len (8 + y)) = s := by
    unfold qs_kd
    cases s with
    | true =>
      rw [if_pos rfl, k3, k4]
      exact ⟨rfl, o1, o2⟩
    | false =>
      rw [if_neg (by decide), k1, k2]
      exact ⟨rfl, fun _ _ => rfl, o3⟩
  obtain ⟨e1, e2, e3⟩ := e
  have m1 := qs_mod_bits (A := cb c) (b (qs_kd lf rt y s)).1
  have m2 := qs_mod_bits (A := cb c) (b (8 + y)).1
  unfold qs_ag qs_Uc
  rw [show ((cb c).testBit (len (8 + y)) == s) = decide ((cb c).testBit (len (8 + y)) = s) by cases (cb c).testBit (len (8 + y)) <;> cases s <;> rfl, ← Bool.decide_and]
  refine decide_eq_decide.mpr ⟨fun ⟨h1, h2⟩ => ?_, fun ⟨⟨h1, h2⟩, h3⟩ => ?_⟩
  · have h3 := m1.mp h2
    rw [e1] at h3
    refine ⟨⟨by omega, m2.mpr (fun d hd => ?_)⟩, ?_⟩
    · rw [h3 d (by omega), e2 d hd]
    · rw [h3 _ (by omega), e3]
  · have h4 := m2.mp h2
    refine ⟨by omega, m1.mpr (fun d hd => ?_)⟩
    rw [e1] at hd
    by_cases z : d = len (8 + y)
    · rw [z, e3]
      exact h3
    · rw [e2 d (by omega)]
      exact h4 d (by omega)
theorem qs_kd_lt (h : qs_CF n w N S lf rt len cb) {y : Nat} (hy : y < N) (s : Bool) : qs_kd lf rt y s < 8 + y ∧ (qs_kd lf rt y s < 8 → 0 < qs_rk w (qs_kd lf rt y s) n) ∧ len (qs_kd lf rt y s) = len (8 + y) + 1 := by
  obtain ⟨_, b, _, _, _, _, k⟩ := h
  obtain ⟨k1, k2, k3, k4, k5, _, k6, _⟩ := k y hy
  unfold qs_kd
  cases s with
  | true =>
    rw [if_pos rfl]
    exact ⟨k2, k4, k6⟩
  | false =>
    rw [if_neg (by decide)]
    exact ⟨k1, k3, k5⟩
theorem qs_live {a1 : Nat → Int32} (hL : qs_L n w a1) {j : Nat} (hj : j < n) : w j < 8 ∧ 0 < qs_rk w (w j) n := by
  refine ⟨(hL.2.1 j hj).1, ?_⟩
  have := qs_rk_lt (rfl : w j = w j) hj
  omega
/-- the count below a child -/
theorem qs_kd_ct (h : qs_CF n w N S lf rt len cb) {y : Nat} (hy : y < N) (s : Bool) (i : Nat) :
    qs_ct (fun j => qs_ag len cb (qs_kd lf rt y s) (w j)) i = if s = true then qs_ct (fun j => qs_U w len cb y j && qs_D w len cb y j) i else qs_ct (qs_U w len cb y) i - qs_ct (fun j => qs_U w len cb y j && qs_D w len cb y j) i := by
  have e : ∀ j, qs_ag len cb (qs_kd lf rt y s) (w j) = (qs_U w len cb y j && (qs_D w len cb y j == s)) := fun j => qs_kd_ag h hy s (w j)
  have e2 : qs_ct (qs_U w len cb y) i = qs_ct (fun j => qs_U w len cb y j && qs_D w len cb y j) i + qs_ct (fun j => qs_U w len cb y j && (qs_D w len cb y j == false)) i := qs_ct_sum (fun j _ => by
    try dsimp only
    cases qs_U w len cb y j <;> cases qs_D w len cb y j <;> rfl)
  cases s with
  | true =>
    rw [if_pos rfl]
    refine qs_ct_congr (fun j _ => ?_)
    rw [e]
    cases qs_D w len cb y j <;> rfl
  | false =>
    rw [if_neg (by decide), e2, Nat.add_sub_cancel_left]
    exact qs_ct_congr (fun j _ => e j)
theorem qs_ct_node {a1 : Nat → Int32} (hL : qs_L n w a1) (h : qs_CF n w N S lf rt len cb) {y : Nat} (hy : y < N) {i : Nat} (hi : i ≤ n) : qs_ct (fun j => qs_ag len cb (8 + y) (w j)) i = qs_ct (qs_U w len cb y) i :=
  qs_ct_congr (fun j hj => by
    obtain ⟨l1, l2⟩ := qs_live hL (show j < n by omega)
    exact qs_ag_node h hy l1 l2)
theorem qs_ct_letter {a1 : Nat → Int32} (hL : qs_L n w a1) (h : qs_CF n w N S lf rt len cb) {u : Nat} (hu : u < 8) (lu : 0 < qs_rk w u n) {i : Nat} (hi : i ≤ n) : qs_ct (fun j => qs_ag len cb u (w j)) i = qs_rk w u i :=
  qs_ct_congr (fun j hj => by
    obtain ⟨l1, l2⟩ := qs_live hL (show j < n by omega)
    exact qs_ag_letter h hu l1 lu l2)
theorem qs_root_all (h : qs_CF n w N S lf rt len cb) (hN : 0 < N) (c : Nat) : qs_ag len cb (8 + (N - 1)) c = true := by
  obtain ⟨_, b, _, r, _⟩ := h
  have r1 := (r hN).1
  have r2 := (b (8 + (N - 1))).1
  rw [r1] at r2
  refine decide_eq_true ?_
  rw [r1]
  have : (2 : Nat) ^ 0 = 1 := rfl
  rw [this] at r2 ⊢
  omega
end
theorem qs_rankInCodes {n : Nat} {w : Nat → Nat} {N S : Nat} {lf rt len cb : Nat → Nat} {post : Int32 → Prop} {p0 p1 : Int32} (c i : Nat) (hC : qs_CF n w N S lf rt len cb) (hk : ∀ x, x < N → a22 x = nI (lf x) ∧ a23 x = nI (rt x)) (hp : ∀ t, t < 16 → a26 t = nI (len t) ∧ a27 t = nI (cb t))
    (hR : qs_NF n w len cb N (qs_gr a5)) (hS : ∀ r, r < 21 → qs_sumr a5 a6 a7 r) (hL : qs_L n w a1) (h2 : a2 c = nI (qs_rk w c n)) (hnd : nd = nI N) (hc : c < 8) (hi : i ≤ n) (h0 : p0 = nI c) (h1 : p1 = nI i) (H : post (nI (qs_rk w c i))) : wpX_rankInCodes post (nn, ip, rc, nd, cs, a1, a2, a3, a4, a5, a6, a7, a8, a9, a10, a11, a12, a13, a14, a15, a16, a17, a18, a19, a20, a21, a22, a23, a24, a25, a26, a27) p0 p1 := by
  subst h0
  subst h1
  subst hnd
  have hn := hL.1
  have hrk := qs_rk_le w c n
  obtain ⟨q1, q2⟩ := hp c (by omega)
  obtain ⟨c1, c2, c3, c4, _⟩ := hC
  obtain ⟨b1, b2⟩ := c2 c
  have small : cb c < 128 := by
    have : 2 ^ len c ≤ 2 ^ 7 := Nat.pow_le_pow_right (by decide) b2
    omega
  refine ⟨vp_in_nI (by omega) (by decide), ?_⟩
  rw [nI_clamp (by omega), h2]
  refine pk_eq (qs_rk w c n) 0 (fun e => ?_) (fun e => nm_e ?_)
  · have := qs_rk_mono w c hi
    rw [show qs_rk w c i = 0 by omega] at H
    exact H
  · have lc : 0 < qs_rk w c n := by omega
    have fin : ∀ f x, wX_rankInCodes_24 post (nI c) nn ip rc (nI N) cs a1 a2 a3 a4 a5 a6 a7 a8 a9 a10 a11 a12 a13 a14 a15 a16 a17 a18 a19 a20 a21 a22 a23 a24 a25 a26 a27 (f + 1) x (nI (qs_rk w c i)) (nI (len c)) := by
      intro f x
      refine ⟨vp_in_nI (by omega) (by decide), ?_⟩
      rw [nI_clamp (by omega), q1]
      exact pk_le (len c) (len c) (fun _ => H) (fun z => absurd z (by omega))
    by_cases hN : N = 0
    · obtain ⟨g1, g2⟩ := c3 hN
      have e1 : qs_rk w c i = i := by
        obtain ⟨q, y1, y2, y3⟩ := qs_rk_sel lc
        exact qs_ct_all (fun j hj => decide_eq_true ((g1 j q (by omega) y1).trans y2))
      have t := fin 0 (nI N - 1)
      rw [e1, g2 c] at t
      exact ⟨1, t⟩
    · have lp : ∀ f x, x < N → qs_ag len cb (8 + x) c = true → x + 1 < f → wX_rankInCodes_24 post (nI c) nn ip rc (nI N) cs a1 a2 a3 a4 a5 a6 a7 a8 a9 a10 a11 a12 a13 a14 a15 a16 a17 a18 a19 a20 a21 a22 a23 a24 a25 a26 a27 f (nI x) (nI (qs_ct (qs_U w len cb x) i)) (nI (len (8 + x))) := by
        intro f
        induction f with
        | zero => intro x _ _ h; exact absurd h (by omega)
        | succ f ih =>
          intro x hx hag hf
          have hU := hag
          rw [qs_ag_node ⟨c1, c2, c3, c4, by assumption⟩ hx hc lc] at hU
          have hlt := (of_decide_eq_true hU).1
          obtain ⟨k1, k2⟩ := hk x hx
          have hle := qs_ct_le (qs_U w len cb x) i
          have hCF : qs_CF n w N S lf rt len cb := ⟨c1, c2, c3, c4, by assumption⟩
          have next : ∀ (s : Bool) (v x7 : Int32), (cb c).testBit (len (8 + x)) = s → v = nI (qs_ct (fun j => qs_ag len cb (qs_kd lf rt x s) (w j)) i) → x7 = nI (qs_kd lf rt x s) - 8 → wX_rankInCodes_24 post (nI c) nn ip rc (nI N) cs a1 a2 a3 a4 a5 a6 a7 a8 a9 a10 a11 a12 a13 a14 a15 a16 a17 a18 a19 a20 a21 a22 a23 a24 a25 a26 a27 f x7 v (nI (len (8 + x)) + 1) := by
            intro s v x7 hs hv hx7
            obtain ⟨d1, d2, d3⟩ := qs_kd_lt hCF hx s
            have hag2 := qs_kd_ag hCF hx s c
            rw [hU, hs, beq_self_eq_true] at hag2
            rw [hv, hx7, nI_1, ← d3]
            by_cases e8 : qs_kd lf rt x s < 8
            · have e9 := qs_ag_letter hCF e8 hc (d2 e8) lc
              rw [hag2] at e9
              have e10 : c = qs_kd lf rt x s := of_decide_eq_true e9.symm
              rw [qs_ct_letter hL hCF e8 (d2 e8) hi, ← e10]
              obtain ⟨f', rfl⟩ : ∃ f', f = f' + 1 := ⟨f - 1, by omega⟩
              exact fin f' _
            · obtain ⟨x', hx'⟩ : ∃ x', qs_kd lf rt x s = 8 + x' := ⟨qs_kd lf rt x s - 8, by omega⟩
              rw [hx'] at hag2 ⊢
              rw [qs_ct_node hL hCF (show x' < N by omega) hi, show nI (8 + x') - 8 = nI x' from (pk_sub (a := 8 + x') (b := 8) (by omega)).trans (by rw [Nat.add_sub_cancel_left])]
              exact ih x' (by omega) hag2 (by omega)
          refine ⟨vp_in_nI (by omega) (by decide), ?_⟩
          rw [nI_clamp (show c < 2 ^ 31 by omega), q1, q2]
          obtain ⟨m1, m2⟩ := c2 (8 + x)
          refine pk_le (len c) (len (8 + x)) (fun z => absurd z (by omega)) (fun _ => ⟨vp_in_nI (by omega) (by decide), ?_⟩)
          rw [qs_tb (by omega) (by omega)]
          have hrow := hR x hx i hi
          have hle2 : qs_ct (fun j => qs_U w len cb x j && qs_D w len cb x j) i ≤ qs_ct (qs_U w len cb x) i := by
            rw [← hrow]
            exact qs_ct_le _ _
          cases hs : (cb c).testBit (len (8 + x)) with
          | false =>
            refine br_t rfl (qs_onesBefore (14 + x) (qs_ct (qs_U w len cb x) i) (hS _ (by omega)) (by omega) (by omega) (nI_add 14 x) rfl (br_t rfl (br_t rfl ⟨vp_in_nI (by omega) (by decide), nm_e (nm_e (next false _ _ hs ?_ ?_))⟩)))
            · rw [hrow, pk_sub hle2, qs_kd_ct hCF hx, if_neg (by decide)]
            · rw [nI_clamp (by omega), k1]
              rfl
          | true =>
            refine br_f (by decide) (qs_onesBefore (14 + x) (qs_ct (qs_U w len cb x) i) (hS _ (by omega)) (by omega) (by omega) (nI_add 14 x) rfl (br_f (by decide) (br_f (by decide) ⟨vp_in_nI (by omega) (by decide), nm_e (nm_e (next true _ _ hs ?_ ?_))⟩)))
            · rw [hrow, qs_kd_ct hCF hx, if_pos rfl]
            · rw [nI_clamp (by omega), k2]
              rfl
      have hCF : qs_CF n w N S lf rt len cb := ⟨c1, c2, c3, c4, by assumption⟩
      have t := lp (N + 1) (N - 1) (by omega) (qs_root_all hCF (by omega) c) (by omega)
      rw [← qs_ct_node hL hCF (show N - 1 < N by omega) hi, qs_ct_all (fun j _ => qs_root_all hCF (by omega) (w j)), (c4 (by omega)).1] at t
      rw [show nI N - 1 = nI (N - 1) from pk_sub (a := N) (b := 1) (by omega)]
      exact ⟨N + 1, t⟩
theorem qs_atInCodes {n : Nat} {w : Nat → Nat} {N S : Nat} {lf rt len cb : Nat → Nat} {post : Int32 → Prop} {p0 : Int32} (i : Nat) (hC : qs_CF n w N S lf rt len cb) (hk : ∀ x, x < N → a22 x = nI (lf x) ∧ a23 x = nI (rt x))
    (hR : qs_NF n w len cb N (qs_gr a5)) (hS : ∀ r, r < 21 → qs_sumr a5 a6 a7 r) (hL : qs_L n w a1) (hnd : nd = nI N) (hi : i < n) (h0 : p0 = nI i) (H : post (nI (w i))) : wpX_atInCodes post (nn, ip, rc, nd, cs, a1, a2, a3, a4, a5, a6, a7, a8, a9, a10, a11, a12, a13, a14, a15, a16, a17, a18, a19, a20, a21, a22, a23, a24, a25, a26, a27) p0 := by
  subst h0
  subst hnd
  have hn := hL.1
  obtain ⟨w8, aw⟩ := hL.2.1 i hi
  have lc := (qs_live hL hi).2
  have c1 := hC.1
  have fin : ∀ f x y, wX_atInCodes_28 post nn ip rc (nI N) cs a1 a2 a3 a4 a5 a6 a7 a8 a9 a10 a11 a12 a13 a14 a15 a16 a17 a18 a19 a20 a21 a22 a23 a24 a25 a26 a27 (f + 1) x y (nI (w i)) := fun f x y => br_t (nI_pos' (by omega)) H
  refine nm_e (pk_eq N 0 (fun e => ⟨vp_in_nI (by omega) (by decide), nm_r (e' := nI (w i)) ?_ ⟨1, fin 0 _ _⟩⟩) (fun e => ?_))
  · rw [nI_clamp (by omega), aw]
  · have lp : ∀ f x, x < N → qs_ag len cb (8 + x) (w i) = true → x + 1 < f → wX_atInCodes_28 post nn ip rc (nI N) cs a1 a2 a3 a4 a5 a6 a7 a8 a9 a10 a11 a12 a13 a14 a15 a16 a17 a18 a19 a20 a21 a22 a23 a24 a25 a26 a27 f (nI x) (nI (qs_ct (qs_U w len cb x) i)) (-1) := by
      intro f
      induction f with
      | zero => intro x _ _ h; exact absurd h (by omega)
      | succ f ih =>
        intro x hx hag hf
        have hU := hag
        rw [qs_ag_node hC hx w8 lc] at hU
        have hU' : qs_U w len cb x i = true := hU
        obtain ⟨k1, k2⟩ := hk x hx
        have hle := qs_ct_le (qs_U w len cb x) i
        have hrow := hR x hx i (by omega)
        have hrow2 := hR x hx (i + 1) (by omega)
        have hle2 : qs_ct (fun j => qs_U w len cb x j && qs_D w len cb x j) i ≤ qs_ct (qs_U w len cb x) i := by
          rw [← hrow]
          exact qs_ct_le _ _
        have hbit : qs_gr a5 (14 + x) (qs_ct (qs_U w len cb x) i) = (cb (w i)).testBit (len (8 + x)) := by
          rw [qs_ctT hU', qs_ctS, hrow, qs_ctS] at hrow2
          try dsimp only at hrow2
          rw [hU', Bool.true_and] at hrow2
          unfold qs_D at hrow2
          have h5 : (qs_gr a5 (14 + x) (qs_ct (qs_U w len cb x) i)).toNat = ((cb (w i)).testBit (len (8 + x))).toNat := by
            have : ∀ a b c : Nat, a + b = a + c → b = c := fun a b c h => by omega
            exact this _ _ _ hrow2
          revert h5
          cases qs_gr a5 (14 + x) (qs_ct (qs_U w len cb x) i) <;> cases (cb (w i)).testBit (len (8 + x)) <;> intro h5 <;> first | rfl | exact absurd h5 (by decide)
        have next : ∀ (s : Bool) (v x7 : Int32), (cb (w i)).testBit (len (8 + x)) = s → v = nI (qs_ct (fun j => qs_ag len cb (qs_kd lf rt x s) (w j)) i) → x7 = nI (qs_kd lf rt x s) → wX_atInCodes_91 post (wX_atInCodes_28 post nn ip rc (nI N) cs a1 a2 a3 a4 a5 a6 a7 a8 a9 a10 a11 a12 a13 a14 a15 a16 a17 a18 a19 a20 a21 a22 a23 a24 a25 a26 a27 f) x7 v nn ip rc (nI N) cs a1 a2 a3 a4 a5 a6 a7 a8 a9 a10 a11 a12 a13 a14 a15 a16 a17 a18 a19 a20 a21 a22 a23 a24 a25 a26 a27 := by
          intro s v x7 hs hv hx7
          obtain ⟨d1, d2, d3⟩ := qs_kd_lt hC hx s
          have hag2 := qs_kd_ag hC hx s (w i)
          rw [hU, hs, beq_self_eq_true] at hag2
          rw [hv, hx7]
          refine pk_le 8 (qs_kd lf rt x s) (fun e8 => ?_) (fun e8 => ?_)
          · obtain ⟨x', hx'⟩ : ∃ x', qs_kd lf rt x s = 8 + x' := ⟨qs_kd lf rt x s - 8, by omega⟩
            rw [hx'] at hag2 ⊢
            rw [qs_ct_node hL hC (show x' < N by omega) (by omega)]
            exact nm_r ((pk_sub (a := 8 + x') (b := 8) (by omega)).trans (by rw [Nat.add_sub_cancel_left])) (ih x' (by omega) hag2 (by omega))
          · have e9 := qs_ag_letter hC e8 w8 (d2 e8) lc
            rw [hag2] at e9
            have e10 : w i = qs_kd lf rt x s := of_decide_eq_true e9.symm
            rw [← e10]
            obtain ⟨f', rfl⟩ : ∃ f', f = f' + 1 := ⟨f - 1, by omega⟩
            exact nm_e (fin f' _ _)
        refine br_f (by decide) (qs_bitAt (14 + x) (qs_ct (qs_U w len cb x) i) (by omega) (by omega) (nI_add 14 x) rfl (qs_onesBefore (14 + x) (qs_ct (qs_U w len cb x) i) (hS _ (by omega)) (by omega) (by omega) (nI_add 14 x) rfl ?_))
        rw [hbit, hrow, nI_clamp (by omega), k1, k2]
        cases hs : (cb (w i)).testBit (len (8 + x)) with
        | false =>
          refine br_t rfl ⟨vp_in_nI (by omega) (by decide), br_t rfl (next false _ _ hs ?_ rfl)⟩
          rw [pk_sub hle2, qs_kd_ct hC hx, if_neg (by decide)]
        | true =>
          refine br_f (by decide) ⟨vp_in_nI (by omega) (by decide), br_f (by decide) (next true _ _ hs ?_ rfl)⟩
          rw [qs_kd_ct hC hx, if_pos rfl]
    have t := lp (N + 1) (N - 1) (by omega) (qs_root_all hC (by omega) (w i)) (by omega)
    rw [← qs_ct_node hL hC (show N - 1 < N by omega) (Nat.le_of_lt hi), qs_ct_all (fun j _ => qs_root_all hC (by omega) (w j))] at t
    rw [show nI N - 1 = nI (N - 1) from pk_sub (a := N) (b := 1) (by omega)]
    exact ⟨N + 1, t⟩
end
end
section
section
variable {nn ip rc nd cs : Int32} {a1 a2 a3 a4 a5 a6 a7 a8 a9 a10 a11 a12 a13 a14 a15 a16 a17 a18 a19 a20 a21 a22 a23 a24 a25 a26 a27 : Nat → Int32}
/-! all is packed -/
def qs_PK (n : Nat) (w : Nat → Nat) (u : St1) : Prop := match u with
  | (nn, ip, rc, nd, cs, a1, a2, a3, a4, a5, a6, a7, a8, a9, a10, a11, a12, a13, a14, a15, a16, a17, a18, a19, a20, a21, a22, a23, a24, a25, a26, a27) => nn = nI n ∧ ip = 1 ∧ qs_L n w a1 ∧ qs_ch a16 ∧ (∀ c, c < 8 → a2 c = nI (qs_rk w c n)) ∧ (∀ r, r < 21 → qs_sumr a5 a6 a7 r) ∧ qs_TF n w (qs_gr a5) ∧ (∃ s, qs_MF n w (qs_gr a5) a8 s)
    ∧ (∀ c, c < 8 → ∀ i, i < 224 → qs_gr a5 (6 + c) i = decide (w i = c)) ∧ qs_PF n w a9 a10 a11 a12 8 ∧ qs_BF w a13 a14 a15 240 ∧ (∃ m st, rc = nI m ∧ qs_RF n w m st a17 a18 a19 a20 a21)
    ∧ (∃ N S lf rt len cb, nd = nI N ∧ cs = nI S ∧ qs_CF n w N S lf rt len cb ∧ (∀ x, x < N → a22 x = nI (lf x) ∧ a23 x = nI (rt x)) ∧ (∀ t, t < 16 → a26 t = nI (len t) ∧ a27 t = nI (cb t)) ∧ qs_NF n w len cb N (qs_gr a5))
/-- the list is w; it is packed, or it isn't -/
def qs_ok (n : Nat) (w : Nat → Nat) (u : St1) : Prop := (match u with
  | (nn, ip, rc, nd, cs, a1, a2, a3, a4, a5, a6, a7, a8, a9, a10, a11, a12, a13, a14, a15, a16, a17, a18, a19, a20, a21, a22, a23, a24, a25, a26, a27) => nn = nI n ∧ ip = 0 ∧ qs_L n w a1 ∧ qs_ch a16) ∨ qs_PK n w u
theorem qs_TF_congr {n : Nat} {w : Nat → Nat} {R R' : Nat → Nat → Bool} (hn : n ≤ 200) (h : qs_TF n w R) (e : ∀ l, l < 3 → ∀ i, i < 224 → R' l i = R l i) : qs_TF n w R' := by
  intro l hl p hp i hi
  have hle := qs_A_le n w l (p := p) hi
  rw [← h l hl p hp i hi]
  exact qs_ct_congr (fun j hj => e l hl j (by omega))
theorem qs_MF_congr {n : Nat} {w : Nat → Nat} {R R' : Nat → Nat → Bool} {a8 : Nat → Int32} {s : Nat → Nat → Nat} (hn : n ≤ 200) (h : qs_MF n w R a8 s) (e : ∀ l, l < 3 → ∀ i, i < 224 → R' (3 + l) i = R (3 + l) i) : qs_MF n w R' a8 s := by
  obtain ⟨h1, h2, h3⟩ := h
  refine ⟨h1, fun l hl => ?_, h3⟩
  obtain ⟨k1, k2, k3⟩ := h2 l hl
  exact ⟨fun i hi => by rw [e l hl i (by omega)]; exact k1 i hi, k2, k3⟩
theorem qs_sumr_keep {a5 a6 a7 b6 b7 : Nat → Int32} {r r' : Nat} (h : qs_sumr a5 a6 a7 r') (hne : r' ≠ r) (h6 : ∀ j, j / 8 ≠ r → b6 j = a6 j) (h7 : ∀ j, j / 28 ≠ r → b7 j = a7 j) : qs_sumr a5 b6 b7 r' := by
  obtain ⟨k1, k2⟩ := h
  refine ⟨fun k hk => ?_, fun k hk => ?_⟩
  · rw [h6 _ (by omega)]
    exact k1 k hk
  · rw [h7 _ (by omega)]
    exact k2 k hk
theorem qs_pk101 {post : St1 → Prop} {n : Nat} {w : Nat → Nat} (hL : qs_L n w a1) (hC : qs_ch a16) (h2 : ∀ c, c < 8 → a2 c = nI (qs_rk w c n))
    (H : ∀ m st b6 b7 b9 b10 b11 b12 b13 b14 b15 b17 b18 b19 b20 b21, (∀ r, r < 21 → qs_sumr a5 b6 b7 r) → qs_PF n w b9 b10 b11 b12 8 → qs_BF w b13 b14 b15 240 → qs_RF n w m st b17 b18 b19 b20 b21 →
      post (nI n, 1, nI m, nd, cs, a1, a2, a3, a4, a5, b6, b7, a8, b9, b10, b11, b12, b13, b14, b15, a16, b17, b18, b19, b20, b21, a22, a23, a24, a25, a26, a27)) :
    ∃ f, wX_pack_101 post f 0 (nI n) ip rc nd cs a1 a2 a3 a4 a5 a6 a7 a8 a9 a10 a11 a12 a13 a14 a15 a16 a17 a18 a19 a20 a21 a22 a23 a24 a25 a26 a27 := by
  refine loop_0 (fun f r (t : (Nat → Int32) × (Nat → Int32)) => wX_pack_101 post f (nI r) (nI n) ip rc nd cs a1 a2 a3 a4 a5 t.1 t.2 a8 a9 a10 a11 a12 a13 a14 a15 a16 a17 a18 a19 a20 a21 a22 a23 a24 a25 a26 a27) (fun r t => ∀ r', r' < r → qs_sumr a5 t.1 t.2 r') 21 (a6, a7) (fun r' hr' => absurd hr' (by omega)) ?_ ?_
  · intro f t hI
    refine pk_le 21 21 (fun _ => ?_) (fun z => absurd z (by omega))
    refine qs_packParts hL h2 (fun b9 b10 b11 b12 hP => ?_)
    refine qs_packBlocks hL hC (fun b13 b14 b15 hB => ?_)
    refine qs_packRuns hL (fun m st b17 b18 b19 b20 b21 hR => ?_)
    exact H m st t.1 t.2 b9 b10 b11 b12 b13 b14 b15 b17 b18 b19 b20 b21 hI hP hB hR
  · intro f r t hr hI hw
    refine pk_le 21 r (fun z => absurd z (by omega)) (fun _ => qs_sumRow r hr rfl (fun b6 b7 g1 g2 g3 => nm_r (nI_1 r) (hw (b6, b7) (fun r' hr' => ?_))))
    by_cases e : r' = r
    · rw [e]
      exact g1
    · exact qs_sumr_keep (hI r' (by omega)) e g2 g3
theorem qs_pack {n : Nat} {w : Nat → Nat} {post : St1 → Prop} {u : St1} (h : qs_ok n w u) (H : ∀ u', qs_PK n w u' → post u') : wpX_pack post u := by
  obtain ⟨nn, ip, rc, nd, cs, a1, a2, a3, a4, a5, a6, a7, a8, a9, a10, a11, a12, a13, a14, a15, a16, a17, a18, a19, a20, a21, a22, a23, a24, a25, a26, a27⟩ := u
  rcases h with h | h
  · obtain ⟨e1, e2, hL, hC⟩ := h
    subst e1
    subst e2
    have hn := hL.1
    have cnt : ∀ c5, (∀ q, q < 4704 → qs_gb c5 q = false) → ∀ c2, (∀ c, c < 8 → c2 c = 0) → ∃ f, wX_pack_53 post (nI n) 0 rc nd cs f 0 a1 c2 a3 a4 c5 a6 a7 a8 a9 a10 a11 a12 a13 a14 a15 a16 a17 a18 a19 a20 a21 a22 a23 a24 a25 a26 a27 := by
      intro c5 h5 c2 hc2
      refine loop_0 (fun f i s => wX_pack_53 post (nI n) 0 rc nd cs f (nI i) a1 s a3 a4 c5 a6 a7 a8 a9 a10 a11 a12 a13 a14 a15 a16 a17 a18 a19 a20 a21 a22 a23 a24 a25 a26 a27) (fun i s => ∀ c, c < 8 → s c = nI (qs_rk w c i)) n c2 (fun c hc => hc2 c hc) ?_ ?_
      · intro f s hI
        refine pk_le n n (fun _ => ?_) (fun z => absurd z (by omega))
        refine qs_packTree hL (fun q hq => h5 q (by omega)) (fun d1 t1 t2 => ?_)
        refine qs_packMatrix hL (fun q q1 q2 => by rw [t2 q q1]; exact h5 q (by omega)) (fun d3 d4 d5 d8 sM m1 m2 => ?_)
        refine qs_packMaps hL (fun q q1 q2 => by rw [m2 q (by omega), t2 q (by omega)]; exact h5 q (by omega)) (fun d6 p1 p2 => ?_)
        refine qs_packCodes hL hI (fun q q1 q2 => by rw [p2 q (by omega), m2 q (by omega), t2 q (by omega)]; exact h5 q (by omega)) (fun N S lf rt len cb d7 b22 b23 b24 b25 b26 b27 k1 k2 k3 k4 k5 => ?_)
        refine qs_pk101 hL hC hI (fun m st b6 b7 b9 b10 b11 b12 b13 b14 b15 b17 b18 b19 b20 b21 g1 g2 g3 g4 => H _ ⟨rfl, rfl, hL, hC, hI, g1, qs_TF_congr hn t1 (fun l hl i hi => ?_), ⟨sM, qs_MF_congr hn m1 (fun l hl i hi => ?_)⟩, fun c hc i hi => ?_, g2, g3, ⟨m, st, rfl, g4⟩, ⟨N, S, lf, rt, len, cb, rfl, rfl, k1, k2, k3, k4⟩⟩)
        · unfold qs_gr
          rw [k5 _ (by omega), p2 _ (by omega), m2 _ (by omega)]
        · unfold qs_gr
          rw [k5 _ (by omega), p2 _ (by omega)]
        · rw [← p1 c hc i hi]
          unfold qs_gr
          exact k5 _ (by omega)
      · intro f i s hi hI hw
        refine pk_le n i (fun z => absurd z (by omega)) (fun _ => ?_)
        obtain ⟨w8, aw⟩ := hL.2.1 i hi
        have hle := qs_rk_le w (w i) i
        rw [nI_clamp (show i < 2 ^ 31 by omega), aw, nI_clamp (show w i < 2 ^ 31 by omega), hI _ w8, nI_1, qs_s16 _ (by omega)]
        refine ⟨vp_in_nI (by omega) (by decide), vp_in_nI (by omega) (by decide), vp_in_nI (by omega) (by decide), nm_e (nm_r (nI_1 i) (hw _ (fun c hc => ?_)))⟩
        by_cases e : c = w i
        · rw [e, pk_us, qs_rk_S rfl]
        · rw [pk_un e, qs_rk_N (fun z => e z.symm)]
          exact hI c hc
    have clr : ∀ c5, (∀ q, q < 4704 → qs_gb c5 q = false) → ∃ f, wX_pack_32 post (nI n) 0 rc nd cs f 0 a1 a2 a3 a4 c5 a6 a7 a8 a9 a10 a11 a12 a13 a14 a15 a16 a17 a18 a19 a20 a21 a22 a23 a24 a25 a26 a27 := by
      intro c5 h5
      refine loop_0 (fun f i s => wX_pack_32 post (nI n) 0 rc nd cs f (nI i) a1 s a3 a4 c5 a6 a7 a8 a9 a10 a11 a12 a13 a14 a15 a16 a17 a18 a19 a20 a21 a22 a23 a24 a25 a26 a27) (fun i s => ∀ c, c < i → s c = 0) 8 a2 (fun c hc => absurd hc (by omega)) ?_ ?_
      · intro f s hI
        exact pk_le 8 8 (fun _ => cnt c5 h5 s hI) (fun z => absurd z (by omega))
      · intro f i s hi hI hw
        refine pk_le 8 i (fun z => absurd z (by omega)) (fun _ => ?_)
        rw [nI_clamp (show i < 2 ^ 31 by omega)]
        refine ⟨vp_in_nI (by omega) (by decide), nm_e (nm_r (nI_1 i) (hw _ (fun c hc => ?_)))⟩
        by_cases e : c = i
        · rw [e, pk_us]
        · rw [pk_un e]
          exact hI c (by omega)
    refine br_t rfl ?_
    refine loop_0 (fun f i s => wX_pack_10 post (nI n) 0 rc nd cs f (nI i) a1 a2 a3 a4 s a6 a7 a8 a9 a10 a11 a12 a13 a14 a15 a16 a17 a18 a19 a20 a21 a22 a23 a24 a25 a26 a27) (fun i s => ∀ q, q < i * 32 → qs_gb s q = false) 147 a5 (fun q hq => absurd hq (by omega)) ?_ ?_
    · intro f s hI
      exact pk_le 147 147 (fun _ => clr s (fun q hq => hI q (by omega))) (fun z => absurd z (by omega))
    · intro f i s hi hI hw
      refine pk_le 147 i (fun z => absurd z (by omega)) (fun _ => ?_)
      rw [nI_clamp (show i < 2 ^ 31 by omega)]
      refine ⟨vp_in_nI (by omega) (by decide), nm_e (nm_r (nI_1 i) (hw _ (fun q hq => ?_)))⟩
      rw [qs_gb_0]
      by_cases e : q / 32 = i
      · rw [if_pos e]
      · rw [if_neg e]
        exact hI q (by omega)
  · have e2 : ip = 1 := h.2.1
    exact br_f (by rw [e2]; decide) (H _ h)
end
end
section
section
variable {nn ip rc nd cs : Int32} {a1 a2 a3 a4 a5 a6 a7 a8 a9 a10 a11 a12 a13 a14 a15 a16 a17 a18 a19 a20 a21 a22 a23 a24 a25 a26 a27 : Nat → Int32}
/-! the readers, by engine -/
theorem qs_isEngine {post : Int32 → Prop} {u : St2} {p0 : Int32} (e : Nat) (he : e < 7) (h0 : p0 = nI e) (H : post 1) : wpX_isEngine post u p0 := by
  subst h0
  exact br_f (nI_pos (by omega)) (pk_le 7 e (fun z => absurd z (by omega)) (fun _ => H))
theorem qs_isLetter {post : Int32 → Prop} {u : St2} {p0 : Int32} (c : Nat) (hc : c < 8) (h0 : p0 = nI c) (H : post 1) : wpX_isLetter post u p0 := by
  subst h0
  exact br_f (nI_pos (by omega)) (pk_le 8 c (fun z => absurd z (by omega)) (fun _ => H))
theorem qs_isRange {post : Int32 → Prop} {p0 p1 : Int32} (n i j : Nat) (hn : n ≤ 200) (hnn : nn = nI n) (hi : i ≤ j) (hj : j ≤ n) (h0 : p0 = nI i) (h1 : p1 = nI j) (H : post 1) : wpX_isRange post (nn, ip, rc, nd, cs, a1, a2, a3, a4, a5, a6, a7, a8, a9, a10, a11, a12, a13, a14, a15, a16, a17, a18, a19, a20, a21, a22, a23, a24, a25, a26, a27) p0 p1 := by
  subst h0
  subst h1
  subst hnn
  exact br_f (nI_pos (by omega)) (pk_lt j i (fun z => absurd z (by omega)) (fun _ => pk_lt n j (fun z => absurd z (by omega)) (fun _ => H)))
theorem qs_map_ct {n : Nat} {w : Nat → Nat} {a5 : Nat → Int32} (h : ∀ c, c < 8 → ∀ i, i < 224 → qs_gr a5 (6 + c) i = decide (w i = c)) {c i : Nat} (hc : c < 8) (hi : i < 224) : qs_ct (qs_gr a5 (6 + c)) i = qs_rk w c i :=
  qs_ct_congr (fun j hj => h c hc j (by omega))
theorem qs_rankBy {n : Nat} {w : Nat → Nat} {post : Int32 → Prop} {u : St1} {p0 p1 p2 : Int32} (e c i : Nat) (h : qs_PK n w u) (he : e < 7) (hc : c < 8) (hi : i ≤ n) (h0 : p0 = nI e) (h1 : p1 = nI c) (h2 : p2 = nI i) (H : post (nI (qs_rk w c i))) :
    wpX_rankBy post u p0 p1 p2 := by
  obtain ⟨nn, ip, rc, nd, cs, a1, a2, a3, a4, a5, a6, a7, a8, a9, a10, a11, a12, a13, a14, a15, a16, a17, a18, a19, a20, a21, a22, a23, a24, a25, a26, a27⟩ := u
  obtain ⟨e1, e2, hL, hC, hN, hS, hT, ⟨s, hM⟩, hB, hP, hK, ⟨m, st, hm, hR⟩, ⟨N, S, lf, rt, len, cb, hnd, hcs, hF, hk, hp, hNF⟩⟩ := h
  subst h0
  have hn := hL.1
  refine br_f (nI_pos (by omega)) (pk_lt 5 e (fun _ => qs_rankInCodes c i hF hk hp hNF hS hL (hN c hc) hnd hc hi h1 h2 H) (fun _ => ?_))
  refine pk_eq e 0 (fun _ => qs_rankInTree c i hT hS hL hc hi e1 h1 h2 H) (fun z0 => ?_)
  refine pk_eq e 1 (fun _ => qs_rankInMatrix c i hM hS hL hc hi h1 h2 H) (fun z1 => ?_)
  refine pk_eq e 2 (fun _ => ?_) (fun z2 => ?_)
  · refine qs_onesBefore (6 + c) i (hS _ (by omega)) (by omega) (by omega) (by rw [h1]; exact nI_add 6 c) h2 ?_
    rw [qs_map_ct (n := n) hB hc (by omega)]
    exact H
  refine pk_eq e 3 (fun _ => qs_rankInParts c i hP hn (hN c hc) hc hi h1 h2 H) (fun z3 => ?_)
  refine pk_eq e 4 (fun _ => qs_rankInBlocks c i hK hC hn hc hi h1 h2 H) (fun z4 => ?_)
  exact pk_eq e 5 (fun _ => qs_rankInRuns c i hR hL hm hc hi h1 h2 H) (fun _ => trivial)
theorem qs_PK_core {n : Nat} {w : Nat → Nat} {u : St1} (h : qs_PK n w u) : n ≤ 200 ∧ (∀ i, i < n → w i < 8) ∧ (∀ i, i ≤ n → qs_bl w 8 i = i) := by
  obtain ⟨nn, ip, rc, nd, cs, a1, a2, a3, a4, a5, a6, a7, a8, a9, a10, a11, a12, a13, a14, a15, a16, a17, a18, a19, a20, a21, a22, a23, a24, a25, a26, a27⟩ := u
  obtain ⟨_, _, hL, _⟩ := h
  exact ⟨hL.1, fun i hi => (hL.2.1 i hi).1, fun i hi => qs_bl8 hL hi⟩
theorem qs_atByRanks {n : Nat} {w : Nat → Nat} {post : Int32 → Prop} {p0 p1 : Int32} (e i : Nat) (h : qs_PK n w (nn, ip, rc, nd, cs, a1, a2, a3, a4, a5, a6, a7, a8, a9, a10, a11, a12, a13, a14, a15, a16, a17, a18, a19, a20, a21, a22, a23, a24, a25, a26, a27)) (he : e < 7) (hi : i < n) (h0 : p0 = nI e) (h1 : p1 = nI i) (H : post (nI (w i))) : wpX_atByRanks post (nn, ip, rc, nd, cs, a1, a2, a3, a4, a5, a6, a7, a8, a9, a10, a11, a12, a13, a14, a15, a16, a17, a18, a19, a20, a21, a22, a23, a24, a25, a26, a27) p0 p1 := by
  subst h0
  subst h1
  obtain ⟨hn, h8, _⟩ := qs_PK_core h
  have w8 := h8 i hi
  show ∃ f, wX_atByRanks_5 post (nI e) (nI i) nn ip rc nd cs a1 a2 a3 a4 a5 a6 a7 a8 a9 a10 a11 a12 a13 a14 a15 a16 a17 a18 a19 a20 a21 a22 a23 a24 a25 a26 a27 f 0 0
  refine loop_0 (σ := Unit) (fun f c _ => wX_atByRanks_5 post (nI e) (nI i) nn ip rc nd cs a1 a2 a3 a4 a5 a6 a7 a8 a9 a10 a11 a12 a13 a14 a15 a16 a17 a18 a19 a20 a21 a22 a23 a24 a25 a26 a27 f (nI (if w i < c then w i else 0)) (nI c)) (fun _ _ => True) 8 () trivial ?_ ?_
  · intro f _ _
    refine pk_le 8 8 (fun _ => ?_) (fun z => absurd z (by omega))
    rw [if_pos w8]
    exact H
  · intro f c _ hc _ hw
    have t := hw () trivial
    have r1 := qs_rk_le w c (i + 1)
    have r2 := qs_rk_le w c i
    refine pk_le 8 c (fun z => absurd z (by omega)) (fun _ => qs_rankBy e c i h he hc (by omega) rfl rfl rfl (qs_rankBy e c (i + 1) h he hc (by omega) rfl rfl (nI_1 i) ?_))
    refine pk_le (qs_rk w c (i + 1)) (qs_rk w c i) (fun z => nm_r (nI_1 c) ?_) (fun z => nm_r (nI_1 c) ?_)
    · have ne : w i ≠ c := fun q => by
        have := qs_rk_S q
        omega
      by_cases g : w i < c
      · rw [if_pos (by omega)] at t
        rw [if_pos g]
        exact t
      · rw [if_neg (by omega)] at t
        rw [if_neg g]
        exact t
    · have eq : w i = c := by
        by_cases q : w i = c
        · exact q
        · have := qs_rk_N q
          omega
      rw [if_pos (by omega), eq] at t
      exact t
theorem qs_atBy {n : Nat} {w : Nat → Nat} {post : Int32 → Prop} {u : St1} {p0 p1 : Int32} (e i : Nat) (h : qs_PK n w u) (he : e < 7) (hi : i < n) (h0 : p0 = nI e) (h1 : p1 = nI i) (H : post (nI (w i))) : wpX_atBy post u p0 p1 := by
  obtain ⟨nn, ip, rc, nd, cs, a1, a2, a3, a4, a5, a6, a7, a8, a9, a10, a11, a12, a13, a14, a15, a16, a17, a18, a19, a20, a21, a22, a23, a24, a25, a26, a27⟩ := u
  have h' := h
  obtain ⟨e1, e2, hL, hC, hN, hS, hT, ⟨s, hM⟩, hB, hP, hK, ⟨m, st, hm, hR⟩, ⟨N, S, lf, rt, len, cb, hnd, hcs, hF, hk, hp, hNF⟩⟩ := h
  subst h0
  have hn := hL.1
  refine pk_eq e 0 (fun _ => qs_atInTree i hT hS hL hi e1 h1 H) (fun z0 => ?_)
  refine pk_eq e 1 (fun _ => qs_atInMatrix i hM hS hL hi h1 H) (fun z1 => ?_)
  refine pk_eq e 6 (fun _ => qs_atInCodes i hF hk hNF hS hL hnd hi h1 H) (fun z6 => ?_)
  refine pk_eq e 5 (fun _ => ?_) (fun z5 => qs_atByRanks e i h' he hi rfl h1 H)
  refine qs_runBeforePlace (i + 1) hR hn hm (by omega) (by rw [h1]; exact nI_1 i) (fun z => absurd z (by omega)) (fun r r1 r2 r3 => ?_)
  obtain ⟨g1, g2, g3, g4, g5, g6, g7, g8, g9⟩ := hR
  rw [nI_clamp (by omega), (g8 r r1).1, ← g5 r r1 i (by omega) (by omega)]
  exact ⟨vp_in_nI (by omega) (by decide), H⟩
theorem qs_selectByRanks {n : Nat} {w : Nat → Nat} {post : Int32 → Prop} {p0 p1 p2 : Int32} (e c k q : Nat) (h : qs_PK n w (nn, ip, rc, nd, cs, a1, a2, a3, a4, a5, a6, a7, a8, a9, a10, a11, a12, a13, a14, a15, a16, a17, a18, a19, a20, a21, a22, a23, a24, a25, a26, a27)) (he : e < 7) (hc8 : c < 8) (hq : q < n) (hc : w q = c) (hk : qs_rk w c q = k) (h0 : p0 = nI e) (h1 : p1 = nI c) (h2 : p2 = nI k) (H : post (nI q)) :
    wpX_selectByRanks post (nn, ip, rc, nd, cs, a1, a2, a3, a4, a5, a6, a7, a8, a9, a10, a11, a12, a13, a14, a15, a16, a17, a18, a19, a20, a21, a22, a23, a24, a25, a26, a27) p0 p1 p2 := by
  have e1 : nn = nI n := h.1
  subst h0
  subst h1
  subst h2
  subst e1
  obtain ⟨hn, h8, _⟩ := qs_PK_core h
  have hkq := qs_rk_le w c q
  refine ⟨n + 1, qs_bs (fun f lo hi => wX_selectByRanks_9 post (nI e) (nI c) (nI k) (nI n) ip rc nd cs a1 a2 a3 a4 a5 a6 a7 a8 a9 a10 a11 a12 a13 a14 a15 a16 a17 a18 a19 a20 a21 a22 a23 a24 a25 a26 a27 f lo hi) q n ?_ ?_ (n + 1) 0 n (by omega) (by omega) (by omega) (by omega)⟩
  · intro f
    exact pk_le q q (fun _ => H) (fun z => absurd z (by omega))
  · intro f lo hi m g1 g2 g3 hm hA hB
    refine pk_le hi lo (fun z => absurd z (by omega)) (fun _ => ⟨by decide, nm_r (qs_half (by omega) (by omega) hm) (qs_rankBy e c (m + 1) h he hc8 (by omega) rfl rfl (nI_1 m) ?_)⟩)
    have hle := qs_rk_le w c (m + 1)
    refine pk_lt k (qs_rk w c (m + 1)) (fun z => ?_) (fun z => ?_)
    · have : q ≤ m := by
        rcases Nat.lt_or_ge m q with y | y
        · have := qs_rk_mono w c (show m + 1 ≤ q by omega)
          omega
        · exact y
      exact br_t rfl (br_t rfl (hB this))
    · have : m < q := by
        rcases Nat.lt_or_ge m q with y | y
        · exact y
        · have := qs_rk_lt hc (show q < m + 1 by omega)
          omega
      have t := hA this
      rw [← nI_1] at t
      exact br_f (by decide) (br_f (by decide) t)
theorem qs_mapPlace {n : Nat} {w : Nat → Nat} {post : Int32 → Prop} {p0 p2 : Int32} (c k q : Nat) (h : qs_PK n w (nn, ip, rc, nd, cs, a1, a2, a3, a4, a5, a6, a7, a8, a9, a10, a11, a12, a13, a14, a15, a16, a17, a18, a19, a20, a21, a22, a23, a24, a25, a26, a27)) (hc8 : c < 8) (hq : q < n) (hc : w q = c) (hk : qs_rk w c q = k) (h0 : p0 = nI (6 + c)) (h2 : p2 = nI k) (H : post (nI q)) : wpX_placeOfBit post (nn, ip, rc, nd, cs, a1, a2, a3, a4, a5, a6, a7, a8, a9, a10, a11, a12, a13, a14, a15, a16, a17, a18, a19, a20, a21, a22, a23, a24, a25, a26, a27) p0 1 p2 := by
  obtain ⟨e1, e2, hL, hC, hN, hS, hT, ⟨s, hM⟩, hB, _⟩ := h
  have hn := hL.1
  refine qs_placeOfBit n (6 + c) k q true (hS _ (by omega)) (by omega) hn e1 h0 rfl h2 hq ?_ ?_ H
  · rw [hB c hc8 q (by omega)]
    exact decide_eq_true hc
  · rw [qs_gz_t, qs_map_ct (n := n) hB hc8 (by omega)]
    exact hk
theorem qs_inRange {n : Nat} {w : Nat → Nat} {post : Int32 → Prop} {u : St1} {p0 p1 p2 p3 : Int32} (e c i j : Nat) (h : qs_PK n w u) (he : e < 7) (hc : c < 8) (hi : i ≤ j) (hj : j ≤ n) (h0 : p0 = nI e) (h1 : p1 = nI c) (h2 : p2 = nI i) (h3 : p3 = nI j)
    (H : post (nI (qs_rk w c j - qs_rk w c i))) : wpX_inRange post u p0 p1 p2 p3 := by
  obtain ⟨nn, ip, rc, nd, cs, a1, a2, a3, a4, a5, a6, a7, a8, a9, a10, a11, a12, a13, a14, a15, a16, a17, a18, a19, a20, a21, a22, a23, a24, a25, a26, a27⟩ := u
  refine qs_rankBy e c i h he hc (by omega) h0 h1 h2 (qs_rankBy e c j h he hc hj h0 h1 h3 ?_)
  rw [pk_sub (qs_rk_mono w c hi)]
  exact H
theorem qs_bl_imono (w : Nat → Nat) (c : Nat) {i j : Nat} (h : i ≤ j) : qs_bl w c i ≤ qs_bl w c j := qs_ct_mono _ h
theorem qs_belowBy {n : Nat} {w : Nat → Nat} {post : Int32 → Prop} {u : St1} {p0 p1 p2 p3 : Int32} (e i j c : Nat) (h : qs_PK n w u) (he : e < 7) (hc : c ≤ 8) (hi : i ≤ j) (hj : j ≤ n) (h0 : p0 = nI e) (h1 : p1 = nI i) (h2 : p2 = nI j) (h3 : p3 = nI c)
    (H : post (nI (qs_bl w c j - qs_bl w c i))) : wpX_belowBy post u p0 p1 p2 p3 := by
  obtain ⟨nn, ip, rc, nd, cs, a1, a2, a3, a4, a5, a6, a7, a8, a9, a10, a11, a12, a13, a14, a15, a16, a17, a18, a19, a20, a21, a22, a23, a24, a25, a26, a27⟩ := u
  have h' := h
  obtain ⟨hn, h8, hb8⟩ := qs_PK_core h
  obtain ⟨e1, e2, hL, hC, hN, hS, hT, _⟩ := h
  subst h0
  subst h1
  subst h2
  subst h3
  refine pk_eq c 8 (fun z => ?_) (fun z => pk_eq e 0 (fun z2 => ?_) (fun z2 => ?_))
  · rw [z, hb8 i (by omega), hb8 j hj] at H
    rw [pk_sub hi]
    exact H
  · refine qs_belowInTree c i hT hS hL (by omega) (by omega) e1 rfl rfl (qs_belowInTree c j hT hS hL (by omega) hj e1 rfl rfl ?_)
    rw [pk_sub (qs_bl_imono w c hi)]
    exact H
  · have r : ∃ f, wX_belowBy_41 post (nI e) (nI i) (nI j) (nI c) nn ip rc nd cs a1 a2 a3 a4 a5 a6 a7 a8 a9 a10 a11 a12 a13 a14 a15 a16 a17 a18 a19 a20 a21 a22 a23 a24 a25 a26 a27 f (nI (qs_bl w 0 j - qs_bl w 0 i)) (nI 0) := by
      refine loop_0 (σ := Unit) (fun f d _ => wX_belowBy_41 post (nI e) (nI i) (nI j) (nI c) nn ip rc nd cs a1 a2 a3 a4 a5 a6 a7 a8 a9 a10 a11 a12 a13 a14 a15 a16 a17 a18 a19 a20 a21 a22 a23 a24 a25 a26 a27 f (nI (qs_bl w d j - qs_bl w d i)) (nI d)) (fun _ _ => True) c () trivial ?_ ?_
      · intro f _ _
        exact pk_le c c (fun _ => H) (fun z => absurd z (by omega))
      · intro f d _ hd _ hw
        have t := hw () trivial
        have b1 := qs_bl_S w d i
        have b2 := qs_bl_S w d j
        have b3 := qs_bl_imono w d hi
        have b4 := qs_rk_mono w d hi
        refine pk_le c d (fun z => absurd z (by omega)) (fun _ => qs_inRange e d i j h' he (by omega) hi hj rfl rfl rfl rfl (nm_r ?_ (nm_r (nI_1 d) t)))
        rw [nI_add]
        congr 1
        omega
    · have z0 : ∀ x, qs_bl w 0 x = 0 := fun x => qs_ct_zero (fun j _ => decide_eq_false (by omega))
      rw [z0, z0] at r
      exact r
/-! the public methods -/
theorem qs_ok_of {n : Nat} {w : Nat → Nat} {u : St1} (h : qs_PK n w u) : qs_ok n w u := Or.inr h
theorem qs_ok_core {n : Nat} {w : Nat → Nat} (h : qs_ok n w (nn, ip, rc, nd, cs, a1, a2, a3, a4, a5, a6, a7, a8, a9, a10, a11, a12, a13, a14, a15, a16, a17, a18, a19, a20, a21, a22, a23, a24, a25, a26, a27)) : nn = nI n ∧ qs_L n w a1 ∧ qs_ch a16 := by
  rcases h with ⟨h1, h2, h3, h4⟩ | ⟨h1, h2, h3, h4, _⟩
  · exact ⟨h1, h3, h4⟩
  · exact ⟨h1, h3, h4⟩
theorem qs_rank {n : Nat} {w : Nat → Nat} {post : Int32 → St1 → Prop} {u : St1} {p0 p1 p2 : Int32} (e c i : Nat) (h : qs_ok n w u) (he : e < 7) (hc : c < 8) (hi : i ≤ n) (h0 : p0 = nI e) (h1 : p1 = nI c) (h2 : p2 = nI i)
    (H : ∀ u', qs_PK n w u' → post (nI (qs_rk w c i)) u') : wpX_rank post u p0 p1 p2 := by
  obtain ⟨nn, ip, rc, nd, cs, a1, a2, a3, a4, a5, a6, a7, a8, a9, a10, a11, a12, a13, a14, a15, a16, a17, a18, a19, a20, a21, a22, a23, a24, a25, a26, a27⟩ := u
  obtain ⟨k1, k2, k3⟩ := qs_ok_core h
  have hn := k2.1
  subst h2
  unfold wpX_rank
  try dsimp only
  refine qs_isEngine e he h0 (br_f (by decide) (qs_isLetter c hc h1 (br_f (by decide) (br_f (nI_pos (by omega)) (pk_le i n (fun _ => qs_pack h (fun u' hP => ?_)) (fun z => absurd z (by omega)) rfl k1)))))
  have hu := H u' hP
  obtain ⟨nn', ip', rc', nd', cs', a1, a2, a3, a4, a5, a6, a7, a8, a9, a10, a11, a12, a13, a14, a15, a16, a17, a18, a19, a20, a21, a22, a23, a24, a25, a26, a27⟩ := u'
  exact qs_rankBy e c i hP he hc hi h0 h1 rfl hu
theorem qs_at {n : Nat} {w : Nat → Nat} {post : Int32 → St1 → Prop} {u : St1} {p0 p1 : Int32} (e i : Nat) (h : qs_ok n w u) (he : e < 7) (hi : i < n) (h0 : p0 = nI e) (h1 : p1 = nI i)
    (H : ∀ u', qs_PK n w u' → post (nI (w i)) u') : wpX_at post u p0 p1 := by
  obtain ⟨nn, ip, rc, nd, cs, a1, a2, a3, a4, a5, a6, a7, a8, a9, a10, a11, a12, a13, a14, a15, a16, a17, a18, a19, a20, a21, a22, a23, a24, a25, a26, a27⟩ := u
  obtain ⟨k1, k2, k3⟩ := qs_ok_core h
  have hn := k2.1
  subst h1
  unfold wpX_at
  try dsimp only
  refine qs_isEngine e he h0 (br_f (by decide) (br_f (nI_pos (by omega)) (pk_lt i n (fun _ => qs_pack h (fun u' hP => ?_)) (fun z => absurd z (by omega)) rfl k1)))
  have hu := H u' hP
  obtain ⟨nn', ip', rc', nd', cs', a1, a2, a3, a4, a5, a6, a7, a8, a9, a10, a11, a12, a13, a14, a15, a16, a17, a18, a19, a20, a21, a22, a23, a24, a25, a26, a27⟩ := u'
  exact qs_atBy e i hP he hi h0 rfl hu
theorem qs_select {n : Nat} {w : Nat → Nat} {post : Int32 → St1 → Prop} {u : St1} {p0 p1 p2 : Int32} (e c k : Nat) (h : qs_ok n w u) (he : e < 7) (hc : c < 8) (hk : k ≤ 200) (h0 : p0 = nI e) (h1 : p1 = nI c) (h2 : p2 = nI k)
    (H0 : qs_rk w c n ≤ k → ∀ u', qs_PK n w u' → post (-1) u') (H1 : ∀ q u', q < n → w q = c → qs_rk w c q = k → qs_PK n w u' → post (nI q) u') : wpX_select post u p0 p1 p2 := by
  obtain ⟨nn, ip, rc, nd, cs, a1, a2, a3, a4, a5, a6, a7, a8, a9, a10, a11, a12, a13, a14, a15, a16, a17, a18, a19, a20, a21, a22, a23, a24, a25, a26, a27⟩ := u
  refine qs_pack h (fun u' hP => ?_)
  have hu0 := fun z => H0 z u' hP
  have hu1 := fun q a b c => H1 q u' a b c hP
  clear H0 H1 h
  obtain ⟨nn', ip', rc', nd', cs', a1, a2, a3, a4, a5, a6, a7, a8, a9, a10, a11, a12, a13, a14, a15, a16, a17, a18, a19, a20, a21, a22, a23, a24, a25, a26, a27⟩ := u'
  have hP' := hP
  obtain ⟨e1, e2, hL, hC, hN, hS, hT, ⟨s, hM⟩, hB, hPa, hK, ⟨m, st, hm, hR⟩, _⟩ := hP
  have hn := hL.1
  have hle := qs_rk_le w c n
  subst h1
  subst h2
  refine qs_isEngine e he h0 (br_f (by decide) (qs_isLetter c hc rfl (br_f (by decide) (br_f (nI_pos (by omega)) ⟨vp_in_nI (by omega) (by decide), ?_⟩))))
  rw [nI_clamp (by omega), hN c hc]
  subst h0
  refine pk_lt k (qs_rk w c n) (fun z => ?_) (fun z => hu0 z)
  obtain ⟨q, q1, q2, q3⟩ := qs_rk_sel z
  have hq := hu1 q q1 q2 q3
  refine pk_eq e 1 (fun _ => qs_selectInMatrix c k q hM hS hL e1 q1 q2 q3 rfl rfl hq) (fun _ => ?_)
  refine pk_eq e 2 (fun _ => qs_mapPlace c k q hP' hc q1 q2 q3 (nI_add 6 c) rfl hq) (fun _ => ?_)
  refine pk_eq e 3 (fun _ => qs_selectInParts c k q hPa hn hc q1 q2 q3 rfl rfl hq) (fun _ => ?_)
  exact pk_eq e 5 (fun _ => qs_selectInRuns c k q hR hn hc q1 q2 q3 rfl rfl hq) (fun _ => qs_selectByRanks e c k q hP' he hc q1 q2 q3 rfl rfl rfl hq)
theorem qs_below {n : Nat} {w : Nat → Nat} {post : Int32 → St1 → Prop} {u : St1} {p0 p1 p2 p3 : Int32} (e i j c : Nat) (h : qs_ok n w u) (he : e < 7) (hc : c ≤ 8) (hi : i ≤ j) (hj : j ≤ n) (h0 : p0 = nI e) (h1 : p1 = nI i) (h2 : p2 = nI j) (h3 : p3 = nI c)
    (H : ∀ u', qs_PK n w u' → post (nI (qs_bl w c j - qs_bl w c i)) u') : wpX_below post u p0 p1 p2 p3 := by
  obtain ⟨nn, ip, rc, nd, cs, a1, a2, a3, a4, a5, a6, a7, a8, a9, a10, a11, a12, a13, a14, a15, a16, a17, a18, a19, a20, a21, a22, a23, a24, a25, a26, a27⟩ := u
  obtain ⟨k1, k2, k3⟩ := qs_ok_core h
  have hn := k2.1
  subst h3
  unfold wpX_below
  try dsimp only
  refine qs_isEngine e he h0 (br_f (by decide) (qs_isRange n i j hn k1 hi hj h1 h2 (br_f (by decide) (br_f (nI_pos (by omega)) (pk_le c 8 (fun _ => qs_pack h (fun u' hP => ?_)) (fun z => absurd z (by omega)))))))
  have hu := H u' hP
  obtain ⟨nn', ip', rc', nd', cs', a1, a2, a3, a4, a5, a6, a7, a8, a9, a10, a11, a12, a13, a14, a15, a16, a17, a18, a19, a20, a21, a22, a23, a24, a25, a26, a27⟩ := u'
  exact qs_belowBy e i j c hP he hc hi hj h0 h1 h2 rfl hu
theorem qs_next {n : Nat} {w : Nat → Nat} {post : Int32 → St1 → Prop} {u : St1} {p0 p1 : Int32} (c i : Nat) (h : qs_ok n w u) (hc : c < 8) (hi : i ≤ n) (h0 : p0 = nI c) (h1 : p1 = nI i)
    (H0 : qs_rk w c n ≤ qs_rk w c i → ∀ u', qs_ok n w u' → post (-1) u') (H1 : ∀ q u', q < n → w q = c → qs_rk w c q = qs_rk w c i → qs_PK n w u' → post (nI q) u') : wpX_next post u p0 p1 := by
  obtain ⟨nn, ip, rc, nd, cs, a1, a2, a3, a4, a5, a6, a7, a8, a9, a10, a11, a12, a13, a14, a15, a16, a17, a18, a19, a20, a21, a22, a23, a24, a25, a26, a27⟩ := u
  obtain ⟨k1, k2, k3⟩ := qs_ok_core h
  have hn := k2.1
  subst h0
  subst h1
  unfold wpX_next
  try dsimp only
  refine qs_isLetter c hc rfl (br_f (by decide) (pk_lt i n (fun _ => qs_pack h (fun u' hP => ?_)) (fun z => H0 (by rw [show i = n by omega]; exact Nat.le_refl _) _ h) rfl k1))
  have hu0 := fun z => H0 z u' (qs_ok_of hP)
  have hu1 := fun q a b c => H1 q u' a b c hP
  clear H0 H1 h
  obtain ⟨nn', ip', rc', nd', cs', a1, a2, a3, a4, a5, a6, a7, a8, a9, a10, a11, a12, a13, a14, a15, a16, a17, a18, a19, a20, a21, a22, a23, a24, a25, a26, a27⟩ := u'
  have hle := qs_rk_le w c n
  have hle2 := qs_rk_le w c i
  refine br_t (nI_pos' (by omega)) (qs_rankBy 2 c i hP (by omega) hc hi rfl rfl rfl ⟨vp_in_nI (by omega) (by decide), ?_⟩)
  try dsimp only
  rw [nI_clamp (by omega), hP.2.2.2.2.1 c hc]
  refine pk_le (qs_rk w c n) (qs_rk w c i) (fun z => hu0 z) (fun z => ?_)
  obtain ⟨q, q1, q2, q3⟩ := qs_rk_sel z
  exact qs_mapPlace c (qs_rk w c i) q hP hc q1 q2 q3 (nI_add 6 c) rfl (hu1 q q1 q2 q3)
theorem qs_ordered {n : Nat} {w : Nat → Nat} {post : Int32 → St1 → Prop} {u : St1} {p0 p1 p2 p3 : Int32} (e i j k : Nat) (h : qs_ok n w u) (he : e < 7) (hj : j ≤ n) (hk : i + k < j) (h0 : p0 = nI e) (h1 : p1 = nI i) (h2 : p2 = nI j) (h3 : p3 = nI k)
    (H : ∀ c u', qs_od w i j k c → qs_PK n w u' → post (nI c) u') : wpX_ordered post u p0 p1 p2 p3 := by
  obtain ⟨nn, ip, rc, nd, cs, a1, a2, a3, a4, a5, a6, a7, a8, a9, a10, a11, a12, a13, a14, a15, a16, a17, a18, a19, a20, a21, a22, a23, a24, a25, a26, a27⟩ := u
  obtain ⟨k1, k2, k3⟩ := qs_ok_core h
  have hn := k2.1
  subst h1
  subst h2
  subst h3
  unfold wpX_ordered
  try dsimp only
  refine qs_isEngine e he h0 (br_f (by decide) (qs_isRange n i j hn k1 (by omega) hj rfl rfl (br_f (by decide) (br_f (nI_pos (by omega)) (pk_lt k (j - i) (fun _ => qs_pack h (fun u' hP => ?_)) (fun z => absurd z (by omega)) rfl (pk_sub (by omega)))))))
  subst h0
  have hu := fun c z => H c u' z hP
  clear H h
  obtain ⟨nn', ip', rc', nd', cs', a1, a2, a3, a4, a5, a6, a7, a8, a9, a10, a11, a12, a13, a14, a15, a16, a17, a18, a19, a20, a21, a22, a23, a24, a25, a26, a27⟩ := u'
  have hP' := hP
  obtain ⟨_, _, hb8⟩ := qs_PK_core hP
  obtain ⟨e1, e2, hL, hC, hN, hS, hT, ⟨s, hM⟩, _⟩ := hP
  refine pk_eq e 1 (fun _ => qs_orderedInMatrix i j k hM hS hL hj hk rfl rfl rfl (fun c hc => hu c hc)) (fun _ => ?_)
  refine loop_0 (σ := Unit) (fun f c _ => wX_ordered_52 post (nI e) (nI i) (nI j) (nI k) nn' ip' rc' nd' cs' a1 a2 a3 a4 a5 a6 a7 a8 a9 a10 a11 a12 a13 a14 a15 a16 a17 a18 a19 a20 a21 a22 a23 a24 a25 a26 a27 f (nI c)) (fun c _ => qs_bl w c j ≤ k + qs_bl w c i) 7 () ?_ ?_ ?_
  · have z0 : ∀ x, qs_bl w 0 x = 0 := fun x => qs_ct_zero (fun j _ => decide_eq_false (by omega))
    rw [z0]
    omega
  · intro f _ hI
    refine pk_le 7 7 (fun _ => hu 7 ⟨by omega, hI, ?_⟩) (fun z => absurd z (by omega))
    rw [hb8 i (by omega), hb8 j hj]
    omega
  · intro f c _ hc hI hw
    have b3 := qs_bl_imono w (c + 1) (show i ≤ j by omega)
    have b4 := qs_bl_le w (c + 1) j
    refine pk_le 7 c (fun z => absurd z (by omega)) (fun _ => qs_belowBy e i j (c + 1) hP' he (by omega) (by omega) hj rfl rfl rfl (nI_1 c) ?_)
    refine pk_lt k (qs_bl w (c + 1) j - qs_bl w (c + 1) i) (fun z => hu c ⟨by omega, hI, by omega⟩) (fun z => nm_r (nI_1 c) (hw () (by omega))) rfl rfl (by omega) (by omega)
theorem qs_ordered_bad {n : Nat} {w : Nat → Nat} {post : Int32 → St1 → Prop} {u : St1} {p0 p1 p2 p3 : Int32} (e i j : Nat) (h : qs_ok n w u) (he : e < 7) (hi : i ≤ j) (hj : j ≤ n) (h0 : p0 = nI e) (h1 : p1 = nI i) (h2 : p2 = nI j) (h3 : p3 = nI (j - i))
    (H : post (-1) u) : wpX_ordered post u p0 p1 p2 p3 := by
  obtain ⟨nn, ip, rc, nd, cs, a1, a2, a3, a4, a5, a6, a7, a8, a9, a10, a11, a12, a13, a14, a15, a16, a17, a18, a19, a20, a21, a22, a23, a24, a25, a26, a27⟩ := u
  obtain ⟨k1, k2, k3⟩ := qs_ok_core h
  have hn := k2.1
  subst h1
  subst h2
  subst h3
  unfold wpX_ordered
  try dsimp only
  exact qs_isEngine e he h0 (br_f (by decide) (qs_isRange n i j hn k1 (by omega) hj rfl rfl (br_f (by decide) (br_f (nI_pos (by omega)) (pk_lt (j - i) (j - i) (fun z => absurd z (by omega)) (fun _ => H) rfl (pk_sub (by omega)))))))
/-- the letter that is there most, and how often, among those below c -/
def qs_mo (w : Nat → Nat) (i j : Nat) : Nat → Nat × Nat
  | 0 => (0, 0)
  | c + 1 => if qs_rk w c j - qs_rk w c i ≤ (qs_mo w i j c).2 then qs_mo w i j c else (c, qs_rk w c j - qs_rk w c i)
theorem qs_most {n : Nat} {w : Nat → Nat} {post : Int32 → St1 → Prop} {u : St1} {p0 p1 p2 : Int32} (e i j : Nat) (h : qs_ok n w u) (he : e < 7) (hi : i ≤ j) (hj : j ≤ n) (h0 : p0 = nI e) (h1 : p1 = nI i) (h2 : p2 = nI j)
    (H : ∀ u', qs_ok n w u' → post (if i = j then -1 else nI (qs_mo w i j 8).1) u') : wpX_most post u p0 p1 p2 := by
  obtain ⟨nn, ip, rc, nd, cs, a1, a2, a3, a4, a5, a6, a7, a8, a9, a10, a11, a12, a13, a14, a15, a16, a17, a18, a19, a20, a21, a22, a23, a24, a25, a26, a27⟩ := u
  obtain ⟨k1, k2, k3⟩ := qs_ok_core h
  have hn := k2.1
  subst h1
  subst h2
  unfold wpX_most
  try dsimp only
  refine qs_isEngine e he h0 (br_f (by decide) (qs_isRange n i j hn k1 (by omega) hj rfl rfl (br_f (by decide) (pk_eq i j (fun z => ?_) (fun z => qs_pack h (fun u' hP => ?_))))))
  · have hu := H _ h
    rw [if_pos z] at hu
    exact hu
  · subst h0
    have hu := H u' (qs_ok_of hP)
    rw [if_neg z] at hu
    clear H h
    obtain ⟨nn', ip', rc', nd', cs', a1, a2, a3, a4, a5, a6, a7, a8, a9, a10, a11, a12, a13, a14, a15, a16, a17, a18, a19, a20, a21, a22, a23, a24, a25, a26, a27⟩ := u'
    have hb : ∀ c, (qs_mo w i j c).2 ≤ 200 := by
      intro c
      induction c with
      | zero => exact Nat.zero_le _
      | succ c ih =>
        have := qs_rk_le w c j
        rw [qs_mo]
        split
        · exact ih
        · show qs_rk w c j - qs_rk w c i ≤ 200
          omega
    refine loop_0 (σ := Unit) (fun f c _ => wX_most_36 post (nI e) (nI i) (nI j) nn' ip' rc' nd' cs' a1 a2 a3 a4 a5 a6 a7 a8 a9 a10 a11 a12 a13 a14 a15 a16 a17 a18 a19 a20 a21 a22 a23 a24 a25 a26 a27 f (nI (qs_mo w i j c).1) (nI (qs_mo w i j c).2) (nI c)) (fun _ _ => True) 8 () trivial ?_ ?_
    · intro f _ _
      exact pk_le 8 8 (fun _ => hu) (fun z => absurd z (by omega))
    · intro f c _ hc _ hw
      have t := hw () trivial
      have b1 := hb c
      have b2 := qs_rk_le w c j
      try dsimp only at t
      rw [qs_mo] at t
      refine pk_le 8 c (fun z => absurd z (by omega)) (fun _ => qs_inRange e c i j hP he hc hi hj rfl rfl rfl rfl ?_)
      refine pk_le (qs_rk w c j - qs_rk w c i) (qs_mo w i j c).2 (fun z => ?_) (fun z => ?_) rfl rfl (by omega) (by omega)
      · rw [if_pos z] at t
        exact br_t (nI_le z (by omega)) (nm_r (nI_1 c) t)
      · rw [if_neg (by omega)] at t
        exact br_f (nI_ge z (by omega)) (nm_r (nI_1 c) t)
theorem qs_different {n : Nat} {w : Nat → Nat} {post : Int32 → St1 → Prop} {u : St1} {p0 p1 : Int32} (i j : Nat) (h : qs_ok n w u) (hi : i ≤ j) (hj : j ≤ n) (h1 : p0 = nI i) (h2 : p1 = nI j)
    (H : ∀ u', qs_PK n w u' → post (nI (qs_ct (fun c => decide (qs_rk w c i < qs_rk w c j)) 8)) u') : wpX_different post u p0 p1 := by
  obtain ⟨nn, ip, rc, nd, cs, a1, a2, a3, a4, a5, a6, a7, a8, a9, a10, a11, a12, a13, a14, a15, a16, a17, a18, a19, a20, a21, a22, a23, a24, a25, a26, a27⟩ := u
  obtain ⟨k1, k2, k3⟩ := qs_ok_core h
  have hn := k2.1
  subst h1
  subst h2
  unfold wpX_different
  try dsimp only
  refine qs_isRange n i j hn k1 (by omega) hj rfl rfl (br_f (by decide) (qs_pack h (fun u' hP => ?_)))
  have hu := H u' hP
  clear H h
  obtain ⟨nn', ip', rc', nd', cs', a1, a2, a3, a4, a5, a6, a7, a8, a9, a10, a11, a12, a13, a14, a15, a16, a17, a18, a19, a20, a21, a22, a23, a24, a25, a26, a27⟩ := u'
  refine loop_0 (σ := Unit) (fun f c _ => wX_different_20 post (nI i) (nI j) nn' ip' rc' nd' cs' a1 a2 a3 a4 a5 a6 a7 a8 a9 a10 a11 a12 a13 a14 a15 a16 a17 a18 a19 a20 a21 a22 a23 a24 a25 a26 a27 f (nI (qs_ct (fun c => decide (qs_rk w c i < qs_rk w c j)) c)) (nI c)) (fun _ _ => True) 8 () trivial ?_ ?_
  · intro f _ _
    exact pk_le 8 8 (fun _ => hu) (fun z => absurd z (by omega))
  · intro f c _ hc _ hw
    have t := hw () trivial
    have b2 := qs_rk_le w c j
    try dsimp only at t
    refine pk_le 8 c (fun z => absurd z (by omega)) (fun _ => qs_inRange 4 c i j hP (by omega) hc hi hj rfl rfl rfl rfl ?_)
    refine pk_le (qs_rk w c j - qs_rk w c i) 0 (fun z => ?_) (fun z => ?_)
    · rw [qs_ctF (P := fun c => decide (qs_rk w c i < qs_rk w c j)) (decide_eq_false (by omega))] at t
      exact nm_r (nI_add _ 0) (nm_r (nI_1 c) t)
    · rw [qs_ctT (P := fun c => decide (qs_rk w c i < qs_rk w c j)) (decide_eq_true (by omega))] at t
      exact nm_r (nI_1 _) (nm_r (nI_1 c) t)
theorem qs_bits {n : Nat} {w : Nat → Nat} {post : Int32 → St1 → Prop} {u : St1} (h : qs_ok n w u) (H : ∀ b u', n ≤ b → b ≤ 3 * n → qs_PK n w u' → post (nI b) u') : wpX_bits post u := by
  obtain ⟨nn, ip, rc, nd, cs, a1, a2, a3, a4, a5, a6, a7, a8, a9, a10, a11, a12, a13, a14, a15, a16, a17, a18, a19, a20, a21, a22, a23, a24, a25, a26, a27⟩ := u
  refine qs_pack h (fun u' hP => ?_)
  have hu := fun b x y => H b u' x y hP
  clear H h
  obtain ⟨nn', ip', rc', nd', cs', a1, a2, a3, a4, a5, a6, a7, a8, a9, a10, a11, a12, a13, a14, a15, a16, a17, a18, a19, a20, a21, a22, a23, a24, a25, a26, a27⟩ := u'
  obtain ⟨e1, e2, hL, hC, hN, hS, hT, ⟨s, hM⟩, hB, hP, hK, ⟨m, st, hm, hR⟩, ⟨N, S, lf, rt, len, cb, hnd, hcs, hF, hk, hp, hNF⟩⟩ := hP
  subst hnd
  subst hcs
  subst e1
  have hN7 := hF.1
  refine pk_eq N 0 (fun z => hu n (Nat.le_refl n) (by omega)) (fun z => ?_)
  have := hF.2.2.2.1 (by omega)
  exact hu S this.2.1 this.2.2
theorem qs_runs {n : Nat} {w : Nat → Nat} {post : Int32 → St1 → Prop} {u : St1} (h : qs_ok n w u) (H : ∀ m u', qs_ct (fun c => decide (0 < qs_rk w c n)) 8 ≤ m → m ≤ n → qs_PK n w u' → post (nI m) u') : wpX_runs post u := by
  obtain ⟨nn, ip, rc, nd, cs, a1, a2, a3, a4, a5, a6, a7, a8, a9, a10, a11, a12, a13, a14, a15, a16, a17, a18, a19, a20, a21, a22, a23, a24, a25, a26, a27⟩ := u
  refine qs_pack h (fun u' hP => ?_)
  have hu := fun b x y => H b u' x y hP
  clear H h
  obtain ⟨nn', ip', rc', nd', cs', a1, a2, a3, a4, a5, a6, a7, a8, a9, a10, a11, a12, a13, a14, a15, a16, a17, a18, a19, a20, a21, a22, a23, a24, a25, a26, a27⟩ := u'
  obtain ⟨e1, e2, hL, hC, hN, hS, hT, ⟨s, hM⟩, hB, hP, hK, ⟨m, st, hm, hR⟩, _⟩ := hP
  subst hm
  exact hu m (qs_runs_ge hR) hR.1
theorem qs_agree {n : Nat} {w : Nat → Nat} {post : Int32 → St1 → Prop} {u : St1} {p0 p1 : Int32} (e d : Nat) (h : qs_ok n w u) (he : e < 7) (hd : d < 7) (h0 : p0 = nI e) (h1 : p1 = nI d) (H : ∀ u', qs_PK n w u' → post 1 u') : wpX_agree post u p0 p1 := by
  obtain ⟨nn, ip, rc, nd, cs, a1, a2, a3, a4, a5, a6, a7, a8, a9, a10, a11, a12, a13, a14, a15, a16, a17, a18, a19, a20, a21, a22, a23, a24, a25, a26, a27⟩ := u
  unfold wpX_agree
  try dsimp only
  refine qs_isEngine e he h0 (br_f (by decide) (qs_isEngine d hd h1 (br_f (by decide) (qs_pack h (fun u' hP => ?_)))))
  have hu := H u' hP
  clear H h
  subst h0
  subst h1
  obtain ⟨nn', ip', rc', nd', cs', a1, a2, a3, a4, a5, a6, a7, a8, a9, a10, a11, a12, a13, a14, a15, a16, a17, a18, a19, a20, a21, a22, a23, a24, a25, a26, a27⟩ := u'
  have e1 : nn' = nI n := hP.1
  subst e1
  obtain ⟨hn, h8, _⟩ := qs_PK_core hP
  refine loop_0 (σ := Unit) (fun f i _ => wX_agree_25 post (nI e) (nI d) (nI n) ip' rc' nd' cs' a1 a2 a3 a4 a5 a6 a7 a8 a9 a10 a11 a12 a13 a14 a15 a16 a17 a18 a19 a20 a21 a22 a23 a24 a25 a26 a27 f 1 (nI i)) (fun _ _ => True) n () trivial ?_ ?_
  · intro f _ _
    exact pk_le n n (fun _ => ⟨rfl, hu⟩) (fun z => absurd z (by omega))
  · intro f i _ hi _ hw
    have t := hw () trivial
    try dsimp only at t
    refine pk_le n i (fun z => absurd z (by omega)) (fun _ => br_f (by decide) (qs_atBy e i hP he hi rfl rfl (qs_atBy d i hP hd hi rfl rfl (br_t rfl ?_))))
    refine loop_0 (σ := Unit) (fun g c _ => wX_agree_68 post (wX_agree_25 post (nI e) (nI d) (nI n) ip' rc' nd' cs' a1 a2 a3 a4 a5 a6 a7 a8 a9 a10 a11 a12 a13 a14 a15 a16 a17 a18 a19 a20 a21 a22 a23 a24 a25 a26 a27 f) (nI e) (nI d) (nI i) (nI n) ip' rc' nd' cs' a1 a2 a3 a4 a5 a6 a7 a8 a9 a10 a11 a12 a13 a14 a15 a16 a17 a18 a19 a20 a21 a22 a23 a24 a25 a26 a27 g 1 (nI c)) (fun _ _ => True) 8 () trivial ?_ ?_
    · intro g _ _
      exact pk_le 8 8 (fun _ => nm_r (nI_1 i) t) (fun z => absurd z (by omega))
    · intro g c _ hc _ hw2
      have t2 := hw2 () trivial
      try dsimp only at t2
      exact pk_le 8 c (fun z => absurd z (by omega)) (fun _ => br_f (by decide) (qs_rankBy e c (i + 1) hP he hc (by omega) rfl rfl (nI_1 i) (qs_rankBy d c (i + 1) hP hd hc (by omega) rfl rfl (nI_1 i) (br_t rfl (nm_r (nI_1 c) t2)))))
end
end
section
section
variable {nn ip rc nd cs : Int32} {a1 a2 a3 a4 a5 a6 a7 a8 a9 a10 a11 a12 a13 a14 a15 a16 a17 a18 a19 a20 a21 a22 a23 a24 a25 a26 a27 : Nat → Int32}
/-! the list is written -/
def qs_any (u : St1) : Prop := ∃ n w, qs_ok n w u
theorem qs_L_add {n : Nat} {w : Nat → Nat} {s : Nat → Int32} {c : Nat} (h : qs_L n w s) (hn : n < 200) (hc : c < 8) : qs_L (n + 1) (qs_up w n c) (upd s n (nI c)) := by
  obtain ⟨h1, h2, h3⟩ := h
  refine ⟨by omega, fun i hi => ?_, fun i hi => ?_⟩
  · by_cases e : i = n
    · rw [e, qs_up_s, pk_us]
      exact ⟨hc, rfl⟩
    · rw [qs_up_n _ _ e, pk_un e]
      exact h2 i (by omega)
  · rw [qs_up_n _ _ (by omega)]
    exact h3 i (by omega)
theorem qs_L_set {n : Nat} {w : Nat → Nat} {s : Nat → Int32} {c k : Nat} (h : qs_L n w s) (hk : k < n) (hc : c < 8) : qs_L n (qs_up w k c) (upd s k (nI c)) := by
  obtain ⟨h1, h2, h3⟩ := h
  refine ⟨h1, fun i hi => ?_, fun i hi => ?_⟩
  · by_cases e : i = k
    · rw [e, qs_up_s, pk_us]
      exact ⟨hc, rfl⟩
    · rw [qs_up_n _ _ e, pk_un e]
      exact h2 i hi
  · rw [qs_up_n _ _ (by omega)]
    exact h3 i hi
theorem qs_L_cut {n : Nat} {w : Nat → Nat} {s : Nat → Int32} {k : Nat} (h : qs_L n w s) (hk : k ≤ n) : qs_L k (fun j => if j < k then w j else 8) s := by
  obtain ⟨h1, h2, h3⟩ := h
  refine ⟨by omega, fun i hi => ?_, fun i hi => ?_⟩
  · try dsimp only
    rw [if_pos hi]
    exact h2 i (by omega)
  · try dsimp only
    rw [if_neg (by omega)]
theorem qs_isLetterA {post : Int32 → Prop} {u : St2} {p0 : Int32} (H0 : post 0) (H1 : ∀ c, c < 8 → p0 = nI c → post 1) : wpX_isLetter post u p0 := by
  refine br_c (fun _ => H0) (fun h => br_c (fun _ => H0) (fun h2 => ?_))
  obtain ⟨j, j1, j2⟩ := nI_of h
  refine H1 j ?_ j2
  rcases Nat.lt_or_ge j 8 with z | z
  · exact z
  · rw [j2] at h2
    exact absurd (nI_le z j1) h2
theorem qs_pos1 {x : Int32} (h : ¬ x < 1) : ¬ x < 0 := fun z => h (Int32.lt_trans z (by decide))
theorem qs_append {post : Int32 → St1 → Prop} {u : St1} {p0 p1 : Int32} (h : qs_any u) (H : ∀ r u', qs_any u' → post r u') : wpX_append post u p0 p1 := by
  have hu := fun r => H r u h
  obtain ⟨n, w, h⟩ := h
  obtain ⟨nn, ip, rc, nd, cs, a1, a2, a3, a4, a5, a6, a7, a8, a9, a10, a11, a12, a13, a14, a15, a16, a17, a18, a19, a20, a21, a22, a23, a24, a25, a26, a27⟩ := u
  obtain ⟨k1, hL, hC⟩ := qs_ok_core h
  have hn := hL.1
  subst k1
  unfold wpX_append
  try dsimp only
  refine qs_isLetterA (br_t rfl (hu _)) (fun c hc e => br_f (by decide) (br_c (fun _ => hu _) (fun g1 => br_c (fun g2 => ?_) (fun _ => hu _))))
  obtain ⟨m, m1, m2⟩ := nI_of2 (n := 200) (by decide) (qs_pos1 g1) g2
  rw [m2, e]
  refine pk_le (n + m) 200 (fun z => ?_) (fun _ => hu _) (nI_add n m) rfl (by omega) (by omega)
  refine loop_0 (fun f i (s : Nat → Int32) => wX_append_38 post (nI c) (nI m) ip rc nd cs f (nI i) (nI (n + i)) s a2 a3 a4 a5 a6 a7 a8 a9 a10 a11 a12 a13 a14 a15 a16 a17 a18 a19 a20 a21 a22 a23 a24 a25 a26 a27) (fun i s => ∃ w', qs_L (n + i) w' s) m a1 ⟨w, hL⟩ ?_ ?_
  · intro f s hI
    obtain ⟨w', hI⟩ := hI
    exact pk_le m m (fun _ => H _ _ ⟨n + m, w', Or.inl ⟨rfl, rfl, hI, hC⟩⟩) (fun z => absurd z (by omega))
  · intro f i s hi hI hw
    obtain ⟨w', hI⟩ := hI
    refine pk_le m i (fun z => absurd z (by omega)) (fun _ => ?_)
    rw [nI_clamp (show n + i < 2 ^ 31 by omega), qs_b8 c (by omega)]
    exact ⟨vp_in_nI (by omega) (by decide), nm_e (nm_r (nI_1 _) (nm_r (nI_1 i) (hw _ ⟨_, qs_L_add hI (show n + i < 200 by omega) hc⟩)))⟩
theorem qs_again {post : Int32 → St1 → Prop} {u : St1} {p0 p1 : Int32} (h : qs_any u) (H : ∀ r u', qs_any u' → post r u') : wpX_again post u p0 p1 := by
  have hu := fun r => H r u h
  obtain ⟨n, w, h⟩ := h
  obtain ⟨nn, ip, rc, nd, cs, a1, a2, a3, a4, a5, a6, a7, a8, a9, a10, a11, a12, a13, a14, a15, a16, a17, a18, a19, a20, a21, a22, a23, a24, a25, a26, a27⟩ := u
  obtain ⟨k1, hL, hC⟩ := qs_ok_core h
  have hn := hL.1
  subst k1
  refine br_c (fun _ => hu _) (fun g0 => br_c (fun _ => hu _) (fun g => br_c (fun _ => hu _) (fun g1 => br_c (fun g2 => ?_) (fun _ => hu _))))
  obtain ⟨m, m1, m2⟩ := nI_of2 (n := 200) (by decide) (qs_pos1 g1) g2
  obtain ⟨b, b1, b2⟩ := nI_of2 (n := n) (nI_toInt (by omega)) (qs_pos1 g0) (Int32.not_lt.mp g)
  rw [b2] at g0
  have hb0 : 0 < b := by
    rcases Nat.eq_zero_or_pos b with z | z
    · rw [z] at g0
      exact absurd (by decide) g0
    · exact z
  rw [m2, b2]
  refine pk_le (n + m) 200 (fun z => ?_) (fun _ => hu _) (nI_add n m) rfl (by omega) (by omega)
  refine loop_0 (fun f i (s : Nat → Int32) => wX_again_44 post (nI b) (nI m) ip rc nd cs f (nI i) (nI (n + i)) s a2 a3 a4 a5 a6 a7 a8 a9 a10 a11 a12 a13 a14 a15 a16 a17 a18 a19 a20 a21 a22 a23 a24 a25 a26 a27) (fun i s => ∃ w', qs_L (n + i) w' s) m a1 ⟨w, hL⟩ ?_ ?_
  · intro f s hI
    obtain ⟨w', hI⟩ := hI
    exact pk_le m m (fun _ => H _ _ ⟨n + m, w', Or.inl ⟨rfl, rfl, hI, hC⟩⟩) (fun z => absurd z (by omega))
  · intro f i s hi hI hw
    obtain ⟨w', hI⟩ := hI
    refine pk_le m i (fun z => absurd z (by omega)) (fun _ => ?_)
    obtain ⟨w8, aw⟩ := hI.2.1 (n + i - b) (by omega)
    rw [pk_sub (show b ≤ n + i by omega), nI_clamp (show n + i - b < 2 ^ 31 by omega), nI_clamp (show n + i < 2 ^ 31 by omega), aw, qs_vb (by omega)]
    exact ⟨vp_in_nI (by omega) (by decide), vp_in_nI (by omega) (by decide), nm_e (nm_r (nI_1 _) (nm_r (nI_1 i) (hw _ ⟨_, qs_L_add hI (show n + i < 200 by omega) w8⟩)))⟩
theorem qs_change {post : Int32 → St1 → Prop} {u : St1} {p0 p1 : Int32} (h : qs_any u) (H : ∀ r u', qs_any u' → post r u') : wpX_change post u p0 p1 := by
  have hu := fun r => H r u h
  obtain ⟨n, w, h⟩ := h
  obtain ⟨nn, ip, rc, nd, cs, a1, a2, a3, a4, a5, a6, a7, a8, a9, a10, a11, a12, a13, a14, a15, a16, a17, a18, a19, a20, a21, a22, a23, a24, a25, a26, a27⟩ := u
  obtain ⟨k1, hL, hC⟩ := qs_ok_core h
  have hn := hL.1
  subst k1
  refine br_c (fun _ => hu _) (fun g0 => br_c (fun _ => hu _) (fun g => ?_))
  obtain ⟨i, i1, i2⟩ := nI_of g0
  have hi : i < n := by
    rcases Nat.lt_or_ge i n with z | z
    · exact z
    · rw [i2] at g
      exact absurd (nI_le z i1) g
  refine qs_isLetterA (br_t rfl (hu _)) (fun c hc e => br_f (by decide) ?_)
  rw [i2, e, nI_clamp (by omega), qs_b8 c (by omega)]
  exact ⟨vp_in_nI (by omega) (by decide), nm_e ⟨vp_in_nI (by omega) (by decide), nm_e (H _ _ ⟨n, _, Or.inl ⟨rfl, rfl, qs_L_set hL hi hc, hC⟩⟩)⟩⟩
theorem qs_cut {post : Int32 → St1 → Prop} {u : St1} {p0 : Int32} (h : qs_any u) (H : ∀ r u', qs_any u' → post r u') : wpX_cut post u p0 := by
  have hu := fun r => H r u h
  obtain ⟨n, w, h⟩ := h
  obtain ⟨nn, ip, rc, nd, cs, a1, a2, a3, a4, a5, a6, a7, a8, a9, a10, a11, a12, a13, a14, a15, a16, a17, a18, a19, a20, a21, a22, a23, a24, a25, a26, a27⟩ := u
  obtain ⟨k1, hL, hC⟩ := qs_ok_core h
  have hn := hL.1
  subst k1
  refine br_c (fun _ => hu _) (fun g0 => br_c (fun g2 => ?_) (fun _ => hu _))
  obtain ⟨m, m1, m2⟩ := nI_of2 (n := 200) (by decide) g0 g2
  rw [m2]
  refine pk_le m n (fun z => nm_r (pk_sub z) (H _ _ ⟨n - m, _, Or.inl ⟨rfl, rfl, qs_L_cut hL (by omega), hC⟩⟩)) (fun z => H _ _ ⟨0, _, Or.inl ⟨rfl, rfl, qs_L_cut hL (by omega), hC⟩⟩)
theorem qs_cut0 {n : Nat} {w : Nat → Nat} {post : Int32 → St1 → Prop} {u : St1} (h : qs_ok n w u) (H : ∀ u', qs_ok n w u' → post (nI n) u') : wpX_cut post u 0 := by
  obtain ⟨nn, ip, rc, nd, cs, a1, a2, a3, a4, a5, a6, a7, a8, a9, a10, a11, a12, a13, a14, a15, a16, a17, a18, a19, a20, a21, a22, a23, a24, a25, a26, a27⟩ := u
  obtain ⟨k1, hL, hC⟩ := qs_ok_core h
  have hn := hL.1
  subst k1
  exact br_f (by decide) (br_t (by decide) (pk_le 0 n (fun _ => nm_r (pk_sub (a := n) (b := 0) (by omega)) (H _ (Or.inl ⟨rfl, rfl, hL, hC⟩))) (fun z => absurd z (by omega))))
/-! one turn -/
section
variable {post : St1 → Prop}
theorem qs_t72 {z0 z1 : Int32} (h : qs_any (nn, ip, rc, nd, cs, a1, a2, a3, a4, a5, a6, a7, a8, a9, a10, a11, a12, a13, a14, a15, a16, a17, a18, a19, a20, a21, a22, a23, a24, a25, a26, a27)) (H : ∀ u', qs_any u' → post u') : wL_turn_72 post z0 z1 nn ip rc nd cs a1 a2 a3 a4 a5 a6 a7 a8 a9 a10 a11 a12 a13 a14 a15 a16 a17 a18 a19 a20 a21 a22 a23 a24 a25 a26 a27 := qs_append h (fun r u' hu => by
  obtain ⟨nn', ip', rc', nd', cs', a1, a2, a3, a4, a5, a6, a7, a8, a9, a10, a11, a12, a13, a14, a15, a16, a17, a18, a19, a20, a21, a22, a23, a24, a25, a26, a27⟩ := u'
  exact H _ hu)
theorem qs_t117 {z0 z1 : Int32} (h : qs_any (nn, ip, rc, nd, cs, a1, a2, a3, a4, a5, a6, a7, a8, a9, a10, a11, a12, a13, a14, a15, a16, a17, a18, a19, a20, a21, a22, a23, a24, a25, a26, a27)) (H : ∀ u', qs_any u' → post u') : wL_turn_117 post z0 z1 nn ip rc nd cs a1 a2 a3 a4 a5 a6 a7 a8 a9 a10 a11 a12 a13 a14 a15 a16 a17 a18 a19 a20 a21 a22 a23 a24 a25 a26 a27 := qs_again h (fun r u' hu => by
  obtain ⟨nn', ip', rc', nd', cs', a1, a2, a3, a4, a5, a6, a7, a8, a9, a10, a11, a12, a13, a14, a15, a16, a17, a18, a19, a20, a21, a22, a23, a24, a25, a26, a27⟩ := u'
  exact H _ hu)
theorem qs_t161 {z0 z1 : Int32} (h : qs_any (nn, ip, rc, nd, cs, a1, a2, a3, a4, a5, a6, a7, a8, a9, a10, a11, a12, a13, a14, a15, a16, a17, a18, a19, a20, a21, a22, a23, a24, a25, a26, a27)) (H : ∀ u', qs_any u' → post u') : wL_turn_161 post z0 z1 nn ip rc nd cs a1 a2 a3 a4 a5 a6 a7 a8 a9 a10 a11 a12 a13 a14 a15 a16 a17 a18 a19 a20 a21 a22 a23 a24 a25 a26 a27 := qs_change h (fun r u' hu => by
  obtain ⟨nn', ip', rc', nd', cs', a1, a2, a3, a4, a5, a6, a7, a8, a9, a10, a11, a12, a13, a14, a15, a16, a17, a18, a19, a20, a21, a22, a23, a24, a25, a26, a27⟩ := u'
  exact H _ hu)
theorem qs_t182 {z0 : Int32} (h : qs_any (nn, ip, rc, nd, cs, a1, a2, a3, a4, a5, a6, a7, a8, a9, a10, a11, a12, a13, a14, a15, a16, a17, a18, a19, a20, a21, a22, a23, a24, a25, a26, a27)) (H : ∀ u', qs_any u' → post u') : wL_turn_182 post z0 nn ip rc nd cs a1 a2 a3 a4 a5 a6 a7 a8 a9 a10 a11 a12 a13 a14 a15 a16 a17 a18 a19 a20 a21 a22 a23 a24 a25 a26 a27 := qs_cut h (fun r u' hu => by
  obtain ⟨nn', ip', rc', nd', cs', a1, a2, a3, a4, a5, a6, a7, a8, a9, a10, a11, a12, a13, a14, a15, a16, a17, a18, a19, a20, a21, a22, a23, a24, a25, a26, a27⟩ := u'
  exact H _ hu)
theorem qs_t37 {x2 x3 x4 x5 z0 : Int32} (h : qs_any (nn, ip, rc, nd, cs, a1, a2, a3, a4, a5, a6, a7, a8, a9, a10, a11, a12, a13, a14, a15, a16, a17, a18, a19, a20, a21, a22, a23, a24, a25, a26, a27)) (H : ∀ u', qs_any u' → post u') : wL_turn_37 post x2 x3 x4 x5 z0 nn ip rc nd cs a1 a2 a3 a4 a5 a6 a7 a8 a9 a10 a11 a12 a13 a14 a15 a16 a17 a18 a19 a20 a21 a22 a23 a24 a25 a26 a27 := by
  refine br_c (fun _ => br_c (fun _ => br_c (fun _ => br_c (fun _ => qs_t182 h H) (fun _ => qs_t182 h H)) (fun _ => br_c (fun _ => ?_) (fun _ => ⟨by decide, ?_⟩))) (fun _ => br_c (fun _ => ?_) (fun _ => ?_))) (fun _ => br_c (fun _ => ?_) (fun _ => ?_))
  · exact br_c (fun _ => qs_t161 h H) (fun _ => qs_t161 h H)
  · exact br_c (fun _ => qs_t161 h H) (fun _ => qs_t161 h H)
  · exact br_c (fun _ => qs_t117 h H) (fun _ => qs_t117 h H)
  · exact br_c (fun _ => qs_t117 h H) (fun _ => qs_t117 h H)
  · exact br_c (fun _ => qs_t72 h H) (fun _ => qs_t72 h H)
  · exact br_c (fun _ => qs_t72 h H) (fun _ => qs_t72 h H)
theorem qs_turn {u : St1} {p1 p2 p3 : Int32} (h : qs_any u) (H : ∀ u', qs_any u' → post u') : wpL_turn post u p1 p2 p3 := by
  obtain ⟨nn, ip, rc, nd, cs, a1, a2, a3, a4, a5, a6, a7, a8, a9, a10, a11, a12, a13, a14, a15, a16, a17, a18, a19, a20, a21, a22, a23, a24, a25, a26, a27⟩ := u
  refine nm_e (br_c (fun _ => br_c (fun _ => qs_t37 h H) (fun _ => qs_t37 h H)) (fun _ => br_c (fun _ => qs_t37 h H) (fun _ => qs_t37 h H)))
end
/-! the object is made -/
theorem qs_init {post : St1 → Prop} (H : ∀ u, qs_any u → post u) : wpX_init post 27 3516 (0, 0, 0, 0, 0) := by
  refine ⟨by decide, by decide, by decide, by decide, by decide, by decide, by decide, by decide, by decide, by decide, by decide, by decide, by decide, by decide, by decide, by decide, by decide, by decide, by decide, by decide, by decide, by decide, by decide, by decide, by decide, by decide, by decide, by decide, by decide, by decide, by decide, by decide, by decide, by decide, by decide, by decide, by decide, by decide, by decide, by decide, by decide, by decide, by decide, by decide, by decide, by decide, by decide, by decide, by decide, by decide, by decide, by decide, by decide, by decide, ?_⟩
  refine loop_0 (fun f i (s : Nat → Int32) => wX_init_235 post 27 3516 27 3516 0 0 0 0 0 f (nI i) (fun _ => 0) (fun _ => 0) (fun _ => 0) (fun _ => 0) (fun _ => 0) (fun _ => 0) (fun _ => 0) (fun _ => 0) (fun _ => 0) (fun _ => 0) (fun _ => 0) (fun _ => 0) (fun _ => 0) (fun _ => 0) (fun _ => 0) s (fun _ => 0) (fun _ => 0) (fun _ => 0) (fun _ => 0) (fun _ => 0) (fun _ => 0) (fun _ => 0) (fun _ => 0) (fun _ => 0) (fun _ => 0) (fun _ => 0)) (fun i s => (∀ i', i' < i → ∀ k, k < 8 → s (i' * 8 + k) = nI (qs_C i' k)) ∧ (∀ j, i * 8 ≤ j → s j = 0)) 8 (fun _ => 0) ⟨fun i' hi' => absurd hi' (by omega), fun _ _ => rfl⟩ ?_ ?_
  · intro f s hI
    exact pk_le 8 8 (fun _ => H _ ⟨0, fun _ => 8, Or.inl ⟨rfl, rfl, ⟨by omega, fun i hi => absurd hi (by omega), fun _ _ => rfl⟩, hI.1⟩⟩) (fun z => absurd z (by omega))
  · intro f i s hi hI hw
    obtain ⟨i1, i2⟩ := hI
    have e8 : nI i * 8 = nI (i * 8) := pk_mul i 8
    refine pk_le 8 i (fun z => absurd z (by omega)) (fun _ => ?_)
    rw [e8, nI_clamp (by omega)]
    refine ⟨vp_in_nI (by omega) (by decide), nm_e ?_⟩
    have main : ∃ g, wX_init_253 post 27 3516 (wX_init_235 post 27 3516 27 3516 0 0 0 0 0 f) (nI i) 27 3516 0 0 0 0 0 g (nI 1) (fun _ => 0) (fun _ => 0) (fun _ => 0) (fun _ => 0) (fun _ => 0) (fun _ => 0) (fun _ => 0) (fun _ => 0) (fun _ => 0) (fun _ => 0) (fun _ => 0) (fun _ => 0) (fun _ => 0) (fun _ => 0) (fun _ => 0) (upd s (i * 8) 1) (fun _ => 0) (fun _ => 0) (fun _ => 0) (fun _ => 0) (fun _ => 0) (fun _ => 0) (fun _ => 0) (fun _ => 0) (fun _ => 0) (fun _ => 0) (fun _ => 0) := by
      refine pk_loop (fun g k (s : Nat → Int32) => wX_init_253 post 27 3516 (wX_init_235 post 27 3516 27 3516 0 0 0 0 0 f) (nI i) 27 3516 0 0 0 0 0 g (nI k) (fun _ => 0) (fun _ => 0) (fun _ => 0) (fun _ => 0) (fun _ => 0) (fun _ => 0) (fun _ => 0) (fun _ => 0) (fun _ => 0) (fun _ => 0) (fun _ => 0) (fun _ => 0) (fun _ => 0) (fun _ => 0) (fun _ => 0) s (fun _ => 0) (fun _ => 0) (fun _ => 0) (fun _ => 0) (fun _ => 0) (fun _ => 0) (fun _ => 0) (fun _ => 0) (fun _ => 0) (fun _ => 0) (fun _ => 0))
        (fun k s => (∀ i', i' < i → ∀ k, k < 8 → s (i' * 8 + k) = nI (qs_C i' k)) ∧ (∀ k', k' < k → s (i * 8 + k') = nI (qs_C i k')) ∧ (∀ j, i * 8 + k ≤ j → s j = 0) ∧ 1 ≤ k) (i + 1) 1 (upd s (i * 8) 1) (by omega) ⟨fun i' hi' k hk => ?_, fun k' hk' => ?_, fun j hj => ?_, Nat.le_refl 1⟩ ?_ ?_
      · rw [pk_un (by omega)]
        exact i1 i' hi' k hk
      · rw [show k' = 0 by omega, Nat.add_zero, pk_us]
        cases i <;> rfl
      · rw [pk_un (by omega)]
        exact i2 j (by omega)
      · intro g s hs
        obtain ⟨s1, s2, s3, s4⟩ := hs
        refine pk_lt i (i + 1) (fun _ => nm_r (nI_1 i) (hw s ⟨fun i' hi' k hk => ?_, fun j hj => s3 j (by omega)⟩)) (fun z => absurd z (by omega))
        by_cases e : i' = i
        · rw [e]
          by_cases e2 : k < i + 1
          · exact s2 k e2
          · rw [s3 _ (by omega), qs_C_big i hi k hk (by omega)]
            rfl
        · exact s1 i' (by omega) k hk
      · intro g k s hk hs hw2
        obtain ⟨s1, s2, s3, s4⟩ := hs
        obtain ⟨x, rfl⟩ : ∃ x, i = x + 1 := ⟨i - 1, by omega⟩
        obtain ⟨y, rfl⟩ : ∃ y, k = y + 1 := ⟨k - 1, by omega⟩
        refine pk_lt (x + 1) (y + 1) (fun z => absurd z (by omega)) (fun _ => ?_)
        have q1 : nI (x + 1) - 1 = nI x := nI_pred x
        have q2 : nI x * 8 + nI (y + 1) = nI (x * 8 + (y + 1)) := qs_idx x 8 (y + 1)
        have q3 : nI (x * 8 + (y + 1)) - 1 = nI (x * 8 + y) := nI_pred (x * 8 + y)
        have q4 : nI (x + 1) * 8 + nI (y + 1) = nI ((x + 1) * 8 + (y + 1)) := qs_idx (x + 1) 8 (y + 1)
        have c1 := qs_C_le x (by omega) y (by omega)
        have c2 := qs_C_le x (by omega) (y + 1) (by omega)
        rw [q1, q2, q3, q4, nI_clamp (show x * 8 + y < 2 ^ 31 by omega), nI_clamp (show x * 8 + (y + 1) < 2 ^ 31 by omega), nI_clamp (show (x + 1) * 8 + (y + 1) < 2 ^ 31 by omega), s1 x (by omega) y (by omega), s1 x (by omega) (y + 1) (by omega), nI_add, qs_b8 _ (by omega)]
        refine ⟨vp_in_nI (by omega) (by decide), vp_in_nI (by omega) (by decide), vp_in_nI (by omega) (by decide), nm_e (nm_r (nI_1 _) (hw2 _ ⟨fun i' hi' k hk => ?_, fun k' hk' => ?_, fun j hj => ?_, by omega⟩))⟩
        · rw [pk_un (by omega)]
          exact s1 i' hi' k hk
        · by_cases e : k' = y + 1
          · rw [e, pk_us]
            rfl
          · rw [pk_un (by omega)]
            exact s2 k' (by omega)
        · rw [pk_un (by omega)]
          exact s3 j (by omega)
    exact main
end
end
section
/-! what the law asks -/
theorem qs_ok_n {n : Nat} {w : Nat → Nat} {u : St1} (h : qs_ok n w u) : n ≤ 200 ∧ (∀ i, i ≤ n → qs_bl w 8 i = i) := by
  obtain ⟨nn, ip, rc, nd, cs, a1, a2, a3, a4, a5, a6, a7, a8, a9, a10, a11, a12, a13, a14, a15, a16, a17, a18, a19, a20, a21, a22, a23, a24, a25, a26, a27⟩ := u
  obtain ⟨k1, hL, hC⟩ := qs_ok_core h
  exact ⟨hL.1, fun i hi => qs_bl8 hL hi⟩
/-- v is the place of the letter c number k, or -1 -/
def qs_NV (n : Nat) (w : Nat → Nat) (c k : Nat) (v : Int32) : Prop := (v = -1 ∧ qs_rk w c n ≤ k) ∨ (∃ q, q < n ∧ w q = c ∧ qs_rk w c q = k ∧ v = nI q)
theorem qs_NV_inj {n : Nat} {w : Nat → Nat} {c k : Nat} {v v' : Int32} (h : qs_NV n w c k v) (h' : qs_NV n w c k v') : v = v' := by
  rcases h with ⟨a1, a2⟩ | ⟨q, a1, a2, a3, a4⟩ <;> rcases h' with ⟨b1, b2⟩ | ⟨p, b1, b2, b3, b4⟩
  · rw [a1, b1]
  · have := qs_rk_lt b2 b1
    omega
  · have := qs_rk_lt a2 a1
    omega
  · rw [a4, b4, qs_sel_inj (P := fun j => decide (w j = c)) (decide_eq_true a2) (decide_eq_true b2) (a3.trans b3.symm)]
theorem qs_next' {n : Nat} {w : Nat → Nat} {post : Int32 → St1 → Prop} {u : St1} {p0 p1 : Int32} (c i : Nat) (h : qs_ok n w u) (hc : c < 8) (hi : i ≤ n) (h0 : p0 = nI c) (h1 : p1 = nI i) (H : ∀ v u', qs_ok n w u' → qs_NV n w c (qs_rk w c i) v → post v u') : wpX_next post u p0 p1 :=
  qs_next c i h hc hi h0 h1 (fun z u' hu => H _ u' hu (Or.inl ⟨rfl, z⟩)) (fun q u' q1 q2 q3 hu => H _ u' (qs_ok_of hu) (Or.inr ⟨q, q1, q2, q3, rfl⟩))
theorem qs_select' {n : Nat} {w : Nat → Nat} {post : Int32 → St1 → Prop} {u : St1} {p0 p1 p2 : Int32} (e c k : Nat) (h : qs_ok n w u) (he : e < 7) (hc : c < 8) (hk : k ≤ 200) (h0 : p0 = nI e) (h1 : p1 = nI c) (h2 : p2 = nI k) (H : ∀ v u', qs_ok n w u' → qs_NV n w c k v → post v u') : wpX_select post u p0 p1 p2 :=
  qs_select e c k h he hc hk h0 h1 h2 (fun z u' hu => H _ u' (qs_ok_of hu) (Or.inl ⟨rfl, z⟩)) (fun q u' q1 q2 q3 hu => H _ u' (qs_ok_of hu) (Or.inr ⟨q, q1, q2, q3, rfl⟩))
theorem qs_l39 {n : Nat} {w : Nat → Nat} {post : Int32 → St1 → Prop} {J : Int32 → Int32 → Int32 → Int32 → Int32 → Int32 → Int32 → (Nat → Int32) → (Nat → Int32) → (Nat → Int32) → (Nat → Int32) → (Nat → Int32) → (Nat → Int32) → (Nat → Int32) → (Nat → Int32) → (Nat → Int32) → (Nat → Int32) → (Nat → Int32) → (Nat → Int32) → (Nat → Int32) → (Nat → Int32) → (Nat → Int32) → (Nat → Int32) → (Nat → Int32) → (Nat → Int32) → (Nat → Int32) → (Nat → Int32) → (Nat → Int32) → (Nat → Int32) → (Nat → Int32) → (Nat → Int32) → (Nat → Int32) → (Nat → Int32) → (Nat → Int32) → Prop} {u : St1} {x5 : Int32} (e c i j : Nat) (h : qs_ok n w u) (he : e < 7) (hc : c < 8) (hi : i ≤ j) (hj : j ≤ n)
    (HJ : ∀ u', qs_ok n w u' → J x5 (nI (c + 1)) u'.1 u'.2.1 u'.2.2.1 u'.2.2.2.1 u'.2.2.2.2.1 u'.2.2.2.2.2.1 u'.2.2.2.2.2.2.1 u'.2.2.2.2.2.2.2.1 u'.2.2.2.2.2.2.2.2.1 u'.2.2.2.2.2.2.2.2.2.1 u'.2.2.2.2.2.2.2.2.2.2.1 u'.2.2.2.2.2.2.2.2.2.2.2.1 u'.2.2.2.2.2.2.2.2.2.2.2.2.1 u'.2.2.2.2.2.2.2.2.2.2.2.2.2.1 u'.2.2.2.2.2.2.2.2.2.2.2.2.2.2.1 u'.2.2.2.2.2.2.2.2.2.2.2.2.2.2.2.1 u'.2.2.2.2.2.2.2.2.2.2.2.2.2.2.2.2.1 u'.2.2.2.2.2.2.2.2.2.2.2.2.2.2.2.2.2.1 u'.2.2.2.2.2.2.2.2.2.2.2.2.2.2.2.2.2.2.1 u'.2.2.2.2.2.2.2.2.2.2.2.2.2.2.2.2.2.2.2.1 u'.2.2.2.2.2.2.2.2.2.2.2.2.2.2.2.2.2.2.2.2.1 u'.2.2.2.2.2.2.2.2.2.2.2.2.2.2.2.2.2.2.2.2.2.1 u'.2.2.2.2.2.2.2.2.2.2.2.2.2.2.2.2.2.2.2.2.2.2.1 u'.2.2.2.2.2.2.2.2.2.2.2.2.2.2.2.2.2.2.2.2.2.2.2.1 u'.2.2.2.2.2.2.2.2.2.2.2.2.2.2.2.2.2.2.2.2.2.2.2.2.1 u'.2.2.2.2.2.2.2.2.2.2.2.2.2.2.2.2.2.2.2.2.2.2.2.2.2.1 u'.2.2.2.2.2.2.2.2.2.2.2.2.2.2.2.2.2.2.2.2.2.2.2.2.2.2.1 u'.2.2.2.2.2.2.2.2.2.2.2.2.2.2.2.2.2.2.2.2.2.2.2.2.2.2.2.1 u'.2.2.2.2.2.2.2.2.2.2.2.2.2.2.2.2.2.2.2.2.2.2.2.2.2.2.2.2.1 u'.2.2.2.2.2.2.2.2.2.2.2.2.2.2.2.2.2.2.2.2.2.2.2.2.2.2.2.2.2.1 u'.2.2.2.2.2.2.2.2.2.2.2.2.2.2.2.2.2.2.2.2.2.2.2.2.2.2.2.2.2.2.1 u'.2.2.2.2.2.2.2.2.2.2.2.2.2.2.2.2.2.2.2.2.2.2.2.2.2.2.2.2.2.2.2) : ∃ f, wL_letters_39 post J (nI e) (nI n) (nI i) (nI j) x5 (nI c) (nI (qs_rk w c n)) f 0 u.1 u.2.1 u.2.2.1 u.2.2.2.1 u.2.2.2.2.1 u.2.2.2.2.2.1 u.2.2.2.2.2.2.1 u.2.2.2.2.2.2.2.1 u.2.2.2.2.2.2.2.2.1 u.2.2.2.2.2.2.2.2.2.1 u.2.2.2.2.2.2.2.2.2.2.1 u.2.2.2.2.2.2.2.2.2.2.2.1 u.2.2.2.2.2.2.2.2.2.2.2.2.1 u.2.2.2.2.2.2.2.2.2.2.2.2.2.1 u.2.2.2.2.2.2.2.2.2.2.2.2.2.2.1 u.2.2.2.2.2.2.2.2.2.2.2.2.2.2.2.1 u.2.2.2.2.2.2.2.2.2.2.2.2.2.2.2.2.1 u.2.2.2.2.2.2.2.2.2.2.2.2.2.2.2.2.2.1 u.2.2.2.2.2.2.2.2.2.2.2.2.2.2.2.2.2.2.1 u.2.2.2.2.2.2.2.2.2.2.2.2.2.2.2.2.2.2.2.1 u.2.2.2.2.2.2.2.2.2.2.2.2.2.2.2.2.2.2.2.2.1 u.2.2.2.2.2.2.2.2.2.2.2.2.2.2.2.2.2.2.2.2.2.1 u.2.2.2.2.2.2.2.2.2.2.2.2.2.2.2.2.2.2.2.2.2.2.1 u.2.2.2.2.2.2.2.2.2.2.2.2.2.2.2.2.2.2.2.2.2.2.2.1 u.2.2.2.2.2.2.2.2.2.2.2.2.2.2.2.2.2.2.2.2.2.2.2.2.1 u.2.2.2.2.2.2.2.2.2.2.2.2.2.2.2.2.2.2.2.2.2.2.2.2.2.1 u.2.2.2.2.2.2.2.2.2.2.2.2.2.2.2.2.2.2.2.2.2.2.2.2.2.2.1 u.2.2.2.2.2.2.2.2.2.2.2.2.2.2.2.2.2.2.2.2.2.2.2.2.2.2.2.1 u.2.2.2.2.2.2.2.2.2.2.2.2.2.2.2.2.2.2.2.2.2.2.2.2.2.2.2.2.1 u.2.2.2.2.2.2.2.2.2.2.2.2.2.2.2.2.2.2.2.2.2.2.2.2.2.2.2.2.2.1 u.2.2.2.2.2.2.2.2.2.2.2.2.2.2.2.2.2.2.2.2.2.2.2.2.2.2.2.2.2.2.1 u.2.2.2.2.2.2.2.2.2.2.2.2.2.2.2.2.2.2.2.2.2.2.2.2.2.2.2.2.2.2.2 := by
  obtain ⟨hn, hb8⟩ := qs_ok_n h
  have hN := qs_rk_le w c n
  refine loop_0 (fun f k (s : St1) => wL_letters_39 post J (nI e) (nI n) (nI i) (nI j) x5 (nI c) (nI (qs_rk w c n)) f (nI k) s.1 s.2.1 s.2.2.1 s.2.2.2.1 s.2.2.2.2.1 s.2.2.2.2.2.1 s.2.2.2.2.2.2.1 s.2.2.2.2.2.2.2.1 s.2.2.2.2.2.2.2.2.1 s.2.2.2.2.2.2.2.2.2.1 s.2.2.2.2.2.2.2.2.2.2.1 s.2.2.2.2.2.2.2.2.2.2.2.1 s.2.2.2.2.2.2.2.2.2.2.2.2.1 s.2.2.2.2.2.2.2.2.2.2.2.2.2.1 s.2.2.2.2.2.2.2.2.2.2.2.2.2.2.1 s.2.2.2.2.2.2.2.2.2.2.2.2.2.2.2.1 s.2.2.2.2.2.2.2.2.2.2.2.2.2.2.2.2.1 s.2.2.2.2.2.2.2.2.2.2.2.2.2.2.2.2.2.1 s.2.2.2.2.2.2.2.2.2.2.2.2.2.2.2.2.2.2.1 s.2.2.2.2.2.2.2.2.2.2.2.2.2.2.2.2.2.2.2.1 s.2.2.2.2.2.2.2.2.2.2.2.2.2.2.2.2.2.2.2.2.1 s.2.2.2.2.2.2.2.2.2.2.2.2.2.2.2.2.2.2.2.2.2.1 s.2.2.2.2.2.2.2.2.2.2.2.2.2.2.2.2.2.2.2.2.2.2.1 s.2.2.2.2.2.2.2.2.2.2.2.2.2.2.2.2.2.2.2.2.2.2.2.1 s.2.2.2.2.2.2.2.2.2.2.2.2.2.2.2.2.2.2.2.2.2.2.2.2.1 s.2.2.2.2.2.2.2.2.2.2.2.2.2.2.2.2.2.2.2.2.2.2.2.2.2.1 s.2.2.2.2.2.2.2.2.2.2.2.2.2.2.2.2.2.2.2.2.2.2.2.2.2.2.1 s.2.2.2.2.2.2.2.2.2.2.2.2.2.2.2.2.2.2.2.2.2.2.2.2.2.2.2.1 s.2.2.2.2.2.2.2.2.2.2.2.2.2.2.2.2.2.2.2.2.2.2.2.2.2.2.2.2.1 s.2.2.2.2.2.2.2.2.2.2.2.2.2.2.2.2.2.2.2.2.2.2.2.2.2.2.2.2.2.1 s.2.2.2.2.2.2.2.2.2.2.2.2.2.2.2.2.2.2.2.2.2.2.2.2.2.2.2.2.2.2.1 s.2.2.2.2.2.2.2.2.2.2.2.2.2.2.2.2.2.2.2.2.2.2.2.2.2.2.2.2.2.2.2) (fun _ s => qs_ok n w s) (qs_rk w c n) u h ?_ ?_
  · intro f s hs
    obtain ⟨nn, ip, rc, nd, cs, a1, a2, a3, a4, a5, a6, a7, a8, a9, a10, a11, a12, a13, a14, a15, a16, a17, a18, a19, a20, a21, a22, a23, a24, a25, a26, a27⟩ := s
    refine pk_le (qs_rk w c n) (qs_rk w c n) (fun _ => ?_) (fun z => absurd z (by omega))
    refine qs_below e i j c hs he (by omega) hi hj rfl rfl rfl rfl (fun u1 h1 => ?_)
    obtain ⟨nn, ip, rc, nd, cs, a1, a2, a3, a4, a5, a6, a7, a8, a9, a10, a11, a12, a13, a14, a15, a16, a17, a18, a19, a20, a21, a22, a23, a24, a25, a26, a27⟩ := u1
    refine qs_below e i j (c + 1) (qs_ok_of h1) he (by omega) hi hj rfl rfl rfl (nI_1 c) (fun u2 h2 => ?_)
    obtain ⟨nn, ip, rc, nd, cs, a1, a2, a3, a4, a5, a6, a7, a8, a9, a10, a11, a12, a13, a14, a15, a16, a17, a18, a19, a20, a21, a22, a23, a24, a25, a26, a27⟩ := u2
    refine qs_next' c i (qs_ok_of h2) hc (by omega) rfl rfl (fun v u3 h3 hv => ?_)
    obtain ⟨nn, ip, rc, nd, cs, a1, a2, a3, a4, a5, a6, a7, a8, a9, a10, a11, a12, a13, a14, a15, a16, a17, a18, a19, a20, a21, a22, a23, a24, a25, a26, a27⟩ := u3
    refine qs_rank e c i h3 he hc (by omega) rfl rfl rfl (fun u4 h4 => ?_)
    obtain ⟨nn, ip, rc, nd, cs, a1, a2, a3, a4, a5, a6, a7, a8, a9, a10, a11, a12, a13, a14, a15, a16, a17, a18, a19, a20, a21, a22, a23, a24, a25, a26, a27⟩ := u4
    have hri := qs_rk_le w c i
    refine qs_select' e c (qs_rk w c i) (qs_ok_of h4) he hc (by omega) rfl rfl rfl (fun v2 u5 h5 hv2 => ?_)
    obtain ⟨nn, ip, rc, nd, cs, a1, a2, a3, a4, a5, a6, a7, a8, a9, a10, a11, a12, a13, a14, a15, a16, a17, a18, a19, a20, a21, a22, a23, a24, a25, a26, a27⟩ := u5
    refine qs_rank e c j h5 he hc hj rfl rfl rfl (fun u6 h6 => ?_)
    obtain ⟨nn, ip, rc, nd, cs, a1, a2, a3, a4, a5, a6, a7, a8, a9, a10, a11, a12, a13, a14, a15, a16, a17, a18, a19, a20, a21, a22, a23, a24, a25, a26, a27⟩ := u6
    refine qs_rank e c i (qs_ok_of h6) he hc (by omega) rfl rfl rfl (fun u7 h7 => ?_)
    obtain ⟨nn, ip, rc, nd, cs, a1, a2, a3, a4, a5, a6, a7, a8, a9, a10, a11, a12, a13, a14, a15, a16, a17, a18, a19, a20, a21, a22, a23, a24, a25, a26, a27⟩ := u7
    have b1 := qs_bl_S w c i
    have b2 := qs_bl_S w c j
    have b3 := qs_bl_imono w c hi
    have b4 := qs_rk_mono w c hi
    refine br_t ?_ (br_t (qs_NV_inj hv hv2) (qs_below 0 i j c (qs_ok_of h7) (by omega) (by omega) hi hj rfl rfl rfl rfl (fun u8 h8 => ?_)))
    · rw [pk_sub (by omega), pk_sub b4]
      congr 1
      omega
    · have t := HJ u8 (qs_ok_of h8)
      obtain ⟨nn, ip, rc, nd, cs, a1, a2, a3, a4, a5, a6, a7, a8, a9, a10, a11, a12, a13, a14, a15, a16, a17, a18, a19, a20, a21, a22, a23, a24, a25, a26, a27⟩ := u8
      exact br_t rfl (nm_r (nI_1 c) t)
  · intro f k s hk hs hw
    obtain ⟨nn, ip, rc, nd, cs, a1, a2, a3, a4, a5, a6, a7, a8, a9, a10, a11, a12, a13, a14, a15, a16, a17, a18, a19, a20, a21, a22, a23, a24, a25, a26, a27⟩ := s
    refine pk_le (qs_rk w c n) k (fun z => absurd z (by omega)) (fun _ => ?_)
    refine qs_select' e c k hs he hc (by omega) rfl rfl rfl (fun v u1 h1 hv => ?_)
    have hv' := hv
    rcases hv with ⟨_, a2⟩ | ⟨q, q1, q2, q3, q4⟩
    · omega
    · obtain ⟨nn, ip, rc, nd, cs, a1, a2, a3, a4, a5, a6, a7, a8, a9, a10, a11, a12, a13, a14, a15, a16, a17, a18, a19, a20, a21, a22, a23, a24, a25, a26, a27⟩ := u1
      refine qs_rank e c q h1 he hc (by omega) rfl rfl q4 (fun u2 h2 => ?_)
      obtain ⟨nn, ip, rc, nd, cs, a1, a2, a3, a4, a5, a6, a7, a8, a9, a10, a11, a12, a13, a14, a15, a16, a17, a18, a19, a20, a21, a22, a23, a24, a25, a26, a27⟩ := u2
      refine br_t (by rw [q3]) (qs_at e q (qs_ok_of h2) he q1 rfl q4 (fun u3 h3 => ?_))
      obtain ⟨nn, ip, rc, nd, cs, a1, a2, a3, a4, a5, a6, a7, a8, a9, a10, a11, a12, a13, a14, a15, a16, a17, a18, a19, a20, a21, a22, a23, a24, a25, a26, a27⟩ := u3
      refine br_t (by rw [q2]) (qs_select' 0 c k (qs_ok_of h3) (by omega) hc (by omega) rfl rfl rfl (fun v2 u4 h4 hv2 => ?_))
      have t := hw u4 h4
      obtain ⟨nn, ip, rc, nd, cs, a1, a2, a3, a4, a5, a6, a7, a8, a9, a10, a11, a12, a13, a14, a15, a16, a17, a18, a19, a20, a21, a22, a23, a24, a25, a26, a27⟩ := u4
      exact br_t (qs_NV_inj hv' hv2) (nm_r (nI_1 k) t)
theorem qs_letters {n : Nat} {w : Nat → Nat} {post : Int32 → St1 → Prop} {u : St1} {p1 p2 p3 p4 : Int32} (e i j : Nat) (h : qs_ok n w u) (he : e < 7) (hi : i ≤ j) (hj : j ≤ n) (h1 : p1 = nI e) (h2 : p2 = nI n) (h3 : p3 = nI i) (h4 : p4 = nI j)
    (H : ∀ u', qs_ok n w u' → post 1 u') : wpL_letters post u p1 p2 p3 p4 := by
  subst h1
  subst h2
  subst h3
  subst h4
  obtain ⟨hn, hb8⟩ := qs_ok_n h
  have z0 : qs_bl w 0 i = 0 := qs_ct_zero (fun j _ => decide_eq_false (by omega))
  have main : ∃ f, wL_letters_6 post (nI e) (nI n) (nI i) (nI j) f (nI (qs_bl w 0 i)) (nI 0) u.1 u.2.1 u.2.2.1 u.2.2.2.1 u.2.2.2.2.1 u.2.2.2.2.2.1 u.2.2.2.2.2.2.1 u.2.2.2.2.2.2.2.1 u.2.2.2.2.2.2.2.2.1 u.2.2.2.2.2.2.2.2.2.1 u.2.2.2.2.2.2.2.2.2.2.1 u.2.2.2.2.2.2.2.2.2.2.2.1 u.2.2.2.2.2.2.2.2.2.2.2.2.1 u.2.2.2.2.2.2.2.2.2.2.2.2.2.1 u.2.2.2.2.2.2.2.2.2.2.2.2.2.2.1 u.2.2.2.2.2.2.2.2.2.2.2.2.2.2.2.1 u.2.2.2.2.2.2.2.2.2.2.2.2.2.2.2.2.1 u.2.2.2.2.2.2.2.2.2.2.2.2.2.2.2.2.2.1 u.2.2.2.2.2.2.2.2.2.2.2.2.2.2.2.2.2.2.1 u.2.2.2.2.2.2.2.2.2.2.2.2.2.2.2.2.2.2.2.1 u.2.2.2.2.2.2.2.2.2.2.2.2.2.2.2.2.2.2.2.2.1 u.2.2.2.2.2.2.2.2.2.2.2.2.2.2.2.2.2.2.2.2.2.1 u.2.2.2.2.2.2.2.2.2.2.2.2.2.2.2.2.2.2.2.2.2.2.1 u.2.2.2.2.2.2.2.2.2.2.2.2.2.2.2.2.2.2.2.2.2.2.2.1 u.2.2.2.2.2.2.2.2.2.2.2.2.2.2.2.2.2.2.2.2.2.2.2.2.1 u.2.2.2.2.2.2.2.2.2.2.2.2.2.2.2.2.2.2.2.2.2.2.2.2.2.1 u.2.2.2.2.2.2.2.2.2.2.2.2.2.2.2.2.2.2.2.2.2.2.2.2.2.2.1 u.2.2.2.2.2.2.2.2.2.2.2.2.2.2.2.2.2.2.2.2.2.2.2.2.2.2.2.1 u.2.2.2.2.2.2.2.2.2.2.2.2.2.2.2.2.2.2.2.2.2.2.2.2.2.2.2.2.1 u.2.2.2.2.2.2.2.2.2.2.2.2.2.2.2.2.2.2.2.2.2.2.2.2.2.2.2.2.2.1 u.2.2.2.2.2.2.2.2.2.2.2.2.2.2.2.2.2.2.2.2.2.2.2.2.2.2.2.2.2.2.1 u.2.2.2.2.2.2.2.2.2.2.2.2.2.2.2.2.2.2.2.2.2.2.2.2.2.2.2.2.2.2.2 := by
    refine loop_0 (fun f c (s : St1) => wL_letters_6 post (nI e) (nI n) (nI i) (nI j) f (nI (qs_bl w c i)) (nI c) s.1 s.2.1 s.2.2.1 s.2.2.2.1 s.2.2.2.2.1 s.2.2.2.2.2.1 s.2.2.2.2.2.2.1 s.2.2.2.2.2.2.2.1 s.2.2.2.2.2.2.2.2.1 s.2.2.2.2.2.2.2.2.2.1 s.2.2.2.2.2.2.2.2.2.2.1 s.2.2.2.2.2.2.2.2.2.2.2.1 s.2.2.2.2.2.2.2.2.2.2.2.2.1 s.2.2.2.2.2.2.2.2.2.2.2.2.2.1 s.2.2.2.2.2.2.2.2.2.2.2.2.2.2.1 s.2.2.2.2.2.2.2.2.2.2.2.2.2.2.2.1 s.2.2.2.2.2.2.2.2.2.2.2.2.2.2.2.2.1 s.2.2.2.2.2.2.2.2.2.2.2.2.2.2.2.2.2.1 s.2.2.2.2.2.2.2.2.2.2.2.2.2.2.2.2.2.2.1 s.2.2.2.2.2.2.2.2.2.2.2.2.2.2.2.2.2.2.2.1 s.2.2.2.2.2.2.2.2.2.2.2.2.2.2.2.2.2.2.2.2.1 s.2.2.2.2.2.2.2.2.2.2.2.2.2.2.2.2.2.2.2.2.2.1 s.2.2.2.2.2.2.2.2.2.2.2.2.2.2.2.2.2.2.2.2.2.2.1 s.2.2.2.2.2.2.2.2.2.2.2.2.2.2.2.2.2.2.2.2.2.2.2.1 s.2.2.2.2.2.2.2.2.2.2.2.2.2.2.2.2.2.2.2.2.2.2.2.2.1 s.2.2.2.2.2.2.2.2.2.2.2.2.2.2.2.2.2.2.2.2.2.2.2.2.2.1 s.2.2.2.2.2.2.2.2.2.2.2.2.2.2.2.2.2.2.2.2.2.2.2.2.2.2.1 s.2.2.2.2.2.2.2.2.2.2.2.2.2.2.2.2.2.2.2.2.2.2.2.2.2.2.2.1 s.2.2.2.2.2.2.2.2.2.2.2.2.2.2.2.2.2.2.2.2.2.2.2.2.2.2.2.2.1 s.2.2.2.2.2.2.2.2.2.2.2.2.2.2.2.2.2.2.2.2.2.2.2.2.2.2.2.2.2.1 s.2.2.2.2.2.2.2.2.2.2.2.2.2.2.2.2.2.2.2.2.2.2.2.2.2.2.2.2.2.2.1 s.2.2.2.2.2.2.2.2.2.2.2.2.2.2.2.2.2.2.2.2.2.2.2.2.2.2.2.2.2.2.2) (fun _ s => qs_ok n w s) 8 u h ?_ ?_
    · intro f s hs
      obtain ⟨nn, ip, rc, nd, cs, a1, a2, a3, a4, a5, a6, a7, a8, a9, a10, a11, a12, a13, a14, a15, a16, a17, a18, a19, a20, a21, a22, a23, a24, a25, a26, a27⟩ := s
      refine pk_le 8 8 (fun _ => br_t (by rw [hb8 i (by omega)]) (qs_below e i j 8 hs he (by omega) hi hj rfl rfl rfl rfl (fun u1 hu1 => ?_))) (fun z => absurd z (by omega))
      have t := H u1 (qs_ok_of hu1)
      obtain ⟨nn, ip, rc, nd, cs, a1, a2, a3, a4, a5, a6, a7, a8, a9, a10, a11, a12, a13, a14, a15, a16, a17, a18, a19, a20, a21, a22, a23, a24, a25, a26, a27⟩ := u1
      refine br_t ?_ t
      rw [hb8 i (by omega), hb8 j hj, pk_sub hi]
    · intro f c s hc hs hw
      obtain ⟨nn, ip, rc, nd, cs, a1, a2, a3, a4, a5, a6, a7, a8, a9, a10, a11, a12, a13, a14, a15, a16, a17, a18, a19, a20, a21, a22, a23, a24, a25, a26, a27⟩ := s
      refine pk_le 8 c (fun z => absurd z (by omega)) (fun _ => qs_rank e c n hs he hc (Nat.le_refl n) rfl rfl rfl (fun u1 hu1 => ?_))
      obtain ⟨nn, ip, rc, nd, cs, a1, a2, a3, a4, a5, a6, a7, a8, a9, a10, a11, a12, a13, a14, a15, a16, a17, a18, a19, a20, a21, a22, a23, a24, a25, a26, a27⟩ := u1
      refine qs_rank e c i (qs_ok_of hu1) he hc (by omega) rfl rfl rfl (fun u2 hu2 => ?_)
      obtain ⟨nn, ip, rc, nd, cs, a1, a2, a3, a4, a5, a6, a7, a8, a9, a10, a11, a12, a13, a14, a15, a16, a17, a18, a19, a20, a21, a22, a23, a24, a25, a26, a27⟩ := u2
      refine nm_r (e' := nI (qs_bl w (c + 1) i)) ?_ (qs_l39 e c i j (qs_ok_of hu2) he hc hi hj hw)
      rw [nI_add, qs_bl_S]
  rw [z0] at main
  obtain ⟨nn, ip, rc, nd, cs, a1, a2, a3, a4, a5, a6, a7, a8, a9, a10, a11, a12, a13, a14, a15, a16, a17, a18, a19, a20, a21, a22, a23, a24, a25, a26, a27⟩ := u
  exact main
theorem qs_od_mono {w : Nat → Nat} {i j k k' c c' : Nat} (hij : i ≤ j) (h : qs_od w i j k c) (h' : qs_od w i j k' c') (hk : k ≤ k') : c ≤ c' := by
  obtain ⟨a1, a2, a3⟩ := h
  obtain ⟨b1, b2, b3⟩ := h'
  rcases Nat.lt_or_ge c' c with z | z
  · exfalso
    have mono : ∀ d, qs_bl w (c' + 1) j + qs_bl w (c' + 1 + d) i ≤ qs_bl w (c' + 1 + d) j + qs_bl w (c' + 1) i := by
      intro d
      induction d with
      | zero => rw [Nat.add_zero]; omega
      | succ d ih =>
        have e1 := qs_bl_S w (c' + 1 + d) i
        have e2 := qs_bl_S w (c' + 1 + d) j
        have e3 := qs_rk_mono w (c' + 1 + d) hij
        rw [← Nat.add_assoc]
        omega
    have := mono (c - (c' + 1))
    rw [show c' + 1 + (c - (c' + 1)) = c by omega] at this
    omega
  · exact z
theorem qs_diff_le (w : Nat → Nat) {i j : Nat} (hij : i ≤ j) : ∀ C, qs_ct (fun c => decide (qs_rk w c i < qs_rk w c j)) C + qs_bl w C i ≤ qs_bl w C j := by
  intro C
  induction C with
  | zero =>
    have z0 : ∀ x, qs_bl w 0 x = 0 := fun x => qs_ct_zero (fun j _ => decide_eq_false (by omega))
    rw [z0, z0]
    exact Nat.le_refl _
  | succ C ih =>
    have e1 := qs_bl_S w C i
    have e2 := qs_bl_S w C j
    have e3 := qs_rk_mono w C hij
    by_cases z : qs_rk w C i < qs_rk w C j
    · rw [qs_ctT (P := fun c => decide (qs_rk w c i < qs_rk w c j)) (decide_eq_true z)]
      omega
    · rw [qs_ctF (P := fun c => decide (qs_rk w c i < qs_rk w c j)) (decide_eq_false z)]
      omega
theorem qs_range {n : Nat} {w : Nat → Nat} {post : Int32 → St1 → Prop} {u : St1} {p1 p2 p3 : Int32} (e i j : Nat) (h : qs_ok n w u) (he : e < 7) (hi : i ≤ j) (hj : j ≤ n) (h1 : p1 = nI e) (h2 : p2 = nI i) (h3 : p3 = nI j)
    (H : ∀ u', qs_ok n w u' → post 1 u') : wpL_range post u p1 p2 p3 := by
  subst h1
  subst h2
  subst h3
  obtain ⟨hn, hb8⟩ := qs_ok_n h
  have main : ∃ f, wL_range_6 post (nI e) (nI i) (nI j) f 0 0 u.1 u.2.1 u.2.2.1 u.2.2.2.1 u.2.2.2.2.1 u.2.2.2.2.2.1 u.2.2.2.2.2.2.1 u.2.2.2.2.2.2.2.1 u.2.2.2.2.2.2.2.2.1 u.2.2.2.2.2.2.2.2.2.1 u.2.2.2.2.2.2.2.2.2.2.1 u.2.2.2.2.2.2.2.2.2.2.2.1 u.2.2.2.2.2.2.2.2.2.2.2.2.1 u.2.2.2.2.2.2.2.2.2.2.2.2.2.1 u.2.2.2.2.2.2.2.2.2.2.2.2.2.2.1 u.2.2.2.2.2.2.2.2.2.2.2.2.2.2.2.1 u.2.2.2.2.2.2.2.2.2.2.2.2.2.2.2.2.1 u.2.2.2.2.2.2.2.2.2.2.2.2.2.2.2.2.2.1 u.2.2.2.2.2.2.2.2.2.2.2.2.2.2.2.2.2.2.1 u.2.2.2.2.2.2.2.2.2.2.2.2.2.2.2.2.2.2.2.1 u.2.2.2.2.2.2.2.2.2.2.2.2.2.2.2.2.2.2.2.2.1 u.2.2.2.2.2.2.2.2.2.2.2.2.2.2.2.2.2.2.2.2.2.1 u.2.2.2.2.2.2.2.2.2.2.2.2.2.2.2.2.2.2.2.2.2.2.1 u.2.2.2.2.2.2.2.2.2.2.2.2.2.2.2.2.2.2.2.2.2.2.2.1 u.2.2.2.2.2.2.2.2.2.2.2.2.2.2.2.2.2.2.2.2.2.2.2.2.1 u.2.2.2.2.2.2.2.2.2.2.2.2.2.2.2.2.2.2.2.2.2.2.2.2.2.1 u.2.2.2.2.2.2.2.2.2.2.2.2.2.2.2.2.2.2.2.2.2.2.2.2.2.2.1 u.2.2.2.2.2.2.2.2.2.2.2.2.2.2.2.2.2.2.2.2.2.2.2.2.2.2.2.1 u.2.2.2.2.2.2.2.2.2.2.2.2.2.2.2.2.2.2.2.2.2.2.2.2.2.2.2.2.1 u.2.2.2.2.2.2.2.2.2.2.2.2.2.2.2.2.2.2.2.2.2.2.2.2.2.2.2.2.2.1 u.2.2.2.2.2.2.2.2.2.2.2.2.2.2.2.2.2.2.2.2.2.2.2.2.2.2.2.2.2.2.1 u.2.2.2.2.2.2.2.2.2.2.2.2.2.2.2.2.2.2.2.2.2.2.2.2.2.2.2.2.2.2.2 := by
    refine loop_0 (fun f k (s : Nat × St1) => wL_range_6 post (nI e) (nI i) (nI j) f (nI s.1) (nI k) s.2.1 s.2.2.1 s.2.2.2.1 s.2.2.2.2.1 s.2.2.2.2.2.1 s.2.2.2.2.2.2.1 s.2.2.2.2.2.2.2.1 s.2.2.2.2.2.2.2.2.1 s.2.2.2.2.2.2.2.2.2.1 s.2.2.2.2.2.2.2.2.2.2.1 s.2.2.2.2.2.2.2.2.2.2.2.1 s.2.2.2.2.2.2.2.2.2.2.2.2.1 s.2.2.2.2.2.2.2.2.2.2.2.2.2.1 s.2.2.2.2.2.2.2.2.2.2.2.2.2.2.1 s.2.2.2.2.2.2.2.2.2.2.2.2.2.2.2.1 s.2.2.2.2.2.2.2.2.2.2.2.2.2.2.2.2.1 s.2.2.2.2.2.2.2.2.2.2.2.2.2.2.2.2.2.1 s.2.2.2.2.2.2.2.2.2.2.2.2.2.2.2.2.2.2.1 s.2.2.2.2.2.2.2.2.2.2.2.2.2.2.2.2.2.2.2.1 s.2.2.2.2.2.2.2.2.2.2.2.2.2.2.2.2.2.2.2.2.1 s.2.2.2.2.2.2.2.2.2.2.2.2.2.2.2.2.2.2.2.2.2.1 s.2.2.2.2.2.2.2.2.2.2.2.2.2.2.2.2.2.2.2.2.2.2.1 s.2.2.2.2.2.2.2.2.2.2.2.2.2.2.2.2.2.2.2.2.2.2.2.1 s.2.2.2.2.2.2.2.2.2.2.2.2.2.2.2.2.2.2.2.2.2.2.2.2.1 s.2.2.2.2.2.2.2.2.2.2.2.2.2.2.2.2.2.2.2.2.2.2.2.2.2.1 s.2.2.2.2.2.2.2.2.2.2.2.2.2.2.2.2.2.2.2.2.2.2.2.2.2.2.1 s.2.2.2.2.2.2.2.2.2.2.2.2.2.2.2.2.2.2.2.2.2.2.2.2.2.2.2.1 s.2.2.2.2.2.2.2.2.2.2.2.2.2.2.2.2.2.2.2.2.2.2.2.2.2.2.2.2.1 s.2.2.2.2.2.2.2.2.2.2.2.2.2.2.2.2.2.2.2.2.2.2.2.2.2.2.2.2.2.1 s.2.2.2.2.2.2.2.2.2.2.2.2.2.2.2.2.2.2.2.2.2.2.2.2.2.2.2.2.2.2.1 s.2.2.2.2.2.2.2.2.2.2.2.2.2.2.2.2.2.2.2.2.2.2.2.2.2.2.2.2.2.2.2.1 s.2.2.2.2.2.2.2.2.2.2.2.2.2.2.2.2.2.2.2.2.2.2.2.2.2.2.2.2.2.2.2.2) (fun k s => qs_ok n w s.2 ∧ s.1 < 8 ∧ (k = 0 → s.1 = 0) ∧ (0 < k → qs_od w i j (k - 1) s.1)) (j - i) (0, u) ⟨h, Nat.succ_pos 7, fun _ => rfl, fun z => absurd z (by omega)⟩ ?_ ?_
    · intro f s hs
      obtain ⟨l, s⟩ := s
      obtain ⟨hs, _⟩ := hs
      try dsimp only at hs
      obtain ⟨nn, ip, rc, nd, cs, a1, a2, a3, a4, a5, a6, a7, a8, a9, a10, a11, a12, a13, a14, a15, a16, a17, a18, a19, a20, a21, a22, a23, a24, a25, a26, a27⟩ := s
      have d8 := qs_ct_le (fun c => decide (qs_rk w c i < qs_rk w c j)) 8
      have dl := qs_diff_le w hi 8
      rw [hb8 i (by omega), hb8 j hj] at dl
      refine pk_le (j - i) (j - i) (fun _ => qs_different i j hs hi hj rfl rfl (fun u1 hu1 => ?_)) (fun z => absurd z (by omega)) (pk_sub hi) rfl (by omega) (by omega)
      obtain ⟨nn, ip, rc, nd, cs, a1, a2, a3, a4, a5, a6, a7, a8, a9, a10, a11, a12, a13, a14, a15, a16, a17, a18, a19, a20, a21, a22, a23, a24, a25, a26, a27⟩ := u1
      refine pk_lt 8 (qs_ct (fun c => decide (qs_rk w c i < qs_rk w c j)) 8) (fun z => absurd z (by omega)) (fun _ => ?_) rfl rfl (by omega) (by omega)
      refine pk_lt (j - i) (qs_ct (fun c => decide (qs_rk w c i < qs_rk w c j)) 8) (fun z => absurd z (by omega)) (fun _ => br_f (nI_pos (by omega)) ?_) (pk_sub hi) rfl (by omega) (by omega)
      refine qs_most e i j (qs_ok_of hu1) he hi hj rfl rfl rfl (fun u2 hu2 => ?_)
      obtain ⟨nn, ip, rc, nd, cs, a1, a2, a3, a4, a5, a6, a7, a8, a9, a10, a11, a12, a13, a14, a15, a16, a17, a18, a19, a20, a21, a22, a23, a24, a25, a26, a27⟩ := u2
      refine qs_most 0 i j hu2 (by omega) hi hj rfl rfl rfl (fun u3 hu3 => ?_)
      have t := H u3 hu3
      obtain ⟨nn, ip, rc, nd, cs, a1, a2, a3, a4, a5, a6, a7, a8, a9, a10, a11, a12, a13, a14, a15, a16, a17, a18, a19, a20, a21, a22, a23, a24, a25, a26, a27⟩ := u3
      exact br_t rfl (qs_ordered_bad e i j hu3 he hi hj rfl rfl rfl (pk_sub hi) (br_t rfl t))
    · intro f k s hk hs hw
      obtain ⟨l, s⟩ := s
      obtain ⟨hs, l8, l0, l1⟩ := hs
      try dsimp only at hs l8 l0 l1
      obtain ⟨nn, ip, rc, nd, cs, a1, a2, a3, a4, a5, a6, a7, a8, a9, a10, a11, a12, a13, a14, a15, a16, a17, a18, a19, a20, a21, a22, a23, a24, a25, a26, a27⟩ := s
      refine pk_le (j - i) k (fun z => absurd z (by omega)) (fun _ => qs_ordered e i j k hs he hj (by omega) rfl rfl rfl rfl (fun c u1 hc hu1 => ?_)) (pk_sub hi) rfl (by omega) (by omega)
      have hcl : l ≤ c := by
        rcases Nat.eq_zero_or_pos k with z | z
        · rw [l0 z]
          omega
        · exact qs_od_mono hi (l1 z) hc (by omega)
      have c8 := hc.1
      obtain ⟨nn, ip, rc, nd, cs, a1, a2, a3, a4, a5, a6, a7, a8, a9, a10, a11, a12, a13, a14, a15, a16, a17, a18, a19, a20, a21, a22, a23, a24, a25, a26, a27⟩ := u1
      refine pk_lt c l (fun z => absurd z (by omega)) (fun _ => qs_ordered (6 - e) i j k (qs_ok_of hu1) (by omega) hj (by omega) (pk_sub (a := 6) (b := e) (by omega)) rfl rfl rfl (fun c2 u2 hc2 hu2 => ?_))
      have e1 := qs_od_mono hi hc hc2 (Nat.le_refl k)
      have e2 := qs_od_mono hi hc2 hc (Nat.le_refl k)
      have e3 : c = c2 := by omega
      have t := hw (c, u2) ⟨qs_ok_of hu2, c8, fun z => absurd z (by omega), fun _ => hc⟩
      obtain ⟨nn, ip, rc, nd, cs, a1, a2, a3, a4, a5, a6, a7, a8, a9, a10, a11, a12, a13, a14, a15, a16, a17, a18, a19, a20, a21, a22, a23, a24, a25, a26, a27⟩ := u2
      exact br_t (by rw [e3]) (nm_r (nI_1 k) t)
  obtain ⟨nn, ip, rc, nd, cs, a1, a2, a3, a4, a5, a6, a7, a8, a9, a10, a11, a12, a13, a14, a15, a16, a17, a18, a19, a20, a21, a22, a23, a24, a25, a26, a27⟩ := u
  exact main
theorem qs_whole {n : Nat} {w : Nat → Nat} {post : Int32 → St1 → Prop} {u : St1} {p1 : Int32} (h : qs_ok n w u) (h1 : p1 = nI n) (H : ∀ u', qs_ok n w u' → post 1 u') : wpL_whole post u p1 := by
  subst h1
  obtain ⟨hn, hb8⟩ := qs_ok_n h
  have lp : ∀ s : St1, qs_ok n w s → ∃ f, wL_whole_50 post f 1 0 s.1 s.2.1 s.2.2.1 s.2.2.2.1 s.2.2.2.2.1 s.2.2.2.2.2.1 s.2.2.2.2.2.2.1 s.2.2.2.2.2.2.2.1 s.2.2.2.2.2.2.2.2.1 s.2.2.2.2.2.2.2.2.2.1 s.2.2.2.2.2.2.2.2.2.2.1 s.2.2.2.2.2.2.2.2.2.2.2.1 s.2.2.2.2.2.2.2.2.2.2.2.2.1 s.2.2.2.2.2.2.2.2.2.2.2.2.2.1 s.2.2.2.2.2.2.2.2.2.2.2.2.2.2.1 s.2.2.2.2.2.2.2.2.2.2.2.2.2.2.2.1 s.2.2.2.2.2.2.2.2.2.2.2.2.2.2.2.2.1 s.2.2.2.2.2.2.2.2.2.2.2.2.2.2.2.2.2.1 s.2.2.2.2.2.2.2.2.2.2.2.2.2.2.2.2.2.2.1 s.2.2.2.2.2.2.2.2.2.2.2.2.2.2.2.2.2.2.2.1 s.2.2.2.2.2.2.2.2.2.2.2.2.2.2.2.2.2.2.2.2.1 s.2.2.2.2.2.2.2.2.2.2.2.2.2.2.2.2.2.2.2.2.2.1 s.2.2.2.2.2.2.2.2.2.2.2.2.2.2.2.2.2.2.2.2.2.2.1 s.2.2.2.2.2.2.2.2.2.2.2.2.2.2.2.2.2.2.2.2.2.2.2.1 s.2.2.2.2.2.2.2.2.2.2.2.2.2.2.2.2.2.2.2.2.2.2.2.2.1 s.2.2.2.2.2.2.2.2.2.2.2.2.2.2.2.2.2.2.2.2.2.2.2.2.2.1 s.2.2.2.2.2.2.2.2.2.2.2.2.2.2.2.2.2.2.2.2.2.2.2.2.2.2.1 s.2.2.2.2.2.2.2.2.2.2.2.2.2.2.2.2.2.2.2.2.2.2.2.2.2.2.2.1 s.2.2.2.2.2.2.2.2.2.2.2.2.2.2.2.2.2.2.2.2.2.2.2.2.2.2.2.2.1 s.2.2.2.2.2.2.2.2.2.2.2.2.2.2.2.2.2.2.2.2.2.2.2.2.2.2.2.2.2.1 s.2.2.2.2.2.2.2.2.2.2.2.2.2.2.2.2.2.2.2.2.2.2.2.2.2.2.2.2.2.2.1 s.2.2.2.2.2.2.2.2.2.2.2.2.2.2.2.2.2.2.2.2.2.2.2.2.2.2.2.2.2.2.2 := by
    intro s hs
    refine loop_0 (fun f c (s : St1) => wL_whole_50 post f 1 (nI c) s.1 s.2.1 s.2.2.1 s.2.2.2.1 s.2.2.2.2.1 s.2.2.2.2.2.1 s.2.2.2.2.2.2.1 s.2.2.2.2.2.2.2.1 s.2.2.2.2.2.2.2.2.1 s.2.2.2.2.2.2.2.2.2.1 s.2.2.2.2.2.2.2.2.2.2.1 s.2.2.2.2.2.2.2.2.2.2.2.1 s.2.2.2.2.2.2.2.2.2.2.2.2.1 s.2.2.2.2.2.2.2.2.2.2.2.2.2.1 s.2.2.2.2.2.2.2.2.2.2.2.2.2.2.1 s.2.2.2.2.2.2.2.2.2.2.2.2.2.2.2.1 s.2.2.2.2.2.2.2.2.2.2.2.2.2.2.2.2.1 s.2.2.2.2.2.2.2.2.2.2.2.2.2.2.2.2.2.1 s.2.2.2.2.2.2.2.2.2.2.2.2.2.2.2.2.2.2.1 s.2.2.2.2.2.2.2.2.2.2.2.2.2.2.2.2.2.2.2.1 s.2.2.2.2.2.2.2.2.2.2.2.2.2.2.2.2.2.2.2.2.1 s.2.2.2.2.2.2.2.2.2.2.2.2.2.2.2.2.2.2.2.2.2.1 s.2.2.2.2.2.2.2.2.2.2.2.2.2.2.2.2.2.2.2.2.2.2.1 s.2.2.2.2.2.2.2.2.2.2.2.2.2.2.2.2.2.2.2.2.2.2.2.1 s.2.2.2.2.2.2.2.2.2.2.2.2.2.2.2.2.2.2.2.2.2.2.2.2.1 s.2.2.2.2.2.2.2.2.2.2.2.2.2.2.2.2.2.2.2.2.2.2.2.2.2.1 s.2.2.2.2.2.2.2.2.2.2.2.2.2.2.2.2.2.2.2.2.2.2.2.2.2.2.1 s.2.2.2.2.2.2.2.2.2.2.2.2.2.2.2.2.2.2.2.2.2.2.2.2.2.2.2.1 s.2.2.2.2.2.2.2.2.2.2.2.2.2.2.2.2.2.2.2.2.2.2.2.2.2.2.2.2.1 s.2.2.2.2.2.2.2.2.2.2.2.2.2.2.2.2.2.2.2.2.2.2.2.2.2.2.2.2.2.1 s.2.2.2.2.2.2.2.2.2.2.2.2.2.2.2.2.2.2.2.2.2.2.2.2.2.2.2.2.2.2.1 s.2.2.2.2.2.2.2.2.2.2.2.2.2.2.2.2.2.2.2.2.2.2.2.2.2.2.2.2.2.2.2) (fun _ s => qs_ok n w s) 49 s hs ?_ ?_
    · intro f s hs
      have t := H s hs
      obtain ⟨nn, ip, rc, nd, cs, a1, a2, a3, a4, a5, a6, a7, a8, a9, a10, a11, a12, a13, a14, a15, a16, a17, a18, a19, a20, a21, a22, a23, a24, a25, a26, a27⟩ := s
      exact pk_le 49 49 (fun _ => ⟨rfl, t⟩) (fun z => absurd z (by omega))
    · intro f c s hc hs hw
      obtain ⟨nn, ip, rc, nd, cs, a1, a2, a3, a4, a5, a6, a7, a8, a9, a10, a11, a12, a13, a14, a15, a16, a17, a18, a19, a20, a21, a22, a23, a24, a25, a26, a27⟩ := s
      refine pk_le 49 c (fun z => absurd z (by omega)) (fun _ => br_f (by decide) ⟨by decide, by decide, qs_agree (c / 7) (c % 7) hs (by omega) (by omega) (pk_div (d := 7) (by omega) (by decide) (by decide)) (pk_rem (d := 7) (by omega) (by decide) (by decide)) (fun u1 hu1 => ?_)⟩)
      have t := hw u1 (qs_ok_of hu1)
      obtain ⟨nn, ip, rc, nd, cs, a1, a2, a3, a4, a5, a6, a7, a8, a9, a10, a11, a12, a13, a14, a15, a16, a17, a18, a19, a20, a21, a22, a23, a24, a25, a26, a27⟩ := u1
      exact br_f (by decide) (nm_r (nI_1 c) t)
  obtain ⟨nn, ip, rc, nd, cs, a1, a2, a3, a4, a5, a6, a7, a8, a9, a10, a11, a12, a13, a14, a15, a16, a17, a18, a19, a20, a21, a22, a23, a24, a25, a26, a27⟩ := u
  unfold wpL_whole
  try dsimp only
  refine qs_bits h (fun b u1 b1 b2 hu1 => ?_)
  obtain ⟨nn, ip, rc, nd, cs, a1, a2, a3, a4, a5, a6, a7, a8, a9, a10, a11, a12, a13, a14, a15, a16, a17, a18, a19, a20, a21, a22, a23, a24, a25, a26, a27⟩ := u1
  refine qs_runs (qs_ok_of hu1) (fun m u2 m1 m2 hu2 => ?_)
  obtain ⟨nn, ip, rc, nd, cs, a1, a2, a3, a4, a5, a6, a7, a8, a9, a10, a11, a12, a13, a14, a15, a16, a17, a18, a19, a20, a21, a22, a23, a24, a25, a26, a27⟩ := u2
  have d8 := qs_ct_le (fun c => decide (qs_rk w c 0 < qs_rk w c n)) 8
  refine qs_different 0 n (qs_ok_of hu2) (Nat.zero_le n) (Nat.le_refl n) rfl rfl (fun u3 hu3 => ?_)
  have t := lp u3 (qs_ok_of hu3)
  obtain ⟨nn, ip, rc, nd, cs, a1, a2, a3, a4, a5, a6, a7, a8, a9, a10, a11, a12, a13, a14, a15, a16, a17, a18, a19, a20, a21, a22, a23, a24, a25, a26, a27⟩ := u3
  refine pk_lt m (qs_ct (fun c => decide (qs_rk w c 0 < qs_rk w c n)) 8) (fun z => ?_) (fun _ => ?_) rfl rfl (by omega) (by omega)
  · have e : qs_ct (fun c => decide (qs_rk w c 0 < qs_rk w c n)) 8 = qs_ct (fun c => decide (0 < qs_rk w c n)) 8 := rfl
    omega
  · refine pk_eq n 0 (fun z => pk_eq b 0 (fun _ => t) (fun z2 => absurd z2 (by omega))) (fun z => ?_)
    refine pk_lt b n (fun z2 => absurd z2 (by omega)) (fun _ => pk_lt (3 * n) b (fun z2 => absurd z2 (by omega)) (fun _ => t) (pk_mul 3 n) rfl (by omega) (by omega))
theorem qs_law {post : Int32 → Prop} {L kc ks : Nat} {xs : Nat → Int32} (hL : L ≤ 260) (hp : post 1) : ∀ f k (u : St1), qs_any u → k ≤ 300 → L - k < f → wL_law_10 post L xs kc ks f (nI k) u.1 u.2.1 u.2.2.1 u.2.2.2.1 u.2.2.2.2.1 u.2.2.2.2.2.1 u.2.2.2.2.2.2.1 u.2.2.2.2.2.2.2.1 u.2.2.2.2.2.2.2.2.1 u.2.2.2.2.2.2.2.2.2.1 u.2.2.2.2.2.2.2.2.2.2.1 u.2.2.2.2.2.2.2.2.2.2.2.1 u.2.2.2.2.2.2.2.2.2.2.2.2.1 u.2.2.2.2.2.2.2.2.2.2.2.2.2.1 u.2.2.2.2.2.2.2.2.2.2.2.2.2.2.1 u.2.2.2.2.2.2.2.2.2.2.2.2.2.2.2.1 u.2.2.2.2.2.2.2.2.2.2.2.2.2.2.2.2.1 u.2.2.2.2.2.2.2.2.2.2.2.2.2.2.2.2.2.1 u.2.2.2.2.2.2.2.2.2.2.2.2.2.2.2.2.2.2.1 u.2.2.2.2.2.2.2.2.2.2.2.2.2.2.2.2.2.2.2.1 u.2.2.2.2.2.2.2.2.2.2.2.2.2.2.2.2.2.2.2.2.1 u.2.2.2.2.2.2.2.2.2.2.2.2.2.2.2.2.2.2.2.2.2.1 u.2.2.2.2.2.2.2.2.2.2.2.2.2.2.2.2.2.2.2.2.2.2.1 u.2.2.2.2.2.2.2.2.2.2.2.2.2.2.2.2.2.2.2.2.2.2.2.1 u.2.2.2.2.2.2.2.2.2.2.2.2.2.2.2.2.2.2.2.2.2.2.2.2.1 u.2.2.2.2.2.2.2.2.2.2.2.2.2.2.2.2.2.2.2.2.2.2.2.2.2.1 u.2.2.2.2.2.2.2.2.2.2.2.2.2.2.2.2.2.2.2.2.2.2.2.2.2.2.1 u.2.2.2.2.2.2.2.2.2.2.2.2.2.2.2.2.2.2.2.2.2.2.2.2.2.2.2.1 u.2.2.2.2.2.2.2.2.2.2.2.2.2.2.2.2.2.2.2.2.2.2.2.2.2.2.2.2.1 u.2.2.2.2.2.2.2.2.2.2.2.2.2.2.2.2.2.2.2.2.2.2.2.2.2.2.2.2.2.1 u.2.2.2.2.2.2.2.2.2.2.2.2.2.2.2.2.2.2.2.2.2.2.2.2.2.2.2.2.2.2.1 u.2.2.2.2.2.2.2.2.2.2.2.2.2.2.2.2.2.2.2.2.2.2.2.2.2.2.2.2.2.2.2 := by
  intro f
  induction f with
  | zero => intro k u _ _ h; exact absurd h (by omega)
  | succ f ih =>
    intro k u hu hk hf
    obtain ⟨nn, ip, rc, nd, cs, a1, a2, a3, a4, a5, a6, a7, a8, a9, a10, a11, a12, a13, a14, a15, a16, a17, a18, a19, a20, a21, a22, a23, a24, a25, a26, a27⟩ := u
    refine pk_le L (k + 2) (fun _ => hp) (fun z => ?_) rfl (nI_add k 2) (by omega) (by omega)
    refine ⟨pk_in k L (by omega) rfl (by omega), pk_in (k + 1) L (by omega) (nI_1 k) (by omega), pk_in (k + 2) L (by omega) (nI_add k 2) (by omega), qs_turn hu (fun u1 hu1 => ?_)⟩
    obtain ⟨n, w, hu1⟩ := hu1
    obtain ⟨nn, ip, rc, nd, cs, a1, a2, a3, a4, a5, a6, a7, a8, a9, a10, a11, a12, a13, a14, a15, a16, a17, a18, a19, a20, a21, a22, a23, a24, a25, a26, a27⟩ := u1
    refine qs_cut0 hu1 (fun u2 hu2 => ?_)
    obtain ⟨hn, _⟩ := qs_ok_n hu2
    obtain ⟨nn, ip, rc, nd, cs, a1, a2, a3, a4, a5, a6, a7, a8, a9, a10, a11, a12, a13, a14, a15, a16, a17, a18, a19, a20, a21, a22, a23, a24, a25, a26, a27⟩ := u2
    refine ⟨pk_in k L (by omega) rfl (by omega), fun X _ => ⟨by decide, ?_⟩⟩
    obtain ⟨v1, g1, k1⟩ := pk_andE X (m := 255) 8 (by decide)
    obtain ⟨v2, g2, k2⟩ := pk_andE (X >>> ((8 : Int32) &&& 31)) (m := 255) 8 (by decide)
    obtain ⟨v3, g3, k3⟩ := pk_andE (X >>> ((16 : Int32) &&& 31)) (m := 255) 8 (by decide)
    rw [k1, k2, k3, nI_1]
    have hmi : v2 % (n + 1) < n + 1 := Nat.mod_lt _ (by omega)
    refine nm_r (e' := nI (v1 % 7)) (pk_rem (d := 7) (by omega) (by decide) (by decide)) ⟨nI_ne0 (by omega) (by omega), nm_r (e' := nI (v2 % (n + 1))) (pk_rem (by omega) (by omega) (by omega)) ?_⟩
    have hmj : v3 % (n - v2 % (n + 1) + 1) < n - v2 % (n + 1) + 1 := Nat.mod_lt _ (by omega)
    rw [pk_sub (show v2 % (n + 1) ≤ n by omega), nI_1]
    refine ⟨nI_ne0 (by omega) (by omega), nm_r (e' := nI (v2 % (n + 1) + v3 % (n - v2 % (n + 1) + 1))) ?_ ?_⟩
    · rw [pk_rem (by omega) (by omega) (by omega), nI_add]
    · have h7 : v1 % 7 < 7 := Nat.mod_lt _ (by omega)
      refine qs_letters (v1 % 7) (v2 % (n + 1)) (v2 % (n + 1) + v3 % (n - v2 % (n + 1) + 1)) hu2 h7 (by omega) (by omega) rfl rfl rfl rfl (fun u3 hu3 => ?_)
      obtain ⟨nn, ip, rc, nd, cs, a1, a2, a3, a4, a5, a6, a7, a8, a9, a10, a11, a12, a13, a14, a15, a16, a17, a18, a19, a20, a21, a22, a23, a24, a25, a26, a27⟩ := u3
      refine br_f (by decide) (qs_range (v1 % 7) (v2 % (n + 1)) (v2 % (n + 1) + v3 % (n - v2 % (n + 1) + 1)) hu3 h7 (by omega) (by omega) rfl rfl rfl (fun u4 hu4 => ?_))
      obtain ⟨nn, ip, rc, nd, cs, a1, a2, a3, a4, a5, a6, a7, a8, a9, a10, a11, a12, a13, a14, a15, a16, a17, a18, a19, a20, a21, a22, a23, a24, a25, a26, a27⟩ := u4
      refine br_f (by decide) (qs_whole hu4 rfl (fun u5 hu5 => ?_))
      have t := ih (k + 3) u5 ⟨n, w, hu5⟩ (by omega) (by omega)
      obtain ⟨nn, ip, rc, nd, cs, a1, a2, a3, a4, a5, a6, a7, a8, a9, a10, a11, a12, a13, a14, a15, a16, a17, a18, a19, a20, a21, a22, a23, a24, a25, a26, a27⟩ := u5
      exact br_f (by decide) (nm_r (nI_add k 3) t)
theorem i_vc (xs : Nat → Int32) (L : Nat) (hL : L ≤ 260) : wpL_law (fun r => r = 1) L xs := by
  refine ⟨27, 3516, by decide, by decide, qs_init (fun u hu => ?_)⟩
  have t := qs_law (post := fun r => r = 1) (kc := 1 + 27) (ks := 32 + 3516) (xs := xs) hL rfl (L + 1) 0 u hu (by omega) (by omega)
  obtain ⟨nn, ip, rc, nd, cs, a1, a2, a3, a4, a5, a6, a7, a8, a9, a10, a11, a12, a13, a14, a15, a16, a17, a18, a19, a20, a21, a22, a23, a24, a25, a26, a27⟩ := u
  exact ⟨L + 1, t⟩
end
