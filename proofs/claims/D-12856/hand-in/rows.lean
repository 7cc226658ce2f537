section
/-! ===== counting, and ints that are small naturals ===== -/
/-- how many places below k have p -/
def qq_ct (p : Nat → Bool) : Nat → Nat
  | 0 => 0
  | k + 1 => qq_ct p k + (p k).toNat
theorem qq_ct_s (p : Nat → Bool) (k : Nat) : qq_ct p (k + 1) = qq_ct p k + (p k).toNat := rfl
theorem qq_ct_0 (p : Nat → Bool) : qq_ct p 0 = 0 := rfl
theorem qq_tn (b : Bool) : b.toNat ≤ 1 := by cases b <;> decide
theorem qq_ct_t {p : Nat → Bool} {k : Nat} (h : p k = true) : qq_ct p (k + 1) = qq_ct p k + 1 := by
  rw [qq_ct_s, h]; rfl
theorem qq_ct_f {p : Nat → Bool} {k : Nat} (h : p k = false) : qq_ct p (k + 1) = qq_ct p k := by
  rw [qq_ct_s, h]; rfl
theorem qq_ct_le (p : Nat → Bool) (k : Nat) : qq_ct p k ≤ k := by
  induction k with
  | zero => exact Nat.le_refl 0
  | succ k ih =>
    rw [qq_ct_s]
    have := qq_tn (p k)
    omega
theorem qq_ct_gap (p : Nat → Bool) (i d : Nat) : qq_ct p i ≤ qq_ct p (i + d) ∧ qq_ct p (i + d) ≤ qq_ct p i + d := by
  induction d with
  | zero => exact ⟨Nat.le_refl _, Nat.le_refl _⟩
  | succ d ih =>
    rw [← Nat.add_assoc, qq_ct_s]
    have := qq_tn (p (i + d))
    omega
theorem qq_ct_mono (p : Nat → Bool) {i j : Nat} (h : i ≤ j) : qq_ct p i ≤ qq_ct p j := by
  have := (qq_ct_gap p i (j - i)).1
  rwa [Nat.add_sub_cancel' h] at this
theorem qq_ct_gap' (p : Nat → Bool) {i j : Nat} (h : i ≤ j) : qq_ct p j ≤ qq_ct p i + (j - i) := by
  have := (qq_ct_gap p i (j - i)).2
  rwa [Nat.add_sub_cancel' h] at this
theorem qq_ct_congr {p q : Nat → Bool} {k : Nat} (h : ∀ j, j < k → p j = q j) : qq_ct p k = qq_ct q k := by
  induction k with
  | zero => rfl
  | succ k ih => rw [qq_ct_s, qq_ct_s, ih (fun j hj => h j (by omega)), h k (by omega)]
theorem qq_ct_add (p : Nat → Bool) (a b : Nat) : qq_ct p (a + b) = qq_ct p a + qq_ct (fun j => p (a + j)) b := by
  induction b with
  | zero => rfl
  | succ b ih => rw [← Nat.add_assoc, qq_ct_s, qq_ct_s, ih, Nat.add_assoc]
theorem qq_ct_split (p q : Nat → Bool) (k : Nat) : qq_ct p k = qq_ct (fun j => p j && q j) k + qq_ct (fun j => p j && !q j) k := by
  induction k with
  | zero => rfl
  | succ k ih =>
    rw [qq_ct_s, qq_ct_s, qq_ct_s, ih]
    cases p k <;> cases q k <;> simp <;> omega
theorem qq_ct_not (p : Nat → Bool) (k : Nat) : qq_ct (fun j => !p j) k + qq_ct p k = k := by
  induction k with
  | zero => rfl
  | succ k ih =>
    rw [qq_ct_s, qq_ct_s]
    cases p k <;> simp <;> omega
theorem qq_ct_z {p : Nat → Bool} {k : Nat} (h : ∀ j, j < k → p j = false) : qq_ct p k = 0 := by
  induction k with
  | zero => rfl
  | succ k ih => rw [qq_ct_f (h k (by omega)), ih (fun j hj => h j (by omega))]
theorem qq_ct_z' {p : Nat → Bool} {k : Nat} (h : qq_ct p k = 0) : ∀ j, j < k → p j = false := by
  intro j hj
  cases e : p j with
  | false => rfl
  | true =>
    have h1 := qq_ct_t e
    have h2 := qq_ct_mono p (show j + 1 ≤ k by omega)
    omega
theorem qq_ct_all {p : Nat → Bool} {k : Nat} (h : ∀ j, j < k → p j = true) : qq_ct p k = k := by
  induction k with
  | zero => rfl
  | succ k ih => rw [qq_ct_t (h k (by omega)), ih (fun j hj => h j (by omega))]
theorem qq_ct_lt {p : Nat → Bool} {i k : Nat} (h : i < k) (hp : p i = true) : qq_ct p i < qq_ct p k := by
  have h1 := qq_ct_t hp
  have h2 := qq_ct_mono p (show i + 1 ≤ k by omega)
  omega
theorem qq_ct_same {p : Nat → Bool} {i j : Nat} (h : i ≤ j) (hz : ∀ k, i ≤ k → k < j → p k = false) : qq_ct p j = qq_ct p i := by
  have e : j = i + (j - i) := by omega
  rw [e, qq_ct_add, qq_ct_z (p := fun k => p (i + k)) (fun k hk => hz (i + k) (by omega) (by omega))]
  rfl
theorem qq_ct_run {p : Nat → Bool} {i j : Nat} (h : i ≤ j) (hz : ∀ k, i ≤ k → k < j → p k = true) : qq_ct p j = qq_ct p i + (j - i) := by
  have e : j = i + (j - i) := by omega
  rw [e, qq_ct_add, qq_ct_all (p := fun k => p (i + k)) (fun k hk => hz (i + k) (by omega) (by omega))]
  omega
theorem qq_ct_imp {p q : Nat → Bool} {k : Nat} (h : ∀ j, j < k → p j = true → q j = true) : qq_ct p k ≤ qq_ct q k := by
  induction k with
  | zero => exact Nat.le_refl 0
  | succ k ih =>
    have i2 := ih (fun j hj => h j (by omega))
    rw [qq_ct_s, qq_ct_s]
    have := h k (by omega)
    cases e : p k <;> cases e2 : q k <;> simp_all <;> omega
/-- two counts that exclude one another -/
theorem qq_ct_or {p q r : Nat → Bool} {k : Nat} (h : ∀ j, j < k → (p j).toNat = (q j).toNat + (r j).toNat) : qq_ct p k = qq_ct q k + qq_ct r k := by
  induction k with
  | zero => rfl
  | succ k ih =>
    rw [qq_ct_s, qq_ct_s, qq_ct_s, ih (fun j hj => h j (by omega)), h k (by omega)]
    omega
/-- by the count to the place: strictly between two -/
theorem qq_ct_inj {p : Nat → Bool} {i j : Nat} (hi : p i = true) (hj : p j = true) (h : qq_ct p i = qq_ct p j) : i = j := by
  rcases Nat.lt_trichotomy i j with z | z | z
  · have := qq_ct_lt z hi; omega
  · exact z
  · have := qq_ct_lt z hj; omega
/-- the number k below the count stands at some place -/
theorem qq_ct_find {p : Nat → Bool} {k n : Nat} (h : k < qq_ct p n) : ∃ i, i < n ∧ p i = true ∧ qq_ct p i = k := by
  induction n with
  | zero => exact absurd h (by rw [qq_ct_0]; omega)
  | succ n ih =>
    by_cases z : k < qq_ct p n
    · obtain ⟨i, hi, h1, h2⟩ := ih z
      exact ⟨i, by omega, h1, h2⟩
    · cases e : p n with
      | false => rw [qq_ct_f e] at h; exact absurd h z
      | true => rw [qq_ct_t e] at h; exact ⟨n, by omega, e, by omega⟩
theorem qq_b1 {b : Bool} {x : Nat} (h : x + b.toNat = x + 1) : b = true := by
  cases b
  · simp at h
  · rfl
theorem qq_b0 {b : Bool} {x : Nat} (h : x + b.toNat = x) : b = false := by
  cases b
  · rfl
  · simp at h
theorem qq_dec {P : Prop} [Decidable P] (h : P) : decide P = true := decide_eq_true h
/-! ints -/
theorem qq_rd {a : Nat → Int32} {x v : Int32} (k : Nat) (h : a k = v) (hx : x = nI k := by rfl) (hk : k < 2 ^ 31 := by omega) : a x.toNatClampNeg = v := by
  rw [hx, nI_clamp hk]; exact h
theorem qq_i8 : ∀ k, k < 128 → (nI k).toInt8.toInt32 = nI k := by decide +kernel
theorem qq_i16 {k : Nat} (h : k < 32768) : (nI k).toInt16.toInt32 = nI k := by
  apply Int32.toInt_inj.mp
  rw [Int16.toInt_toInt32, Int32.toInt_toInt16, nI_toInt (by omega)]
  exact Int.bmod_eq_of_le (by omega) (by omega)
theorem qq_nb {x : Int32} (k : Nat) (hx : x = nI k) (h : k < 128) : vp_nar .byte x = nI k := by
  rw [hx, vp_nar_byte, qq_i8 k h]
theorem qq_ns {x : Int32} (k : Nat) (hx : x = nI k) (h : k < 32768) : vp_nar .short x = nI k := by
  rw [hx, vp_nar_short, qq_i16 h]
theorem qq_1s : ∀ l, l < 32 → (1 : Int32) <<< (nI l &&& 31) = nI (2 ^ l) := by decide +kernel
theorem qq_and (a b : Nat) : nI a &&& nI b = nI (a &&& b) := by
  apply Int32.toBitVec_inj.1
  show BitVec.ofNat 32 a &&& BitVec.ofNat 32 b = BitVec.ofNat 32 (a &&& b)
  apply BitVec.eq_of_getLsbD_eq
  intro i hi
  simp [hi]
theorem qq_or (a b : Nat) : nI a ||| nI b = nI (a ||| b) := by
  apply Int32.toBitVec_inj.1
  show BitVec.ofNat 32 a ||| BitVec.ofNat 32 b = BitVec.ofNat 32 (a ||| b)
  apply BitVec.eq_of_getLsbD_eq
  intro i hi
  simp [hi]
theorem qq_sl : ∀ l, l < 32 → ((nI l &&& 31).toBitVec.smod 32).toNat = l := by decide +kernel
theorem qq_sr {a l : Nat} (ha : a < 2 ^ 31) (hl : l < 32) : nI a >>> (nI l &&& 31) = nI (a / 2 ^ l) := pk_shrN ha _ l (qq_sl l hl)
theorem qq_shl {a l : Nat} (hl : l < 32) (h : a * 2 ^ l < 2 ^ 32) : nI a <<< (nI l &&& 31) = nI (a * 2 ^ l) := pk_shlN _ l (qq_sl l hl) h
theorem qq_su : ∀ l, l < 32 → (((nI l).toUInt32 &&& Int32.toUInt32 31).toBitVec % 32).toNat = l := by decide +kernel
/-- a bit of an int -/
def qq_bt (x : Int32) (j : Nat) : Bool := x.toBitVec.toNat.testBit j
theorem qq_bt_or (x y : Int32) (j : Nat) : qq_bt (x ||| y) j = (qq_bt x j || qq_bt y j) := by
  unfold qq_bt
  rw [Int32.toBitVec_or, BitVec.toNat_or, Nat.testBit_or]
theorem qq_bt_pow {l : Nat} (hl : l < 32) (j : Nat) : qq_bt (nI (2 ^ l)) j = decide (l = j) := by
  unfold qq_bt
  rw [pk_tn (Nat.pow_lt_pow_right (by decide) hl), Nat.testBit_two_pow]
theorem qq_bt_0 (j : Nat) : qq_bt 0 j = false := by
  unfold qq_bt
  exact Nat.zero_testBit j
theorem qq_bt_sh {x : Int32} {l : Nat} (hl : l < 32) : (((x.toUInt32 >>> ((nI l).toUInt32 &&& Int32.toUInt32 31)).toInt32 &&& 1) = 0) ↔ qq_bt x l = false := by
  rw [pk_and _ (m := 1) 1 (by decide), pk_ushr x (nI l) l (qq_su l hl), ← nI_0, nI_eq (by omega) (by omega)]
  unfold qq_bt
  rw [Nat.testBit_eq_decide_div_mod_eq, decide_eq_false_iff_not]
  generalize x.toBitVec.toNat / 2 ^ l = z
  omega
/-- a row of bits, w words a row -/
def qq_gb (w : Nat) (a : Nat → Int32) (r i : Nat) : Bool := qq_bt (a (r * w + i / 32)) (i % 32)
theorem qq_rowinj {w a b x y : Nat} (h : a * w + x = b * w + y) (hx : x < w) (hy : y < w) : a = b ∧ x = y := by
  have e1 : (a * w + x) / w = a := by rw [Nat.mul_comm, Nat.mul_add_div (by omega), Nat.div_eq_of_lt hx]; rfl
  have e2 : (b * w + y) / w = b := by rw [Nat.mul_comm, Nat.mul_add_div (by omega), Nat.div_eq_of_lt hy]; rfl
  have e : a = b := by rw [← e1, ← e2, h]
  subst e
  exact ⟨rfl, by omega⟩
theorem qq_gb_set {w : Nat} (a : Nat → Int32) {r i : Nat} (hi : i / 32 < w) (r' j : Nat) (hj : j / 32 < w) :
    qq_gb w (upd a (r * w + i / 32) (a (r * w + i / 32) ||| nI (2 ^ (i % 32)))) r' j = (qq_gb w a r' j || (decide (r' = r) && decide (j = i))) := by
  unfold qq_gb
  by_cases e : r' * w + j / 32 = r * w + i / 32
  · obtain ⟨e1, e2⟩ := qq_rowinj e hj hi
    rw [e, pk_us, qq_bt_or, qq_bt_pow (by omega), e1, decide_eq_true (rfl : r = r), Bool.true_and]
    congr 1
    by_cases z : i % 32 = j % 32
    · rw [decide_eq_true z, decide_eq_true (by omega)]
    · rw [decide_eq_false z, decide_eq_false (by omega)]
  · rw [pk_un e]
    have : (decide (r' = r) && decide (j = i)) = false := by
      by_cases z : r' = r
      · rw [decide_eq_false (p := j = i) (by intro y; exact e (by rw [z, y]))]
        exact Bool.and_false _
      · rw [decide_eq_false z]; rfl
    rw [this, Bool.or_false]
end
section
/-! ===== small methods: bits of rows, ones, sums ===== -/
section
variable {f0_n f0_isPacked f0_runCount f0_nodes f0_codeSum : Int32} {a1 a2 a3 a4 a5 a6 a7 a8 a9 a10 a11 a12 a13 a14 a15 a16 a17 a18 a19 a20 a21 a22 a23 a24 a25 a26 a27 : Nat → Int32}
theorem wq_setBit {post : St1 → Prop} {x y : Int32} (r i : Nat) (hr : r < 21) (hi : i < 224)
    (hp : post (f0_n, f0_isPacked, f0_runCount, f0_nodes, f0_codeSum, a1, a2, a3, a4, upd a5 (r * 7 + i / 32) (a5 (r * 7 + i / 32) ||| nI (2 ^ (i % 32))), a6, a7, a8, a9, a10, a11, a12, a13, a14, a15, a16, a17, a18, a19, a20, a21, a22, a23, a24, a25, a26, a27)) (hx : x = nI r := by rfl) (hy : y = nI i := by rfl) : wpX_setBit post (f0_n, f0_isPacked, f0_runCount, f0_nodes, f0_codeSum, a1, a2, a3, a4, a5, a6, a7, a8, a9, a10, a11, a12, a13, a14, a15, a16, a17, a18, a19, a20, a21, a22, a23, a24, a25, a26, a27) x y := by
  subst hx hy
  have e : nI r * 7 + (nI i >>> ((5 : Int32) &&& 31)) = nI (r * 7 + i / 32) := by
    rw [show nI r * 7 = nI (r * 7) from pk_mul r 7, show nI i >>> ((5 : Int32) &&& 31) = nI (i / 2 ^ 5) from pk_shrN (by omega) _ 5 (by decide), nI_add]
  have e2 : nI i &&& 31 = nI (i % 32) := pk_andN (by omega) 5 (by decide)
  refine And.intro (pk_in _ 147 (by omega) e) (And.intro (pk_in _ 147 (by omega) e) (nm_r ?_ hp))
  rw [e, nI_clamp (by omega), e2, qq_1s _ (by omega)]
theorem wq_setHigh {post : St1 → Prop} {x y : Int32} (r i : Nat) (hr : r < 8) (hi : i < 416)
    (hp : post (f0_n, f0_isPacked, f0_runCount, f0_nodes, f0_codeSum, a1, a2, a3, a4, a5, a6, a7, a8, a9, a10, a11, upd a12 (r * 13 + i / 32) (a12 (r * 13 + i / 32) ||| nI (2 ^ (i % 32))), a13, a14, a15, a16, a17, a18, a19, a20, a21, a22, a23, a24, a25, a26, a27)) (hx : x = nI r := by rfl) (hy : y = nI i := by rfl) : wpX_setHigh post (f0_n, f0_isPacked, f0_runCount, f0_nodes, f0_codeSum, a1, a2, a3, a4, a5, a6, a7, a8, a9, a10, a11, a12, a13, a14, a15, a16, a17, a18, a19, a20, a21, a22, a23, a24, a25, a26, a27) x y := by
  subst hx hy
  have e : nI r * 13 + (nI i >>> ((5 : Int32) &&& 31)) = nI (r * 13 + i / 32) := by
    rw [show nI r * 13 = nI (r * 13) from pk_mul r 13, show nI i >>> ((5 : Int32) &&& 31) = nI (i / 2 ^ 5) from pk_shrN (by omega) _ 5 (by decide), nI_add]
  have e2 : nI i &&& 31 = nI (i % 32) := pk_andN (by omega) 5 (by decide)
  refine And.intro (pk_in _ 104 (by omega) e) (And.intro (pk_in _ 104 (by omega) e) (nm_r ?_ hp))
  rw [e, nI_clamp (by omega), e2, qq_1s _ (by omega)]
theorem wq_bitAt {post : Int32 → Prop} {x y : Int32} (r i : Nat) (hr : r < 21) (hi : i < 224)
    (hp : post (nI (qq_gb 7 a5 r i).toNat)) (hx : x = nI r := by rfl) (hy : y = nI i := by rfl) : wpX_bitAt post (f0_n, f0_isPacked, f0_runCount, f0_nodes, f0_codeSum, a1, a2, a3, a4, a5, a6, a7, a8, a9, a10, a11, a12, a13, a14, a15, a16, a17, a18, a19, a20, a21, a22, a23, a24, a25, a26, a27) x y := by
  subst hx hy
  have e : nI r * 7 + (nI i >>> ((5 : Int32) &&& 31)) = nI (r * 7 + i / 32) := by
    rw [show nI r * 7 = nI (r * 7) from pk_mul r 7, show nI i >>> ((5 : Int32) &&& 31) = nI (i / 2 ^ 5) from pk_shrN (by omega) _ 5 (by decide), nI_add]
  have e2 : nI i &&& 31 = nI (i % 32) := pk_andN (by omega) 5 (by decide)
  refine And.intro (pk_in _ 147 (by omega) e) (ek_if (d := qq_gb 7 a5 r i = false) ?_ (fun h => ?_) (fun h => ?_))
  · rw [e, nI_clamp (by omega), e2]
    exact qq_bt_sh (by omega)
  · rw [h] at hp; exact hp
  · rw [Bool.not_eq_false] at h
    rw [h] at hp; exact hp
theorem wq_highAt {post : Int32 → Prop} {x y : Int32} (r i : Nat) (hr : r < 8) (hi : i < 416)
    (hp : post (nI (qq_gb 13 a12 r i).toNat)) (hx : x = nI r := by rfl) (hy : y = nI i := by rfl) : wpX_highAt post (f0_n, f0_isPacked, f0_runCount, f0_nodes, f0_codeSum, a1, a2, a3, a4, a5, a6, a7, a8, a9, a10, a11, a12, a13, a14, a15, a16, a17, a18, a19, a20, a21, a22, a23, a24, a25, a26, a27) x y := by
  subst hx hy
  have e : nI r * 13 + (nI i >>> ((5 : Int32) &&& 31)) = nI (r * 13 + i / 32) := by
    rw [show nI r * 13 = nI (r * 13) from pk_mul r 13, show nI i >>> ((5 : Int32) &&& 31) = nI (i / 2 ^ 5) from pk_shrN (by omega) _ 5 (by decide), nI_add]
  have e2 : nI i &&& 31 = nI (i % 32) := pk_andN (by omega) 5 (by decide)
  refine And.intro (pk_in _ 104 (by omega) e) (ek_if (d := qq_gb 13 a12 r i = false) ?_ (fun h => ?_) (fun h => ?_))
  · rw [e, nI_clamp (by omega), e2]
    exact qq_bt_sh (by omega)
  · rw [h] at hp; exact hp
  · rw [Bool.not_eq_false] at h
    rw [h] at hp; exact hp
/-- the digit of a letter at a level -/
def qq_dg (l c : Nat) : Nat := c / 2 ^ (2 - l) % 2
theorem qq_dg2 (l c : Nat) : qq_dg l c = 0 ∨ qq_dg l c = 1 := by unfold qq_dg; omega
theorem wq_digit {post : Int32 → Prop} {x y : Int32} (c l : Nat) (hc : c < 8) (hl : l < 3) (hp : post (nI (qq_dg l c))) (hx : x = nI c := by rfl) (hy : y = nI l := by rfl) : wpX_digitOf post () x y := by
  subst hx hy
  have e : (nI c >>> ((2 - nI l) &&& 31)) &&& 1 = nI (qq_dg l c) := by
    have h : c / 2 ^ (2 - l) ≤ c := Nat.div_le_self _ _
    rw [show (2 : Int32) - nI l = nI (2 - l) from pk_sub (a := 2) (by omega), qq_sr (by omega) (by omega), pk_andN (m := 1) (by omega) 1 (by decide)]
    rfl
  show post ((nI c >>> ((2 - nI l) &&& 31)) &&& 1)
  rw [e]
  exact hp
theorem wq_letter {post : Int32 → Prop} (x : Int32) (h1 : ∀ c, c < 8 → x = nI c → post 1) (h0 : (∀ c, c < 8 → x ≠ nI c) → post 0) : wpX_isLetter post () x := by
  refine br_c (fun h => h0 (fun c hc e => ?_)) (fun h => ?_)
  · rw [e] at h
    exact nI_pos (by omega) h
  · obtain ⟨j, hj, rfl⟩ := nI_of h
    refine pk_le 8 j (fun z => h0 (fun c hc e => ?_)) (fun z => h1 j z rfl)
    rw [nI_eq (by omega) (by omega)] at e
    omega
theorem wq_engine {post : Int32 → Prop} {x : Int32} (c : Nat) (hc : c < 7) (hp : post 1) (hx : x = nI c := by rfl) : wpX_isEngine post () x := by
  subst hx
  refine pk_lt c 0 (fun z => absurd z (by omega)) (fun _ => ?_)
  exact pk_le 7 c (fun z => absurd z (by omega)) (fun _ => hp)
end
/-! ones in a byte -/
def qq_pc (x : Nat) : Nat := qq_ct (fun j => x.testBit j) 8
theorem qq_pc_s : ∀ x, x < 256 → 0 < x → (x &&& (x - 1)) < x ∧ qq_pc x = qq_pc (x &&& (x - 1)) + 1 := by decide +kernel
theorem wq_ones4 {post : Int32 → Prop} : ∀ (x : Nat), x < 256 → ∀ (k f : Nat), x < f → post (nI (k + qq_pc x)) → wX_onesIn_4 post f (nI k) (nI x) := by
  intro x
  induction x using Nat.strongRecOn with
  | ind x ih =>
    intro hx k f hf hp
    cases f with
    | zero => omega
    | succ f =>
      refine pk_eq x 0 (fun z => ?_) (fun z => ?_)
      · subst z
        exact hp
      · obtain ⟨h1, h2⟩ := qq_pc_s x hx (by omega)
        refine nm_r (nI_1 k) (nm_r (e' := nI (x &&& (x - 1))) ?_ (ih _ h1 (by omega) (k + 1) f (by omega) ?_))
        · rw [show nI x - 1 = nI (x - 1) from pk_sub (b := 1) (by omega), qq_and]
        · rw [show k + 1 + qq_pc (x &&& (x - 1)) = k + qq_pc x by omega]
          exact hp
theorem wq_onesIn {post : Int32 → Prop} {y : Int32} (x : Nat) (hx : x < 256) (hp : post (nI (qq_pc x))) (hy : y = nI x := by rfl) : wpX_onesIn post () y := by
  subst hy
  refine ⟨x + 1, wq_ones4 x hx 0 (x + 1) (by omega) ?_⟩
  rw [Nat.zero_add]
  exact hp
/-- ones in a stretch of a word -/
theorem qq_pcw (A s k : Nat) (hk : k ≤ 8) : qq_pc (A / 2 ^ s % 2 ^ k) = qq_ct (fun j => A.testBit (s + j)) k := by
  unfold qq_pc
  rw [qq_ct_same (i := k) (j := 8) hk (fun j h1 h2 => by
    rw [Nat.testBit_mod_two_pow, decide_eq_false (by omega), Bool.false_and])]
  refine qq_ct_congr (fun j hj => ?_)
  rw [Nat.testBit_mod_two_pow, decide_eq_true hj, Bool.true_and, Nat.testBit_div_two_pow, Nat.add_comm]
theorem qq_row8 (a : Nat → Int32) (r b k : Nat) (hk : k ≤ 8) :
    qq_ct (qq_gb 7 a r) (8 * b + k) = qq_ct (qq_gb 7 a r) (8 * b) + qq_pc ((a (r * 7 + b / 4)).toBitVec.toNat / 2 ^ (8 * (b % 4)) % 2 ^ k) := by
  rw [qq_ct_add, qq_pcw _ _ _ hk]
  congr 1
  refine qq_ct_congr (fun j hj => ?_)
  show qq_bt (a (r * 7 + (8 * b + j) / 32)) ((8 * b + j) % 32) = _
  unfold qq_bt
  rw [show (8 * b + j) / 32 = b / 4 by omega, show (8 * b + j) % 32 = 8 * (b % 4) + j by omega]
/-- the sums of a row -/
def qq_RS (a5 a6 a7 : Nat → Int32) (r : Nat) : Prop :=
  (∀ w, w < 8 → a6 (r * 8 + w) = nI (qq_ct (qq_gb 7 a5 r) (32 * w))) ∧
  (∀ b, b < 28 → a7 (r * 28 + b) = nI (qq_ct (qq_gb 7 a5 r) (8 * b) - qq_ct (qq_gb 7 a5 r) (32 * (b / 4))))
theorem qq_a24 : ∀ i, i < 256 → i &&& 24 = 8 * (i / 8 % 4) := by decide +kernel
section
variable {f0_n f0_isPacked f0_runCount f0_nodes f0_codeSum : Int32} {a1 a2 a3 a4 a5 a6 a7 a8 a9 a10 a11 a12 a13 a14 a15 a16 a17 a18 a19 a20 a21 a22 a23 a24 a25 a26 a27 : Nat → Int32}
theorem wq_ones {post : Int32 → Prop} {x y : Int32} (r i : Nat) (hr : r < 21) (hi : i < 224) (R : qq_RS a5 a6 a7 r)
    (hp : post (nI (qq_ct (qq_gb 7 a5 r) i))) (hx : x = nI r := by rfl) (hy : y = nI i := by rfl) : wpX_onesBefore post (f0_n, f0_isPacked, f0_runCount, f0_nodes, f0_codeSum, a1, a2, a3, a4, a5, a6, a7, a8, a9, a10, a11, a12, a13, a14, a15, a16, a17, a18, a19, a20, a21, a22, a23, a24, a25, a26, a27) x y := by
  subst hx hy
  have e5 : nI i >>> ((5 : Int32) &&& 31) = nI (i / 32) := pk_shrN (by omega) _ 5 (by decide)
  have e3 : nI i >>> ((3 : Int32) &&& 31) = nI (i / 8) := pk_shrN (by omega) _ 3 (by decide)
  have f7 : nI r * 7 + (nI i >>> ((5 : Int32) &&& 31)) = nI (r * 7 + i / 32) := by
    rw [e5, show nI r * 7 = nI (r * 7) from pk_mul r 7, nI_add]
  have f8 : nI r * 8 + (nI i >>> ((5 : Int32) &&& 31)) = nI (r * 8 + i / 32) := by
    rw [e5, show nI r * 8 = nI (r * 8) from pk_mul r 8, nI_add]
  have f28 : nI r * 28 + (nI i >>> ((3 : Int32) &&& 31)) = nI (r * 28 + i / 8) := by
    rw [e3, show nI r * 28 = nI (r * 28) from pk_mul r 28, nI_add]
  have h7 : nI i &&& 7 = nI (i % 8) := pk_andN (by omega) 3 (by decide)
  have tail : ∀ (z : Int32) (t : Nat), z = nI t → t < 256 → qq_ct (qq_gb 7 a5 r) i = qq_ct (qq_gb 7 a5 r) (8 * (i / 8)) + qq_pc t → wX_onesBefore_37 post (nI r) (nI i) z f0_n f0_isPacked f0_runCount f0_nodes f0_codeSum a1 a2 a3 a4 a5 a6 a7 a8 a9 a10 a11 a12 a13 a14 a15 a16 a17 a18 a19 a20 a21 a22 a23 a24 a25 a26 a27 := by
    intro z t hz ht hc
    refine And.intro (pk_in _ 168 (by omega) f8) (And.intro (pk_in _ 588 (by omega) f28) (wq_onesIn t ht ?_ hz))
    rw [f8, f28, nI_clamp (by omega), nI_clamp (by omega), R.1 (i / 32) (by omega), R.2 (i / 8) (by omega), nI_add, nI_add, show i / 8 / 4 = i / 32 by omega]
    have hm := qq_ct_mono (qq_gb 7 a5 r) (show 32 * (i / 32) ≤ 8 * (i / 8) by omega)
    rw [show qq_ct (qq_gb 7 a5 r) (32 * (i / 32)) + (qq_ct (qq_gb 7 a5 r) (8 * (i / 8)) - qq_ct (qq_gb 7 a5 r) (32 * (i / 32))) + qq_pc t = qq_ct (qq_gb 7 a5 r) i by omega]
    exact hp
  refine nm_r h7 (pk_eq (i % 8) 0 (fun z => ?_) (fun z => And.intro (pk_in _ 147 (by omega) f7) ?_))
  · refine tail 0 0 rfl (by omega) ?_
    rw [show qq_pc 0 = 0 by decide, Nat.add_zero, show 8 * (i / 8) = i by omega]
  · refine tail _ ((a5 (r * 7 + i / 32)).toBitVec.toNat / 2 ^ (8 * (i / 8 % 4)) % 2 ^ (i % 8)) ?_ ?_ ?_
    · have q : 2 ^ (i % 8) ≤ 2 ^ 8 := Nat.pow_le_pow_right (by decide) (by omega)
      have q1 : 1 ≤ 2 ^ (i % 8) := Nat.two_pow_pos _
      rw [f7, nI_clamp (by omega), show nI i &&& 24 = nI (8 * (i / 8 % 4)) from by rw [show (24 : Int32) = nI 24 from rfl, qq_and, qq_a24 i (by omega)], qq_1s (i % 8) (by omega), show nI (2 ^ (i % 8)) - 1 = nI (2 ^ (i % 8) - 1) from pk_sub (b := 1) q1]
      rw [pk_and _ (i % 8) (pk_tn (by omega)), pk_ushr _ _ (8 * (i / 8 % 4)) (qq_su _ (by omega))]
    · have q : 2 ^ (i % 8) ≤ 2 ^ 7 := Nat.pow_le_pow_right (by decide) (by omega)
      have := Nat.mod_lt ((a5 (r * 7 + i / 32)).toBitVec.toNat / 2 ^ (8 * (i / 8 % 4))) (Nat.two_pow_pos (i % 8))
      omega
    · have := qq_row8 a5 r (i / 8) (i % 8) (by omega)
      rw [show i / 8 / 4 = i / 32 by omega, show 8 * (i / 8) + i % 8 = i by omega] at this
      exact this
theorem wq_zeros {post : Int32 → Prop} {x y : Int32} (r i : Nat) (hr : r < 21) (hi : i < 224) (R : qq_RS a5 a6 a7 r)
    (hp : post (nI (i - qq_ct (qq_gb 7 a5 r) i))) (hx : x = nI r := by rfl) (hy : y = nI i := by rfl) : wpX_zerosBefore post (f0_n, f0_isPacked, f0_runCount, f0_nodes, f0_codeSum, a1, a2, a3, a4, a5, a6, a7, a8, a9, a10, a11, a12, a13, a14, a15, a16, a17, a18, a19, a20, a21, a22, a23, a24, a25, a26, a27) x y := by
  subst hx hy
  refine wq_ones (post := fun r_1 => post (nI i - r_1)) r i hr hi R ?_
  show post (nI i - nI _)
  rw [pk_sub (qq_ct_le _ _)]
  exact hp
/-! the sums of a row are made -/
theorem wq_sum29 {post : St1 → Prop} {J : Int32 → Int32 → (Nat → Int32) → (Nat → Int32) → (Nat → Int32) → (Nat → Int32) → (Nat → Int32) → (Nat → Int32) → (Nat → Int32) → (Nat → Int32) → (Nat → Int32) → (Nat → Int32) → (Nat → Int32) → (Nat → Int32) → (Nat → Int32) → (Nat → Int32) → (Nat → Int32) → (Nat → Int32) → (Nat → Int32) → (Nat → Int32) → (Nat → Int32) → (Nat → Int32) → (Nat → Int32) → (Nat → Int32) → (Nat → Int32) → (Nat → Int32) → (Nat → Int32) → (Nat → Int32) → (Nat → Int32) → Prop}
    (r w sum : Nat) (hr : r < 21) (hw : w < 7)
    (H : ∀ s, (∀ b, b < 4 → s (r * 28 + 4 * w + b) = nI (qq_ct (qq_gb 7 a5 r) (32 * w + 8 * b) - qq_ct (qq_gb 7 a5 r) (32 * w))) → (∀ j, (j < r * 28 + 4 * w ∨ r * 28 + 4 * w + 4 ≤ j) → s j = a7 j) →
      J (nI (sum + (qq_ct (qq_gb 7 a5 r) (32 * w + 32) - qq_ct (qq_gb 7 a5 r) (32 * w)))) (nI (w + 1)) a1 a2 a3 a4 a5 a6 s a8 a9 a10 a11 a12 a13 a14 a15 a16 a17 a18 a19 a20 a21 a22 a23 a24 a25 a26 a27) :
    ∃ n, wX_sumRow_29 post J (nI r) (nI sum) (nI w) f0_n f0_isPacked f0_runCount f0_nodes f0_codeSum n 0 0 a1 a2 a3 a4 a5 a6 a7 a8 a9 a10 a11 a12 a13 a14 a15 a16 a17 a18 a19 a20 a21 a22 a23 a24 a25 a26 a27 := by
  refine pk_loop (σ := Int32 × (Nat → Int32)) (fun n b s => wX_sumRow_29 post J (nI r) (nI sum) (nI w) f0_n f0_isPacked f0_runCount f0_nodes f0_codeSum n s.1 (nI b) a1 a2 a3 a4 a5 a6 s.2 a8 a9 a10 a11 a12 a13 a14 a15 a16 a17 a18 a19 a20 a21 a22 a23 a24 a25 a26 a27)
    (fun b s => s.1 = nI (qq_ct (qq_gb 7 a5 r) (32 * w + 8 * b) - qq_ct (qq_gb 7 a5 r) (32 * w)) ∧ (∀ c, c < b → s.2 (r * 28 + 4 * w + c) = nI (qq_ct (qq_gb 7 a5 r) (32 * w + 8 * c) - qq_ct (qq_gb 7 a5 r) (32 * w))) ∧ (∀ j, (j < r * 28 + 4 * w ∨ r * 28 + 4 * w + b ≤ j) → s.2 j = a7 j))
    4 0 (0, a7) (by omega) ⟨?_, fun c hc => absurd hc (by omega), fun j _ => rfl⟩ ?_ ?_
  · show (0 : Int32) = nI (qq_ct (qq_gb 7 a5 r) (32 * w) - qq_ct (qq_gb 7 a5 r) (32 * w))
    rw [Nat.sub_self]; rfl
  · intro n ⟨x4, s⟩ ⟨h1, h2, h3⟩
    have h1 : x4 = nI (qq_ct (qq_gb 7 a5 r) (32 * w + 8 * 4) - qq_ct (qq_gb 7 a5 r) (32 * w)) := h1
    subst h1
    exact pk_le 4 4 (fun _ => nm_r (nI_add _ _) (nm_r (nI_1 w) (H s h2 h3))) (fun z => absurd z (by omega))
  · intro n b ⟨x4, s⟩ hb ⟨h1, h2, h3⟩ hk
    have h1 : x4 = nI (qq_ct (qq_gb 7 a5 r) (32 * w + 8 * b) - qq_ct (qq_gb 7 a5 r) (32 * w)) := h1
    have h2 : ∀ c, c < b → s (r * 28 + 4 * w + c) = nI (qq_ct (qq_gb 7 a5 r) (32 * w + 8 * c) - qq_ct (qq_gb 7 a5 r) (32 * w)) := h2
    have h3 : ∀ j, (j < r * 28 + 4 * w ∨ r * 28 + 4 * w + b ≤ j) → s j = a7 j := h3
    subst h1
    have m0 := qq_ct_mono (qq_gb 7 a5 r) (show 32 * w ≤ 32 * w + 8 * b by omega)
    have m1 := qq_ct_gap' (qq_gb 7 a5 r) (show 32 * w ≤ 32 * w + 8 * b by omega)
    have e28 : nI r * 28 + 4 * nI w + nI b = nI (r * 28 + 4 * w + b) := by
      rw [show nI r * 28 = nI (r * 28) from pk_mul r 28, show (4 : Int32) * nI w = nI (4 * w) from pk_mul 4 w, nI_add, nI_add]
    have e7 : nI r * 7 + nI w = nI (r * 7 + w) := by
      rw [show nI r * 7 = nI (r * 7) from pk_mul r 7, nI_add]
    refine pk_le 4 b (fun z => absurd z (by omega)) (fun _ => ⟨pk_in _ 588 (by omega) e28, nm_r (e' := upd s (r * 28 + 4 * w + b) (nI (qq_ct (qq_gb 7 a5 r) (32 * w + 8 * b) - qq_ct (qq_gb 7 a5 r) (32 * w)))) ?_ ⟨pk_in _ 147 (by omega) e7, wq_onesIn ((a5 (r * 7 + w)).toBitVec.toNat / 2 ^ (8 * b) % 2 ^ 8) (by omega) ?_ ?_⟩⟩)
    · rw [e28, nI_clamp (by omega), qq_i8 _ (by omega)]
    · have q := qq_row8 a5 r (4 * w + b) 8 (by omega)
      rw [show (4 * w + b) / 4 = w by omega, show (4 * w + b) % 4 = b by omega, show 8 * (4 * w + b) = 32 * w + 8 * b by omega] at q
      refine nm_r (nI_add _ _) (nm_r (nI_1 b) (hk (nI _, upd s _ _) ⟨?_, ?_, ?_⟩))
      · show nI _ = nI _
        congr 1
        rw [show 32 * w + 8 * (b + 1) = 32 * w + 8 * b + 8 by omega]
        omega
      · intro c hc
        show upd s (r * 28 + 4 * w + b) _ (r * 28 + 4 * w + c) = _
        by_cases z : c = b
        · rw [z, pk_us]
        · rw [pk_un (by omega)]
          exact h2 c (by omega)
      · intro j hj
        show upd s (r * 28 + 4 * w + b) _ j = _
        rw [pk_un (by omega)]
        exact h3 j (by omega)
    · rw [e7, nI_clamp (by omega), show (8 : Int32) * nI b = nI (8 * b) from pk_mul 8 b, pk_and _ (m := 255) 8 (by decide), pk_ushr _ _ (8 * b) (qq_su _ (by omega))]
theorem wq_sumRow {post : St1 → Prop} {x : Int32} (r : Nat) (hr : r < 21)
    (H : ∀ s6 s7, qq_RS a5 s6 s7 r → (∀ j, (j < r * 8 ∨ r * 8 + 8 ≤ j) → s6 j = a6 j) → (∀ j, (j < r * 28 ∨ r * 28 + 28 ≤ j) → s7 j = a7 j) → post (f0_n, f0_isPacked, f0_runCount, f0_nodes, f0_codeSum, a1, a2, a3, a4, a5, s6, s7, a8, a9, a10, a11, a12, a13, a14, a15, a16, a17, a18, a19, a20, a21, a22, a23, a24, a25, a26, a27)) (hx : x = nI r := by rfl) :
    wpX_sumRow post (f0_n, f0_isPacked, f0_runCount, f0_nodes, f0_codeSum, a1, a2, a3, a4, a5, a6, a7, a8, a9, a10, a11, a12, a13, a14, a15, a16, a17, a18, a19, a20, a21, a22, a23, a24, a25, a26, a27) x := by
  subst hx
  refine pk_loop (σ := Int32 × (Nat → Int32) × (Nat → Int32)) (fun n w s => wX_sumRow_4 post (nI r) f0_n f0_isPacked f0_runCount f0_nodes f0_codeSum n s.1 (nI w) a1 a2 a3 a4 a5 s.2.1 s.2.2 a8 a9 a10 a11 a12 a13 a14 a15 a16 a17 a18 a19 a20 a21 a22 a23 a24 a25 a26 a27)
    (fun w s => s.1 = nI (qq_ct (qq_gb 7 a5 r) (32 * w)) ∧ (∀ v, v < w → s.2.1 (r * 8 + v) = nI (qq_ct (qq_gb 7 a5 r) (32 * v))) ∧ (∀ j, (j < r * 8 ∨ r * 8 + w ≤ j) → s.2.1 j = a6 j) ∧
      (∀ b, b < 4 * w → s.2.2 (r * 28 + b) = nI (qq_ct (qq_gb 7 a5 r) (8 * b) - qq_ct (qq_gb 7 a5 r) (32 * (b / 4)))) ∧ (∀ j, (j < r * 28 ∨ r * 28 + 4 * w ≤ j) → s.2.2 j = a7 j))
    7 0 (0, a6, a7) (by omega) ⟨rfl, fun c hc => absurd hc (by omega), fun j _ => rfl, fun c hc => absurd hc (by omega), fun j _ => rfl⟩ ?_ ?_
  · intro n ⟨x4, s6, s7⟩ ⟨h1, h2, h3, h4, h5⟩
    have h1 : x4 = nI (qq_ct (qq_gb 7 a5 r) (32 * 7)) := h1
    have h2 : ∀ v, v < 7 → s6 (r * 8 + v) = nI (qq_ct (qq_gb 7 a5 r) (32 * v)) := h2
    have h3 : ∀ j, (j < r * 8 ∨ r * 8 + 7 ≤ j) → s6 j = a6 j := h3
    have h4 : ∀ b, b < 4 * 7 → s7 (r * 28 + b) = nI (qq_ct (qq_gb 7 a5 r) (8 * b) - qq_ct (qq_gb 7 a5 r) (32 * (b / 4))) := h4
    have h5 : ∀ j, (j < r * 28 ∨ r * 28 + 4 * 7 ≤ j) → s7 j = a7 j := h5
    subst h1
    have e8 : nI r * 8 + 7 = nI (r * 8 + 7) := by
      rw [show nI r * 8 = nI (r * 8) from pk_mul r 8]
      exact nI_add _ 7
    have q := qq_ct_le (qq_gb 7 a5 r) (32 * 7)
    refine pk_le 7 7 (fun _ => ⟨pk_in _ 168 (by omega) e8, nm_r (e' := upd s6 (r * 8 + 7) (nI (qq_ct (qq_gb 7 a5 r) (32 * 7)))) ?_ (H _ s7 ⟨?_, h4⟩ ?_ h5)⟩) (fun z => absurd z (by omega))
    · rw [e8, nI_clamp (by omega), qq_i16 (by omega)]
    · intro v hv
      by_cases z : v = 7
      · rw [z, pk_us]
      · rw [pk_un (by omega)]
        exact h2 v (by omega)
    · intro j hj
      rw [pk_un (by omega)]
      exact h3 j (by omega)
  · intro n w ⟨x4, s6, s7⟩ hw ⟨h1, h2, h3, h4, h5⟩ hk
    have h1 : x4 = nI (qq_ct (qq_gb 7 a5 r) (32 * w)) := h1
    have h2 : ∀ v, v < w → s6 (r * 8 + v) = nI (qq_ct (qq_gb 7 a5 r) (32 * v)) := h2
    have h3 : ∀ j, (j < r * 8 ∨ r * 8 + w ≤ j) → s6 j = a6 j := h3
    have h4 : ∀ b, b < 4 * w → s7 (r * 28 + b) = nI (qq_ct (qq_gb 7 a5 r) (8 * b) - qq_ct (qq_gb 7 a5 r) (32 * (b / 4))) := h4
    have h5 : ∀ j, (j < r * 28 ∨ r * 28 + 4 * w ≤ j) → s7 j = a7 j := h5
    subst h1
    have e8 : nI r * 8 + nI w = nI (r * 8 + w) := by
      rw [show nI r * 8 = nI (r * 8) from pk_mul r 8, nI_add]
    have q := qq_ct_le (qq_gb 7 a5 r) (32 * w)
    refine pk_le 7 w (fun z => absurd z (by omega)) (fun _ => ⟨pk_in _ 168 (by omega) e8, nm_r (e' := upd s6 (r * 8 + w) (nI (qq_ct (qq_gb 7 a5 r) (32 * w)))) ?_ (wq_sum29 r w _ hr hw ?_)⟩)
    · rw [e8, nI_clamp (by omega), qq_i16 (by omega)]
    · intro s g1 g2
      have m0 := qq_ct_mono (qq_gb 7 a5 r) (show 32 * w ≤ 32 * w + 32 by omega)
      refine hk (nI _, upd s6 _ _, s) ⟨?_, ?_, ?_, ?_, ?_⟩
      · show nI _ = nI _
        congr 1
        rw [show 32 * (w + 1) = 32 * w + 32 by omega]
        omega
      · intro v hv
        show upd s6 (r * 8 + w) _ (r * 8 + v) = _
        by_cases z : v = w
        · rw [z, pk_us]
        · rw [pk_un (by omega)]
          exact h2 v (by omega)
      · intro j hj
        show upd s6 (r * 8 + w) _ j = _
        rw [pk_un (by omega)]
        exact h3 j (by omega)
      · intro b hb
        show s (r * 28 + b) = _
        by_cases z : b < 4 * w
        · rw [g2 _ (by omega)]
          exact h4 b z
        · have := g1 (b - 4 * w) (by omega)
          rw [show r * 28 + 4 * w + (b - 4 * w) = r * 28 + b by omega, show 32 * w + 8 * (b - 4 * w) = 8 * b by omega] at this
          rw [this, show b / 4 = w by omega]
      · intro j hj
        show s j = _
        rw [g2 j (by omega)]
        exact h5 j (by omega)
end
end
section
/-! ===== halving: placeOfBit ===== -/
theorem qq_mid {lo hi : Nat} (h : lo + hi < 2 ^ 31) : (nI lo + nI hi) / 2 = nI ((lo + hi) / 2) := by
  rw [nI_add]
  exact pk_div (d := 2) h (by omega) (by omega)
/-- ones or zeros before a place -/
def qq_bef (one : Bool) (p : Nat → Bool) (m : Nat) : Nat := cond one (qq_ct p m) (m - qq_ct p m)
section
variable {f0_n f0_isPacked f0_runCount f0_nodes f0_codeSum : Int32} {a1 a2 a3 a4 a5 a6 a7 a8 a9 a10 a11 a12 a13 a14 a15 a16 a17 a18 a19 a20 a21 a22 a23 a24 a25 a26 a27 : Nat → Int32}
theorem wq_pl63_0 {post : Int32 → Prop} {J : Int32 → Int32 → Prop} {x1 x2 x3 x4 x5 x6 : Int32} (h : J x4 x6) : wX_placeOfBit_63 post J x1 x2 x3 x4 x5 x6 0 f0_n f0_isPacked f0_runCount f0_nodes f0_codeSum a1 a2 a3 a4 a5 a6 a7 a8 a9 a10 a11 a12 a13 a14 a15 a16 a17 a18 a19 a20 a21 a22 a23 a24 a25 a26 a27 := br_t rfl (br_t rfl h)
theorem wq_pl63_1 {post : Int32 → Prop} {J : Int32 → Int32 → Prop} {x1 x2 x3 x4 x5 x6 v : Int32} (e : x6 + 1 = v) (h : J v x5) : wX_placeOfBit_63 post J x1 x2 x3 x4 x5 x6 1 f0_n f0_isPacked f0_runCount f0_nodes f0_codeSum a1 a2 a3 a4 a5 a6 a7 a8 a9 a10 a11 a12 a13 a14 a15 a16 a17 a18 a19 a20 a21 a22 a23 a24 a25 a26 a27 := by
  subst e
  exact br_f (by decide) (br_f (by decide) h)
theorem wq_place {post : Int32 → Prop} {x y z : Int32} (n r k t : Nat) (one : Bool) (hr : r < 21) (R : qq_RS a5 a6 a7 r) (hn : n ≤ 200) (hk : k < 2 ^ 31) (ht : t ≤ n)
    (hlt : ∀ m, m < n → (qq_bef one (qq_gb 7 a5 r) (m + 1) ≤ k ↔ m < t)) (hp : post (nI t)) (hx : x = nI r := by rfl) (hy : y = nI one.toNat := by rfl) (hz : z = nI k := by rfl) :
    wpX_placeOfBit post (nI n, f0_isPacked, f0_runCount, f0_nodes, f0_codeSum, a1, a2, a3, a4, a5, a6, a7, a8, a9, a10, a11, a12, a13, a14, a15, a16, a17, a18, a19, a20, a21, a22, a23, a24, a25, a26, a27) x y z := by
  subst hx hy hz
  refine loop_m (σ := Nat × Nat) (fun f s => wX_placeOfBit_9 post (nI r) (nI one.toNat) (nI k) (nI n) f0_isPacked f0_runCount f0_nodes f0_codeSum a1 a2 a3 a4 a5 a6 a7 a8 a9 a10 a11 a12 a13 a14 a15 a16 a17 a18 a19 a20 a21 a22 a23 a24 a25 a26 a27 f (nI s.1) (nI s.2)) (fun s => s.1 ≤ t ∧ t ≤ s.2 ∧ s.2 ≤ n) (fun s => s.2 - s.1) ?_ (0, n) ⟨by omega, ht, by omega⟩
  intro f ⟨lo, hi⟩ ⟨h1, h2, h3⟩ hw
  have h1 : lo ≤ t := h1
  have h2 : t ≤ hi := h2
  have h3 : hi ≤ n := h3
  refine pk_le hi lo (fun g => ?_) (fun g => ⟨by decide, nm_r (qq_mid (by omega)) ?_⟩)
  · have : lo = t := by omega
    subst this
    exact hp
  · have key : ∀ b, b = qq_bef one (qq_gb 7 a5 r) ((lo + hi) / 2 + 1) → b < 2 ^ 31 → wX_placeOfBit_50 post (wX_placeOfBit_9 post (nI r) (nI one.toNat) (nI k) (nI n) f0_isPacked f0_runCount f0_nodes f0_codeSum a1 a2 a3 a4 a5 a6 a7 a8 a9 a10 a11 a12 a13 a14 a15 a16 a17 a18 a19 a20 a21 a22 a23 a24 a25 a26 a27 f) (nI r) (nI one.toNat) (nI k) (nI lo) (nI hi) (nI ((lo + hi) / 2)) (nI b) (nI n) f0_isPacked f0_runCount f0_nodes f0_codeSum a1 a2 a3 a4 a5 a6 a7 a8 a9 a10 a11 a12 a13 a14 a15 a16 a17 a18 a19 a20 a21 a22 a23 a24 a25 a26 a27 := by
      intro b hb hb2
      have q := hlt ((lo + hi) / 2) (by omega)
      rw [← hb] at q
      refine pk_lt k b (fun g2 => wq_pl63_0 (hw (lo, (lo + hi) / 2) ⟨h1, ?_, ?_⟩ ?_)) (fun g2 => wq_pl63_1 (nI_1 _) (hw ((lo + hi) / 2 + 1, hi) ⟨?_, h2, h3⟩ ?_))
      · show t ≤ (lo + hi) / 2
        have : ¬ (lo + hi) / 2 < t := fun z => absurd (q.mpr z) (by omega)
        omega
      · show (lo + hi) / 2 ≤ n
        omega
      · show (lo + hi) / 2 - lo < hi - lo
        omega
      · show (lo + hi) / 2 + 1 ≤ t
        have := q.mp g2
        omega
      · show hi - ((lo + hi) / 2 + 1) < hi - lo
        omega
    have cl := qq_ct_le (qq_gb 7 a5 r) ((lo + hi) / 2 + 1)
    cases one
    · exact br_t rfl (wq_zeros r ((lo + hi) / 2 + 1) hr (by omega) R (key _ rfl (by omega)) rfl (nI_1 _))
    · exact br_f (by decide) (wq_ones r ((lo + hi) / 2 + 1) hr (by omega) R (key _ rfl (by omega)) rfl (nI_1 _))
/-- the place of a one, or a zero, whose number is k -/
theorem wq_placeE {post : Int32 → Prop} {x y z : Int32} (n r t : Nat) (one : Bool) (hr : r < 21) (R : qq_RS a5 a6 a7 r) (hn : n ≤ 200) (ht : t < n)
    (hb : qq_gb 7 a5 r t = one) (hp : post (nI t)) (hz : z = nI (qq_bef one (qq_gb 7 a5 r) t)) (hx : x = nI r := by rfl) (hy : y = nI one.toNat := by rfl) :
    wpX_placeOfBit post (nI n, f0_isPacked, f0_runCount, f0_nodes, f0_codeSum, a1, a2, a3, a4, a5, a6, a7, a8, a9, a10, a11, a12, a13, a14, a15, a16, a17, a18, a19, a20, a21, a22, a23, a24, a25, a26, a27) x y z := by
  have cl := qq_ct_le (qq_gb 7 a5 r) t
  refine wq_place n r (qq_bef one (qq_gb 7 a5 r) t) t one hr R hn ?_ (by omega) (fun m hm => ?_) hp hx hy hz
  · cases one
    · show t - _ < 2 ^ 31
      omega
    · show qq_ct (qq_gb 7 a5 r) t < 2 ^ 31
      omega
  · cases one
    · show m + 1 - qq_ct (qq_gb 7 a5 r) (m + 1) ≤ t - qq_ct (qq_gb 7 a5 r) t ↔ m < t
      have c2 := qq_ct_le (qq_gb 7 a5 r) (m + 1)
      have f := qq_ct_f hb
      constructor
      · intro h
        rcases Nat.lt_or_ge m t with z | z
        · exact z
        · have := qq_ct_gap' (qq_gb 7 a5 r) (show t + 1 ≤ m + 1 by omega)
          omega
      · intro h
        have := qq_ct_gap' (qq_gb 7 a5 r) (show m + 1 ≤ t by omega)
        omega
    · show qq_ct (qq_gb 7 a5 r) (m + 1) ≤ qq_ct (qq_gb 7 a5 r) t ↔ m < t
      have f := qq_ct_t hb
      constructor
      · intro h
        rcases Nat.lt_or_ge m t with z | z
        · exact z
        · have := qq_ct_mono (qq_gb 7 a5 r) (show t + 1 ≤ m + 1 by omega)
          omega
      · intro h
        exact qq_ct_mono (qq_gb 7 a5 r) (show m + 1 ≤ t by omega)
end
end
section
/-! ===== engine 0: a tree of halves ===== -/
def qq_pf (l c : Nat) : Nat := c / 2 ^ (3 - l)
theorem qq_pf_s {l : Nat} (hl : l < 3) (c : Nat) : qq_pf (l + 1) c = 2 * qq_pf l c + qq_dg l c := by
  unfold qq_pf qq_dg
  have h : l = 0 ∨ l = 1 ∨ l = 2 := by omega
  rcases h with rfl | rfl | rfl
  · show c / 4 = 2 * (c / 8) + c / 4 % 2
    omega
  · show c / 2 = 2 * (c / 4) + c / 2 % 2
    omega
  · show c / 1 = 2 * (c / 2) + c / 1 % 2
    omega
theorem qq_pf_0 {c : Nat} (hc : c < 8) : qq_pf 0 c = 0 := by
  show c / 8 = 0
  omega
theorem qq_pf_3 (c : Nat) : qq_pf 3 c = c := Nat.div_one c
theorem qq_pf_lt {l c : Nat} (hl : l ≤ 3) (hc : c < 8) : qq_pf l c < 2 ^ l := by
  unfold qq_pf
  have h : l = 0 ∨ l = 1 ∨ l = 2 ∨ l = 3 := by omega
  rcases h with rfl | rfl | rfl | rfl
  · show c / 8 < 1
    omega
  · show c / 4 < 2
    omega
  · show c / 2 < 4
    omega
  · show c / 1 < 8
    omega
/-- letters with a lesser beginning, with this beginning -/
def qq_tS (n : Nat) (ls : Nat → Nat) (l p : Nat) : Nat := qq_ct (fun j => decide (qq_pf l (ls j) < p)) n
def qq_tC (ls : Nat → Nat) (l p m : Nat) : Nat := qq_ct (fun j => decide (qq_pf l (ls j) = p)) m
def qq_tX (n : Nat) (ls : Nat → Nat) (l p : Nat) : Nat := qq_ct (fun j => decide (qq_pf l (ls j) < p) && decide (qq_dg l (ls j) = 1)) n
def qq_tD (ls : Nat → Nat) (l p m : Nat) : Nat := qq_ct (fun j => decide (qq_pf l (ls j) = p) && decide (qq_dg l (ls j) = 1)) m
theorem qq_lt_s (a p : Nat) : (decide (a < p + 1)).toNat = (decide (a < p)).toNat + (decide (a = p)).toNat := by
  rcases Nat.lt_trichotomy a p with h | h | h
  · rw [decide_eq_true (show a < p + 1 by omega), decide_eq_true h, decide_eq_false (show ¬ a = p by omega)]; rfl
  · rw [decide_eq_true (show a < p + 1 by omega), decide_eq_false (show ¬ a < p by omega), decide_eq_true h]; rfl
  · rw [decide_eq_false (show ¬ a < p + 1 by omega), decide_eq_false (show ¬ a < p by omega), decide_eq_false (show ¬ a = p by omega)]; rfl
theorem qq_tS_s (n : Nat) (ls : Nat → Nat) (l p : Nat) : qq_tS n ls l (p + 1) = qq_tS n ls l p + qq_tC ls l p n :=
  qq_ct_or (fun j _ => qq_lt_s _ _)
theorem qq_tX_s (n : Nat) (ls : Nat → Nat) (l p : Nat) : qq_tX n ls l (p + 1) = qq_tX n ls l p + qq_tD ls l p n :=
  qq_ct_or (fun j _ => by
    have := qq_lt_s (qq_pf l (ls j)) p
    cases decide (qq_dg l (ls j) = 1)
    · simp
    · simpa using this)
theorem qq_tS_le (n : Nat) (ls : Nat → Nat) (l p : Nat) {m : Nat} (hm : m ≤ n) : qq_tS n ls l p + qq_tC ls l p m ≤ n := by
  have h := qq_ct_le (fun j => decide (qq_pf l (ls j) < p + 1)) n
  have e := qq_tS_s n ls l p
  have q := qq_ct_mono (fun j => decide (qq_pf l (ls j) = p)) hm
  have e' : qq_tS n ls l (p + 1) ≤ n := h
  have q' : qq_tC ls l p m ≤ qq_tC ls l p n := q
  omega
theorem qq_tX_le (n : Nat) (ls : Nat → Nat) (l p : Nat) : qq_tX n ls l p ≤ qq_tS n ls l p :=
  qq_ct_imp (fun j _ h => by
    rw [Bool.and_eq_true] at h
    exact h.1)
theorem qq_tS_0 (n : Nat) (ls : Nat → Nat) (l : Nat) : qq_tS n ls l 0 = 0 := qq_ct_z (fun j _ => decide_eq_false (by omega))
theorem qq_tX_0 (n : Nat) (ls : Nat → Nat) (l : Nat) : qq_tX n ls l 0 = 0 := qq_ct_z (fun j _ => by rw [decide_eq_false (by omega)]; rfl)
/-- one level down -/
theorem qq_tC_split {l : Nat} (hl : l < 3) (ls : Nat → Nat) (p m : Nat) : qq_tC ls l p m = qq_tC ls (l + 1) (2 * p) m + qq_tC ls (l + 1) (2 * p + 1) m :=
  qq_ct_or (fun j _ => by
    have h := qq_pf_s hl (ls j)
    have d := qq_dg2 l (ls j)
    by_cases e : qq_pf l (ls j) = p
    · rcases d with d | d
      · rw [decide_eq_true e, decide_eq_true (show qq_pf (l + 1) (ls j) = 2 * p by omega), decide_eq_false (show ¬ qq_pf (l + 1) (ls j) = 2 * p + 1 by omega)]; rfl
      · rw [decide_eq_true e, decide_eq_false (show ¬ qq_pf (l + 1) (ls j) = 2 * p by omega), decide_eq_true (show qq_pf (l + 1) (ls j) = 2 * p + 1 by omega)]; rfl
    · rw [decide_eq_false e, decide_eq_false (show ¬ qq_pf (l + 1) (ls j) = 2 * p by omega), decide_eq_false (show ¬ qq_pf (l + 1) (ls j) = 2 * p + 1 by omega)]; rfl)
theorem qq_tD_1 {l : Nat} (hl : l < 3) (ls : Nat → Nat) (p m : Nat) : qq_tD ls l p m = qq_tC ls (l + 1) (2 * p + 1) m :=
  qq_ct_congr (fun j _ => by
    have h := qq_pf_s hl (ls j)
    have d := qq_dg2 l (ls j)
    by_cases e : qq_pf l (ls j) = p
    · rcases d with d | d
      · rw [decide_eq_false (show ¬ qq_dg l (ls j) = 1 by omega), decide_eq_false (show ¬ qq_pf (l + 1) (ls j) = 2 * p + 1 by omega), Bool.and_false]
      · rw [decide_eq_true e, decide_eq_true d, decide_eq_true (show qq_pf (l + 1) (ls j) = 2 * p + 1 by omega)]; rfl
    · rw [decide_eq_false e, decide_eq_false (show ¬ qq_pf (l + 1) (ls j) = 2 * p + 1 by omega)]; rfl)
theorem qq_tS_d {l : Nat} (hl : l < 3) (n : Nat) (ls : Nat → Nat) (p : Nat) : qq_tS n ls (l + 1) (2 * p) = qq_tS n ls l p :=
  qq_ct_congr (fun j _ => by
    have h := qq_pf_s hl (ls j)
    have d := qq_dg2 l (ls j)
    by_cases e : qq_pf l (ls j) < p
    · rw [decide_eq_true e, decide_eq_true (by omega)]
    · rw [decide_eq_false e, decide_eq_false (by omega)])
/-- what a packed row of the tree says -/
def qq_TR (n : Nat) (ls : Nat → Nat) (l : Nat) (f : Nat → Bool) : Prop :=
  ∀ p m, p < 2 ^ l → m ≤ n → qq_ct f (qq_tS n ls l p + qq_tC ls l p m) = qq_tX n ls l p + qq_tD ls l p m
theorem qq_TR_congr {n : Nat} {ls : Nat → Nat} {l : Nat} {f g : Nat → Bool} (hn : n ≤ 200) (h : qq_TR n ls l f) (e : ∀ j, j < 224 → g j = f j) : qq_TR n ls l g := by
  intro p m hp hm
  rw [← h p m hp hm]
  have := qq_tS_le n ls l p hm
  exact qq_ct_congr (fun j hj => e j (by omega))
def qq_TI (n : Nat) (ls : Nat → Nat) (l p m : Nat) (a0 s : Nat → Int32) : Prop :=
  (∀ j, qq_tS n ls l p + qq_tC ls l p m ≤ j → j < 224 → qq_gb 7 s l j = false) ∧
  (∀ p' m', (p' < p ∧ m' ≤ n ∨ p' = p ∧ m' ≤ m) → qq_tS n ls l p' + qq_tC ls l p' m' ≤ qq_tS n ls l p + qq_tC ls l p m ∧ qq_ct (qq_gb 7 s l) (qq_tS n ls l p' + qq_tC ls l p' m') = qq_tX n ls l p' + qq_tD ls l p' m') ∧
  (∀ r j, r ≠ l → j < 224 → qq_gb 7 s r j = qq_gb 7 a0 r j)
theorem qq_TI_next {n : Nat} {ls : Nat → Nat} {l p : Nat} {a0 s : Nat → Int32} (h : qq_TI n ls l p n a0 s) : qq_TI n ls l (p + 1) 0 a0 s := by
  obtain ⟨h1, h2, h3⟩ := h
  have e : qq_tS n ls l (p + 1) + qq_tC ls l (p + 1) 0 = qq_tS n ls l p + qq_tC ls l p n := qq_tS_s n ls l p
  refine ⟨fun j hj => h1 j (by omega), fun p' m' hh => ?_, h3⟩
  rw [e]
  by_cases z : p' = p + 1
  · have z2 : m' = 0 := by omega
    subst z z2
    rw [e]
    refine ⟨Nat.le_refl _, ?_⟩
    rw [(h2 p n (Or.inr ⟨rfl, Nat.le_refl n⟩)).2, qq_tX_s]
    rfl
  · exact h2 p' m' (by omega)
/-- a place passed over -/
theorem qq_TI_skip {n : Nat} {ls : Nat → Nat} {l p m : Nat} {a0 s : Nat → Int32} (h : qq_TI n ls l p m a0 s) (hm : qq_pf l (ls m) ≠ p) :
    qq_tC ls l p (m + 1) = qq_tC ls l p m ∧ qq_TI n ls l p (m + 1) a0 s := by
  obtain ⟨h1, h2, h3⟩ := h
  have e : qq_tC ls l p (m + 1) = qq_tC ls l p m := qq_ct_f (decide_eq_false hm)
  have e2 : qq_tD ls l p (m + 1) = qq_tD ls l p m := qq_ct_f (by rw [decide_eq_false hm]; rfl)
  refine ⟨e, fun j hj => h1 j (by omega), fun p' m' hh => ?_, h3⟩
  rw [e]
  by_cases z : p' = p ∧ m' = m + 1
  · obtain ⟨z1, z2⟩ := z
    subst z1 z2
    rw [e, e2]
    exact h2 p' m (Or.inr ⟨rfl, Nat.le_refl m⟩)
  · exact h2 p' m' (by omega)
/-- a digit put down; s' has the bit if it is 1 -/
theorem qq_TI_put {n : Nat} {ls : Nat → Nat} {l p m : Nat} {a0 s s' : Nat → Int32} (h : qq_TI n ls l p m a0 s) (hm : qq_pf l (ls m) = p) (hn : qq_tS n ls l p + qq_tC ls l p m < 224)
    (hs : ∀ r j, j < 224 → qq_gb 7 s' r j = (qq_gb 7 s r j || (decide (r = l) && decide (j = qq_tS n ls l p + qq_tC ls l p m) && decide (qq_dg l (ls m) = 1)))) :
    qq_tC ls l p (m + 1) = qq_tC ls l p m + 1 ∧ qq_TI n ls l p (m + 1) a0 s' := by
  obtain ⟨h1, h2, h3⟩ := h
  have e : qq_tC ls l p (m + 1) = qq_tC ls l p m + 1 := qq_ct_t (decide_eq_true hm)
  have low : ∀ k, k ≤ qq_tS n ls l p + qq_tC ls l p m → qq_ct (qq_gb 7 s' l) k = qq_ct (qq_gb 7 s l) k := by
    intro k hk
    refine qq_ct_congr (fun j hj => ?_)
    rw [hs l j (by omega), decide_eq_false (show ¬ j = qq_tS n ls l p + qq_tC ls l p m by omega), Bool.and_false, Bool.false_and, Bool.or_false]
  have top : qq_gb 7 s' l (qq_tS n ls l p + qq_tC ls l p m) = decide (qq_dg l (ls m) = 1) := by
    rw [hs l _ hn, h1 _ (Nat.le_refl _) hn, decide_eq_true (rfl : l = l), decide_eq_true (rfl : qq_tS n ls l p + qq_tC ls l p m = _)]
    rfl
  refine ⟨e, fun j hj hj2 => ?_, fun p' m' hh => ?_, fun r j hr hj => ?_⟩
  · rw [hs l j hj2, h1 j (by omega) hj2, decide_eq_false (show ¬ j = qq_tS n ls l p + qq_tC ls l p m by omega), Bool.and_false, Bool.false_and, Bool.or_false]
  · rw [e]
    by_cases z : p' = p ∧ m' = m + 1
    · obtain ⟨z1, z2⟩ := z
      subst z1 z2
      rw [e]
      refine ⟨Nat.le_refl _, ?_⟩
      rw [← Nat.add_assoc, qq_ct_s, low _ (Nat.le_refl _), (h2 p' m (Or.inr ⟨rfl, Nat.le_refl m⟩)).2, top]
      show _ = qq_tX n ls l p' + (qq_tD ls l p' m + (decide (qq_pf l (ls m) = p') && decide (qq_dg l (ls m) = 1)).toNat)
      rw [decide_eq_true hm, Bool.true_and, Nat.add_assoc]
    · obtain ⟨g1, g2⟩ := h2 p' m' (by omega)
      exact ⟨by omega, by rw [low _ g1]; exact g2⟩
  · rw [hs r j hj, decide_eq_false hr, Bool.false_and, Bool.false_and, Bool.or_false]
    exact h3 r j hr hj
section
variable {f0_n f0_isPacked f0_runCount f0_nodes f0_codeSum : Int32} {a1 a2 a3 a4 a5 a6 a7 a8 a9 a10 a11 a12 a13 a14 a15 a16 a17 a18 a19 a20 a21 a22 a23 a24 a25 a26 a27 : Nat → Int32}
theorem wq_tree21 {post : St1 → Prop} {J2 : Int32 → Int32 → Int32 → Int32 → Int32 → Int32 → (Nat → Int32) → (Nat → Int32) → (Nat → Int32) → (Nat → Int32) → (Nat → Int32) → (Nat → Int32) → (Nat → Int32) → (Nat → Int32) → (Nat → Int32) → (Nat → Int32) → (Nat → Int32) → (Nat → Int32) → (Nat → Int32) → (Nat → Int32) → (Nat → Int32) → (Nat → Int32) → (Nat → Int32) → (Nat → Int32) → (Nat → Int32) → (Nat → Int32) → (Nat → Int32) → (Nat → Int32) → (Nat → Int32) → (Nat → Int32) → (Nat → Int32) → (Nat → Int32) → (Nat → Int32) → Prop} {J11 : Int32 → Int32 → Int32 → Int32 → Int32 → Int32 → Int32 → (Nat → Int32) → (Nat → Int32) → (Nat → Int32) → (Nat → Int32) → (Nat → Int32) → (Nat → Int32) → (Nat → Int32) → (Nat → Int32) → (Nat → Int32) → (Nat → Int32) → (Nat → Int32) → (Nat → Int32) → (Nat → Int32) → (Nat → Int32) → (Nat → Int32) → (Nat → Int32) → (Nat → Int32) → (Nat → Int32) → (Nat → Int32) → (Nat → Int32) → (Nat → Int32) → (Nat → Int32) → (Nat → Int32) → (Nat → Int32) → (Nat → Int32) → (Nat → Int32) → (Nat → Int32) → Prop}
    {n : Nat} {ls : Nat → Nat} (l p : Nat) (hl : l < 3) (hn : n ≤ 200) (hL : ∀ i, i < n → a1 i = nI (ls i)) (hc : ∀ i, i < n → ls i < 8) (s0 : Nat → Int32) (I0 : qq_TI n ls l p 0 a5 s0) (hp8 : p < 8)
    (H : ∀ s, qq_TI n ls l p n a5 s → J11 (nI (qq_tS n ls l p + qq_tC ls l p n)) (nI (p + 1)) (nI n) f0_isPacked f0_runCount f0_nodes f0_codeSum a1 a2 a3 a4 s a6 a7 a8 a9 a10 a11 a12 a13 a14 a15 a16 a17 a18 a19 a20 a21 a22 a23 a24 a25 a26 a27) :
    ∃ f, wX_packTree_21 post J2 J11 (nI l) (nI p) f (nI (qq_tS n ls l p)) 0 (nI n) f0_isPacked f0_runCount f0_nodes f0_codeSum a1 a2 a3 a4 s0 a6 a7 a8 a9 a10 a11 a12 a13 a14 a15 a16 a17 a18 a19 a20 a21 a22 a23 a24 a25 a26 a27 := by
  refine pk_loop (σ := Int32 × (Nat → Int32)) (fun f m s => wX_packTree_21 post J2 J11 (nI l) (nI p) f s.1 (nI m) (nI n) f0_isPacked f0_runCount f0_nodes f0_codeSum a1 a2 a3 a4 s.2 a6 a7 a8 a9 a10 a11 a12 a13 a14 a15 a16 a17 a18 a19 a20 a21 a22 a23 a24 a25 a26 a27)
    (fun m s => s.1 = nI (qq_tS n ls l p + qq_tC ls l p m) ∧ qq_TI n ls l p m a5 s.2) n 0 (nI (qq_tS n ls l p), s0) (by omega) ⟨rfl, I0⟩ ?_ ?_
  · intro f ⟨x2, s⟩ ⟨h1, h2⟩
    have h1 : x2 = nI (qq_tS n ls l p + qq_tC ls l p n) := h1
    subst h1
    exact pk_le n n (fun _ => nm_r (nI_1 p) (H s h2)) (fun z => absurd z (by omega))
  · intro f m ⟨x2, s⟩ hm ⟨h1, h2⟩ hk
    have h1 : x2 = nI (qq_tS n ls l p + qq_tC ls l p m) := h1
    have h2 : qq_TI n ls l p m a5 s := h2
    subst h1
    have ea : a1 (nI m).toNatClampNeg = nI (ls m) := qq_rd m (hL m hm)
    have e8 := hc m hm
    have ep : a1 (nI m).toNatClampNeg >>> ((3 - nI l) &&& 31) = nI (qq_pf l (ls m)) := by
      rw [ea, show (3 : Int32) - nI l = nI (3 - l) from pk_sub (a := 3) (by omega), qq_sr (by omega) (by omega)]
      rfl
    have hpf : qq_pf l (ls m) ≤ ls m := Nat.div_le_self _ _
    have hq := qq_tS_le n ls l p (show m ≤ n by omega)
    refine pk_le n m (fun z => absurd z (by omega)) (fun _ => ⟨pk_in m 200 (by omega), pk_eq (qq_pf l (ls m)) p (fun e => ⟨pk_in m 200 (by omega), wq_digit (ls m) l e8 hl ?_ ea⟩) (fun e => nm_r (nI_1 m) ?_) ep⟩)
    · have hd : qq_dg l (ls m) ≤ 1 := by have := qq_dg2 l (ls m); omega
      refine pk_eq (qq_dg l (ls m)) 1 (fun d => ?_) (fun d => ?_)
      · refine wq_setBit l (qq_tS n ls l p + qq_tC ls l p m) (by omega) (by omega) ?_ (Int32.zero_add _)
        obtain ⟨g1, g2⟩ := qq_TI_put (s' := upd s (l * 7 + (qq_tS n ls l p + qq_tC ls l p m) / 32) (s (l * 7 + (qq_tS n ls l p + qq_tC ls l p m) / 32) ||| nI (2 ^ ((qq_tS n ls l p + qq_tC ls l p m) % 32)))) h2 e (by omega) (fun r j hj => by
          rw [qq_gb_set s (by omega) r j (by omega), decide_eq_true d, Bool.and_true])
        refine nm_r (nI_1 _) (nm_r (nI_1 m) (hk (nI _, upd s _ _) ⟨?_, g2⟩))
        show nI _ = nI _
        rw [g1]
        rfl
      · obtain ⟨g1, g2⟩ := qq_TI_put (s' := s) h2 e (by omega) (fun r j hj => by
          rw [decide_eq_false d, Bool.and_false, Bool.or_false])
        refine nm_r (nI_1 _) (nm_r (nI_1 m) (hk (nI _, s) ⟨?_, g2⟩))
        show nI _ = nI _
        rw [g1]
        rfl
    · obtain ⟨g1, g2⟩ := qq_TI_skip h2 e
      refine hk (nI _, s) ⟨?_, g2⟩
      show nI _ = nI _
      rw [g1]
theorem wq_packTree {post : St1 → Prop} {n : Nat} {ls : Nat → Nat} (hn : n ≤ 200) (hL : ∀ i, i < n → a1 i = nI (ls i)) (hc : ∀ i, i < n → ls i < 8)
    (hz : ∀ r j, r < 3 → j < 224 → qq_gb 7 a5 r j = false)
    (H : ∀ s, (∀ l, l < 3 → qq_TR n ls l (qq_gb 7 s l)) → (∀ r j, 3 ≤ r → j < 224 → qq_gb 7 s r j = qq_gb 7 a5 r j) → post (nI n, f0_isPacked, f0_runCount, f0_nodes, f0_codeSum, a1, a2, a3, a4, s, a6, a7, a8, a9, a10, a11, a12, a13, a14, a15, a16, a17, a18, a19, a20, a21, a22, a23, a24, a25, a26, a27)) :
    wpX_packTree post (nI n, f0_isPacked, f0_runCount, f0_nodes, f0_codeSum, a1, a2, a3, a4, a5, a6, a7, a8, a9, a10, a11, a12, a13, a14, a15, a16, a17, a18, a19, a20, a21, a22, a23, a24, a25, a26, a27) := by
  refine pk_loop (σ := Nat → Int32) (fun f l s => wX_packTree_2 post f (nI l) (nI n) f0_isPacked f0_runCount f0_nodes f0_codeSum a1 a2 a3 a4 s a6 a7 a8 a9 a10 a11 a12 a13 a14 a15 a16 a17 a18 a19 a20 a21 a22 a23 a24 a25 a26 a27)
    (fun l s => (∀ k, k < l → qq_TR n ls k (qq_gb 7 s k)) ∧ (∀ r j, l ≤ r → j < 224 → qq_gb 7 s r j = qq_gb 7 a5 r j)) 3 0 a5 (by omega) ⟨fun k hk => absurd hk (by omega), fun _ _ _ _ => rfl⟩ ?_ ?_
  · intro f s ⟨h1, h2⟩
    exact pk_le 3 3 (fun _ => H s h1 h2) (fun z => absurd z (by omega))
  · intro f l s hl ⟨h1, h2⟩ hk
    have p8 : 2 ^ l ≤ 2 ^ 2 := Nat.pow_le_pow_right (by decide) (by omega)
    refine pk_le 3 l (fun z => absurd z (by omega)) (fun _ => ?_)
    refine pk_loop (σ := Int32 × (Nat → Int32)) (fun f' p s' => wX_packTree_11 post (wX_packTree_2 post f) (nI l) f' s'.1 (nI p) (nI n) f0_isPacked f0_runCount f0_nodes f0_codeSum a1 a2 a3 a4 s'.2 a6 a7 a8 a9 a10 a11 a12 a13 a14 a15 a16 a17 a18 a19 a20 a21 a22 a23 a24 a25 a26 a27)
      (fun p s' => s'.1 = nI (qq_tS n ls l p) ∧ qq_TI n ls l p 0 s s'.2) (2 ^ l) 0 (0, s) (Nat.zero_le _) ⟨?_, ?_⟩ ?_ ?_
    · show (0 : Int32) = nI (qq_tS n ls l 0)
      rw [qq_tS_0]; rfl
    · refine ⟨fun j _ hj => ?_, fun p' m' hh => ?_, fun _ _ _ _ => rfl⟩
      · show qq_gb 7 s l j = false
        rw [h2 l j (Nat.le_refl l) hj]
        exact hz l j hl hj
      · have z1 : p' = 0 := by omega
        have z2 : m' = 0 := by omega
        subst z1 z2
        refine ⟨Nat.le_refl _, ?_⟩
        rw [qq_tS_0, qq_tX_0]
        rfl
    · intro f' ⟨x2, s'⟩ ⟨g1, g2⟩
      refine pk_le (2 ^ l) (2 ^ l) (fun _ => nm_r (nI_1 l) (hk s' ⟨?_, ?_⟩)) (fun z => absurd z (by omega)) (qq_1s l (by omega))
      · intro k hkk
        by_cases z : k = l
        · subst z
          exact fun p m hp hm => (g2.2.1 p m (Or.inl ⟨hp, hm⟩)).2
        · exact qq_TR_congr hn (h1 k (by omega)) (fun j hj => g2.2.2 k j z hj)
      · intro r j hr hj
        rw [← h2 r j (by omega) hj]
        exact g2.2.2 r j (by omega) hj
    · intro f' p ⟨x2, s'⟩ hp ⟨g1, g2⟩ hk'
      have g1 : x2 = nI (qq_tS n ls l p) := g1
      subst g1
      refine pk_le (2 ^ l) p (fun z => absurd z (by omega)) (fun _ => wq_tree21 (a5 := s) l p hl hn hL hc s' g2 (by omega) (fun s'' g3 => ?_)) (qq_1s l (by omega))
      refine hk' (nI _, s'') ⟨?_, qq_TI_next g3⟩
      show nI _ = nI _
      rw [qq_tS_s]
/-! asked -/
theorem wq_rt78_0 {post : Int32 → Prop} {J : Int32 → Int32 → Int32 → Int32 → Prop} {x1 x3 x4 x5 x6 x9 x10 v4 v6 : Int32} (e4 : x3 + x9 = v4) (e6 : x6 + 1 = v6) (h : J x3 v4 x10 v6) : wX_rankInTree_78 post J x1 x3 x4 x5 x6 x9 x10 0 f0_n f0_isPacked f0_runCount f0_nodes f0_codeSum a1 a2 a3 a4 a5 a6 a7 a8 a9 a10 a11 a12 a13 a14 a15 a16 a17 a18 a19 a20 a21 a22 a23 a24 a25 a26 a27 :=
  br_t rfl (br_t rfl (br_t rfl (nm_r e4 (nm_r e6 h))))
theorem wq_rt78_1 {post : Int32 → Prop} {J : Int32 → Int32 → Int32 → Int32 → Prop} {x1 x3 x4 x5 x6 x9 x10 v3 v5 v6 : Int32} (e3 : x3 + x9 = v3) (e5 : x5 - x10 = v5) (e6 : x6 + 1 = v6) (h : J v3 x4 v5 v6) : wX_rankInTree_78 post J x1 x3 x4 x5 x6 x9 x10 1 f0_n f0_isPacked f0_runCount f0_nodes f0_codeSum a1 a2 a3 a4 a5 a6 a7 a8 a9 a10 a11 a12 a13 a14 a15 a16 a17 a18 a19 a20 a21 a22 a23 a24 a25 a26 a27 := by
  subst e3 e5
  exact br_f (by decide) (br_f (by decide) (br_f (by decide) (nm_r e6 h)))
/-- zeros in the row of a level, at a place of a beginning -/
theorem qq_tz {n : Nat} {ls : Nat → Nat} {l : Nat} {f : Nat → Bool} (hl : l < 3) (R : qq_TR n ls l f) (p m : Nat) (hp : p < 2 ^ l) (hm : m ≤ n) :
    (qq_tS n ls l p + qq_tC ls l p m) - qq_ct f (qq_tS n ls l p + qq_tC ls l p m) = (qq_tS n ls l p - qq_tX n ls l p) + qq_tC ls (l + 1) (2 * p) m := by
  rw [R p m hp hm, qq_tD_1 hl, qq_tC_split hl ls p m]
  have := qq_tX_le n ls l p
  omega
theorem qq_tz0 {n : Nat} {ls : Nat → Nat} {l : Nat} {f : Nat → Bool} (hl : l < 3) (R : qq_TR n ls l f) (p : Nat) (hp : p < 2 ^ l) :
    qq_tS n ls l p - qq_ct f (qq_tS n ls l p) = qq_tS n ls l p - qq_tX n ls l p := by
  have := qq_tz hl R p 0 hp (Nat.zero_le n)
  exact this
/-- the bit of the row at the place of a letter -/
theorem qq_tbit {n : Nat} {ls : Nat → Nat} {l : Nat} {f : Nat → Bool} (R : qq_TR n ls l f) (m : Nat) (hp : qq_pf l (ls m) < 2 ^ l) (hm : m < n) :
    (f (qq_tS n ls l (qq_pf l (ls m)) + qq_tC ls l (qq_pf l (ls m)) m)).toNat = qq_dg l (ls m) := by
  have h1 := R _ m hp (by omega)
  have h2 := R _ (m + 1) hp (by omega)
  have e : qq_tC ls l (qq_pf l (ls m)) (m + 1) = qq_tC ls l (qq_pf l (ls m)) m + 1 := qq_ct_t (decide_eq_true rfl)
  have e2 : qq_tD ls l (qq_pf l (ls m)) (m + 1) = qq_tD ls l (qq_pf l (ls m)) m + (decide (qq_dg l (ls m) = 1)).toNat := by
    show qq_tD ls l (qq_pf l (ls m)) m + (decide (qq_pf l (ls m) = qq_pf l (ls m)) && decide (qq_dg l (ls m) = 1)).toNat = _
    rw [decide_eq_true (rfl : qq_pf l (ls m) = _), Bool.true_and]
  rw [e, ← Nat.add_assoc, qq_ct_s, h1, e2] at h2
  have h3 : (f (qq_tS n ls l (qq_pf l (ls m)) + qq_tC ls l (qq_pf l (ls m)) m)).toNat = (decide (qq_dg l (ls m) = 1)).toNat := by omega
  rw [h3]
  rcases qq_dg2 l (ls m) with d | d <;> rw [d] <;> rfl
theorem wq_rankTree {post : Int32 → Prop} {x y : Int32} {n : Nat} {ls : Nat → Nat} (c m : Nat) (hc : c < 8) (hm : m ≤ n) (hn : n ≤ 200) (hcl : ∀ i, i < n → ls i < 8)
    (RS : ∀ r, r < 21 → qq_RS a5 a6 a7 r) (R : ∀ l, l < 3 → qq_TR n ls l (qq_gb 7 a5 l))
    (hp : post (nI (qq_ct (fun j => decide (ls j = c)) m))) (hx : x = nI c := by rfl) (hy : y = nI m := by rfl) : wpX_rankInTree post (nI n, f0_isPacked, f0_runCount, f0_nodes, f0_codeSum, a1, a2, a3, a4, a5, a6, a7, a8, a9, a10, a11, a12, a13, a14, a15, a16, a17, a18, a19, a20, a21, a22, a23, a24, a25, a26, a27) x y := by
  subst hx hy
  refine pk_loop (σ := Int32 × Int32 × Int32) (fun f l s => wX_rankInTree_14 post (nI c) (nI n) f0_isPacked f0_runCount f0_nodes f0_codeSum a1 a2 a3 a4 a5 a6 a7 a8 a9 a10 a11 a12 a13 a14 a15 a16 a17 a18 a19 a20 a21 a22 a23 a24 a25 a26 a27 f s.1 s.2.1 s.2.2 (nI l))
    (fun l s => s.1 = nI (qq_tS n ls l (qq_pf l c)) ∧ s.2.1 = nI (qq_tS n ls l (qq_pf l c) + qq_tC ls l (qq_pf l c) n) ∧ s.2.2 = nI (qq_tC ls l (qq_pf l c) m))
    3 0 (0, nI n, nI m) (by omega) ⟨?_, ?_, ?_⟩ ?_ ?_
  · show (0 : Int32) = nI (qq_tS n ls 0 (qq_pf 0 c))
    rw [qq_pf_0 hc, qq_tS_0]; rfl
  · show nI n = nI (qq_tS n ls 0 (qq_pf 0 c) + qq_tC ls 0 (qq_pf 0 c) n)
    rw [qq_pf_0 hc, qq_tS_0, Nat.zero_add]
    exact congrArg nI (qq_ct_all (fun j hj => decide_eq_true (qq_pf_0 (hcl j hj)))).symm
  · show nI m = nI (qq_tC ls 0 (qq_pf 0 c) m)
    rw [qq_pf_0 hc]
    exact congrArg nI (qq_ct_all (fun j hj => decide_eq_true (qq_pf_0 (hcl j (by omega))))).symm
  · intro f ⟨x3, x4, x5⟩ ⟨h1, h2, h3⟩
    have h3 : x5 = nI (qq_tC ls 3 (qq_pf 3 c) m) := h3
    subst h3
    refine pk_le 3 3 (fun _ => ?_) (fun z => absurd z (by omega))
    have e : qq_tC ls 3 (qq_pf 3 c) m = qq_ct (fun j => decide (ls j = c)) m := qq_ct_congr (fun j _ => by rw [qq_pf_3, qq_pf_3])
    rw [e]
    exact hp
  · intro f l ⟨x3, x4, x5⟩ hl ⟨h1, h2, h3⟩ hk
    have h1 : x3 = nI (qq_tS n ls l (qq_pf l c)) := h1
    have h2 : x4 = nI (qq_tS n ls l (qq_pf l c) + qq_tC ls l (qq_pf l c) n) := h2
    have h3 : x5 = nI (qq_tC ls l (qq_pf l c) m) := h3
    subst h1 h2 h3
    have hp8 := qq_pf_lt (show l ≤ 3 by omega) hc
    have q1 := qq_tS_le n ls l (qq_pf l c) (Nat.le_refl n)
    have q2 := qq_tS_le n ls l (qq_pf l c) hm
    have hs := qq_pf_s hl c
    have z0 := qq_tz0 hl (R l hl) _ hp8
    have zn := qq_tz hl (R l hl) _ n hp8 (Nat.le_refl n)
    have zm := qq_tz hl (R l hl) _ m hp8 hm
    have sp := qq_tC_split hl ls (qq_pf l c) m
    have spn := qq_tC_split hl ls (qq_pf l c) n
    have sd := qq_tS_d hl n ls (qq_pf l c)
    have sd1 := qq_tS_s n ls (l + 1) (2 * qq_pf l c)
    refine pk_le 3 l (fun z => absurd z (by omega)) (fun _ => nm_r (Int32.zero_add _) (wq_zeros l (qq_tS n ls l (qq_pf l c)) (by omega) (by omega) (RS l (by omega)) ?_))
    refine wq_zeros l (qq_tS n ls l (qq_pf l c) + qq_tC ls l (qq_pf l c) n) (by omega) (by omega) (RS l (by omega)) ?_
    refine nm_r (e' := nI (qq_tC ls (l + 1) (2 * qq_pf l c) n)) ?_ ?_
    · rw [z0, zn, pk_sub (by omega)]
      congr 1
      omega
    refine wq_zeros l (qq_tS n ls l (qq_pf l c) + qq_tC ls l (qq_pf l c) m) (by omega) (by omega) (RS l (by omega)) ?_ rfl (nI_add _ _)
    refine nm_r (e' := nI (qq_tC ls (l + 1) (2 * qq_pf l c) m)) ?_ ?_
    · rw [z0, zm, pk_sub (by omega)]
      congr 1
      omega
    refine wq_digit c l hc hl ?_
    have hd := qq_dg2 l c
    refine pk_eq (qq_dg l c) 1 (fun d => ?_) (fun d => ?_)
    · have e : qq_pf (l + 1) c = 2 * qq_pf l c + 1 := by omega
      refine wq_rt78_1 (nI_add _ _) (pk_sub (by omega)) (nI_1 l) (hk (nI (qq_tS n ls l (qq_pf l c) + qq_tC ls (l + 1) (2 * qq_pf l c) n), nI (qq_tS n ls l (qq_pf l c) + qq_tC ls l (qq_pf l c) n), nI (qq_tC ls l (qq_pf l c) m - qq_tC ls (l + 1) (2 * qq_pf l c) m)) ⟨?_, ?_, ?_⟩)
      · show nI _ = nI _
        congr 1
        rw [e]
        omega
      · show nI _ = nI _
        congr 1
        rw [e]
        omega
      · show nI _ = nI _
        congr 1
        rw [e]
        omega
    · have e : qq_pf (l + 1) c = 2 * qq_pf l c := by omega
      refine wq_rt78_0 (nI_add _ _) (nI_1 l) (hk (nI (qq_tS n ls l (qq_pf l c)), nI (qq_tS n ls l (qq_pf l c) + qq_tC ls (l + 1) (2 * qq_pf l c) n), nI (qq_tC ls (l + 1) (2 * qq_pf l c) m)) ⟨?_, ?_, ?_⟩)
      · show nI _ = nI _
        congr 1
        rw [e]
        omega
      · show nI _ = nI _
        congr 1
        rw [e]
        omega
      · show nI _ = nI _
        congr 1
        rw [e]
end
end
section
/-! ===== engine 0: less, and the letter at a place ===== -/
section
variable {f0_n f0_isPacked f0_runCount f0_nodes f0_codeSum : Int32} {a1 a2 a3 a4 a5 a6 a7 a8 a9 a10 a11 a12 a13 a14 a15 a16 a17 a18 a19 a20 a21 a22 a23 a24 a25 a26 a27 : Nat → Int32}
theorem wq_bt81_0 {post : Int32 → Prop} {J : Int32 → Int32 → Int32 → Int32 → Int32 → Prop} {x1 x3 x4 x5 x6 x7 x10 x11 v4 v6 v7 : Int32} (e6 : x6 + 0 = v6) (e4 : x3 + x10 = v4) (e7 : x7 + 1 = v7) (h : J x3 v4 x11 v6 v7) : wX_belowInTree_81 post J x1 x3 x4 x5 x6 x7 x10 x11 0 f0_n f0_isPacked f0_runCount f0_nodes f0_codeSum a1 a2 a3 a4 a5 a6 a7 a8 a9 a10 a11 a12 a13 a14 a15 a16 a17 a18 a19 a20 a21 a22 a23 a24 a25 a26 a27 :=
  br_t rfl (nm_r e6 (br_t rfl (br_t rfl (br_t rfl (nm_r e4 (nm_r e7 h))))))
theorem wq_bt81_1 {post : Int32 → Prop} {J : Int32 → Int32 → Int32 → Int32 → Int32 → Prop} {x1 x3 x4 x5 x6 x7 x10 x11 v3 v5 v6 v7 : Int32} (e6 : x6 + x11 = v6) (e3 : x3 + x10 = v3) (e5 : x5 - x11 = v5) (e7 : x7 + 1 = v7) (h : J v3 x4 v5 v6 v7) : wX_belowInTree_81 post J x1 x3 x4 x5 x6 x7 x10 x11 1 f0_n f0_isPacked f0_runCount f0_nodes f0_codeSum a1 a2 a3 a4 a5 a6 a7 a8 a9 a10 a11 a12 a13 a14 a15 a16 a17 a18 a19 a20 a21 a22 a23 a24 a25 a26 a27 := by
  subst e3 e5
  exact br_f (by decide) (nm_r e6 (br_f (by decide) (br_f (by decide) (br_f (by decide) (nm_r e7 h)))))
theorem wq_at90_0 {post : Int32 → Prop} {J : Int32 → Int32 → Int32 → Int32 → Int32 → Prop} {x3 x4 x5 x6 x9 x10 x11 z1 v2 v4 v6 : Int32} (h0 : x11 = 0) (e2 : z1 + 0 = v2) (e4 : x3 + x9 = v4) (e6 : x6 + 1 = v6) (h : J v2 x3 v4 x10 v6) : wX_atInTree_90 post J x3 x4 x5 x6 x9 x10 x11 0 z1 f0_n f0_isPacked f0_runCount f0_nodes f0_codeSum a1 a2 a3 a4 a5 a6 a7 a8 a9 a10 a11 a12 a13 a14 a15 a16 a17 a18 a19 a20 a21 a22 a23 a24 a25 a26 a27 :=
  nm_r e2 (br_t h0 (br_t h0 (br_t h0 (nm_r e4 (nm_r e6 h)))))
theorem wq_at90_1 {post : Int32 → Prop} {J : Int32 → Int32 → Int32 → Int32 → Int32 → Prop} {x3 x4 x5 x6 x9 x10 x11 z1 v2 v3 v5 v6 : Int32} (h0 : ¬ x11 = 0) (e2 : z1 + 1 = v2) (e3 : x3 + x9 = v3) (e5 : x5 - x10 = v5) (e6 : x6 + 1 = v6) (h : J v2 v3 x4 v5 v6) : wX_atInTree_90 post J x3 x4 x5 x6 x9 x10 x11 1 z1 f0_n f0_isPacked f0_runCount f0_nodes f0_codeSum a1 a2 a3 a4 a5 a6 a7 a8 a9 a10 a11 a12 a13 a14 a15 a16 a17 a18 a19 a20 a21 a22 a23 a24 a25 a26 a27 := by
  subst e3 e5
  exact nm_r e2 (br_f h0 (br_f h0 (br_f h0 (nm_r e6 h))))
/-- letters before m with a lesser beginning -/
def qq_tB (ls : Nat → Nat) (l p m : Nat) : Nat := qq_ct (fun j => decide (qq_pf l (ls j) < p)) m
theorem qq_tB_d {l : Nat} (hl : l < 3) (m : Nat) (ls : Nat → Nat) (p : Nat) : qq_tB ls (l + 1) (2 * p) m = qq_tB ls l p m := qq_tS_d hl m ls p
theorem qq_tB_s (m : Nat) (ls : Nat → Nat) (l p : Nat) : qq_tB ls l (p + 1) m = qq_tB ls l p m + qq_tC ls l p m := qq_tS_s m ls l p
theorem wq_belowTree {post : Int32 → Prop} {x y : Int32} {n : Nat} {ls : Nat → Nat} (c m : Nat) (hc : c < 8) (hm : m ≤ n) (hn : n ≤ 200) (hcl : ∀ i, i < n → ls i < 8)
    (RS : ∀ r, r < 21 → qq_RS a5 a6 a7 r) (R : ∀ l, l < 3 → qq_TR n ls l (qq_gb 7 a5 l))
    (hp : post (nI (qq_ct (fun j => decide (ls j < c)) m))) (hx : x = nI c := by rfl) (hy : y = nI m := by rfl) : wpX_belowInTree post (nI n, f0_isPacked, f0_runCount, f0_nodes, f0_codeSum, a1, a2, a3, a4, a5, a6, a7, a8, a9, a10, a11, a12, a13, a14, a15, a16, a17, a18, a19, a20, a21, a22, a23, a24, a25, a26, a27) x y := by
  subst hx hy
  refine pk_loop (σ := Int32 × Int32 × Int32 × Int32) (fun f l s => wX_belowInTree_17 post (nI c) (nI n) f0_isPacked f0_runCount f0_nodes f0_codeSum a1 a2 a3 a4 a5 a6 a7 a8 a9 a10 a11 a12 a13 a14 a15 a16 a17 a18 a19 a20 a21 a22 a23 a24 a25 a26 a27 f s.1 s.2.1 s.2.2.1 s.2.2.2 (nI l))
    (fun l s => s.1 = nI (qq_tS n ls l (qq_pf l c)) ∧ s.2.1 = nI (qq_tS n ls l (qq_pf l c) + qq_tC ls l (qq_pf l c) n) ∧ s.2.2.1 = nI (qq_tC ls l (qq_pf l c) m) ∧ s.2.2.2 = nI (qq_tB ls l (qq_pf l c) m))
    3 0 (0, nI n, nI m, 0) (by omega) ⟨?_, ?_, ?_, ?_⟩ ?_ ?_
  · show (0 : Int32) = nI (qq_tS n ls 0 (qq_pf 0 c))
    rw [qq_pf_0 hc, qq_tS_0]; rfl
  · show nI n = nI (qq_tS n ls 0 (qq_pf 0 c) + qq_tC ls 0 (qq_pf 0 c) n)
    rw [qq_pf_0 hc, qq_tS_0, Nat.zero_add]
    exact congrArg nI (qq_ct_all (fun j hj => decide_eq_true (qq_pf_0 (hcl j hj)))).symm
  · show nI m = nI (qq_tC ls 0 (qq_pf 0 c) m)
    rw [qq_pf_0 hc]
    exact congrArg nI (qq_ct_all (fun j hj => decide_eq_true (qq_pf_0 (hcl j (by omega))))).symm
  · show (0 : Int32) = nI (qq_tS m ls 0 (qq_pf 0 c))
    rw [qq_pf_0 hc, qq_tS_0]; rfl
  · intro f ⟨x3, x4, x5, x6⟩ ⟨h1, h2, h3, h4⟩
    have h4 : x6 = nI (qq_tB ls 3 (qq_pf 3 c) m) := h4
    subst h4
    refine pk_le 3 3 (fun _ => ?_) (fun z => absurd z (by omega))
    have e : qq_tB ls 3 (qq_pf 3 c) m = qq_ct (fun j => decide (ls j < c)) m := qq_ct_congr (fun j _ => by rw [qq_pf_3, qq_pf_3])
    rw [e]
    exact hp
  · intro f l ⟨x3, x4, x5, x6⟩ hl ⟨h1, h2, h3, h4⟩ hk
    have h1 : x3 = nI (qq_tS n ls l (qq_pf l c)) := h1
    have h2 : x4 = nI (qq_tS n ls l (qq_pf l c) + qq_tC ls l (qq_pf l c) n) := h2
    have h3 : x5 = nI (qq_tC ls l (qq_pf l c) m) := h3
    have h4 : x6 = nI (qq_tB ls l (qq_pf l c) m) := h4
    subst h1 h2 h3 h4
    have hp8 := qq_pf_lt (show l ≤ 3 by omega) hc
    have q1 := qq_tS_le n ls l (qq_pf l c) (Nat.le_refl n)
    have q2 := qq_tS_le n ls l (qq_pf l c) hm
    have hs := qq_pf_s hl c
    have z0 := qq_tz0 hl (R l hl) _ hp8
    have zn := qq_tz hl (R l hl) _ n hp8 (Nat.le_refl n)
    have zm := qq_tz hl (R l hl) _ m hp8 hm
    have sp := qq_tC_split hl ls (qq_pf l c) m
    have spn := qq_tC_split hl ls (qq_pf l c) n
    have sd := qq_tS_d hl n ls (qq_pf l c)
    have sd1 := qq_tS_s n ls (l + 1) (2 * qq_pf l c)
    have bd := qq_tB_d hl m ls (qq_pf l c)
    have bd1 := qq_tB_s m ls (l + 1) (2 * qq_pf l c)
    refine pk_le 3 l (fun z => absurd z (by omega)) (fun _ => nm_r (Int32.zero_add _) (wq_zeros l (qq_tS n ls l (qq_pf l c)) (by omega) (by omega) (RS l (by omega)) ?_))
    refine wq_zeros l (qq_tS n ls l (qq_pf l c) + qq_tC ls l (qq_pf l c) n) (by omega) (by omega) (RS l (by omega)) ?_
    refine nm_r (e' := nI (qq_tC ls (l + 1) (2 * qq_pf l c) n)) ?_ ?_
    · rw [z0, zn, pk_sub (by omega)]
      congr 1
      omega
    refine wq_zeros l (qq_tS n ls l (qq_pf l c) + qq_tC ls l (qq_pf l c) m) (by omega) (by omega) (RS l (by omega)) ?_ rfl (nI_add _ _)
    refine nm_r (e' := nI (qq_tC ls (l + 1) (2 * qq_pf l c) m)) ?_ ?_
    · rw [z0, zm, pk_sub (by omega)]
      congr 1
      omega
    refine wq_digit c l hc hl ?_
    have hd := qq_dg2 l c
    refine pk_eq (qq_dg l c) 1 (fun d => ?_) (fun d => ?_)
    · have e : qq_pf (l + 1) c = 2 * qq_pf l c + 1 := by omega
      refine wq_bt81_1 (nI_add _ _) (nI_add _ _) (pk_sub (by omega)) (nI_1 l) (hk (nI (qq_tS n ls l (qq_pf l c) + qq_tC ls (l + 1) (2 * qq_pf l c) n), nI (qq_tS n ls l (qq_pf l c) + qq_tC ls l (qq_pf l c) n), nI (qq_tC ls l (qq_pf l c) m - qq_tC ls (l + 1) (2 * qq_pf l c) m), nI (qq_tB ls l (qq_pf l c) m + qq_tC ls (l + 1) (2 * qq_pf l c) m)) ⟨?_, ?_, ?_, ?_⟩)
      · show nI _ = nI _
        congr 1
        rw [e]
        omega
      · show nI _ = nI _
        congr 1
        rw [e]
        omega
      · show nI _ = nI _
        congr 1
        rw [e]
        omega
      · show nI _ = nI _
        congr 1
        rw [e]
        omega
    · have e : qq_pf (l + 1) c = 2 * qq_pf l c := by omega
      refine wq_bt81_0 (Int32.add_zero _) (nI_add _ _) (nI_1 l) (hk (nI (qq_tS n ls l (qq_pf l c)), nI (qq_tS n ls l (qq_pf l c) + qq_tC ls (l + 1) (2 * qq_pf l c) n), nI (qq_tC ls (l + 1) (2 * qq_pf l c) m), nI (qq_tB ls l (qq_pf l c) m)) ⟨?_, ?_, ?_, ?_⟩)
      · show nI _ = nI _
        congr 1
        rw [e]
        omega
      · show nI _ = nI _
        congr 1
        rw [e]
        omega
      · show nI _ = nI _
        congr 1
        rw [e]
      · show nI _ = nI _
        congr 1
        rw [e]
        omega
theorem wq_atTree {post : Int32 → Prop} {y : Int32} {n : Nat} {ls : Nat → Nat} (m : Nat) (hm : m < n) (hn : n ≤ 200) (hcl : ∀ i, i < n → ls i < 8)
    (RS : ∀ r, r < 21 → qq_RS a5 a6 a7 r) (R : ∀ l, l < 3 → qq_TR n ls l (qq_gb 7 a5 l))
    (hp : post (nI (ls m))) (hy : y = nI m := by rfl) : wpX_atInTree post (nI n, f0_isPacked, f0_runCount, f0_nodes, f0_codeSum, a1, a2, a3, a4, a5, a6, a7, a8, a9, a10, a11, a12, a13, a14, a15, a16, a17, a18, a19, a20, a21, a22, a23, a24, a25, a26, a27) y := by
  subst hy
  have hc := hcl m hm
  refine pk_loop (σ := Int32 × Int32 × Int32 × Int32) (fun f l s => wX_atInTree_16 post (nI n) f0_isPacked f0_runCount f0_nodes f0_codeSum a1 a2 a3 a4 a5 a6 a7 a8 a9 a10 a11 a12 a13 a14 a15 a16 a17 a18 a19 a20 a21 a22 a23 a24 a25 a26 a27 f s.1 s.2.1 s.2.2.1 s.2.2.2 (nI l))
    (fun l s => s.1 = nI (qq_pf l (ls m)) ∧ s.2.1 = nI (qq_tS n ls l (qq_pf l (ls m))) ∧ s.2.2.1 = nI (qq_tS n ls l (qq_pf l (ls m)) + qq_tC ls l (qq_pf l (ls m)) n) ∧ s.2.2.2 = nI (qq_tC ls l (qq_pf l (ls m)) m))
    3 0 (0, 0, nI n, nI m) (by omega) ⟨?_, ?_, ?_, ?_⟩ ?_ ?_
  · show (0 : Int32) = nI (qq_pf 0 (ls m))
    rw [qq_pf_0 hc]; rfl
  · show (0 : Int32) = nI (qq_tS n ls 0 (qq_pf 0 (ls m)))
    rw [qq_pf_0 hc, qq_tS_0]; rfl
  · show nI n = nI (qq_tS n ls 0 (qq_pf 0 (ls m)) + qq_tC ls 0 (qq_pf 0 (ls m)) n)
    rw [qq_pf_0 hc, qq_tS_0, Nat.zero_add]
    exact congrArg nI (qq_ct_all (fun j hj => decide_eq_true (qq_pf_0 (hcl j hj)))).symm
  · show nI m = nI (qq_tC ls 0 (qq_pf 0 (ls m)) m)
    rw [qq_pf_0 hc]
    exact congrArg nI (qq_ct_all (fun j hj => decide_eq_true (qq_pf_0 (hcl j (by omega))))).symm
  · intro f ⟨x2, x3, x4, x5⟩ ⟨h1, h2, h3, h4⟩
    have h1 : x2 = nI (qq_pf 3 (ls m)) := h1
    subst h1
    refine pk_le 3 3 (fun _ => ?_) (fun z => absurd z (by omega))
    rw [qq_pf_3]
    exact hp
  · intro f l ⟨x2, x3, x4, x5⟩ hl ⟨h0, h1, h2, h3⟩ hk
    have h0 : x2 = nI (qq_pf l (ls m)) := h0
    have h1 : x3 = nI (qq_tS n ls l (qq_pf l (ls m))) := h1
    have h2 : x4 = nI (qq_tS n ls l (qq_pf l (ls m)) + qq_tC ls l (qq_pf l (ls m)) n) := h2
    have h3 : x5 = nI (qq_tC ls l (qq_pf l (ls m)) m) := h3
    subst h0 h1 h2 h3
    have hp8 := qq_pf_lt (show l ≤ 3 by omega) hc
    have q1 := qq_tS_le n ls l (qq_pf l (ls m)) (Nat.le_refl n)
    have q2 := qq_tS_le n ls l (qq_pf l (ls m)) (show m ≤ n by omega)
    have hs := qq_pf_s hl (ls m)
    have z0 := qq_tz0 hl (R l hl) _ hp8
    have zn := qq_tz hl (R l hl) _ n hp8 (Nat.le_refl n)
    have zm := qq_tz hl (R l hl) _ m hp8 (by omega)
    have sp := qq_tC_split hl ls (qq_pf l (ls m)) m
    have spn := qq_tC_split hl ls (qq_pf l (ls m)) n
    have sd := qq_tS_d hl n ls (qq_pf l (ls m))
    have sd1 := qq_tS_s n ls (l + 1) (2 * qq_pf l (ls m))
    have bt := qq_tbit (R l hl) m hp8 hm
    have e2 : (2 : Int32) * nI (qq_pf l (ls m)) = nI (2 * qq_pf l (ls m)) := pk_mul 2 _
    refine pk_le 3 l (fun z => absurd z (by omega)) (fun _ => nm_r (Int32.zero_add _) (wq_zeros l (qq_tS n ls l (qq_pf l (ls m))) (by omega) (by omega) (RS l (by omega)) ?_))
    refine wq_zeros l (qq_tS n ls l (qq_pf l (ls m)) + qq_tC ls l (qq_pf l (ls m)) n) (by omega) (by omega) (RS l (by omega)) ?_
    refine nm_r (e' := nI (qq_tC ls (l + 1) (2 * qq_pf l (ls m)) n)) ?_ ?_
    · rw [z0, zn, pk_sub (by omega)]
      congr 1
      omega
    refine wq_zeros l (qq_tS n ls l (qq_pf l (ls m)) + qq_tC ls l (qq_pf l (ls m)) m) (by omega) (by omega) (RS l (by omega)) ?_ rfl (nI_add _ _)
    refine nm_r (e' := nI (qq_tC ls (l + 1) (2 * qq_pf l (ls m)) m)) ?_ ?_
    · rw [z0, zm, pk_sub (by omega)]
      congr 1
      omega
    refine wq_bitAt l (qq_tS n ls l (qq_pf l (ls m)) + qq_tC ls l (qq_pf l (ls m)) m) (by omega) (by omega) ?_ rfl (nI_add _ _)
    have hd := qq_dg2 l (ls m)
    rw [bt, e2]
    refine pk_eq (qq_dg l (ls m)) 0 (fun d => ?_) (fun d => ?_)
    · have e : qq_pf (l + 1) (ls m) = 2 * qq_pf l (ls m) := by omega
      refine wq_at90_0 (by rw [d]; rfl) (Int32.add_zero _) (nI_add _ _) (nI_1 l) (hk (nI (2 * qq_pf l (ls m)), nI (qq_tS n ls l (qq_pf l (ls m))), nI (qq_tS n ls l (qq_pf l (ls m)) + qq_tC ls (l + 1) (2 * qq_pf l (ls m)) n), nI (qq_tC ls (l + 1) (2 * qq_pf l (ls m)) m)) ⟨?_, ?_, ?_, ?_⟩)
      · show nI _ = nI _
        congr 1
        rw [e]
      · show nI _ = nI _
        congr 1
        rw [e]
        omega
      · show nI _ = nI _
        congr 1
        rw [e]
        omega
      · show nI _ = nI _
        congr 1
        rw [e]
    · have e : qq_pf (l + 1) (ls m) = 2 * qq_pf l (ls m) + 1 := by omega
      refine wq_at90_1 (nI_ne0 (by omega) (by omega)) (nI_1 _) (nI_add _ _) (pk_sub (by omega)) (nI_1 l) (hk (nI (2 * qq_pf l (ls m) + 1), nI (qq_tS n ls l (qq_pf l (ls m)) + qq_tC ls (l + 1) (2 * qq_pf l (ls m)) n), nI (qq_tS n ls l (qq_pf l (ls m)) + qq_tC ls l (qq_pf l (ls m)) n), nI (qq_tC ls l (qq_pf l (ls m)) m - qq_tC ls (l + 1) (2 * qq_pf l (ls m)) m)) ⟨?_, ?_, ?_, ?_⟩)
      · show nI _ = nI _
        congr 1
        rw [e]
      · show nI _ = nI _
        congr 1
        rw [e]
        omega
      · show nI _ = nI _
        congr 1
        rw [e]
        omega
      · show nI _ = nI _
        congr 1
        rw [e]
        omega
end
end
section
/-! ===== engine 1: by levels; the pure part ===== -/
def qq_dn (Z : Nat) (f : Nat → Bool) (one : Bool) (i : Nat) : Nat := cond one (Z + qq_ct f i) (i - qq_ct f i)
/-- a level: s goes to s', zeros first -/
def qq_ML (n l : Nat) (s s' : Nat → Nat) (f : Nat → Bool) (z : Int32) : Prop :=
  (∀ i, i < n → s i < 8) ∧ (∀ i, i < n → f i = decide (qq_dg l (s i) = 1)) ∧ z = nI (n - qq_ct f n) ∧ (∀ i, i < n → s' (qq_dn (n - qq_ct f n) f (f i) i) = s i)
def qq_MX (n : Nat) (ls : Nat → Nat) (a5 a8 : Nat → Int32) : Prop :=
  ∃ S : Nat → Nat → Nat, (∀ i, i < n → S 0 i = ls i) ∧ ∀ l, l < 3 → qq_ML n l (S l) (S (l + 1)) (qq_gb 7 a5 (3 + l)) (a8 l)
theorem qq_ML_congr {n l : Nat} {s s' : Nat → Nat} {f g : Nat → Bool} {z : Int32} (hn : n ≤ 200) (h : qq_ML n l s s' f z) (e : ∀ j, j < 224 → g j = f j) : qq_ML n l s s' g z := by
  obtain ⟨h1, h2, h3, h4⟩ := h
  have ec : ∀ m, m ≤ n → qq_ct g m = qq_ct f m := fun m hm => qq_ct_congr (fun j hj => e j (by omega))
  refine ⟨h1, fun i hi => by rw [e i (by omega)]; exact h2 i hi, by rw [ec n (Nat.le_refl n)]; exact h3, fun i hi => ?_⟩
  have := h4 i hi
  unfold qq_dn at this ⊢
  rw [ec n (Nat.le_refl n), ec i (by omega), e i (by omega)]
  exact this
theorem qq_MX_congr {n : Nat} {ls : Nat → Nat} {a5 b5 a8 : Nat → Int32} (hn : n ≤ 200) (h : qq_MX n ls a5 a8) (e : ∀ r j, 3 ≤ r → r < 6 → j < 224 → qq_gb 7 b5 r j = qq_gb 7 a5 r j) : qq_MX n ls b5 a8 := by
  obtain ⟨S, h0, h1⟩ := h
  exact ⟨S, h0, fun l hl => qq_ML_congr hn (h1 l hl) (fun j hj => e (3 + l) j (by omega) (by omega) hj)⟩
theorem qq_dn_lt {n : Nat} {f : Nat → Bool} {i : Nat} (hi : i < n) : qq_dn (n - qq_ct f n) f (f i) i < n := by
  have h1 := qq_ct_le f n
  have h2 := qq_ct_le f i
  unfold qq_dn
  cases e : f i
  · show i - qq_ct f i < n
    omega
  · show n - qq_ct f n + qq_ct f i < n
    have := qq_ct_lt hi e
    omega
theorem qq_dn_le {n : Nat} {f : Nat → Bool} (one : Bool) {i : Nat} (hi : i ≤ n) : qq_dn (n - qq_ct f n) f one i ≤ n := by
  have h1 := qq_ct_le f n
  have h3 := qq_ct_mono f hi
  unfold qq_dn
  cases one
  · show i - qq_ct f i ≤ n
    omega
  · show n - qq_ct f n + qq_ct f i ≤ n
    omega
theorem qq_dn_mono {Z : Nat} {f : Nat → Bool} (one : Bool) {i j : Nat} (h : i ≤ j) : qq_dn Z f one i ≤ qq_dn Z f one j := by
  have h1 := qq_ct_mono f h
  have h2 := qq_ct_gap' f h
  have h3 := qq_ct_le f i
  unfold qq_dn
  cases one
  · show i - qq_ct f i ≤ j - qq_ct f j
    omega
  · show Z + qq_ct f i ≤ Z + qq_ct f j
    omega
theorem qq_ML_z {n l : Nat} {s s' : Nat → Nat} {f : Nat → Bool} {z : Int32} (h : qq_ML n l s s' f z) (P : Nat → Bool) :
    ∀ m, m ≤ n → qq_ct (fun j => P (s' j)) (m - qq_ct f m) = qq_ct (fun j => P (s j) && decide (qq_dg l (s j) = 0)) m := by
  obtain ⟨h1, h2, h3, h4⟩ := h
  intro m
  induction m with
  | zero => intro _; rfl
  | succ m ih =>
    intro hm
    have i2 := ih (by omega)
    have c := qq_ct_le f m
    have d := qq_dg2 l (s m)
    have e := h2 m (by omega)
    have e4 := h4 m (by omega)
    cases z : f m
    · rw [qq_ct_f z, show m + 1 - qq_ct f m = m - qq_ct f m + 1 by omega, qq_ct_s, qq_ct_s, i2]
      rw [z] at e e4
      have e5 : s' (m - qq_ct f m) = s m := e4
      have hd : qq_dg l (s m) = 0 := by
        have := of_decide_eq_false e.symm
        omega
      rw [e5, decide_eq_true hd, Bool.and_true]
    · rw [qq_ct_t z, show m + 1 - (qq_ct f m + 1) = m - qq_ct f m by omega, qq_ct_s, i2]
      rw [z] at e
      have hd := of_decide_eq_true e.symm
      rw [decide_eq_false (show ¬ qq_dg l (s m) = 0 by omega), Bool.and_false]
      rfl
theorem qq_ML_o {n l : Nat} {s s' : Nat → Nat} {f : Nat → Bool} {z : Int32} (h : qq_ML n l s s' f z) (P : Nat → Bool) :
    ∀ m, m ≤ n → qq_ct (fun j => P (s' j)) (n - qq_ct f n + qq_ct f m) = qq_ct (fun j => P (s' j)) (n - qq_ct f n) + qq_ct (fun j => P (s j) && decide (qq_dg l (s j) = 1)) m := by
  obtain ⟨h1, h2, h3, h4⟩ := h
  intro m
  induction m with
  | zero => intro _; rfl
  | succ m ih =>
    intro hm
    have i2 := ih (by omega)
    have e := h2 m (by omega)
    have e4 := h4 m (by omega)
    cases z : f m
    · rw [qq_ct_f z, qq_ct_s, i2]
      rw [z] at e
      rw [← e, Bool.and_false]
      rfl
    · rw [qq_ct_t z, ← Nat.add_assoc, qq_ct_s, qq_ct_s, i2]
      rw [z] at e e4
      have e5 : s' (n - qq_ct f n + qq_ct f m) = s m := e4
      rw [e5, ← e, Bool.and_true, Nat.add_assoc]
/-- a stretch [a, b) of a level is the places of [i, j) whose letters begin so -/
def qq_MI (s ls : Nat → Nat) (l p i j a b : Nat) : Prop :=
  ∀ P : Nat → Bool, qq_ct (fun x => P (s x)) b + qq_ct (fun x => P (ls x) && decide (qq_pf l (ls x) = p)) i = qq_ct (fun x => P (s x)) a + qq_ct (fun x => P (ls x) && decide (qq_pf l (ls x) = p)) j
theorem qq_MI_0 {n : Nat} {s ls : Nat → Nat} (hc : ∀ i, i < n → ls i < 8) (h : ∀ i, i < n → s i = ls i) {i j : Nat} (hi : i ≤ n) (hj : j ≤ n) : qq_MI s ls 0 0 i j i j := by
  intro P
  have e : ∀ k, k ≤ n → qq_ct (fun x => P (s x)) k = qq_ct (fun x => P (ls x) && decide (qq_pf 0 (ls x) = 0)) k := fun k hk =>
    qq_ct_congr (fun x hx => by rw [h x (by omega), qq_pf_0 (hc x (by omega))]; simp)
  rw [e i hi, e j hj, Nat.add_comm]
theorem qq_and_c (a b : Bool) (P Q R : Prop) [Decidable P] [Decidable Q] [Decidable R] (h : P ∧ Q ↔ R) : ((a && decide P) && decide Q) = (a && decide R) := by
  by_cases hR : R
  · obtain ⟨x, y⟩ := h.mpr hR
    rw [decide_eq_true x, decide_eq_true y, decide_eq_true hR, Bool.and_true, Bool.and_true]
  · rw [decide_eq_false hR, Bool.and_false]
    by_cases x : P
    · have y : ¬ Q := fun q => hR (h.mp ⟨x, q⟩)
      rw [decide_eq_false y, Bool.and_false]
    · rw [decide_eq_false x, Bool.and_false, Bool.false_and]
theorem qq_MI_s {n l : Nat} {s s' ls : Nat → Nat} {f : Nat → Bool} {z : Int32} (hl : l < 3) (h : qq_ML n l s s' f z) {p i j a b : Nat} (I : qq_MI s ls l p i j a b) (ha : a ≤ n) (hb : b ≤ n) (one : Bool) :
    qq_MI s' ls (l + 1) (2 * p + one.toNat) i j (qq_dn (n - qq_ct f n) f one a) (qq_dn (n - qq_ct f n) f one b) := by
  intro P
  cases one
  · show qq_ct (fun x => P (s' x)) (b - qq_ct f b) + _ = qq_ct (fun x => P (s' x)) (a - qq_ct f a) + _
    rw [qq_ML_z h P a ha, qq_ML_z h P b hb]
    have e : ∀ k, qq_ct (fun x => P (ls x) && decide (qq_pf (l + 1) (ls x) = 2 * p + Bool.toNat false)) k = qq_ct (fun x => (P (ls x) && decide (qq_dg l (ls x) = 0)) && decide (qq_pf l (ls x) = p)) k := fun k =>
      qq_ct_congr (fun x _ => (qq_and_c _ false _ _ _ (by
        have h1 := qq_pf_s hl (ls x)
        have h2 := qq_dg2 l (ls x)
        show _ ↔ qq_pf (l + 1) (ls x) = 2 * p + 0
        omega)).symm)
    rw [e, e]
    exact I (fun c => P c && decide (qq_dg l c = 0))
  · show qq_ct (fun x => P (s' x)) (n - qq_ct f n + qq_ct f b) + _ = qq_ct (fun x => P (s' x)) (n - qq_ct f n + qq_ct f a) + _
    rw [qq_ML_o h P a ha, qq_ML_o h P b hb]
    have e : ∀ k, qq_ct (fun x => P (ls x) && decide (qq_pf (l + 1) (ls x) = 2 * p + Bool.toNat true)) k = qq_ct (fun x => (P (ls x) && decide (qq_dg l (ls x) = 1)) && decide (qq_pf l (ls x) = p)) k := fun k =>
      qq_ct_congr (fun x _ => (qq_and_c _ false _ _ _ (by
        have h1 := qq_pf_s hl (ls x)
        have h2 := qq_dg2 l (ls x)
        show _ ↔ qq_pf (l + 1) (ls x) = 2 * p + 1
        omega)).symm)
    rw [e, e]
    have := I (fun c => P c && decide (qq_dg l c = 1))
    omega
theorem qq_MI_all {s ls : Nat → Nat} {l p i j a b : Nat} (I : qq_MI s ls l p i j a b) : b + qq_ct (fun x => decide (qq_pf l (ls x) = p)) i = a + qq_ct (fun x => decide (qq_pf l (ls x) = p)) j := by
  have := I (fun _ => true)
  rw [qq_ct_all (fun _ _ => rfl), qq_ct_all (fun _ _ => rfl)] at this
  simpa using this
/-- every place of the next level comes from one above -/
theorem qq_dn_onto {n : Nat} {f : Nat → Bool} {j : Nat} (hj : j < n) : ∃ i, i < n ∧ qq_dn (n - qq_ct f n) f (f i) i = j := by
  have cn := qq_ct_not f n
  rcases Nat.lt_or_ge j (n - qq_ct f n) with z | z
  · obtain ⟨i, hi, h1, h2⟩ := qq_ct_find (p := fun x => !f x) (k := j) (n := n) (by omega)
    have ci := qq_ct_not f i
    have h1 : f i = false := by
      have h1 : (!f i) = true := h1
      simpa using h1
    refine ⟨i, hi, ?_⟩
    rw [h1]
    show i - qq_ct f i = j
    omega
  · obtain ⟨i, hi, h1, h2⟩ := qq_ct_find (p := f) (k := j - (n - qq_ct f n)) (n := n) (by omega)
    refine ⟨i, hi, ?_⟩
    rw [h1]
    show n - qq_ct f n + qq_ct f i = j
    omega
theorem qq_dn_ne {n : Nat} {f : Nat → Bool} {i m : Nat} (hi : i < m) (hm : m < n) : qq_dn (n - qq_ct f n) f (f i) i ≠ qq_dn (n - qq_ct f n) f (f m) m := by
  have ci := qq_ct_le f i
  have cm := qq_ct_le f m
  have cn := qq_ct_le f n
  unfold qq_dn
  cases e : f i <;> cases e' : f m
  · show i - qq_ct f i ≠ m - qq_ct f m
    have h1 := qq_ct_f e
    have h2 := qq_ct_gap' f (show i + 1 ≤ m by omega)
    omega
  · show i - qq_ct f i ≠ n - qq_ct f n + qq_ct f m
    have h1 := qq_ct_f e
    have h2 := qq_ct_gap' f (show i + 1 ≤ n by omega)
    omega
  · show n - qq_ct f n + qq_ct f i ≠ m - qq_ct f m
    have h1 := qq_ct_f e'
    have h2 := qq_ct_gap' f (show m + 1 ≤ n by omega)
    omega
  · show n - qq_ct f n + qq_ct f i ≠ n - qq_ct f n + qq_ct f m
    have := qq_ct_lt hi e
    omega
end
section
/-! ===== engine 1: packed ===== -/
section
variable {f0_n f0_isPacked f0_runCount f0_nodes f0_codeSum : Int32} {a1 a2 a3 a4 a5 a6 a7 a8 a9 a10 a11 a12 a13 a14 a15 a16 a17 a18 a19 a20 a21 a22 a23 a24 a25 a26 a27 : Nat → Int32}
theorem wq_part86 {post : St1 → Prop} {n : Nat} (hn : n ≤ 200)
    (H : ∀ s3, (∀ j, j < n → s3 j = vp_nar .byte (a4 j)) → post (nI n, f0_isPacked, f0_runCount, f0_nodes, f0_codeSum, a1, a2, s3, a4, a5, a6, a7, a8, a9, a10, a11, a12, a13, a14, a15, a16, a17, a18, a19, a20, a21, a22, a23, a24, a25, a26, a27)) : ∃ f, wX_partLevel_86 post (nI n) f0_isPacked f0_runCount f0_nodes f0_codeSum f 0 a1 a2 a3 a4 a5 a6 a7 a8 a9 a10 a11 a12 a13 a14 a15 a16 a17 a18 a19 a20 a21 a22 a23 a24 a25 a26 a27 := by
  refine pk_loop (σ := Nat → Int32) (fun f m s => wX_partLevel_86 post (nI n) f0_isPacked f0_runCount f0_nodes f0_codeSum f (nI m) a1 a2 s a4 a5 a6 a7 a8 a9 a10 a11 a12 a13 a14 a15 a16 a17 a18 a19 a20 a21 a22 a23 a24 a25 a26 a27) (fun m s => ∀ j, j < m → s j = vp_nar .byte (a4 j)) n 0 a3 (by omega) (fun j hj => absurd hj (by omega)) ?_ ?_
  · intro f s h
    exact pk_le n n (fun _ => H s h) (fun z => absurd z (by omega))
  · intro f m s hm h hk
    refine pk_le n m (fun z => absurd z (by omega)) (fun _ => ⟨pk_in m 200 (by omega), pk_in m 200 (by omega), nm_r (e' := upd s m (vp_nar .byte (a4 m))) ?_ (nm_r (nI_1 m) (hk _ ?_))⟩)
    · rw [nI_clamp (by omega)]
    · intro j hj
      by_cases z : j = m
      · rw [z, pk_us]
      · rw [pk_un z]
        exact h j (by omega)
theorem wq_part {post : St1 → Prop} {x y : Int32} {n : Nat} (l Z : Nat) (s : Nat → Nat) (hl : l < 3) (hn : n ≤ 200) (h3 : ∀ i, i < n → a3 i = nI (s i)) (h8 : ∀ i, i < n → s i < 8)
    (f : Nat → Bool) (hf : ∀ i, i < n → f i = decide (qq_dg l (s i) = 1)) (hZ : Z = n - qq_ct f n) (hz : ∀ j, j < 224 → qq_gb 7 a5 (3 + l) j = false)
    (H : ∀ s3 s4 s5, (∀ i, i < n → s3 (qq_dn Z f (f i) i) = nI (s i)) → (∀ i, i < n → qq_gb 7 s5 (3 + l) i = f i) → (∀ r j, r ≠ 3 + l → j < 224 → qq_gb 7 s5 r j = qq_gb 7 a5 r j) → post (nI n, f0_isPacked, f0_runCount, f0_nodes, f0_codeSum, a1, a2, s3, s4, s5, a6, a7, a8, a9, a10, a11, a12, a13, a14, a15, a16, a17, a18, a19, a20, a21, a22, a23, a24, a25, a26, a27))
    (hx : x = nI l := by rfl) (hy : y = nI Z := by rfl) : wpX_partLevel post (nI n, f0_isPacked, f0_runCount, f0_nodes, f0_codeSum, a1, a2, a3, a4, a5, a6, a7, a8, a9, a10, a11, a12, a13, a14, a15, a16, a17, a18, a19, a20, a21, a22, a23, a24, a25, a26, a27) x y := by
  subst hx hy
  have cn := qq_ct_le f n
  refine pk_loop (σ := Int32 × Int32 × (Nat → Int32) × (Nat → Int32)) (fun g m t => wX_partLevel_8 post (nI l) g t.1 t.2.1 (nI m) (nI n) f0_isPacked f0_runCount f0_nodes f0_codeSum a1 a2 a3 t.2.2.1 t.2.2.2 a6 a7 a8 a9 a10 a11 a12 a13 a14 a15 a16 a17 a18 a19 a20 a21 a22 a23 a24 a25 a26 a27)
    (fun m t => t.1 = nI (m - qq_ct f m) ∧ t.2.1 = nI (Z + qq_ct f m) ∧ (∀ i, i < m → t.2.2.1 (qq_dn Z f (f i) i) = nI (s i)) ∧ (∀ i, i < m → qq_gb 7 t.2.2.2 (3 + l) i = f i) ∧ (∀ i, m ≤ i → i < 224 → qq_gb 7 t.2.2.2 (3 + l) i = false) ∧ (∀ r j, r ≠ 3 + l → j < 224 → qq_gb 7 t.2.2.2 r j = qq_gb 7 a5 r j))
    n 0 (0, nI Z, a4, a5) (by omega) ⟨rfl, rfl, fun i hi => absurd hi (by omega), fun i hi => absurd hi (by omega), fun i _ hi => hz i hi, fun _ _ _ _ => rfl⟩ ?_ ?_
  · intro g ⟨x3, x4, s4, s5⟩ ⟨_, _, g3, g4, g5, g6⟩
    refine pk_le n n (fun _ => wq_part86 hn (fun s3 h => H s3 s4 s5 (fun i hi => ?_) g4 g6)) (fun z => absurd z (by omega))
    have e := h8 i hi
    rw [h _ (by rw [hZ]; exact qq_dn_lt hi), g3 i hi]
    exact qq_nb (s i) rfl (by omega)
  · intro g m ⟨x3, x4, s4, s5⟩ hm ⟨g1, g2, g3, g4, g5, g6⟩ hk
    have g1 : x3 = nI (m - qq_ct f m) := g1
    have g2 : x4 = nI (Z + qq_ct f m) := g2
    have g3 : ∀ i, i < m → s4 (qq_dn Z f (f i) i) = nI (s i) := g3
    have g4 : ∀ i, i < m → qq_gb 7 s5 (3 + l) i = f i := g4
    have g5 : ∀ i, m ≤ i → i < 224 → qq_gb 7 s5 (3 + l) i = false := g5
    have g6 : ∀ r j, r ≠ 3 + l → j < 224 → qq_gb 7 s5 r j = qq_gb 7 a5 r j := g6
    subst g1 g2
    have ea : a3 (nI m).toNatClampNeg = nI (s m) := qq_rd m (h3 m hm)
    have e8 := h8 m hm
    have hd := qq_dg2 l (s m)
    have cm := qq_ct_le f m
    have dl : qq_dn Z f (f m) m < n := by rw [hZ]; exact qq_dn_lt hm
    have put : ∀ i, i < m + 1 → upd s4 (qq_dn Z f (f m) m) (nI (s m)) (qq_dn Z f (f i) i) = nI (s i) := by
      intro i hi
      by_cases z : i = m
      · rw [z, pk_us]
      · rw [pk_un (by rw [hZ]; exact qq_dn_ne (by omega) hm)]
        exact g3 i (by omega)
    refine pk_le n m (fun z => absurd z (by omega)) (fun _ => ⟨pk_in m 200 (by omega), wq_digit (s m) l e8 hl ?_ ea⟩)
    refine pk_eq (qq_dg l (s m)) 1 (fun d => ?_) (fun d => ?_)
    · have ef : f m = true := by rw [hf m hm]; exact decide_eq_true d
      have e1 : qq_dn Z f (f m) m = Z + qq_ct f m := by rw [ef]; rfl
      rw [e1] at put dl
      refine wq_setBit (3 + l) m (by omega) (by omega) ?_ (nI_add 3 l)
      refine And.intro (pk_in m 200 (by omega)) (And.intro (pk_in (Z + qq_ct f m) 200 (by omega)) (nm_r (e' := upd s4 (Z + qq_ct f m) (nI (s m))) ?_ (nm_r (nI_1 _) (nm_r (nI_1 m) (hk (nI _, nI _, upd s4 _ _, upd s5 _ _) ⟨?_, ?_, put, ?_, ?_, ?_⟩)))))
      · rw [nI_clamp (by omega), ea, qq_nb (s m) rfl (by omega)]
      · show nI _ = nI _
        rw [qq_ct_t ef]
        congr 1
        omega
      · show nI _ = nI _
        rw [qq_ct_t ef]
        rfl
      · intro i hi
        show qq_gb 7 (upd s5 ((3 + l) * 7 + m / 32) (s5 ((3 + l) * 7 + m / 32) ||| nI (2 ^ (m % 32)))) (3 + l) i = f i
        rw [qq_gb_set s5 (by omega) _ i (by omega)]
        by_cases z : i = m
        · rw [z, ef, decide_eq_true rfl, decide_eq_true rfl, Bool.and_true, Bool.or_true]
        · rw [decide_eq_false z, Bool.and_false, Bool.or_false]
          exact g4 i (by omega)
      · intro i hi hi2
        show qq_gb 7 (upd s5 ((3 + l) * 7 + m / 32) (s5 ((3 + l) * 7 + m / 32) ||| nI (2 ^ (m % 32)))) (3 + l) i = false
        rw [qq_gb_set s5 (by omega) _ i (by omega), decide_eq_false (show ¬ i = m by omega), Bool.and_false, Bool.or_false]
        exact g5 i (by omega) hi2
      · intro r j hr hj
        show qq_gb 7 (upd s5 ((3 + l) * 7 + m / 32) (s5 ((3 + l) * 7 + m / 32) ||| nI (2 ^ (m % 32)))) r j = _
        rw [qq_gb_set s5 (by omega) _ j (by omega), decide_eq_false hr, Bool.false_and, Bool.or_false]
        exact g6 r j hr hj
    · have ef : f m = false := by rw [hf m hm]; exact decide_eq_false d
      have e1 : qq_dn Z f (f m) m = m - qq_ct f m := by rw [ef]; rfl
      rw [e1] at put dl
      refine And.intro (pk_in m 200 (by omega)) (And.intro (pk_in (m - qq_ct f m) 200 (by omega)) (nm_r (e' := upd s4 (m - qq_ct f m) (nI (s m))) ?_ (nm_r (nI_1 _) (nm_r (nI_1 m) (hk (nI _, nI _, upd s4 _ _, s5) ⟨?_, ?_, put, ?_, ?_, g6⟩)))))
      · rw [nI_clamp (by omega), ea, qq_nb (s m) rfl (by omega)]
      · show nI _ = nI _
        rw [qq_ct_f ef]
        congr 1
        omega
      · show nI _ = nI _
        rw [qq_ct_f ef]
      · intro i hi
        by_cases z : i = m
        · show qq_gb 7 s5 (3 + l) i = f i
          rw [z, ef]
          exact g5 m (Nat.le_refl m) (by omega)
        · exact g4 i (by omega)
      · intro i hi hi2
        exact g5 i (by omega) hi2
theorem wq_packMatrix {post : St1 → Prop} {n : Nat} {ls : Nat → Nat} (hn : n ≤ 200) (hL : ∀ i, i < n → a1 i = nI (ls i)) (hc : ∀ i, i < n → ls i < 8)
    (hz : ∀ r j, 3 ≤ r → r < 6 → j < 224 → qq_gb 7 a5 r j = false)
    (H : ∀ s3 s4 s5 s8, qq_MX n ls s5 s8 → (∀ r j, (r < 3 ∨ 6 ≤ r) → j < 224 → qq_gb 7 s5 r j = qq_gb 7 a5 r j) → post (nI n, f0_isPacked, f0_runCount, f0_nodes, f0_codeSum, a1, a2, s3, s4, s5, a6, a7, s8, a9, a10, a11, a12, a13, a14, a15, a16, a17, a18, a19, a20, a21, a22, a23, a24, a25, a26, a27)) :
    wpX_packMatrix post (nI n, f0_isPacked, f0_runCount, f0_nodes, f0_codeSum, a1, a2, a3, a4, a5, a6, a7, a8, a9, a10, a11, a12, a13, a14, a15, a16, a17, a18, a19, a20, a21, a22, a23, a24, a25, a26, a27) := by
  refine pk_loop (σ := Nat → Int32) (fun f m s => wX_packMatrix_2 post (nI n) f0_isPacked f0_runCount f0_nodes f0_codeSum f (nI m) a1 a2 s a4 a5 a6 a7 a8 a9 a10 a11 a12 a13 a14 a15 a16 a17 a18 a19 a20 a21 a22 a23 a24 a25 a26 a27) (fun m s => ∀ j, j < m → s j = nI (ls j)) n 0 a3 (by omega) (fun j hj => absurd hj (by omega)) ?_ ?_
  rotate_left
  · intro f m s hm h hk
    have e8 := hc m hm
    refine pk_le n m (fun z => absurd z (by omega)) (fun _ => ⟨pk_in m 200 (by omega), pk_in m 200 (by omega), nm_r (e' := upd s m (nI (ls m))) ?_ (nm_r (nI_1 m) (hk _ ?_))⟩)
    · rw [nI_clamp (by omega), hL m hm, qq_nb (ls m) rfl (by omega)]
    · intro j hj
      by_cases z : j = m
      · rw [z, pk_us]
      · rw [pk_un z]
        exact h j (by omega)
  intro f s h
  refine pk_le n n (fun _ => ?_) (fun z => absurd z (by omega))
  refine pk_loop (σ := (Nat → Int32) × (Nat → Int32) × (Nat → Int32) × (Nat → Int32)) (fun g l t => wX_packMatrix_30 post g (nI l) (nI n) f0_isPacked f0_runCount f0_nodes f0_codeSum a1 a2 t.1 t.2.1 t.2.2.1 a6 a7 t.2.2.2 a9 a10 a11 a12 a13 a14 a15 a16 a17 a18 a19 a20 a21 a22 a23 a24 a25 a26 a27)
    (fun l t => ∃ S : Nat → Nat → Nat, (∀ i, i < n → S 0 i = ls i) ∧ (∀ k, k < l → qq_ML n k (S k) (S (k + 1)) (qq_gb 7 t.2.2.1 (3 + k)) (t.2.2.2 k)) ∧ (∀ i, i < n → t.1 i = nI (S l i) ∧ S l i < 8) ∧ (∀ r j, (r < 3 ∨ 3 + l ≤ r) → j < 224 → qq_gb 7 t.2.2.1 r j = qq_gb 7 a5 r j))
    3 0 (s, a4, a5, a8) (by omega) ⟨fun _ => ls, fun i _ => rfl, fun k hk => absurd hk (by omega), fun i hi => ⟨h i hi, hc i hi⟩, fun _ _ _ _ => rfl⟩ ?_ ?_
  · intro g ⟨s3, s4, s5, s8⟩ ⟨S, h0, h1, _, h3⟩
    exact pk_le 3 3 (fun _ => H s3 s4 s5 s8 ⟨S, h0, h1⟩ (fun r j hr hj => h3 r j (by omega) hj)) (fun z => absurd z (by omega))
  · intro g l ⟨s3, s4, s5, s8⟩ hl ⟨S, h0, h1, h2, h3⟩ hk
    have h1 : ∀ k, k < l → qq_ML n k (S k) (S (k + 1)) (qq_gb 7 s5 (3 + k)) (s8 k) := h1
    have h2 : ∀ i, i < n → s3 i = nI (S l i) ∧ S l i < 8 := h2
    have h3 : ∀ r j, (r < 3 ∨ 3 + l ≤ r) → j < 224 → qq_gb 7 s5 r j = qq_gb 7 a5 r j := h3
    refine pk_le 3 l (fun z => absurd z (by omega)) (fun _ => ?_)
    refine pk_loop (σ := Int32) (fun g' m t => wX_packMatrix_39 post (wX_packMatrix_30 post g) (nI l) (nI n) f0_isPacked f0_runCount f0_nodes f0_codeSum a1 a2 s3 s4 s5 a6 a7 s8 a9 a10 a11 a12 a13 a14 a15 a16 a17 a18 a19 a20 a21 a22 a23 a24 a25 a26 a27 g' t (nI m))
      (fun m t => t = nI (m - qq_ct (fun j => decide (qq_dg l (S l j) = 1)) m)) n 0 0 (by omega) rfl ?_ ?_
    · intro g' t ht
      subst ht
      have cn := qq_ct_le (fun j => decide (qq_dg l (S l j) = 1)) n
      refine pk_le n n (fun _ => ⟨pk_in l 3 hl, nm_r (e' := upd s8 l (nI (n - qq_ct (fun j => decide (qq_dg l (S l j) = 1)) n))) ?_ (wq_part l _ (S l) hl hn (fun i hi => (h2 i hi).1) (fun i hi => (h2 i hi).2) (fun j => decide (qq_dg l (S l j) = 1)) (fun i _ => rfl) rfl (fun j hj => ?_) (fun t3 t4 t5 k1 k2 k3 => ?_))⟩) (fun z => absurd z (by omega))
      · rw [nI_clamp (by omega), qq_i16 (by omega)]
      · rw [h3 _ _ (by omega) hj]
        exact hz _ _ (by omega) (by omega) hj
      · refine nm_r (nI_1 l) (hk (t3, t4, t5, upd s8 l _) ⟨fun k => if k ≤ l then S k else fun j => (t3 j).toNatClampNeg, ?_, ?_, ?_, ?_⟩)
        · intro i hi
          exact h0 i hi
        · have fn : qq_ct (qq_gb 7 t5 (3 + l)) n = qq_ct (fun j => decide (qq_dg l (S l j) = 1)) n := qq_ct_congr k2
          intro k hkl
          show qq_ML n k (if k ≤ l then S k else _) (if k + 1 ≤ l then S (k + 1) else _) (qq_gb 7 t5 (3 + k)) (upd s8 l _ k)
          by_cases z : k = l
          · subst z
            rw [if_pos (Nat.le_refl k), if_neg (show ¬ k + 1 ≤ k by omega), pk_us]
            refine ⟨fun i hi => (h2 i hi).2, k2, ?_, fun i hi => ?_⟩
            · rw [fn]
            · have q := k1 i hi
              have fi : qq_ct (qq_gb 7 t5 (3 + k)) i = qq_ct (fun j => decide (qq_dg k (S k j) = 1)) i := qq_ct_congr (fun j hj => k2 j (by omega))
              have e8 := (h2 i hi).2
              show (t3 (qq_dn (n - qq_ct (qq_gb 7 t5 (3 + k)) n) (qq_gb 7 t5 (3 + k)) (qq_gb 7 t5 (3 + k) i) i)).toNatClampNeg = S k i
              have e : qq_dn (n - qq_ct (qq_gb 7 t5 (3 + k)) n) (qq_gb 7 t5 (3 + k)) (qq_gb 7 t5 (3 + k) i) i = qq_dn (n - qq_ct (fun j => decide (qq_dg k (S k j) = 1)) n) (fun j => decide (qq_dg k (S k j) = 1)) (decide (qq_dg k (S k i) = 1)) i := by
                unfold qq_dn
                rw [fn, fi, k2 i hi]
              rw [e, q, nI_clamp (by omega)]
          · rw [if_pos (by omega), if_pos (by omega), pk_un (by omega)]
            exact qq_ML_congr hn (h1 k (by omega)) (fun j hj => k3 (3 + k) j (by omega) hj)
        · intro i hi
          show t3 i = nI ((if l + 1 ≤ l then S (l + 1) else fun j => (t3 j).toNatClampNeg) i) ∧ (if l + 1 ≤ l then S (l + 1) else fun j => (t3 j).toNatClampNeg) i < 8
          rw [if_neg (by omega)]
          obtain ⟨j, hj, e⟩ := qq_dn_onto (f := fun j => decide (qq_dg l (S l j) = 1)) hi
          have q := k1 j hj
          have e8 := (h2 j hj).2
          rw [e] at q
          show t3 i = nI (t3 i).toNatClampNeg ∧ (t3 i).toNatClampNeg < 8
          rw [q, nI_clamp (by omega)]
          exact ⟨rfl, e8⟩
        · intro r j hr hj
          show qq_gb 7 t5 r j = _
          rw [k3 r j (by omega) hj]
          exact h3 r j (by omega) hj
    · intro g' m t hm ht hk'
      subst ht
      obtain ⟨e3, e8⟩ := h2 m hm
      have ea : s3 (nI m).toNatClampNeg = nI (S l m) := qq_rd m e3
      have hd := qq_dg2 l (S l m)
      have cm := qq_ct_le (fun j => decide (qq_dg l (S l j) = 1)) m
      refine pk_le n m (fun z => absurd z (by omega)) (fun _ => ⟨pk_in m 200 (by omega), wq_digit (S l m) l e8 hl ?_ ea⟩)
      refine pk_eq (qq_dg l (S l m)) 0 (fun d => nm_r (nI_1 _) (nm_r (nI_1 m) (hk' _ ?_))) (fun d => nm_r (Int32.add_zero _) (nm_r (nI_1 m) (hk' _ ?_)))
      · show nI _ = nI _
        rw [qq_ct_f (p := fun j => decide (qq_dg l (S l j) = 1)) (decide_eq_false (by omega))]
        congr 1
        omega
      · show nI _ = nI _
        rw [qq_ct_t (p := fun j => decide (qq_dg l (S l j) = 1)) (decide_eq_true (by omega))]
        congr 1
        omega
end
end
section
/-! ===== engine 1: asked ===== -/
section
variable {f0_n f0_isPacked f0_runCount f0_nodes f0_codeSum : Int32} {a1 a2 a3 a4 a5 a6 a7 a8 a9 a10 a11 a12 a13 a14 a15 a16 a17 a18 a19 a20 a21 a22 a23 a24 a25 a26 a27 : Nat → Int32}
theorem wq_down {post : Int32 → Prop} {x y z : Int32} (l i Z : Nat) (one : Bool) (hl : l < 3) (hi : i < 224) (R : qq_RS a5 a6 a7 (3 + l)) (hz8 : a8 l = nI Z)
    (hp : post (nI (qq_dn Z (qq_gb 7 a5 (3 + l)) one i))) (hx : x = nI l := by rfl) (hy : y = nI i := by rfl) (hz : z = nI one.toNat := by rfl) : wpX_downInMatrix post (f0_n, f0_isPacked, f0_runCount, f0_nodes, f0_codeSum, a1, a2, a3, a4, a5, a6, a7, a8, a9, a10, a11, a12, a13, a14, a15, a16, a17, a18, a19, a20, a21, a22, a23, a24, a25, a26, a27) x y z := by
  subst hx hy hz
  have c := qq_ct_le (qq_gb 7 a5 (3 + l)) i
  refine wq_ones (3 + l) i (by omega) hi R ?_ (nI_add 3 l)
  cases one
  · refine br_t rfl ?_
    rw [pk_sub c]
    exact hp
  · refine br_f (by decide) ⟨pk_in l 3 hl, ?_⟩
    rw [nI_clamp (by omega), hz8, nI_add]
    exact hp
theorem wq_atMatrix {post : Int32 → Prop} {y : Int32} {n : Nat} {ls : Nat → Nat} (m : Nat) (hm : m < n) (hn : n ≤ 200) (hcl : ∀ i, i < n → ls i < 8)
    (RS : ∀ r, r < 21 → qq_RS a5 a6 a7 r) (R : qq_MX n ls a5 a8) (hp : post (nI (ls m))) (hy : y = nI m := by rfl) : wpX_atInMatrix post (nI n, f0_isPacked, f0_runCount, f0_nodes, f0_codeSum, a1, a2, a3, a4, a5, a6, a7, a8, a9, a10, a11, a12, a13, a14, a15, a16, a17, a18, a19, a20, a21, a22, a23, a24, a25, a26, a27) y := by
  subst hy
  obtain ⟨S, h0, h1⟩ := R
  have hc := hcl m hm
  refine pk_loop (σ := Int32 × Nat) (fun f l s => wX_atInMatrix_7 post (nI n) f0_isPacked f0_runCount f0_nodes f0_codeSum a1 a2 a3 a4 a5 a6 a7 a8 a9 a10 a11 a12 a13 a14 a15 a16 a17 a18 a19 a20 a21 a22 a23 a24 a25 a26 a27 f s.1 (nI s.2) (nI l)) (fun l s => s.1 = nI (qq_pf l (ls m)) ∧ s.2 < n ∧ S l s.2 = ls m) 3 0 (0, m) (by omega) ⟨?_, hm, h0 m hm⟩ ?_ ?_
  · show (0 : Int32) = nI (qq_pf 0 (ls m))
    rw [qq_pf_0 hc]
    rfl
  · intro f ⟨x2, s⟩ ⟨h, _⟩
    have h : x2 = nI (qq_pf 3 (ls m)) := h
    subst h
    refine pk_le 3 3 (fun _ => ?_) (fun z => absurd z (by omega))
    rw [qq_pf_3]
    exact hp
  · intro f l ⟨x2, s⟩ hl ⟨hx2, hs, hS⟩ hk
    have hx2 : x2 = nI (qq_pf l (ls m)) := hx2
    have hs : s < n := hs
    have hS : S l s = ls m := hS
    subst hx2
    obtain ⟨m1, m2, m3, m4⟩ := h1 l hl
    have cs := qq_ct_le (qq_gb 7 a5 (3 + l)) s
    have e2 : (2 : Int32) * nI (qq_pf l (ls m)) = nI (2 * qq_pf l (ls m)) := pk_mul 2 _
    have hpf := qq_pf_s hl (ls m)
    have hd := qq_dg2 l (ls m)
    have b := m2 s hs
    rw [hS] at b
    have q4 := m4 s hs
    have ql := qq_dn_lt (f := qq_gb 7 a5 (3 + l)) hs
    refine pk_le 3 l (fun z => absurd z (by omega)) (fun _ => wq_bitAt (3 + l) s (by omega) (by omega) ?_ (nI_add 3 l))
    by_cases d : qq_dg l (ls m) = 1
    · rw [decide_eq_true d] at b
      rw [b] at q4 ql ⊢
      refine br_f (by decide) (nm_r (e' := nI (qq_pf (l + 1) (ls m))) ?_ (wq_ones (3 + l) s (by omega) (by omega) (RS _ (by omega)) ?_ (nI_add 3 l)))
      · rw [e2, hpf, d]
        exact nI_1 _
      · refine br_f (by decide) ⟨pk_in l 3 hl, nm_r (e' := nI (n - qq_ct (qq_gb 7 a5 (3 + l)) n + qq_ct (qq_gb 7 a5 (3 + l)) s)) ?_ (nm_r (nI_1 l) (hk (nI _, _) ⟨rfl, ql, ?_⟩))⟩
        · rw [nI_clamp (by omega), m3, nI_add]
        · rw [← hS]
          exact q4
    · rw [decide_eq_false d] at b
      rw [b] at q4 ql ⊢
      refine br_t rfl (nm_r (e' := nI (qq_pf (l + 1) (ls m))) ?_ (wq_ones (3 + l) s (by omega) (by omega) (RS _ (by omega)) ?_ (nI_add 3 l)))
      · rw [e2, hpf, show qq_dg l (ls m) = 0 by omega]
        exact Int32.add_zero _
      · refine br_t rfl (nm_r (pk_sub cs) (nm_r (nI_1 l) (hk (nI _, _) ⟨rfl, ql, ?_⟩)))
        rw [← hS]
        exact q4
theorem wq_rankMatrix {post : Int32 → Prop} {x y : Int32} {n : Nat} {ls : Nat → Nat} (c m : Nat) (hc : c < 8) (hm : m ≤ n) (hn : n ≤ 200) (hcl : ∀ i, i < n → ls i < 8)
    (RS : ∀ r, r < 21 → qq_RS a5 a6 a7 r) (R : qq_MX n ls a5 a8)
    (hp : post (nI (qq_ct (fun j => decide (ls j = c)) m))) (hx : x = nI c := by rfl) (hy : y = nI m := by rfl) : wpX_rankInMatrix post (nI n, f0_isPacked, f0_runCount, f0_nodes, f0_codeSum, a1, a2, a3, a4, a5, a6, a7, a8, a9, a10, a11, a12, a13, a14, a15, a16, a17, a18, a19, a20, a21, a22, a23, a24, a25, a26, a27) x y := by
  subst hx hy
  obtain ⟨S, h0, h1⟩ := R
  refine pk_loop (σ := Nat × Nat) (fun f l s => wX_rankInMatrix_8 post (nI c) (nI n) f0_isPacked f0_runCount f0_nodes f0_codeSum a1 a2 a3 a4 a5 a6 a7 a8 a9 a10 a11 a12 a13 a14 a15 a16 a17 a18 a19 a20 a21 a22 a23 a24 a25 a26 a27 f (nI s.1) (nI s.2) (nI l)) (fun l s => s.1 ≤ s.2 ∧ s.2 ≤ n ∧ qq_MI (S l) ls l (qq_pf l c) 0 m s.1 s.2) 3 0 (0, m) (by omega) ⟨by omega, hm, ?_⟩ ?_ ?_
  · show qq_MI (S 0) ls 0 (qq_pf 0 c) 0 m 0 m
    rw [qq_pf_0 hc]
    exact qq_MI_0 hcl h0 (by omega) hm
  · intro f ⟨a, b⟩ ⟨g1, g2, g3⟩
    have g1 : a ≤ b := g1
    have g3 : qq_MI (S 3) ls 3 (qq_pf 3 c) 0 m a b := g3
    refine pk_le 3 3 (fun _ => ?_) (fun z => absurd z (by omega))
    have q := qq_MI_all g3
    rw [qq_ct_0] at q
    have e : qq_ct (fun x => decide (qq_pf 3 (ls x) = qq_pf 3 c)) m = qq_ct (fun j => decide (ls j = c)) m := qq_ct_congr (fun j _ => by rw [qq_pf_3, qq_pf_3])
    rw [e] at q
    rw [show qq_ct (fun j => decide (ls j = c)) m = b - a by omega, ← pk_sub g1] at hp
    exact hp
  · intro f l ⟨a, b⟩ hl ⟨g1, g2, g3⟩ hk
    have g1 : a ≤ b := g1
    have g2 : b ≤ n := g2
    have g3 : qq_MI (S l) ls l (qq_pf l c) 0 m a b := g3
    have ML := h1 l hl
    have hd := qq_dg2 l c
    have hs := qq_pf_s hl c
    have go : ∀ one : Bool, one.toNat = qq_dg l c → wX_rankInMatrix_29 post (wX_rankInMatrix_8 post (nI c) (nI n) f0_isPacked f0_runCount f0_nodes f0_codeSum a1 a2 a3 a4 a5 a6 a7 a8 a9 a10 a11 a12 a13 a14 a15 a16 a17 a18 a19 a20 a21 a22 a23 a24 a25 a26 a27 f) (nI c) (nI a) (nI b) (nI l) (nI one.toNat) (nI n) f0_isPacked f0_runCount f0_nodes f0_codeSum a1 a2 a3 a4 a5 a6 a7 a8 a9 a10 a11 a12 a13 a14 a15 a16 a17 a18 a19 a20 a21 a22 a23 a24 a25 a26 a27 := by
      intro one ho
      refine wq_down l a _ one hl (by omega) (RS _ (by omega)) ML.2.2.1 ?_
      refine wq_down l b _ one hl (by omega) (RS _ (by omega)) ML.2.2.1 ?_
      refine nm_r (nI_1 l) (hk (qq_dn _ _ one a, qq_dn _ _ one b) ⟨qq_dn_mono one g1, qq_dn_le one g2, ?_⟩)
      have := qq_MI_s hl ML g3 (by omega) g2 one
      rw [ho, ← hs] at this
      exact this
    refine pk_le 3 l (fun z => absurd z (by omega)) (fun _ => wq_digit c l hc hl ?_)
    exact pk_eq (qq_dg l c) 1 (fun d => go true d.symm) (fun d => go false (by show 0 = _; omega))
theorem wq_selMatrix {post : Int32 → Prop} {x y : Int32} {n : Nat} {ls : Nat → Nat} (c k p : Nat) (hc : c < 8) (hpn : p < n) (hpc : ls p = c) (hpk : qq_ct (fun j => decide (ls j = c)) p = k) (hn : n ≤ 200) (hcl : ∀ i, i < n → ls i < 8)
    (RS : ∀ r, r < 21 → qq_RS a5 a6 a7 r) (R : qq_MX n ls a5 a8)
    (hp : post (nI p)) (hx : x = nI c := by rfl) (hy : y = nI k := by rfl) : wpX_selectInMatrix post (nI n, f0_isPacked, f0_runCount, f0_nodes, f0_codeSum, a1, a2, a3, a4, a5, a6, a7, a8, a9, a10, a11, a12, a13, a14, a15, a16, a17, a18, a19, a20, a21, a22, a23, a24, a25, a26, a27) x y := by
  subst hx hy
  obtain ⟨S, h0, h1⟩ := R
  -- the way of the place down
  have way : ∃ q : Nat → Nat, q 0 = p ∧ ∀ l, l < 3 → q (l + 1) = qq_dn (n - qq_ct (qq_gb 7 a5 (3 + l)) n) (qq_gb 7 a5 (3 + l)) (decide (qq_dg l c = 1)) (q l) :=
    ⟨fun l => Nat.rec p (fun l r => qq_dn (n - qq_ct (qq_gb 7 a5 (3 + l)) n) (qq_gb 7 a5 (3 + l)) (decide (qq_dg l c = 1)) r) l, rfl, fun l _ => rfl⟩
  obtain ⟨q, q0, qs⟩ := way
  have qb : ∀ l, l < 3 → q l < n → S l (q l) = c → qq_gb 7 a5 (3 + l) (q l) = decide (qq_dg l c = 1) := by
    intro l hl a b
    have := (h1 l hl).2.1 (q l) a
    rw [b] at this
    exact this
  have qn : ∀ l, l ≤ 3 → q l < n ∧ S l (q l) = c := by
    intro l
    induction l with
    | zero => intro _; rw [q0]; exact ⟨hpn, by rw [h0 p hpn]; exact hpc⟩
    | succ l ih =>
      intro hl
      obtain ⟨a, b⟩ := ih (by omega)
      have e := qb l (by omega) a b
      rw [qs l (by omega), ← e]
      exact ⟨qq_dn_lt a, by rw [(h1 l (by omega)).2.2.2 (q l) a]; exact b⟩
  have up : ∃ f, wX_selectInMatrix_51 post (nI c) (nI n) f0_isPacked f0_runCount f0_nodes f0_codeSum a1 a2 a3 a4 a5 a6 a7 a8 a9 a10 a11 a12 a13 a14 a15 a16 a17 a18 a19 a20 a21 a22 a23 a24 a25 a26 a27 f (nI (q 3)) 2 := by
    rw [show (2 : Int32) = nI 3 + (-1) by decide]
    refine ⟨4, pk_loopD (σ := Unit) (fun f l _ => wX_selectInMatrix_51 post (nI c) (nI n) f0_isPacked f0_runCount f0_nodes f0_codeSum a1 a2 a3 a4 a5 a6 a7 a8 a9 a10 a11 a12 a13 a14 a15 a16 a17 a18 a19 a20 a21 a22 a23 a24 a25 a26 a27 f (nI (q l)) (nI l + (-1))) (fun l _ => l ≤ 3) ?_ ?_ 3 () (Nat.le_refl 3)⟩
    · intro f _ _
      refine br_t (by decide) ?_
      show post (nI (q 0))
      rw [q0]
      exact hp
    · intro f l _ hl hk
      have hl : l + 1 ≤ 3 := hl
      obtain ⟨a, b⟩ := qn l (by omega)
      have e := qb l (by omega) a b
      have es := qs l (by omega)
      have cl := qq_ct_le (qq_gb 7 a5 (3 + l)) (q l)
      have hd := qq_dg2 l c
      show wX_selectInMatrix_51 post (nI c) (nI n) f0_isPacked f0_runCount f0_nodes f0_codeSum a1 a2 a3 a4 a5 a6 a7 a8 a9 a10 a11 a12 a13 a14 a15 a16 a17 a18 a19 a20 a21 a22 a23 a24 a25 a26 a27 (f + 1) (nI (q (l + 1))) (nI (l + 1) + (-1))
      rw [pk_m1]
      refine pk_lt l 0 (fun z => absurd z (by omega)) (fun _ => wq_digit c l hc (by omega) ?_)
      refine pk_eq (qq_dg l c) 1 (fun d => ?_) (fun d => ?_)
      · rw [decide_eq_true d] at e es
        refine br_f (by decide) ⟨pk_in l 3 (by omega), wq_placeE n (3 + l) (q l) true (by omega) (RS _ (by omega)) hn a e (nm_e (hk () (by omega))) ?_ (nI_add 3 l)⟩
        have es : q (l + 1) = n - qq_ct (qq_gb 7 a5 (3 + l)) n + qq_ct (qq_gb 7 a5 (3 + l)) (q l) := es
        rw [nI_clamp (by omega), (h1 l (by omega)).2.2.1, es, pk_sub (by omega)]
        congr 1
        show _ = qq_ct (qq_gb 7 a5 (3 + l)) (q l)
        omega
      · rw [decide_eq_false d] at e es
        refine br_t rfl (wq_placeE n (3 + l) (q l) false (by omega) (RS _ (by omega)) hn a e (nm_e (hk () (by omega))) ?_ (nI_add 3 l))
        rw [es]
        rfl
  refine pk_loop (σ := Nat) (fun f l a => wX_selectInMatrix_5 post (nI c) (nI k) (nI n) f0_isPacked f0_runCount f0_nodes f0_codeSum a1 a2 a3 a4 a5 a6 a7 a8 a9 a10 a11 a12 a13 a14 a15 a16 a17 a18 a19 a20 a21 a22 a23 a24 a25 a26 a27 f (nI a) (nI l)) (fun l a => a ≤ q l ∧ qq_MI (S l) ls l (qq_pf l c) 0 p a (q l)) 3 0 0 (by omega) ⟨by omega, ?_⟩ ?_ ?_
  · rw [qq_pf_0 hc, q0]
    exact qq_MI_0 hcl h0 (by omega) (by omega)
  · intro f a ⟨g1, g2⟩
    refine pk_le 3 3 (fun _ => nm_r (e' := nI (q 3)) ?_ up) (fun z => absurd z (by omega))
    have w := qq_MI_all g2
    rw [qq_ct_0] at w
    have e : qq_ct (fun x => decide (qq_pf 3 (ls x) = qq_pf 3 c)) p = k := by
      rw [← hpk]
      exact qq_ct_congr (fun j _ => by rw [qq_pf_3, qq_pf_3])
    rw [e] at w
    rw [nI_add]
    congr 1
    omega
  · intro f l a hl ⟨g1, g2⟩ hk
    obtain ⟨qa, qc⟩ := qn l (by omega)
    have ML := h1 l hl
    have hd := qq_dg2 l c
    have hs := qq_pf_s hl c
    have go : ∀ one : Bool, one = decide (qq_dg l c = 1) → wX_selectInMatrix_26 post (wX_selectInMatrix_5 post (nI c) (nI k) (nI n) f0_isPacked f0_runCount f0_nodes f0_codeSum a1 a2 a3 a4 a5 a6 a7 a8 a9 a10 a11 a12 a13 a14 a15 a16 a17 a18 a19 a20 a21 a22 a23 a24 a25 a26 a27 f) (nI c) (nI k) (nI a) (nI l) (nI one.toNat) (nI n) f0_isPacked f0_runCount f0_nodes f0_codeSum a1 a2 a3 a4 a5 a6 a7 a8 a9 a10 a11 a12 a13 a14 a15 a16 a17 a18 a19 a20 a21 a22 a23 a24 a25 a26 a27 := by
      intro one ho
      refine wq_down l a _ one hl (by omega) (RS _ (by omega)) ML.2.2.1 ?_
      have t := qq_MI_s hl ML g2 (by omega) (by omega) one
      have t2 := qq_dn_mono (Z := n - qq_ct (qq_gb 7 a5 (3 + l)) n) (f := qq_gb 7 a5 (3 + l)) one g1
      have hb : one.toNat = qq_dg l c := by
        rw [ho]
        rcases hd with d | d <;> rw [d] <;> rfl
      rw [hb, ← hs] at t
      rw [ho, ← qs l hl, ← ho] at t t2
      exact nm_r (nI_1 l) (hk _ ⟨t2, t⟩)
    refine pk_le 3 l (fun z => absurd z (by omega)) (fun _ => wq_digit c l hc hl ?_)
    exact pk_eq (qq_dg l c) 1 (fun d => go true (decide_eq_true d).symm) (fun d => go false (decide_eq_false d).symm)
end
end
section
/-! ===== engine 1: the letter number k of a stretch in order ===== -/
section
variable {f0_n f0_isPacked f0_runCount f0_nodes f0_codeSum : Int32} {a1 a2 a3 a4 a5 a6 a7 a8 a9 a10 a11 a12 a13 a14 a15 a16 a17 a18 a19 a20 a21 a22 a23 a24 a25 a26 a27 : Nat → Int32}
theorem wq_om58_0 {post : Int32 → Prop} {J : Int32 → Int32 → Int32 → Int32 → Int32 → Prop} {x4 x5 x6 x7 x8 x9 x10 v4 v7 v8 : Int32} (e7 : x7 - 0 = v7) (e4 : 2 * x4 + 0 = v4) (e8 : x8 + 1 = v8) (h : J v4 x9 x10 v7 v8) : wX_orderedInMatrix_58 post J x4 x5 x6 x7 x8 x9 x10 0 f0_n f0_isPacked f0_runCount f0_nodes f0_codeSum a1 a2 a3 a4 a5 a6 a7 a8 a9 a10 a11 a12 a13 a14 a15 a16 a17 a18 a19 a20 a21 a22 a23 a24 a25 a26 a27 :=
  br_t rfl (nm_r e7 (br_t rfl (nm_r e4 (br_t rfl (br_t rfl (nm_r e8 h))))))
theorem wq_om58_1 {post : Int32 → Prop} {J : Int32 → Int32 → Int32 → Int32 → Int32 → Prop} {x4 x5 x6 x7 x8 x9 x10 v4 v7 v8 v5 v6 : Int32} (e7 : x7 - (x10 - x9) = v7) (e4 : 2 * x4 + 1 = v4) (e8 : x8 + 1 = v8)
    (h5 : ∀ P : Int32 → Prop, P v5 → wpX_downInMatrix P (f0_n, f0_isPacked, f0_runCount, f0_nodes, f0_codeSum, a1, a2, a3, a4, a5, a6, a7, a8, a9, a10, a11, a12, a13, a14, a15, a16, a17, a18, a19, a20, a21, a22, a23, a24, a25, a26, a27) x8 x5 1) (h6 : ∀ P : Int32 → Prop, P v6 → wpX_downInMatrix P (f0_n, f0_isPacked, f0_runCount, f0_nodes, f0_codeSum, a1, a2, a3, a4, a5, a6, a7, a8, a9, a10, a11, a12, a13, a14, a15, a16, a17, a18, a19, a20, a21, a22, a23, a24, a25, a26, a27) x8 x6 1) (h : J v4 v5 v6 v7 v8) : wX_orderedInMatrix_58 post J x4 x5 x6 x7 x8 x9 x10 1 f0_n f0_isPacked f0_runCount f0_nodes f0_codeSum a1 a2 a3 a4 a5 a6 a7 a8 a9 a10 a11 a12 a13 a14 a15 a16 a17 a18 a19 a20 a21 a22 a23 a24 a25 a26 a27 :=
  br_f (by decide) (nm_r e7 (br_f (by decide) (nm_r e4 (br_f (by decide) (h5 _ (br_f (by decide) (h6 _ (nm_r e8 h))))))))
/-- letters of [i, j) with a lesser beginning -/
def qq_oB (ls : Nat → Nat) (l p i j : Nat) : Nat := qq_tB ls l p j - qq_tB ls l p i
theorem qq_tB_mono (ls : Nat → Nat) (l p : Nat) {i j : Nat} (h : i ≤ j) : qq_tB ls l p i ≤ qq_tB ls l p j := qq_ct_mono _ h
theorem wq_ordMatrix {post : Int32 → Prop} {x y z : Int32} {n : Nat} {ls : Nat → Nat} (i j k : Nat) (hij : i ≤ j) (hjn : j ≤ n) (hk0 : k < j - i) (hn : n ≤ 200) (hcl : ∀ i, i < n → ls i < 8)
    (RS : ∀ r, r < 21 → qq_RS a5 a6 a7 r) (R : qq_MX n ls a5 a8)
    (hp : ∀ p, p < 8 → qq_ct (fun x => decide (ls x < p)) j - qq_ct (fun x => decide (ls x < p)) i ≤ k → k < qq_ct (fun x => decide (ls x < p + 1)) j - qq_ct (fun x => decide (ls x < p + 1)) i → post (nI p))
    (hx : x = nI i := by rfl) (hy : y = nI j := by rfl) (hz : z = nI k := by rfl) : wpX_orderedInMatrix post (nI n, f0_isPacked, f0_runCount, f0_nodes, f0_codeSum, a1, a2, a3, a4, a5, a6, a7, a8, a9, a10, a11, a12, a13, a14, a15, a16, a17, a18, a19, a20, a21, a22, a23, a24, a25, a26, a27) x y z := by
  subst hx hy hz
  obtain ⟨S, h0, h1⟩ := R
  refine pk_loop (σ := Nat × Nat × Nat × Nat) (fun f l s => wX_orderedInMatrix_15 post (nI n) f0_isPacked f0_runCount f0_nodes f0_codeSum a1 a2 a3 a4 a5 a6 a7 a8 a9 a10 a11 a12 a13 a14 a15 a16 a17 a18 a19 a20 a21 a22 a23 a24 a25 a26 a27 f (nI s.1) (nI s.2.1) (nI s.2.2.1) (nI s.2.2.2) (nI l))
    (fun l s => s.1 < 2 ^ l ∧ s.2.1 ≤ s.2.2.1 ∧ s.2.2.1 ≤ n ∧ qq_MI (S l) ls l s.1 i j s.2.1 s.2.2.1 ∧ s.2.2.2 + qq_oB ls l s.1 i j = k ∧ s.2.2.2 < s.2.2.1 - s.2.1)
    3 0 (0, i, j, k) (by omega) ⟨(show 0 < 2 ^ 0 by decide), hij, hjn, qq_MI_0 hcl h0 (by omega) hjn, ?_, hk0⟩ ?_ ?_
  · show k + (qq_tS j ls 0 0 - qq_tS i ls 0 0) = k
    rw [qq_tS_0, qq_tS_0]
    omega
  · intro f ⟨p, a, b, e⟩ ⟨g1, g2, g3, g4, g5, g6⟩
    have g1 : p < 2 ^ 3 := g1
    have g2 : a ≤ b := g2
    have g4 : qq_MI (S 3) ls 3 p i j a b := g4
    have g5 : e + (qq_tB ls 3 p j - qq_tB ls 3 p i) = k := g5
    have g6 : e < b - a := g6
    have w : b + qq_tC ls 3 p i = a + qq_tC ls 3 p j := qq_MI_all g4
    have c : ∀ q m, qq_ct (fun x => decide (ls x < q)) m = qq_tB ls 3 q m := fun q m => qq_ct_congr (fun x _ => by rw [qq_pf_3])
    have si := qq_tB_s i ls 3 p
    have sj := qq_tB_s j ls 3 p
    have m1 := qq_tB_mono ls 3 p hij
    have m2 := qq_tB_mono ls 3 (p + 1) hij
    refine pk_le 3 3 (fun _ => hp p (by omega) ?_ ?_) (fun z => absurd z (by omega))
    · rw [c, c]
      omega
    · rw [c, c]
      omega
  · intro f l ⟨p, a, b, e⟩ hl ⟨g1, g2, g3, g4, g5, g6⟩ hk
    have g1 : p < 2 ^ l := g1
    have g2 : a ≤ b := g2
    have g3 : b ≤ n := g3
    have g4 : qq_MI (S l) ls l p i j a b := g4
    have g5 : e + (qq_tB ls l p j - qq_tB ls l p i) = k := g5
    have g6 : e < b - a := g6
    have ML := h1 l hl
    have p2 : 2 ^ l ≤ 2 ^ 2 := Nat.pow_le_pow_right (by decide) (by omega)
    have ps : 2 ^ (l + 1) = 2 * 2 ^ l := by rw [Nat.pow_succ, Nat.mul_comm]
    have M0 := qq_MI_s hl ML g4 (by omega) g3 false
    have M1 := qq_MI_s hl ML g4 (by omega) g3 true
    have t0 := qq_dn_mono (Z := n - qq_ct (qq_gb 7 a5 (3 + l)) n) (f := qq_gb 7 a5 (3 + l)) false g2
    have t1 := qq_dn_mono (Z := n - qq_ct (qq_gb 7 a5 (3 + l)) n) (f := qq_gb 7 a5 (3 + l)) true g2
    have n0 := qq_dn_le (f := qq_gb 7 a5 (3 + l)) false g3
    have n1 := qq_dn_le (f := qq_gb 7 a5 (3 + l)) true g3
    have s0 : (qq_dn (n - qq_ct (qq_gb 7 a5 (3 + l)) n) (qq_gb 7 a5 (3 + l)) false b) + qq_tC ls (l + 1) (2 * p) i = (qq_dn (n - qq_ct (qq_gb 7 a5 (3 + l)) n) (qq_gb 7 a5 (3 + l)) false a) + qq_tC ls (l + 1) (2 * p) j := qq_MI_all M0
    have s1 : (qq_dn (n - qq_ct (qq_gb 7 a5 (3 + l)) n) (qq_gb 7 a5 (3 + l)) true b) + qq_tC ls (l + 1) (2 * p + 1) i = (qq_dn (n - qq_ct (qq_gb 7 a5 (3 + l)) n) (qq_gb 7 a5 (3 + l)) true a) + qq_tC ls (l + 1) (2 * p + 1) j := qq_MI_all M1
    have sa : b + qq_tC ls l p i = a + qq_tC ls l p j := qq_MI_all g4
    have ci := qq_tC_split hl ls p i
    have cj := qq_tC_split hl ls p j
    have bi := qq_tB_d hl i ls p
    have bj := qq_tB_d hl j ls p
    have si := qq_tB_s i ls (l + 1) (2 * p)
    have sj := qq_tB_s j ls (l + 1) (2 * p)
    have m1 := qq_tB_mono ls l p hij
    refine pk_le 3 l (fun z => absurd z (by omega)) (fun _ => wq_down l a _ false hl (by omega) (RS _ (by omega)) ML.2.2.1 (wq_down l b _ false hl (by omega) (RS _ (by omega)) ML.2.2.1 ?_))
    generalize qq_dn (n - qq_ct (qq_gb 7 a5 (3 + l)) n) (qq_gb 7 a5 (3 + l)) false a = za at *
    generalize qq_dn (n - qq_ct (qq_gb 7 a5 (3 + l)) n) (qq_gb 7 a5 (3 + l)) false b = zb at *
    refine pk_lt e (zb - za) (fun g => ?_) (fun g => ?_) rfl (pk_sub t0)
    · refine wq_om58_0 (v7 := nI e) (v4 := nI (2 * p)) ?_ ?_ (nI_1 l) (hk (2 * p, za, zb, e) ⟨?_, t0, n0, M0, ?_, g⟩)
      · exact pk_sub (b := 0) (by omega)
      · rw [show (2 : Int32) * nI p = nI (2 * p) from pk_mul 2 p]
        exact Int32.add_zero _
      · show 2 * p < 2 ^ (l + 1)
        omega
      · show e + (qq_tB ls (l + 1) (2 * p) j - qq_tB ls (l + 1) (2 * p) i) = k
        omega
    · refine wq_om58_1 (v7 := nI (e - (zb - za))) (v4 := nI (2 * p + 1)) ?_ ?_ (nI_1 l) (fun P hP => wq_down l a _ true hl (by omega) (RS _ (by omega)) ML.2.2.1 hP) (fun P hP => wq_down l b _ true hl (by omega) (RS _ (by omega)) ML.2.2.1 hP) (hk (2 * p + 1, _, _, e - (zb - za)) ⟨?_, t1, n1, M1, ?_, ?_⟩)
      · rw [pk_sub t0, pk_sub g]
      · rw [show (2 : Int32) * nI p = nI (2 * p) from pk_mul 2 p]
        exact nI_1 _
      · show 2 * p + 1 < 2 ^ (l + 1)
        omega
      · show e - (zb - za) + (qq_tB ls (l + 1) (2 * p + 1) j - qq_tB ls (l + 1) (2 * p + 1) i) = k
        have m2 := qq_tB_mono ls (l + 1) (2 * p + 1) hij
        omega
      · show e - (zb - za) < qq_dn (n - qq_ct (qq_gb 7 a5 (3 + l)) n) (qq_gb 7 a5 (3 + l)) true b - qq_dn (n - qq_ct (qq_gb 7 a5 (3 + l)) n) (qq_gb 7 a5 (3 + l)) true a
        omega
/-! ===== engine 2: a row a letter ===== -/
theorem wq_packMaps {post : St1 → Prop} {n : Nat} {ls : Nat → Nat} (hn : n ≤ 200) (hL : ∀ i, i < n → a1 i = nI (ls i)) (hc : ∀ i, i < n → ls i < 8)
    (hz : ∀ r j, 6 ≤ r → r < 14 → j < 224 → qq_gb 7 a5 r j = false)
    (H : ∀ s5, (∀ c j, c < 8 → j < n → qq_gb 7 s5 (6 + c) j = decide (ls j = c)) → (∀ r j, (r < 6 ∨ 14 ≤ r) → j < 224 → qq_gb 7 s5 r j = qq_gb 7 a5 r j) → post (nI n, f0_isPacked, f0_runCount, f0_nodes, f0_codeSum, a1, a2, a3, a4, s5, a6, a7, a8, a9, a10, a11, a12, a13, a14, a15, a16, a17, a18, a19, a20, a21, a22, a23, a24, a25, a26, a27)) :
    wpX_packMaps post (nI n, f0_isPacked, f0_runCount, f0_nodes, f0_codeSum, a1, a2, a3, a4, a5, a6, a7, a8, a9, a10, a11, a12, a13, a14, a15, a16, a17, a18, a19, a20, a21, a22, a23, a24, a25, a26, a27) := by
  refine pk_loop (σ := Nat → Int32) (fun f m s => wX_packMaps_2 post f (nI m) (nI n) f0_isPacked f0_runCount f0_nodes f0_codeSum a1 a2 a3 a4 s a6 a7 a8 a9 a10 a11 a12 a13 a14 a15 a16 a17 a18 a19 a20 a21 a22 a23 a24 a25 a26 a27)
    (fun m s => (∀ c j, c < 8 → j < m → qq_gb 7 s (6 + c) j = decide (ls j = c)) ∧ (∀ c j, c < 8 → m ≤ j → j < 224 → qq_gb 7 s (6 + c) j = false) ∧ (∀ r j, (r < 6 ∨ 14 ≤ r) → j < 224 → qq_gb 7 s r j = qq_gb 7 a5 r j)) n 0 a5 (by omega)
    ⟨fun c j _ hj => absurd hj (by omega), fun c j hc _ hj => hz (6 + c) j (by omega) (by omega) hj, fun _ _ _ _ => rfl⟩ ?_ ?_
  · intro f s ⟨h1, h2, h3⟩
    exact pk_le n n (fun _ => H s h1 h3) (fun z => absurd z (by omega))
  · intro f m s hm ⟨h1, h2, h3⟩ hk
    have e8 := hc m hm
    have ea : a1 (nI m).toNatClampNeg = nI (ls m) := qq_rd m (hL m hm)
    refine pk_le n m (fun z => absurd z (by omega)) (fun _ => ⟨pk_in m 200 (by omega), wq_setBit (6 + ls m) m (by omega) (by omega) ?_ ?_⟩)
    · refine nm_r (nI_1 m) (hk (upd s _ _) ⟨?_, ?_, ?_⟩)
      · intro c j hc8 hj
        show qq_gb 7 (upd s ((6 + ls m) * 7 + m / 32) (s ((6 + ls m) * 7 + m / 32) ||| nI (2 ^ (m % 32)))) (6 + c) j = _
        rw [qq_gb_set s (by omega) _ j (by omega)]
        by_cases z : j = m
        · rw [z, h2 c m hc8 (Nat.le_refl m) (by omega), decide_eq_true (rfl : m = m), Bool.and_true, Bool.false_or]
          by_cases y : c = ls m
          · rw [decide_eq_true (show 6 + c = 6 + ls m by omega), decide_eq_true y.symm]
          · rw [decide_eq_false (show ¬ 6 + c = 6 + ls m by omega), decide_eq_false (fun q => y q.symm)]
        · rw [decide_eq_false z, Bool.and_false, Bool.or_false]
          exact h1 c j hc8 (by omega)
      · intro c j hc8 hj hj2
        show qq_gb 7 (upd s ((6 + ls m) * 7 + m / 32) (s ((6 + ls m) * 7 + m / 32) ||| nI (2 ^ (m % 32)))) (6 + c) j = _
        rw [qq_gb_set s (by omega) _ j (by omega), decide_eq_false (show ¬ j = m by omega), Bool.and_false, Bool.or_false]
        exact h2 c j hc8 (by omega) hj2
      · intro r j hr hj
        show qq_gb 7 (upd s ((6 + ls m) * 7 + m / 32) (s ((6 + ls m) * 7 + m / 32) ||| nI (2 ^ (m % 32)))) r j = _
        rw [qq_gb_set s (by omega) _ j (by omega), decide_eq_false (show ¬ r = 6 + ls m by omega), Bool.false_and, Bool.or_false]
        exact h3 r j hr hj
    · rw [ea]
      exact nI_add 6 _
end
end
section
/-! ===== engine 3: low and high parts ===== -/
abbrev qq_rk (ls : Nat → Nat) (c m : Nat) : Nat := qq_ct (fun j => decide (ls j = c)) m
abbrev qq_lo (ls : Nat → Nat) (c m : Nat) : Nat := qq_ct (fun j => decide (ls j < c)) m
theorem qq_lo_s (ls : Nat → Nat) (c m : Nat) : qq_lo ls (c + 1) m = qq_lo ls c m + qq_rk ls c m := qq_ct_or (fun j _ => qq_lt_s _ _)
theorem qq_lo_0 (ls : Nat → Nat) (m : Nat) : qq_lo ls 0 m = 0 := qq_ct_z (fun j _ => decide_eq_false (by omega))
theorem qq_lo_m (ls : Nat → Nat) {c d : Nat} (h : c ≤ d) (m : Nat) : qq_lo ls c m ≤ qq_lo ls d m := qq_ct_imp (fun j _ h2 => decide_eq_true (by have := of_decide_eq_true h2; omega))
theorem qq_rk_t {ls : Nat → Nat} {c m : Nat} (h : ls m = c) : qq_rk ls c (m + 1) = qq_rk ls c m + 1 := qq_ct_t (decide_eq_true h)
theorem qq_rk_f {ls : Nat → Nat} {c m : Nat} (h : ls m ≠ c) : qq_rk ls c (m + 1) = qq_rk ls c m := qq_ct_f (decide_eq_false h)
/-- one letter's places -/
def qq_PO (n : Nat) (ls : Nat → Nat) (c w : Nat) (a9 a10 a11 a12 : Nat → Int32) : Prop :=
  w ≤ 7 ∧ a9 c = nI w ∧ a10 c = nI (qq_lo ls c n) ∧ (∀ p, p < n → ls p = c → a11 (qq_lo ls c n + qq_rk ls c p) = nI (p % 2 ^ w)) ∧
  (∀ p, p < n → ls p = c → qq_gb 13 a12 c (p / 2 ^ w + qq_rk ls c p) = true ∧ qq_ct (qq_gb 13 a12 c) (p / 2 ^ w + qq_rk ls c p) = qq_rk ls c p)
def qq_PX (n : Nat) (ls : Nat → Nat) (a9 a10 a11 a12 : Nat → Int32) : Prop := ∀ c, c < 8 → ∃ w, qq_PO n ls c w a9 a10 a11 a12
/-- on the way, at place m of letter c -/
def qq_PI (n : Nat) (ls : Nat → Nat) (c w m : Nat) (a11 a12 s11 s12 : Nat → Int32) : Prop :=
  (∀ p, p < m → ls p = c → s11 (qq_lo ls c n + qq_rk ls c p) = nI (p % 2 ^ w)) ∧ (∀ j, j < qq_lo ls c n → s11 j = a11 j) ∧
  (∀ j, m / 2 ^ w + qq_rk ls c m ≤ j → j < 416 → qq_gb 13 s12 c j = false) ∧ qq_ct (qq_gb 13 s12 c) (m / 2 ^ w + qq_rk ls c m) = qq_rk ls c m ∧
  (∀ p, p < m → ls p = c → p / 2 ^ w + qq_rk ls c p < m / 2 ^ w + qq_rk ls c m ∧ qq_gb 13 s12 c (p / 2 ^ w + qq_rk ls c p) = true ∧ qq_ct (qq_gb 13 s12 c) (p / 2 ^ w + qq_rk ls c p) = qq_rk ls c p) ∧
  (∀ r j, r ≠ c → j < 416 → qq_gb 13 s12 r j = qq_gb 13 a12 r j)
theorem qq_PI_b {n : Nat} {ls : Nat → Nat} {c m : Nat} (w : Nat) (hn : n ≤ 200) (hm : m ≤ n) : m / 2 ^ w + qq_rk ls c m ≤ 400 := by
  have h1 : m / 2 ^ w ≤ m := Nat.div_le_self _ _
  have h2 := qq_ct_le (fun j => decide (ls j = c)) m
  have h2' : qq_rk ls c m ≤ m := h2
  omega
theorem qq_PI_skip {n : Nat} {ls : Nat → Nat} {c w m : Nat} {a11 a12 s11 s12 : Nat → Int32} (hn : n ≤ 200) (hm : m < n) (h : qq_PI n ls c w m a11 a12 s11 s12) (e : ls m ≠ c) : qq_PI n ls c w (m + 1) a11 a12 s11 s12 := by
  obtain ⟨h1, h2, h3, h4, h5, h6⟩ := h
  have er : qq_rk ls c (m + 1) = qq_rk ls c m := qq_rk_f e
  have dv : m / 2 ^ w ≤ (m + 1) / 2 ^ w := Nat.div_le_div_right (by omega)
  have bd := qq_PI_b (ls := ls) (c := c) (m := m + 1) w hn (by omega)
  have lt : ∀ p, p < m + 1 → ls p = c → p < m := by
    intro p hp q
    rcases Nat.lt_or_ge p m with z | z
    · exact z
    · exact absurd (by rw [show m = p by omega]; exact q) e
  refine ⟨fun p hp q => h1 p (lt p hp q) q, h2, fun j hj hj2 => h3 j (by omega) hj2, ?_, fun p hp q => ?_, h6⟩
  · rw [er]
    rw [er] at bd
    rw [qq_ct_same (p := qq_gb 13 s12 c) (i := m / 2 ^ w + qq_rk ls c m) (by omega) (fun k k1 k2 => h3 k k1 (by omega))]
    exact h4
  · obtain ⟨g1, g2⟩ := h5 p (lt p hp q) q
    exact ⟨by rw [er]; omega, g2⟩
theorem qq_PI_put {n : Nat} {ls : Nat → Nat} {c w m : Nat} {a11 a12 s11 s12 : Nat → Int32} (hc : c < 8) (hn : n ≤ 200) (hm : m < n) (h : qq_PI n ls c w m a11 a12 s11 s12) (e : ls m = c) :
    qq_PI n ls c w (m + 1) a11 a12 (upd s11 (qq_lo ls c n + qq_rk ls c m) (nI (m % 2 ^ w))) (upd s12 (c * 13 + (m / 2 ^ w + qq_rk ls c m) / 32) (s12 (c * 13 + (m / 2 ^ w + qq_rk ls c m) / 32) ||| nI (2 ^ ((m / 2 ^ w + qq_rk ls c m) % 32)))) := by
  obtain ⟨h1, h2, h3, h4, h5, h6⟩ := h
  have er : qq_rk ls c (m + 1) = qq_rk ls c m + 1 := qq_rk_t e
  have dv : m / 2 ^ w ≤ (m + 1) / 2 ^ w := Nat.div_le_div_right (by omega)
  have bd := qq_PI_b (ls := ls) (c := c) (m := m + 1) w hn (by omega)
  rw [er] at bd
  have hq : (m / 2 ^ w + qq_rk ls c m) / 32 < 13 := by omega
  have set := fun r j (hj : j < 416) => qq_gb_set (w := 13) s12 (r := c) (i := m / 2 ^ w + qq_rk ls c m) hq r j (by omega)
  generalize hs : upd s12 (c * 13 + (m / 2 ^ w + qq_rk ls c m) / 32) (s12 (c * 13 + (m / 2 ^ w + qq_rk ls c m) / 32) ||| nI (2 ^ ((m / 2 ^ w + qq_rk ls c m) % 32))) = t12
  rw [hs] at set
  have low : ∀ k, k ≤ m / 2 ^ w + qq_rk ls c m → qq_ct (qq_gb 13 t12 c) k = qq_ct (qq_gb 13 s12 c) k := by
    intro k hk
    refine qq_ct_congr (fun j hj => ?_)
    rw [set c j (by omega), decide_eq_false (show ¬ j = m / 2 ^ w + qq_rk ls c m by omega), Bool.and_false, Bool.or_false]
  have top : qq_gb 13 t12 c (m / 2 ^ w + qq_rk ls c m) = true := by
    rw [set c _ (by omega), decide_eq_true rfl, decide_eq_true rfl, Bool.and_true, Bool.or_true]
  have hi : ∀ j, m / 2 ^ w + qq_rk ls c m + 1 ≤ j → j < 416 → qq_gb 13 t12 c j = false := by
    intro j hj hj2
    rw [set c j hj2, h3 j (by omega) hj2, decide_eq_false (show ¬ j = m / 2 ^ w + qq_rk ls c m by omega), Bool.and_false, Bool.or_false]
  refine ⟨fun p hp q => ?_, fun j hj => ?_, fun j hj hj2 => hi j (by omega) hj2, ?_, fun p hp q => ?_, fun r j hr hj => ?_⟩
  · by_cases z : p = m
    · rw [z, pk_us]
    · have hpm : p < m := by omega
      have := qq_ct_lt (p := fun j => decide (ls j = c)) hpm (decide_eq_true q)
      have this : qq_rk ls c p < qq_rk ls c m := this
      rw [pk_un (by omega)]
      exact h1 p hpm q
  · rw [pk_un (by omega)]
    exact h2 j hj
  · rw [er, qq_ct_same (p := qq_gb 13 t12 c) (i := m / 2 ^ w + qq_rk ls c m + 1) (by omega) (fun k k1 k2 => hi k k1 (by omega)), qq_ct_t top, low _ (Nat.le_refl _), h4]
  · by_cases z : p = m
    · rw [z]
      exact ⟨by omega, top, by rw [low _ (Nat.le_refl _), h4]⟩
    · obtain ⟨g1, g2, g3⟩ := h5 p (by omega) q
      refine ⟨by omega, ?_, by rw [low _ (by omega)]; exact g3⟩
      rw [set c _ (by omega), g2, Bool.true_or]
  · rw [set r j hj, decide_eq_false hr, Bool.false_and, Bool.or_false]
    exact h6 r j hr hj
section
variable {f0_n f0_isPacked f0_runCount f0_nodes f0_codeSum : Int32} {a1 a2 a3 a4 a5 a6 a7 a8 a9 a10 a11 a12 a13 a14 a15 a16 a17 a18 a19 a20 a21 a22 a23 a24 a25 a26 a27 : Nat → Int32}
theorem wq_parts84 {post : St1 → Prop} {J25 : Int32 → Int32 → Int32 → Int32 → Int32 → Int32 → Int32 → (Nat → Int32) → (Nat → Int32) → (Nat → Int32) → (Nat → Int32) → (Nat → Int32) → (Nat → Int32) → (Nat → Int32) → (Nat → Int32) → (Nat → Int32) → (Nat → Int32) → (Nat → Int32) → (Nat → Int32) → (Nat → Int32) → (Nat → Int32) → (Nat → Int32) → (Nat → Int32) → (Nat → Int32) → (Nat → Int32) → (Nat → Int32) → (Nat → Int32) → (Nat → Int32) → (Nat → Int32) → (Nat → Int32) → (Nat → Int32) → (Nat → Int32) → (Nat → Int32) → (Nat → Int32) → Prop} {n : Nat} {ls : Nat → Nat} (c w : Nat) (hc : c < 8) (hw : w ≤ 7) (hn : n ≤ 200) (hL : ∀ i, i < n → a1 i = nI (ls i)) (hcl : ∀ i, i < n → ls i < 8)
    (h10 : a10 c = nI (qq_lo ls c n)) (hz : ∀ j, j < 416 → qq_gb 13 a12 c j = false)
    (H : ∀ s11 s12, qq_PI n ls c w n a11 a12 s11 s12 → J25 (nI (qq_lo ls c n + qq_rk ls c n)) (nI (c + 1)) (nI n) f0_isPacked f0_runCount f0_nodes f0_codeSum a1 a2 a3 a4 a5 a6 a7 a8 a9 a10 s11 s12 a13 a14 a15 a16 a17 a18 a19 a20 a21 a22 a23 a24 a25 a26 a27) :
    ∃ f, wX_packParts_84 post J25 (nI c) (nI w) f (nI (qq_lo ls c n)) 0 (nI n) f0_isPacked f0_runCount f0_nodes f0_codeSum a1 a2 a3 a4 a5 a6 a7 a8 a9 a10 a11 a12 a13 a14 a15 a16 a17 a18 a19 a20 a21 a22 a23 a24 a25 a26 a27 := by
  have w2 : 2 ^ w ≤ 2 ^ 7 := Nat.pow_le_pow_right (by decide) hw
  have w1 : 0 < 2 ^ w := Nat.two_pow_pos w
  refine pk_loop (σ := Int32 × (Nat → Int32) × (Nat → Int32)) (fun f m s => wX_packParts_84 post J25 (nI c) (nI w) f s.1 (nI m) (nI n) f0_isPacked f0_runCount f0_nodes f0_codeSum a1 a2 a3 a4 a5 a6 a7 a8 a9 a10 s.2.1 s.2.2 a13 a14 a15 a16 a17 a18 a19 a20 a21 a22 a23 a24 a25 a26 a27)
    (fun m s => s.1 = nI (qq_lo ls c n + qq_rk ls c m) ∧ qq_PI n ls c w m a11 a12 s.2.1 s.2.2) n 0 (nI (qq_lo ls c n), a11, a12) (by omega) ⟨rfl, ?_⟩ ?_ ?_
  · refine ⟨fun p hp => absurd hp (by omega), fun _ _ => rfl, fun j _ hj => hz j hj, ?_, fun p hp => absurd hp (by omega), fun _ _ _ _ => rfl⟩
    rw [Nat.zero_div]
    rfl
  · intro f ⟨x1, s11, s12⟩ ⟨h1, h2⟩
    have h1 : x1 = nI (qq_lo ls c n + qq_rk ls c n) := h1
    subst h1
    exact pk_le n n (fun _ => nm_r (nI_1 c) (H s11 s12 h2)) (fun z => absurd z (by omega))
  · intro f m ⟨x1, s11, s12⟩ hm ⟨h1, h2⟩ hk
    have h1 : x1 = nI (qq_lo ls c n + qq_rk ls c m) := h1
    have h2 : qq_PI n ls c w m a11 a12 s11 s12 := h2
    subst h1
    have ea : a1 (nI m).toNatClampNeg = nI (ls m) := qq_rd m (hL m hm)
    have e8 := hcl m hm
    have bd := qq_PI_b (ls := ls) (c := c) (m := m) w hn (by omega)
    have ls1 := qq_lo_s ls c n
    have ls2 := qq_ct_le (fun j => decide (ls j < c + 1)) n
    have ls2' : qq_lo ls (c + 1) n ≤ n := ls2
    refine pk_le n m (fun z => absurd z (by omega)) (fun _ => ⟨pk_in m 200 (by omega), pk_eq (ls m) c (fun e => ?_) (fun e => nm_r (nI_1 m) (hk (nI _, s11, s12) ⟨?_, qq_PI_skip hn hm h2 e⟩)) ea⟩)
    · have lt := qq_ct_lt (p := fun j => decide (ls j = c)) hm (decide_eq_true e)
      have lt : qq_rk ls c m < qq_rk ls c n := lt
      have dv0 := Nat.zero_le (m / 2 ^ w)
      refine ⟨pk_in (qq_lo ls c n + qq_rk ls c m) 200 (by omega), nm_r (e' := upd s11 (qq_lo ls c n + qq_rk ls c m) (nI (m % 2 ^ w))) ?_ ⟨pk_in c 9 (by omega), wq_setHigh c (m / 2 ^ w + qq_rk ls c m) hc (by omega) ?_ rfl ?_⟩⟩
      · have md : m % 2 ^ w < 2 ^ w := Nat.mod_lt _ w1
        rw [nI_clamp (by omega), qq_1s w (by omega), show nI (2 ^ w) - 1 = nI (2 ^ w - 1) from pk_sub (b := 1) w1, pk_andN (by omega) w (pk_tn (by omega)), qq_i16 (by omega)]
      · refine nm_r (nI_1 _) (nm_r (nI_1 m) (hk (nI _, upd s11 _ _, upd s12 _ _) ⟨?_, qq_PI_put hc hn hm h2 e⟩))
        show nI _ = nI _
        rw [qq_rk_t e]
        rfl
      · rw [nI_clamp (by omega), h10, qq_sr (by omega) (by omega), nI_add, pk_sub (by omega)]
        congr 1
        omega
    · show nI _ = nI _
      rw [qq_rk_f e]
theorem wq_parts41 {post : St1 → Prop} {J25 : Int32 → Int32 → Int32 → Int32 → Int32 → Int32 → Int32 → (Nat → Int32) → (Nat → Int32) → (Nat → Int32) → (Nat → Int32) → (Nat → Int32) → (Nat → Int32) → (Nat → Int32) → (Nat → Int32) → (Nat → Int32) → (Nat → Int32) → (Nat → Int32) → (Nat → Int32) → (Nat → Int32) → (Nat → Int32) → (Nat → Int32) → (Nat → Int32) → (Nat → Int32) → (Nat → Int32) → (Nat → Int32) → (Nat → Int32) → (Nat → Int32) → (Nat → Int32) → (Nat → Int32) → (Nat → Int32) → (Nat → Int32) → (Nat → Int32) → (Nat → Int32) → Prop} {x1 : Int32} {n : Nat} (c k : Nat) (hc : c < 8) (hn : n ≤ 200) (hk : k ≤ n) (h2 : a2 c = nI k)
    (H : ∀ w, w ≤ 7 → wX_packParts_73 post J25 x1 (nI c) (nI w) (nI n) f0_isPacked f0_runCount f0_nodes f0_codeSum a1 a2 a3 a4 a5 a6 a7 a8 a9 a10 a11 a12 a13 a14 a15 a16 a17 a18 a19 a20 a21 a22 a23 a24 a25 a26 a27) :
    ∃ f, wX_packParts_41 post J25 x1 (nI c) (nI n) f0_isPacked f0_runCount f0_nodes f0_codeSum a1 a2 a3 a4 a5 a6 a7 a8 a9 a10 a11 a12 a13 a14 a15 a16 a17 a18 a19 a20 a21 a22 a23 a24 a25 a26 a27 f 0 := by
  have ea : a2 (nI c).toNatClampNeg = nI k := qq_rd c h2
  refine loop_m (σ := Nat) (fun f w => wX_packParts_41 post J25 x1 (nI c) (nI n) f0_isPacked f0_runCount f0_nodes f0_codeSum a1 a2 a3 a4 a5 a6 a7 a8 a9 a10 a11 a12 a13 a14 a15 a16 a17 a18 a19 a20 a21 a22 a23 a24 a25 a26 a27 f (nI w)) (fun w => w ≤ 7) (fun w => 8 - w) ?_ 0 (by omega)
  intro f w hw hh
  have hw : w ≤ 7 := hw
  have w2 : 2 ^ (w + 1) ≤ 2 ^ 8 := Nat.pow_le_pow_right (by decide) (by omega)
  have w3 : k * 2 ^ (w + 1) ≤ 200 * 2 ^ 8 := Nat.mul_le_mul (by omega) w2
  refine And.intro (pk_in c 8 hc) (pk_le k 0 (fun _ => H w hw) (fun z => ⟨pk_in c 8 hc, pk_lt n (k * 2 ^ (w + 1)) (fun _ => H w hw) (fun g => nm_r (nI_1 w) (hh (w + 1) ?_ ?_)) rfl ?_⟩) ea)
  · show w + 1 ≤ 7
    rcases Nat.lt_or_ge w 7 with q | q
    · omega
    · have e : w = 7 := by omega
      subst e
      have : 1 * 2 ^ 8 ≤ k * 2 ^ (7 + 1) := Nat.mul_le_mul (by omega) (Nat.le_refl _)
      omega
  · show 8 - (w + 1) < 8 - w
    omega
  · rw [ea, nI_1, qq_shl (by omega) (by omega)]
theorem wq_packParts {post : St1 → Prop} {n : Nat} {ls : Nat → Nat} (hn : n ≤ 200) (hL : ∀ i, i < n → a1 i = nI (ls i)) (hcl : ∀ i, i < n → ls i < 8)
    (h2 : ∀ c, c < 8 → a2 c = nI (qq_rk ls c n))
    (H : ∀ s9 s10 s11 s12, qq_PX n ls s9 s10 s11 s12 → post (nI n, f0_isPacked, f0_runCount, f0_nodes, f0_codeSum, a1, a2, a3, a4, a5, a6, a7, a8, s9, s10, s11, s12, a13, a14, a15, a16, a17, a18, a19, a20, a21, a22, a23, a24, a25, a26, a27)) :
    wpX_packParts post (nI n, f0_isPacked, f0_runCount, f0_nodes, f0_codeSum, a1, a2, a3, a4, a5, a6, a7, a8, a9, a10, a11, a12, a13, a14, a15, a16, a17, a18, a19, a20, a21, a22, a23, a24, a25, a26, a27) := by
  refine pk_loop (σ := Nat → Int32) (fun f m s => wX_packParts_2 post (nI n) f0_isPacked f0_runCount f0_nodes f0_codeSum f (nI m) a1 a2 a3 a4 a5 a6 a7 a8 a9 a10 a11 s a13 a14 a15 a16 a17 a18 a19 a20 a21 a22 a23 a24 a25 a26 a27) (fun m s => ∀ j, j < m → s j = 0) 104 0 a12 (by omega) (fun j hj => absurd hj (by omega)) ?_ ?_
  rotate_left
  · intro f m s hm h hk
    refine pk_le 104 m (fun z => absurd z (by omega)) (fun _ => ⟨pk_in m 104 (by omega), nm_r (e' := upd s m 0) ?_ (nm_r (nI_1 m) (hk _ ?_))⟩)
    · rw [nI_clamp (by omega)]
    · intro j hj
      by_cases z : j = m
      · rw [z, pk_us]
      · rw [pk_un z]
        exact h j (by omega)
  intro f s h
  have hz : ∀ r j, r < 8 → j < 416 → qq_gb 13 s r j = false := by
    intro r j hr hj
    unfold qq_gb
    rw [h _ (by omega)]
    exact qq_bt_0 _
  refine pk_le 104 104 (fun _ => ?_) (fun z => absurd z (by omega))
  refine pk_loop (σ := Int32 × (Nat → Int32) × (Nat → Int32) × (Nat → Int32) × (Nat → Int32)) (fun g c t => wX_packParts_25 post g t.1 (nI c) (nI n) f0_isPacked f0_runCount f0_nodes f0_codeSum a1 a2 a3 a4 a5 a6 a7 a8 t.2.1 t.2.2.1 t.2.2.2.1 t.2.2.2.2 a13 a14 a15 a16 a17 a18 a19 a20 a21 a22 a23 a24 a25 a26 a27)
    (fun c t => t.1 = nI (qq_lo ls c n) ∧ (∀ d, d < c → ∃ w, qq_PO n ls d w t.2.1 t.2.2.1 t.2.2.2.1 t.2.2.2.2) ∧ (∀ r j, c ≤ r → r < 8 → j < 416 → qq_gb 13 t.2.2.2.2 r j = false))
    8 0 (0, a9, a10, a11, s) (by omega) ⟨?_, fun d hd => absurd hd (by omega), fun r j _ hr hj => hz r j hr hj⟩ ?_ ?_
  · show (0 : Int32) = nI (qq_lo ls 0 n)
    rw [qq_lo_0]
    rfl
  · intro g ⟨x1, s9, s10, s11, s12⟩ ⟨k1, k2, _⟩
    have k2 : ∀ d, d < 8 → ∃ w, qq_PO n ls d w s9 s10 s11 s12 := k2
    refine pk_le 8 8 (fun _ => nm_e (H s9 _ s11 s12 (fun d hd => ?_))) (fun z => absurd z (by omega))
    obtain ⟨w, q1, q2, q3, q4⟩ := k2 d hd
    exact ⟨w, q1, q2, by rw [pk_un (by omega)]; exact q3, q4⟩
  · intro g c ⟨x1, s9, s10, s11, s12⟩ hc ⟨k1, k2, k3⟩ hk
    have k1 : x1 = nI (qq_lo ls c n) := k1
    have k2 : ∀ d, d < c → ∃ w, qq_PO n ls d w s9 s10 s11 s12 := k2
    have k3 : ∀ r j, c ≤ r → r < 8 → j < 416 → qq_gb 13 s12 r j = false := k3
    subst k1
    have lo := qq_ct_le (fun j => decide (ls j < c)) n
    have lo : qq_lo ls c n ≤ n := lo
    refine pk_le 8 c (fun z => absurd z (by omega)) (fun _ => ⟨pk_in c 9 (by omega), nm_r (e' := upd s10 c (nI (qq_lo ls c n))) ?_ (wq_parts41 c (qq_rk ls c n) hc hn (qq_ct_le _ _) (h2 c hc) (fun w hw => ?_))⟩)
    · rw [nI_clamp (by omega), qq_i16 (by omega)]
    · refine And.intro (pk_in c 8 hc) (nm_r (e' := upd s9 c (nI w)) ?_ (wq_parts84 c w hc hw hn hL hcl pk_us (fun j hj => k3 c j (Nat.le_refl c) hc hj) (fun t11 t12 q => ?_)))
      · rw [nI_clamp (by omega), qq_i8 _ (by omega)]
      · obtain ⟨q1, q2, q3, q4, q5, q6⟩ := q
        refine hk (nI _, upd s9 _ _, upd s10 _ _, t11, t12) ⟨?_, ?_, ?_⟩
        · show nI _ = nI _
          rw [qq_lo_s]
        · intro d hd
          show ∃ v, qq_PO n ls d v (upd s9 c (nI w)) (upd s10 c (nI (qq_lo ls c n))) t11 t12
          by_cases z : d = c
          · subst z
            exact ⟨w, hw, pk_us, pk_us, q1, fun p hp e => (q5 p hp e).2⟩
          · obtain ⟨v, p1, p2, p3, p4, p5⟩ := k2 d (by omega)
            refine ⟨v, p1, by rw [pk_un z]; exact p2, by rw [pk_un z]; exact p3, fun p hp e => ?_, fun p hp e => ?_⟩
            · have lt := qq_ct_lt (p := fun j => decide (ls j = d)) hp (decide_eq_true e)
              have lt : qq_rk ls d p < qq_rk ls d n := lt
              have e1 := qq_lo_s ls d n
              have e2 := qq_lo_m ls (show d + 1 ≤ c by omega) n
              rw [q2 _ (by omega)]
              exact p4 p hp e
            · have bd := qq_PI_b (ls := ls) (c := d) (m := p) v hn (by omega)
              obtain ⟨r1, r2⟩ := p5 p hp e
              refine ⟨by rw [q6 d _ z (by omega)]; exact r1, ?_⟩
              have cg : qq_ct (qq_gb 13 t12 d) (p / 2 ^ v + qq_rk ls d p) = qq_ct (qq_gb 13 s12 d) (p / 2 ^ v + qq_rk ls d p) := qq_ct_congr (fun j hj => q6 d j z (by omega))
              rw [cg]
              exact r2
        · intro r j hr hr8 hj
          show qq_gb 13 t12 r j = false
          rw [q6 r j (by omega) hj]
          exact k3 r j (by omega) hr8 hj
/-! asked -/
theorem wq_selParts {post : Int32 → Prop} {x y : Int32} {n : Nat} {ls : Nat → Nat} (c k p : Nat) (hc : c < 8) (hpn : p < n) (hpc : ls p = c) (hpk : qq_rk ls c p = k) (hn : n ≤ 200)
    (R : qq_PX n ls a9 a10 a11 a12) (hp : post (nI p)) (hx : x = nI c := by rfl) (hy : y = nI k := by rfl) : wpX_selectInParts post (nI n, f0_isPacked, f0_runCount, f0_nodes, f0_codeSum, a1, a2, a3, a4, a5, a6, a7, a8, a9, a10, a11, a12, a13, a14, a15, a16, a17, a18, a19, a20, a21, a22, a23, a24, a25, a26, a27) x y := by
  subst hx hy
  obtain ⟨w, w7, r9, r10, r11, r12⟩ := R c hc
  obtain ⟨b1, b2⟩ := r12 p hpn hpc
  have bd := qq_PI_b (ls := ls) (c := c) (m := p) w hn (by omega)
  have e11 := r11 p hpn hpc
  rw [hpk] at b1 b2 bd e11
  have w2 : 2 ^ w ≤ 2 ^ 7 := Nat.pow_le_pow_right (by decide) w7
  have w1 : 0 < 2 ^ w := Nat.two_pow_pos w
  have md : p % 2 ^ w < 2 ^ w := Nat.mod_lt _ w1
  have dm := Nat.div_add_mod p (2 ^ w)
  generalize p / 2 ^ w = q at b1 b2 bd dm
  have lo := qq_lo_s ls c n
  have lo2 := qq_ct_le (fun j => decide (ls j < c + 1)) n
  have lo2 : qq_lo ls (c + 1) n ≤ n := lo2
  have lt := qq_ct_lt (p := fun j => decide (ls j = c)) hpn (decide_eq_true hpc)
  have lt : qq_rk ls c p < qq_rk ls c n := lt
  refine loop_m (σ := Nat × Int32 × Bool) (fun f s => wX_selectInParts_8 post (nI c) (nI k) (nI n) f0_isPacked f0_runCount f0_nodes f0_codeSum a1 a2 a3 a4 a5 a6 a7 a8 a9 a10 a11 a12 a13 a14 a15 a16 a17 a18 a19 a20 a21 a22 a23 a24 a25 a26 a27 f (nI s.1) s.2.1 (nI s.2.2.toNat))
    (fun s => (s.2.2 = true → s.1 ≤ q + k ∧ s.2.1 = nI (qq_ct (qq_gb 13 a12 c) s.1)) ∧ (s.2.2 = false → s.1 = q + k)) (fun s => 2 * (q + k - s.1) + s.2.2.toNat) ?_ (0, 0, true) ⟨fun _ => ⟨Nat.zero_le _, rfl⟩, fun z => absurd z (show ¬ true = false by decide)⟩
  intro f ⟨i, x4, b⟩ ⟨h1, h2⟩ hh
  cases b
  · have e : i = q + k := h2 rfl
    subst e
    refine br_t rfl ⟨pk_in c 8 hc, pk_in c 9 (by omega), pk_in (qq_lo ls c n + k) 200 (by omega) ?_, ?_⟩
    · rw [nI_clamp (by omega), r10, nI_add]
    · have e : (nI (q + k) - nI k) <<< (a9 (nI c).toNatClampNeg &&& 31) ||| a11 (a10 (nI c).toNatClampNeg + nI k).toNatClampNeg = nI p := by
        have le : 2 ^ w * q ≤ p := by omega
        rw [nI_clamp (show c < 2 ^ 31 by omega), r9, r10, nI_add, nI_clamp (show qq_lo ls c n + k < 2 ^ 31 by omega), e11, pk_sub (by omega), Nat.add_sub_cancel, qq_shl (by omega) (by rw [Nat.mul_comm]; omega), qq_or, Nat.mul_comm, ← Nat.two_pow_add_eq_or_of_lt md, dm]
      rw [e]
      exact hp
  · obtain ⟨g1, g2⟩ := h1 rfl
    have g1 : i ≤ q + k := g1
    have g2 : x4 = nI (qq_ct (qq_gb 13 a12 c) i) := g2
    subst g2
    have ci : qq_ct (qq_gb 13 a12 c) i ≤ qq_ct (qq_gb 13 a12 c) (q + k) := qq_ct_mono _ g1
    have ci2 : qq_ct (qq_gb 13 a12 c) i ≤ i := qq_ct_le _ _
    have step : ∀ v : Nat, v = qq_ct (qq_gb 13 a12 c) (i + 1) → i < q + k → wX_selectInParts_8 post (nI c) (nI k) (nI n) f0_isPacked f0_runCount f0_nodes f0_codeSum a1 a2 a3 a4 a5 a6 a7 a8 a9 a10 a11 a12 a13 a14 a15 a16 a17 a18 a19 a20 a21 a22 a23 a24 a25 a26 a27 f (nI (i + 1)) (nI v) 1 := by
      intro v hv hi
      refine hh (i + 1, nI v, true) ⟨fun _ => ⟨?_, ?_⟩, fun z => absurd z (show ¬ true = false by decide)⟩ ?_
      · show i + 1 ≤ q + k
        omega
      · show nI v = nI (qq_ct (qq_gb 13 a12 c) (i + 1))
        rw [hv]
      · show 2 * (q + k - (i + 1)) + 1 < 2 * (q + k - i) + 1
        omega
    refine br_f (show ¬ nI (Bool.toNat true) = 0 by decide) (wq_highAt c i hc (by omega) ?_)
    cases e : qq_gb 13 a12 c i
    · have ne : i ≠ q + k := fun z => by rw [z, b1] at e; exact absurd e (by decide)
      refine br_t rfl (br_t rfl (nm_r (Int32.add_zero _) (br_f (by decide) (nm_r (nI_1 i) (step _ ?_ (by omega))))))
      rw [qq_ct_f e]
    · refine br_f (by decide) (pk_eq (qq_ct (qq_gb 13 a12 c) i) k (fun z => ?_) (fun z => ?_))
      · have ei : i = q + k := qq_ct_inj e b1 (by rw [b2]; exact z)
        refine br_f (by decide) (nm_r (nI_1 _) (br_t rfl (nm_r (Int32.add_zero _) (hh (i, nI _, false) ⟨fun z => absurd z (show ¬ false = true by decide), fun _ => ei⟩ ?_))))
        show 2 * (q + k - i) + 0 < 2 * (q + k - i) + 1
        omega
      · have ne : i ≠ q + k := fun y => by rw [y, b2] at z; exact z rfl
        refine br_f (by decide) (nm_r (nI_1 _) (br_f (by decide) (nm_r (nI_1 i) (step _ ?_ (by omega)))))
        rw [qq_ct_t e]
theorem wq_rp40_0 {post : Int32 → Prop} {J : Int32 → Int32 → Prop} {x1 x2 x3 x4 x5 : Int32} (h : J x3 x5) : wX_rankInParts_40 post J x1 x2 x3 x4 x5 0 f0_n f0_isPacked f0_runCount f0_nodes f0_codeSum a1 a2 a3 a4 a5 a6 a7 a8 a9 a10 a11 a12 a13 a14 a15 a16 a17 a18 a19 a20 a21 a22 a23 a24 a25 a26 a27 := br_t rfl (br_t rfl h)
theorem wq_rp40_1 {post : Int32 → Prop} {J : Int32 → Int32 → Prop} {x1 x2 x3 x4 x5 v : Int32} (e : x5 + 1 = v) (h : J v x4) : wX_rankInParts_40 post J x1 x2 x3 x4 x5 1 f0_n f0_isPacked f0_runCount f0_nodes f0_codeSum a1 a2 a3 a4 a5 a6 a7 a8 a9 a10 a11 a12 a13 a14 a15 a16 a17 a18 a19 a20 a21 a22 a23 a24 a25 a26 a27 := by
  subst e
  exact br_f (by decide) (br_f (by decide) h)
theorem wq_rankParts {post : Int32 → Prop} {x y : Int32} {n : Nat} {ls : Nat → Nat} (c m : Nat) (hc : c < 8) (hm : m ≤ n) (hn : n ≤ 200) (h2 : a2 c = nI (qq_rk ls c n))
    (R : qq_PX n ls a9 a10 a11 a12) (hp : post (nI (qq_rk ls c m))) (hx : x = nI c := by rfl) (hy : y = nI m := by rfl) : wpX_rankInParts post (nI n, f0_isPacked, f0_runCount, f0_nodes, f0_codeSum, a1, a2, a3, a4, a5, a6, a7, a8, a9, a10, a11, a12, a13, a14, a15, a16, a17, a18, a19, a20, a21, a22, a23, a24, a25, a26, a27) x y := by
  subst hx hy
  have cm := qq_ct_mono (fun j => decide (ls j = c)) hm
  have cm : qq_rk ls c m ≤ qq_rk ls c n := cm
  have cn := qq_ct_le (fun j => decide (ls j = c)) n
  have cn : qq_rk ls c n ≤ n := cn
  refine And.intro (pk_in c 8 hc) (nm_r (qq_rd c h2) ?_)
  refine loop_m (σ := Nat × Nat) (fun f s => wX_rankInParts_10 post (nI c) (nI m) (nI n) f0_isPacked f0_runCount f0_nodes f0_codeSum a1 a2 a3 a4 a5 a6 a7 a8 a9 a10 a11 a12 a13 a14 a15 a16 a17 a18 a19 a20 a21 a22 a23 a24 a25 a26 a27 f (nI s.1) (nI s.2)) (fun s => s.1 ≤ qq_rk ls c m ∧ qq_rk ls c m ≤ s.2 ∧ s.2 ≤ qq_rk ls c n) (fun s => s.2 - s.1) ?_ (0, qq_rk ls c n) ⟨by omega, cm, Nat.le_refl _⟩
  intro f ⟨lo, hi⟩ ⟨g1, g2, g3⟩ hw
  have g1 : lo ≤ qq_rk ls c m := g1
  have g2 : qq_rk ls c m ≤ hi := g2
  have g3 : hi ≤ qq_rk ls c n := g3
  refine pk_le hi lo (fun g => ?_) (fun g => ⟨by decide, nm_r (qq_mid (by omega)) ?_⟩)
  · have : lo = qq_rk ls c m := by omega
    subst this
    exact hp
  · obtain ⟨p, p1, p2, p3⟩ := qq_ct_find (p := fun j => decide (ls j = c)) (k := (lo + hi) / 2) (n := n) (by
      show _ < qq_rk ls c n
      omega)
    have p2 : ls p = c := of_decide_eq_true p2
    refine wq_selParts c ((lo + hi) / 2) p hc p1 p2 p3 hn R ?_
    refine pk_le m p (fun g2' => wq_rp40_0 (hw (lo, (lo + hi) / 2) ⟨g1, ?_, ?_⟩ ?_)) (fun g2' => wq_rp40_1 (nI_1 _) (hw ((lo + hi) / 2 + 1, hi) ⟨?_, g2, g3⟩ ?_))
    · show qq_rk ls c m ≤ (lo + hi) / 2
      rw [← p3]
      exact qq_ct_mono _ g2'
    · show (lo + hi) / 2 ≤ qq_rk ls c n
      omega
    · show (lo + hi) / 2 - lo < hi - lo
      omega
    · show (lo + hi) / 2 + 1 ≤ qq_rk ls c m
      have := qq_ct_lt (p := fun j => decide (ls j = c)) g2' (decide_eq_true p2)
      rw [p3] at this
      exact this
    · show hi - ((lo + hi) / 2 + 1) < hi - lo
      omega
end
end
section
/-! ===== engine 4: blocks ===== -/
def qq_ch : Nat → Nat → Nat
  | _, 0 => 1
  | 0, _ + 1 => 0
  | n + 1, k + 1 => qq_ch n k + qq_ch n (k + 1)
theorem qq_ch_lt : ∀ d, d < 8 → ∀ k, k < 9 → qq_ch d k < 128 := by decide +kernel
/-- the table of choices -/
def qq_CH (a16 : Nat → Int32) : Prop := ∀ i k, i < 8 → k ≤ i → a16 (i * 8 + k) = nI (qq_ch i k)
def qq_nf (y : Nat) : Nat → Nat → Nat → Nat
  | 0, num, _ => num
  | d + 1, num, left => if left = 0 then num else if y.testBit (6 - d) then qq_nf y d (num + (if left ≤ d then qq_ch d left else 0)) (left - 1) else qq_nf y d num left
def qq_bf : Nat → Nat → Nat → Nat → Nat
  | 0, bits, _, _ => bits
  | d + 1, bits, left, rank => if left = 0 then bits else if rank < (if left ≤ d then qq_ch d left else 0) then qq_bf d bits left rank else qq_bf d (bits ||| 2 ^ (6 - d)) (left - 1) (rank - (if left ≤ d then qq_ch d left else 0))
theorem qq_nb_ok : ∀ y, y < 128 → qq_nf y 7 0 (qq_pc y) < 128 ∧ qq_bf 7 0 (qq_pc y) (qq_nf y 7 0 (qq_pc y)) = y := by decide +kernel
theorem qq_pc_le (y : Nat) : qq_pc y ≤ 8 := qq_ct_le _ 8
theorem qq_tb {y i : Nat} (hy : y < 2 ^ 31) (hi : i < 32) : ((nI y >>> (nI i &&& 31)) &&& 1) = nI (y.testBit i).toNat := by
  have h : y / 2 ^ i ≤ y := Nat.div_le_self _ _
  rw [qq_sr hy hi, pk_andN (m := 1) (by omega) 1 (by decide), Nat.testBit_eq_decide_div_mod_eq]
  congr 1
  generalize y / 2 ^ i = z
  have hz : z % 2 ^ 1 = 0 ∨ z % 2 ^ 1 = 1 := by omega
  rcases hz with e | e
  · rw [e, decide_eq_false (by omega)]; rfl
  · rw [e, decide_eq_true (by omega)]; rfl
/-- one block, one letter -/
def qq_bk (n : Nat) (ls : Nat → Nat) (c b j : Nat) : Bool := decide (7 * b + j < n ∧ ls (7 * b + j) = c)
def qq_BC (n : Nat) (ls : Nat → Nat) (c b : Nat) (a13 a14 : Nat → Int32) : Prop :=
  ∃ y, y < 128 ∧ (∀ j, j < 7 → y.testBit j = qq_bk n ls c b j) ∧ a13 (c * 30 + b) = nI (qq_pc y) ∧ a14 (c * 30 + b) = nI (qq_nf y 7 0 (qq_pc y))
def qq_BX (n : Nat) (ls : Nat → Nat) (a13 a14 a15 : Nat → Int32) : Prop :=
  ∀ c, c < 8 → (∀ b, b < 31 → a15 (c * 31 + b) = nI (qq_rk ls c (min (7 * b) n))) ∧ (∀ b, b < 30 → qq_BC n ls c b a13 a14)
theorem qq_bk_ct (n : Nat) (ls : Nat → Nat) (c b : Nat) : ∀ k, qq_rk ls c (min (7 * b + k) n) = qq_rk ls c (min (7 * b) n) + qq_ct (qq_bk n ls c b) k := by
  intro k
  induction k with
  | zero => rfl
  | succ k ih =>
    by_cases h : 7 * b + k < n
    · have e1 : min (7 * b + (k + 1)) n = 7 * b + k + 1 := by omega
      have e2 : min (7 * b + k) n = 7 * b + k := by omega
      rw [e2] at ih
      rw [e1]
      have e3 : decide (ls (7 * b + k) = c) = qq_bk n ls c b k := by
        unfold qq_bk
        by_cases z : ls (7 * b + k) = c
        · rw [decide_eq_true z, decide_eq_true ⟨h, z⟩]
        · rw [decide_eq_false z, decide_eq_false (fun q => z q.2)]
      show qq_rk ls c (7 * b + k) + (decide (ls (7 * b + k) = c)).toNat = qq_rk ls c (min (7 * b) n) + (qq_ct (qq_bk n ls c b) k + (qq_bk n ls c b k).toNat)
      rw [ih, e3, Nat.add_assoc]
    · rw [show min (7 * b + (k + 1)) n = min (7 * b + k) n by omega, ih, qq_ct_f (p := qq_bk n ls c b) (decide_eq_false (fun q => h q.1))]
theorem qq_bk_pc {n : Nat} {ls : Nat → Nat} {c b y : Nat} (hy : y < 128) (h : ∀ j, j < 7 → y.testBit j = qq_bk n ls c b j) : qq_rk ls c (min (7 * (b + 1)) n) = qq_rk ls c (min (7 * b) n) + qq_pc y := by
  rw [show 7 * (b + 1) = 7 * b + 7 by omega, qq_bk_ct n ls c b 7]
  congr 1
  unfold qq_pc
  rw [qq_ct_f (p := fun j => y.testBit j) (k := 7) (Nat.testBit_lt_two_pow (by omega))]
  exact (qq_ct_congr h).symm
section
variable {f0_n f0_isPacked f0_runCount f0_nodes f0_codeSum : Int32} {a1 a2 a3 a4 a5 a6 a7 a8 a9 a10 a11 a12 a13 a14 a15 a16 a17 a18 a19 a20 a21 a22 a23 a24 a25 a26 a27 : Nat → Int32}
theorem wq_blockBits {post : Int32 → Prop} {x y : Int32} {n : Nat} {ls : Nat → Nat} (c b : Nat) (hc : c < 8) (hb : b < 30) (hn : n ≤ 200) (hL : ∀ i, i < n → a1 i = nI (ls i)) (hcl : ∀ i, i < n → ls i < 8)
    (hp : ∀ y, y < 128 → (∀ j, j < 7 → y.testBit j = qq_bk n ls c b j) → post (nI y)) (hx : x = nI c := by rfl) (hy : y = nI b := by rfl) : wpX_blockBits post (nI n, f0_isPacked, f0_runCount, f0_nodes, f0_codeSum, a1, a2, a3, a4, a5, a6, a7, a8, a9, a10, a11, a12, a13, a14, a15, a16, a17, a18, a19, a20, a21, a22, a23, a24, a25, a26, a27) x y := by
  subst hx hy
  refine pk_loop (σ := Nat) (fun f i y => wX_blockBits_5 post (nI c) (nI b) (nI n) f0_isPacked f0_runCount f0_nodes f0_codeSum a1 a2 a3 a4 a5 a6 a7 a8 a9 a10 a11 a12 a13 a14 a15 a16 a17 a18 a19 a20 a21 a22 a23 a24 a25 a26 a27 f (nI y) (nI i)) (fun i y => y < 2 ^ i ∧ (∀ j, j < i → y.testBit j = qq_bk n ls c b j)) 7 0 0 (by omega) ⟨by decide, fun j hj => absurd hj (by omega)⟩ ?_ ?_
  · intro f y ⟨h1, h2⟩
    exact pk_le 7 7 (fun _ => hp y h1 h2) (fun z => absurd z (by omega))
  · intro f i y hi ⟨h1, h2⟩ hk
    have ps : 2 ^ (i + 1) = 2 * 2 ^ i := by rw [Nat.pow_succ, Nat.mul_comm]
    have ep : nI b * 7 + nI i = nI (7 * b + i) := by
      rw [show nI b * 7 = nI (b * 7) from pk_mul b 7, nI_add, Nat.mul_comm]
    have hno : qq_bk n ls c b i = false → y < 2 ^ (i + 1) ∧ (∀ j, j < i + 1 → y.testBit j = qq_bk n ls c b j) := by
      intro e
      refine ⟨by omega, fun j hj => ?_⟩
      by_cases z : j = i
      · rw [z, e]
        exact Nat.testBit_lt_two_pow h1
      · exact h2 j (by omega)
    have z0 : ∀ t : Int32, t ||| 0 = t := fun t => Int32.or_zero
    refine pk_le 7 i (fun z => absurd z (by omega)) (fun _ => nm_r ep (pk_le n (7 * b + i) (fun g => ?_) (fun g => ⟨pk_in (7 * b + i) 200 (by omega), ?_⟩)))
    · exact nm_r (z0 _) (nm_r (nI_1 i) (hk y (hno (decide_eq_false (fun q => absurd q.1 (by omega))))))
    · have e8 := hcl _ g
      refine pk_eq (ls (7 * b + i)) c (fun e => ?_) (fun e => ?_) (qq_rd _ (hL _ g))
      · refine nm_r (e' := nI (y ||| 2 ^ i)) ?_ (nm_r (nI_1 i) (hk _ ⟨?_, fun j hj => ?_⟩))
        · rw [qq_1s i (by omega), qq_or]
        · exact Nat.or_lt_two_pow (by omega) (by omega)
        · rw [Nat.testBit_or, Nat.testBit_two_pow]
          by_cases z : j = i
          · rw [z, decide_eq_true rfl, Bool.or_true]
            exact (decide_eq_true ⟨g, e⟩).symm
          · rw [decide_eq_false (fun q => z q.symm), Bool.or_false]
            exact h2 j (by omega)
      · exact nm_r (z0 _) (nm_r (nI_1 i) (hk y (hno (decide_eq_false (fun q => e q.2)))))
theorem wq_num8 {post : Int32 → Prop} (y : Nat) (hy : y < 128) (C : qq_CH a16) : ∀ d, d ≤ 7 → ∀ num left f, left ≤ 8 → d < f → post (nI (qq_nf y d num left)) → wX_numberOf_8 post (nI y) f0_n f0_isPacked f0_runCount f0_nodes f0_codeSum a1 a2 a3 a4 a5 a6 a7 a8 a9 a10 a11 a12 a13 a14 a15 a16 a17 a18 a19 a20 a21 a22 a23 a24 a25 a26 a27 f (nI num) (nI left) (nI (7 - d)) := by
  intro d
  induction d with
  | zero =>
    intro _ num left f hl hf hp
    cases f with
    | zero => omega
    | succ f => exact pk_le 7 7 (fun _ => hp) (fun z => absurd z (by omega))
  | succ d ih =>
    intro hd num left f hl hf hp
    cases f with
    | zero => omega
    | succ f =>
      unfold qq_nf at hp
      have ei : 7 - (d + 1) = 6 - d := by omega
      have e1 : (6 : Int32) - nI (7 - (d + 1)) = nI d := by
        rw [show (6 : Int32) - nI (7 - (d + 1)) = nI (6 - (7 - (d + 1))) from pk_sub (a := 6) (by omega)]
        congr 1
        omega
      have e2 : nI (7 - (d + 1)) + 1 = nI (7 - d) := by
        rw [nI_1]
        congr 1
        omega
      refine pk_le 7 (7 - (d + 1)) (fun z => absurd z (by omega)) (fun _ => pk_le left 0 (fun z => ?_) (fun z => nm_r e1 ?_))
      · rw [if_pos (by omega)] at hp
        exact hp
      · rw [if_neg (by omega)] at hp
        have tb := qq_tb (y := y) (i := 7 - (d + 1)) (by omega) (by omega)
        rw [ei] at tb
        cases t : y.testBit (6 - d)
        · rw [t] at tb hp
          refine br_t (by rw [ei, tb]; rfl) (nm_r e2 (ih (by omega) num left f hl (by omega) ?_))
          exact hp
        · rw [t] at tb hp
          refine br_f (by rw [ei, tb]; decide) (pk_lt d left (fun g => ?_) (fun g => ?_))
          · rw [if_neg (show ¬ left ≤ d by omega)] at hp
            exact nm_r (Int32.add_zero _) (nm_r (sb_m1 (by omega)) (nm_r e2 (ih (by omega) num (left - 1) f (by omega) (by omega) hp)))
          · rw [if_pos g] at hp
            have ex : nI d * 8 + nI left = nI (d * 8 + left) := by
              rw [show nI d * 8 = nI (d * 8) from pk_mul d 8, nI_add]
            refine ⟨pk_in (d * 8 + left) 64 (by omega) ex, nm_r (e' := nI (num + qq_ch d left)) ?_ (nm_r (sb_m1 (by omega)) (nm_r e2 (ih (by omega) _ (left - 1) f (by omega) (by omega) hp)))⟩
            rw [ex, nI_clamp (by omega), C d left (by omega) g, nI_add]
theorem wq_numberOf {post : Int32 → Prop} {p q : Int32} (y : Nat) (hy : y < 128) (C : qq_CH a16) (hp : post (nI (qq_nf y 7 0 (qq_pc y)))) (hx : p = nI y := by rfl) (hq : q = nI (qq_pc y) := by rfl) : wpX_numberOf post (f0_n, f0_isPacked, f0_runCount, f0_nodes, f0_codeSum, a1, a2, a3, a4, a5, a6, a7, a8, a9, a10, a11, a12, a13, a14, a15, a16, a17, a18, a19, a20, a21, a22, a23, a24, a25, a26, a27) p q := by
  subst hx hq
  exact ⟨8, wq_num8 y hy C 7 (Nat.le_refl 7) 0 (qq_pc y) 8 (qq_pc_le y) (by omega) hp⟩
theorem wq_bits11 {post : Int32 → Prop} (C : qq_CH a16) : ∀ d, d ≤ 7 → ∀ bits left rank f, left ≤ 8 → rank < 128 → d < f → post (nI (qq_bf d bits left rank)) → wX_bitsOf_11 post f0_n f0_isPacked f0_runCount f0_nodes f0_codeSum a1 a2 a3 a4 a5 a6 a7 a8 a9 a10 a11 a12 a13 a14 a15 a16 a17 a18 a19 a20 a21 a22 a23 a24 a25 a26 a27 f (nI bits) (nI left) (nI rank) (nI (7 - d)) := by
  intro d
  induction d with
  | zero =>
    intro _ bits left rank f hl hr hf hp
    cases f with
    | zero => omega
    | succ f => exact pk_le 7 7 (fun _ => hp) (fun z => absurd z (by omega))
  | succ d ih =>
    intro hd bits left rank f hl hr hf hp
    cases f with
    | zero => omega
    | succ f =>
      unfold qq_bf at hp
      have ei : 7 - (d + 1) = 6 - d := by omega
      have e1 : (6 : Int32) - nI (7 - (d + 1)) = nI d := by
        rw [show (6 : Int32) - nI (7 - (d + 1)) = nI (6 - (7 - (d + 1))) from pk_sub (a := 6) (by omega)]
        congr 1
        omega
      have e2 : nI (7 - (d + 1)) + 1 = nI (7 - d) := by
        rw [nI_1]
        congr 1
        omega
      refine pk_le 7 (7 - (d + 1)) (fun z => absurd z (by omega)) (fun _ => pk_le left 0 (fun z => ?_) (fun z => nm_r e1 ?_))
      · rw [if_pos (by omega)] at hp
        exact hp
      · rw [if_neg (by omega)] at hp
        have body : ∀ (v : Int32) (wo : Nat), v = nI wo → wo < 128 → post (nI (if rank < wo then qq_bf d bits left rank else qq_bf d (bits ||| 2 ^ (6 - d)) (left - 1) (rank - wo))) → wX_bitsOf_54 post (wX_bitsOf_11 post f0_n f0_isPacked f0_runCount f0_nodes f0_codeSum a1 a2 a3 a4 a5 a6 a7 a8 a9 a10 a11 a12 a13 a14 a15 a16 a17 a18 a19 a20 a21 a22 a23 a24 a25 a26 a27 f) (nI bits) (nI left) (nI rank) (nI (7 - (d + 1))) v f0_n f0_isPacked f0_runCount f0_nodes f0_codeSum a1 a2 a3 a4 a5 a6 a7 a8 a9 a10 a11 a12 a13 a14 a15 a16 a17 a18 a19 a20 a21 a22 a23 a24 a25 a26 a27 := by
          intro v wo hv hwo hp2
          subst hv
          refine pk_lt rank wo (fun g => ?_) (fun g => ?_)
          · rw [if_pos g] at hp2
            exact nm_r e2 (ih (by omega) bits left rank f hl hr (by omega) hp2)
          · rw [if_neg (by omega)] at hp2
            refine nm_r (pk_sub g) (nm_r (e' := nI (bits ||| 2 ^ (6 - d))) ?_ (nm_r (sb_m1 (by omega)) (nm_r e2 (ih (by omega) _ (left - 1) (rank - wo) f (by omega) (by omega) (by omega) hp2))))
            rw [ei, qq_1s _ (by omega), qq_or]
        refine pk_lt d left (fun g => ?_) (fun g => ?_)
        · rw [if_neg (show ¬ left ≤ d by omega)] at hp
          exact body 0 0 rfl (by omega) hp
        · rw [if_pos g] at hp
          have ex : nI d * 8 + nI left = nI (d * 8 + left) := by
            rw [show nI d * 8 = nI (d * 8) from pk_mul d 8, nI_add]
          refine ⟨pk_in (d * 8 + left) 64 (by omega) ex, body _ (qq_ch d left) ?_ (qq_ch_lt d (by omega) left (by omega)) hp⟩
          rw [ex, nI_clamp (by omega), C d left (by omega) g]
theorem wq_bitsOf {post : Int32 → Prop} {p q : Int32} (y : Nat) (hy : y < 128) (C : qq_CH a16) (hp : post (nI y)) (hx : p = nI (qq_nf y 7 0 (qq_pc y)) := by rfl) (hq : q = nI (qq_pc y) := by rfl) : wpX_bitsOf post (f0_n, f0_isPacked, f0_runCount, f0_nodes, f0_codeSum, a1, a2, a3, a4, a5, a6, a7, a8, a9, a10, a11, a12, a13, a14, a15, a16, a17, a18, a19, a20, a21, a22, a23, a24, a25, a26, a27) p q := by
  subst hx hq
  obtain ⟨h1, h2⟩ := qq_nb_ok y hy
  refine ⟨8, wq_bits11 C 7 (Nat.le_refl 7) 0 (qq_pc y) _ 8 (qq_pc_le y) h1 (by omega) ?_⟩
  rw [h2]
  exact hp
theorem wq_packBlocks {post : St1 → Prop} {n : Nat} {ls : Nat → Nat} (hn : n ≤ 200) (hL : ∀ i, i < n → a1 i = nI (ls i)) (hcl : ∀ i, i < n → ls i < 8) (C : qq_CH a16)
    (H : ∀ s13 s14 s15, qq_BX n ls s13 s14 s15 → post (nI n, f0_isPacked, f0_runCount, f0_nodes, f0_codeSum, a1, a2, a3, a4, a5, a6, a7, a8, a9, a10, a11, a12, s13, s14, s15, a16, a17, a18, a19, a20, a21, a22, a23, a24, a25, a26, a27)) : wpX_packBlocks post (nI n, f0_isPacked, f0_runCount, f0_nodes, f0_codeSum, a1, a2, a3, a4, a5, a6, a7, a8, a9, a10, a11, a12, a13, a14, a15, a16, a17, a18, a19, a20, a21, a22, a23, a24, a25, a26, a27) := by
  refine pk_loop (σ := (Nat → Int32) × (Nat → Int32) × (Nat → Int32)) (fun f c t => wX_packBlocks_2 post (nI n) f0_isPacked f0_runCount f0_nodes f0_codeSum f (nI c) a1 a2 a3 a4 a5 a6 a7 a8 a9 a10 a11 a12 t.1 t.2.1 t.2.2 a16 a17 a18 a19 a20 a21 a22 a23 a24 a25 a26 a27)
    (fun c t => ∀ d, d < c → (∀ b, b < 31 → t.2.2 (d * 31 + b) = nI (qq_rk ls d (min (7 * b) n))) ∧ (∀ b, b < 30 → qq_BC n ls d b t.1 t.2.1)) 8 0 (a13, a14, a15) (by omega) (fun d hd => absurd hd (by omega)) ?_ ?_
  · intro f ⟨s13, s14, s15⟩ h
    exact pk_le 8 8 (fun _ => H s13 s14 s15 h) (fun z => absurd z (by omega))
  · intro f c ⟨s13, s14, s15⟩ hc h hk
    have h : ∀ d, d < c → (∀ b, b < 31 → s15 (d * 31 + b) = nI (qq_rk ls d (min (7 * b) n))) ∧ (∀ b, b < 30 → qq_BC n ls d b s13 s14) := h
    refine pk_le 8 c (fun z => absurd z (by omega)) (fun _ => ?_)
    refine pk_loop (σ := Int32 × (Nat → Int32) × (Nat → Int32) × (Nat → Int32)) (fun g b t => wX_packBlocks_12 post (wX_packBlocks_2 post (nI n) f0_isPacked f0_runCount f0_nodes f0_codeSum f) (nI c) (nI n) f0_isPacked f0_runCount f0_nodes f0_codeSum g t.1 (nI b) a1 a2 a3 a4 a5 a6 a7 a8 a9 a10 a11 a12 t.2.1 t.2.2.1 t.2.2.2 a16 a17 a18 a19 a20 a21 a22 a23 a24 a25 a26 a27)
      (fun b t => t.1 = nI (qq_rk ls c (min (7 * b) n)) ∧ (∀ e, e < b → t.2.2.2 (c * 31 + e) = nI (qq_rk ls c (min (7 * e) n))) ∧ (∀ e, e < b → qq_BC n ls c e t.2.1 t.2.2.1) ∧
        (∀ d, d < c → (∀ e, e < 31 → t.2.2.2 (d * 31 + e) = nI (qq_rk ls d (min (7 * e) n))) ∧ (∀ e, e < 30 → qq_BC n ls d e t.2.1 t.2.2.1))) 30 0 (0, s13, s14, s15) (by omega) ⟨?_, fun e he => absurd he (by omega), fun e he => absurd he (by omega), h⟩ ?_ ?_
    · show (0 : Int32) = nI (qq_rk ls c (min (7 * 0) n))
      rw [show min (7 * 0) n = 0 by omega]
      rfl
    · intro g ⟨x2, t13, t14, t15⟩ ⟨k1, k2, k3, k4⟩
      have k1 : x2 = nI (qq_rk ls c (min (7 * 30) n)) := k1
      have k2 : ∀ e, e < 30 → t15 (c * 31 + e) = nI (qq_rk ls c (min (7 * e) n)) := k2
      have k3 : ∀ e, e < 30 → qq_BC n ls c e t13 t14 := k3
      have k4 : ∀ d, d < c → (∀ e, e < 31 → t15 (d * 31 + e) = nI (qq_rk ls d (min (7 * e) n))) ∧ (∀ e, e < 30 → qq_BC n ls d e t13 t14) := k4
      subst k1
      have ex : nI c * 31 + 30 = nI (c * 31 + 30) := by
        rw [show nI c * 31 = nI (c * 31) from pk_mul c 31]
        exact nI_add _ 30
      have le : qq_rk ls c (min (7 * 30) n) ≤ min (7 * 30) n := qq_ct_le _ _
      refine pk_le 30 30 (fun _ => ⟨pk_in _ 248 (by omega) ex, nm_r (e' := upd t15 (c * 31 + 30) (nI (qq_rk ls c (min (7 * 30) n)))) ?_ (nm_r (nI_1 c) (hk (t13, t14, upd t15 _ _) ?_))⟩) (fun z => absurd z (by omega))
      · rw [ex, nI_clamp (by omega), qq_i16 (by omega)]
      · intro d hd
        show (∀ b, b < 31 → upd t15 (c * 31 + 30) _ (d * 31 + b) = _) ∧ (∀ b, b < 30 → qq_BC n ls d b t13 t14)
        by_cases z : d = c
        · subst z
          refine ⟨fun b hb => ?_, k3⟩
          by_cases y : b = 30
          · rw [y, pk_us]
          · rw [pk_un (by omega)]
            exact k2 b (by omega)
        · obtain ⟨p1, p2⟩ := k4 d (by omega)
          refine ⟨fun b hb => ?_, p2⟩
          rw [pk_un (by omega)]
          exact p1 b hb
    · intro g b ⟨x2, t13, t14, t15⟩ hb ⟨k1, k2, k3, k4⟩ hk'
      have k1 : x2 = nI (qq_rk ls c (min (7 * b) n)) := k1
      have k2 : ∀ e, e < b → t15 (c * 31 + e) = nI (qq_rk ls c (min (7 * e) n)) := k2
      have k3 : ∀ e, e < b → qq_BC n ls c e t13 t14 := k3
      have k4 : ∀ d, d < c → (∀ e, e < 31 → t15 (d * 31 + e) = nI (qq_rk ls d (min (7 * e) n))) ∧ (∀ e, e < 30 → qq_BC n ls d e t13 t14) := k4
      subst k1
      have ex31 : nI c * 31 + nI b = nI (c * 31 + b) := by
        rw [show nI c * 31 = nI (c * 31) from pk_mul c 31, nI_add]
      have ex30 : nI c * 30 + nI b = nI (c * 30 + b) := by
        rw [show nI c * 30 = nI (c * 30) from pk_mul c 30, nI_add]
      have le : qq_rk ls c (min (7 * b) n) ≤ min (7 * b) n := qq_ct_le _ _
      refine pk_le 30 b (fun z => absurd z (by omega)) (fun _ => wq_blockBits c b hc hb hn hL hcl (fun y hy hb7 => ?_))
      obtain ⟨nf1, _⟩ := qq_nb_ok y hy
      have pl := qq_pc_le y
      refine wq_onesIn y (by omega) ⟨pk_in _ 248 (by omega) ex31, nm_r (e' := upd t15 (c * 31 + b) (nI (qq_rk ls c (min (7 * b) n)))) ?_ ⟨pk_in _ 240 (by omega) ex30, nm_r (e' := upd t13 (c * 30 + b) (nI (qq_pc y))) ?_ (wq_numberOf y hy C ⟨pk_in _ 240 (by omega) ex30, nm_r (e' := upd t14 (c * 30 + b) (nI (qq_nf y 7 0 (qq_pc y)))) ?_ (nm_r (nI_add _ _) (nm_r (nI_1 b) (hk' (nI _, upd t13 _ _, upd t14 _ _, upd t15 _ _) ⟨?_, ?_, ?_, ?_⟩)))⟩)⟩⟩
      · rw [ex31, nI_clamp (by omega), qq_i16 (by omega)]
      · rw [ex30, nI_clamp (by omega), qq_i8 _ (by omega)]
      · rw [ex30, nI_clamp (by omega), qq_i8 _ (by omega)]
      · show nI _ = nI _
        rw [qq_bk_pc hy hb7]
      · intro e he
        show upd t15 (c * 31 + b) _ (c * 31 + e) = _
        by_cases z : e = b
        · rw [z, pk_us]
        · rw [pk_un (by omega)]
          exact k2 e (by omega)
      · intro e he
        show qq_BC n ls c e (upd t13 (c * 30 + b) _) (upd t14 (c * 30 + b) _)
        by_cases z : e = b
        · subst z
          exact ⟨y, hy, hb7, pk_us, pk_us⟩
        · obtain ⟨v, p1, p2, p3, p4⟩ := k3 e (by omega)
          exact ⟨v, p1, p2, by rw [pk_un (by omega)]; exact p3, by rw [pk_un (by omega)]; exact p4⟩
      · intro d hd
        show (∀ e, e < 31 → upd t15 (c * 31 + b) _ (d * 31 + e) = _) ∧ (∀ e, e < 30 → qq_BC n ls d e (upd t13 (c * 30 + b) _) (upd t14 (c * 30 + b) _))
        obtain ⟨p1, p2⟩ := k4 d hd
        refine ⟨fun e he => ?_, fun e he => ?_⟩
        · rw [pk_un (by omega)]
          exact p1 e he
        · obtain ⟨v, q1, q2, q3, q4⟩ := p2 e he
          exact ⟨v, q1, q2, by rw [pk_un (by omega)]; exact q3, by rw [pk_un (by omega)]; exact q4⟩
theorem wq_rankBlocks {post : Int32 → Prop} {x y : Int32} {n : Nat} {ls : Nat → Nat} (c m : Nat) (hc : c < 8) (hm : m ≤ n) (hn : n ≤ 200) (C : qq_CH a16)
    (R : qq_BX n ls a13 a14 a15) (hp : post (nI (qq_rk ls c m))) (hx : x = nI c := by rfl) (hy : y = nI m := by rfl) : wpX_rankInBlocks post (nI n, f0_isPacked, f0_runCount, f0_nodes, f0_codeSum, a1, a2, a3, a4, a5, a6, a7, a8, a9, a10, a11, a12, a13, a14, a15, a16, a17, a18, a19, a20, a21, a22, a23, a24, a25, a26, a27) x y := by
  subst hx hy
  obtain ⟨R1, R2⟩ := R c hc
  obtain ⟨y, hy, hb7, e13, e14⟩ := R2 (m / 7) (by omega)
  have ed : nI m / 7 = nI (m / 7) := pk_div (d := 7) (by omega) (by omega) (by omega)
  have er : nI m - nI m / 7 * 7 = nI (m % 7) := pk_rem (d := 7) (by omega) (by omega) (by omega)
  have ex31 : nI c * 31 + nI (m / 7) = nI (c * 31 + m / 7) := by
    rw [show nI c * 31 = nI (c * 31) from pk_mul c 31, nI_add]
  have ex30 : nI c * 30 + nI (m / 7) = nI (c * 30 + m / 7) := by
    rw [show nI c * 30 = nI (c * 30) from pk_mul c 30, nI_add]
  have q1 : 1 ≤ 2 ^ (m % 7) := Nat.two_pow_pos _
  have q2 : 2 ^ (m % 7) ≤ 2 ^ 6 := Nat.pow_le_pow_right (by decide) (by omega)
  have q3 : y % 2 ^ (m % 7) < 2 ^ (m % 7) := Nat.mod_lt _ q1
  refine And.intro (by decide) (nm_r ed (And.intro (by decide) (nm_r er (And.intro (pk_in _ 240 (by omega) ex30) (And.intro (pk_in _ 240 (by omega) ex30) (wq_bitsOf y hy C (And.intro (pk_in _ 248 (by omega) ex31) (wq_onesIn (y % 2 ^ (m % 7)) (by omega) ?_ ?_)) ?_ ?_))))))
  · rw [ex31, nI_clamp (by omega), R1 (m / 7) (by omega), nI_add]
    have e := qq_bk_ct n ls c (m / 7) (m % 7)
    rw [show min (7 * (m / 7) + m % 7) n = m by omega] at e
    have e2 : qq_ct (qq_bk n ls c (m / 7)) (m % 7) = qq_pc (y % 2 ^ (m % 7)) := by
      have t := qq_pcw y 0 (m % 7) (by omega)
      rw [Nat.pow_zero, Nat.div_one] at t
      rw [t]
      exact qq_ct_congr (fun j hj => by rw [Nat.zero_add]; exact (hb7 j (by omega)).symm)
    rw [← e2, ← e]
    exact hp
  · rw [qq_1s _ (by omega), show nI (2 ^ (m % 7)) - 1 = nI (2 ^ (m % 7) - 1) from pk_sub (b := 1) q1, pk_andN (by omega) (m % 7) (pk_tn (by omega))]
  · rw [ex30, nI_clamp (by omega), e14]
  · rw [ex30, nI_clamp (by omega), e13]
end
end
section
/-! ===== engine 5: runs, the pure part ===== -/
def qq_st (ls : Nat → Nat) (i : Nat) : Bool := decide (i = 0 ∨ ls i ≠ ls (i - 1))
abbrev qq_rc (ls : Nat → Nat) (m : Nat) : Nat := qq_ct (qq_st ls) m
theorem qq_st0 (ls : Nat → Nat) : qq_st ls 0 = true := decide_eq_true (Or.inl rfl)
theorem qq_st_f {ls : Nat → Nat} {i : Nat} (h : qq_st ls i = false) : 0 < i ∧ ls i = ls (i - 1) := by
  have h := of_decide_eq_false h
  refine ⟨?_, ?_⟩
  · rcases Nat.eq_zero_or_pos i with z | z
    · exact absurd (Or.inl z) h
    · exact z
  · exact Classical.not_not.mp (fun z => h (Or.inr z))
/-- no start within: one letter -/
theorem qq_run_c {ls : Nat → Nat} {s e : Nat} (h : ∀ q, s < q → q < e → qq_st ls q = false) : ∀ d, s + d < e → ls (s + d) = ls s := by
  intro d
  induction d with
  | zero => intro _; rfl
  | succ d ih =>
    intro hd
    have := (qq_st_f (h (s + (d + 1)) (by omega) hd)).2
    rw [this, show s + (d + 1) - 1 = s + d by omega]
    exact ih (by omega)
theorem qq_run_c' {ls : Nat → Nat} {s e q : Nat} (h : ∀ q, s < q → q < e → qq_st ls q = false) (h1 : s ≤ q) (h2 : q < e) : ls q = ls s := by
  have := qq_run_c h (q - s) (by omega)
  rwa [Nat.add_sub_cancel' h1] at this
/-- the run of a place -/
theorem qq_run_of (ls : Nat → Nat) (p : Nat) : ∃ s, s ≤ p ∧ qq_st ls s = true ∧ (∀ q, s < q → q < p + 1 → qq_st ls q = false) := by
  induction p with
  | zero => exact ⟨0, Nat.le_refl 0, qq_st0 ls, fun q h1 h2 => absurd h1 (by omega)⟩
  | succ p ih =>
    cases e : qq_st ls (p + 1)
    · obtain ⟨s, h1, h2, h3⟩ := ih
      refine ⟨s, by omega, h2, fun q q1 q2 => ?_⟩
      by_cases z : q = p + 1
      · rw [z]; exact e
      · exact h3 q q1 (by omega)
    · exact ⟨p + 1, Nat.le_refl _, e, fun q h1 h2 => absurd h1 (by omega)⟩
theorem qq_run_n {ls : Nat → Nat} {s e : Nat} (hs : qq_st ls s = true) (h : s < e) (hc : qq_rc ls e ≤ qq_rc ls s + 1) : ∀ q, s < q → q < e → qq_st ls q = false := by
  intro q h1 h2
  cases z : qq_st ls q
  · rfl
  · have a := qq_ct_t hs
    have b := qq_ct_mono (qq_st ls) (show s + 1 ≤ q by omega)
    have c := qq_ct_lt h2 z
    have hc : qq_ct (qq_st ls) e ≤ qq_ct (qq_st ls) s + 1 := hc
    omega
theorem qq_rk_run {ls : Nat → Nat} {c s e : Nat} (h : s ≤ e) (hc : ∀ q, s ≤ q → q < e → ls q = c) : qq_rk ls c e = qq_rk ls c s + (e - s) := qq_ct_run h (fun q h1 h2 => decide_eq_true (hc q h1 h2))
theorem qq_rk_no {ls : Nat → Nat} {c s e : Nat} (h : s ≤ e) (hc : ∀ q, s ≤ q → q < e → ls q ≠ c) : qq_rk ls c e = qq_rk ls c s := qq_ct_same h (fun q h1 h2 => decide_eq_false (hc q h1 h2))
theorem qq_rc_pos (ls : Nat → Nat) {m : Nat} (h : 0 < m) : 0 < qq_rc ls m := by
  have := qq_ct_lt h (qq_st0 ls)
  have this : qq_ct (qq_st ls) 0 < qq_rc ls m := this
  omega
/-- the last start before m with a letter, its number kept in v; or none, and -1 -/
def qq_LS (ls : Nat → Nat) (c m s : Nat) : Prop := s < m ∧ qq_st ls s = true ∧ ls s = c ∧ ∀ t, s < t → t < m → qq_st ls t = true → ls t ≠ c
def qq_SM (ls : Nat → Nat) (c m : Nat) (v : Int32) : Prop := (∃ s, qq_LS ls c m s ∧ v = nI (qq_rc ls s)) ∨ ((∀ s, s < m → qq_st ls s = true → ls s ≠ c) ∧ v = -1)
def qq_RA (ls : Nat → Nat) (j : Nat) (a17 a18 a19 a20 : Nat → Int32) : Prop :=
  a17 (qq_rc ls j) = nI j ∧ a18 (qq_rc ls j) = nI (ls j) ∧ a19 (qq_rc ls j) = nI (qq_rk ls (ls j) j) ∧ qq_SM ls (ls j) j (a20 (qq_rc ls j))
def qq_RI (n : Nat) (ls : Nat → Nat) (m : Nat) (a17 a18 a19 a20 a21 : Nat → Int32) : Prop :=
  (∀ j, j < m → qq_st ls j = true → qq_RA ls j a17 a18 a19 a20) ∧ (0 < m → a17 (qq_rc ls m) = nI n) ∧ (∀ c, c < 8 → qq_SM ls c m (a21 c))
def qq_RX (n : Nat) (ls : Nat → Nat) (rc : Int32) (a17 a18 a19 a20 a21 : Nat → Int32) : Prop := rc = nI (qq_rc ls n) ∧ qq_RI n ls n a17 a18 a19 a20 a21
/-- after the last start with c before m there is c up to the next start e, and then none -/
theorem qq_LS_rk {ls : Nat → Nat} {c m s e : Nat} (h : qq_LS ls c m s) (hse : s < e) (hem : e ≤ m) (he : qq_rc ls e = qq_rc ls s + 1) (hst : e = m ∨ qq_st ls e = true) : qq_rk ls c m = qq_rk ls c s + (e - s) := by
  obtain ⟨h1, h2, h3, h4⟩ := h
  have nr := qq_run_n h2 hse (by omega)
  rw [← qq_rk_run (c := c) (s := s) (e := e) (by omega) (fun q q1 q2 => by rw [qq_run_c' nr q1 q2]; exact h3)]
  refine qq_rk_no hem (fun q q1 q2 => ?_)
  obtain ⟨t, t1, t2, t3⟩ := qq_run_of ls q
  have et : ls q = ls t := qq_run_c' t3 t1 (by omega)
  rw [et]
  refine h4 t ?_ (by omega) t2
  rcases Nat.lt_or_ge s t with z | z
  · exact z
  · rcases hst with y | y
    · omega
    · have := t3 e (by omega) (by omega)
      rw [this] at y
      exact absurd y (by decide)
theorem qq_SM_skip {ls : Nat → Nat} {c m : Nat} {v : Int32} (h : qq_SM ls c m v) (e : qq_st ls m = false ∨ ls m ≠ c) : qq_SM ls c (m + 1) v := by
  have no : qq_st ls m = true → ls m ≠ c := by
    intro a
    rcases e with e | e
    · rw [e] at a; exact absurd a (by decide)
    · exact e
  rcases h with ⟨s, ⟨h1, h2, h3, h4⟩, hv⟩ | ⟨h1, hv⟩
  · refine Or.inl ⟨s, ⟨by omega, h2, h3, fun t t1 t2 t3 => ?_⟩, hv⟩
    by_cases z : t = m
    · rw [z] at t3 ⊢; exact no t3
    · exact h4 t t1 (by omega) t3
  · refine Or.inr ⟨fun s s1 s2 => ?_, hv⟩
    by_cases z : s = m
    · rw [z] at s2 ⊢; exact no s2
    · exact h1 s (by omega) s2
theorem qq_SM_no {ls : Nat → Nat} {c m : Nat} (h : ∀ s, s < m → qq_st ls s = true → ls s ≠ c) : qq_rk ls c m = 0 := by
  have : qq_rk ls c m = qq_rk ls c 0 := qq_rk_no (by omega) (fun q _ q2 => by
    obtain ⟨t, t1, t2, t3⟩ := qq_run_of ls q
    rw [qq_run_c' t3 t1 (by omega)]
    exact h t (by omega) t2)
  rw [this]
  rfl
theorem qq_RI_skip {n : Nat} {ls : Nat → Nat} {m : Nat} {a17 a18 a19 a20 a21 : Nat → Int32} (h : qq_RI n ls m a17 a18 a19 a20 a21) (e : qq_st ls m = false) : qq_rc ls (m + 1) = qq_rc ls m ∧ qq_RI n ls (m + 1) a17 a18 a19 a20 a21 := by
  obtain ⟨h1, h2, h3⟩ := h
  have er : qq_rc ls (m + 1) = qq_rc ls m := qq_ct_f e
  have hm := (qq_st_f e).1
  refine ⟨er, fun j hj hs => ?_, fun _ => by rw [er]; exact h2 hm, fun c hc => qq_SM_skip (h3 c hc) (Or.inl e)⟩
  by_cases z : j = m
  · rw [z, e] at hs; exact absurd hs (by decide)
  · exact h1 j (by omega) hs
theorem qq_RI_put {n : Nat} {ls : Nat → Nat} {m : Nat} {a17 a18 a19 a20 a21 : Nat → Int32} {v : Int32} (h : qq_RI n ls m a17 a18 a19 a20 a21) (e : qq_st ls m = true) (hv : qq_SM ls (ls m) m v) :
    qq_rc ls (m + 1) = qq_rc ls m + 1 ∧ qq_RI n ls (m + 1) (upd (upd a17 (qq_rc ls m) (nI m)) (qq_rc ls m + 1) (nI n)) (upd a18 (qq_rc ls m) (nI (ls m))) (upd a19 (qq_rc ls m) (nI (qq_rk ls (ls m) m))) (upd a20 (qq_rc ls m) v) (upd a21 (ls m) (nI (qq_rc ls m))) := by
  obtain ⟨h1, h2, h3⟩ := h
  have er : qq_rc ls (m + 1) = qq_rc ls m + 1 := qq_ct_t e
  refine ⟨er, fun j hj hs => ?_, fun _ => by rw [er]; exact pk_us, fun c hc => ?_⟩
  · by_cases z : j = m
    · rw [z]
      refine ⟨by rw [pk_un (by omega), pk_us], pk_us, pk_us, by rw [pk_us]; exact hv⟩
    · have lt := qq_ct_lt (show j < m by omega) hs
      have lt : qq_rc ls j < qq_rc ls m := lt
      obtain ⟨g1, g2, g3, g4⟩ := h1 j (by omega) hs
      exact ⟨by rw [pk_un (by omega), pk_un (by omega)]; exact g1, by rw [pk_un (by omega)]; exact g2, by rw [pk_un (by omega)]; exact g3, by rw [pk_un (by omega)]; exact g4⟩
  · by_cases z : c = ls m
    · rw [z, pk_us]
      exact Or.inl ⟨m, ⟨by omega, e, rfl, fun t t1 t2 => absurd t1 (by omega)⟩, rfl⟩
    · rw [pk_un z]
      exact qq_SM_skip (h3 c hc) (Or.inr (fun q => z q.symm))
section
variable {f0_n f0_isPacked f0_runCount f0_nodes f0_codeSum : Int32} {a1 a2 a3 a4 a5 a6 a7 a8 a9 a10 a11 a12 a13 a14 a15 a16 a17 a18 a19 a20 a21 a22 a23 a24 a25 a26 a27 : Nat → Int32}
theorem wq_runs57 {post : St1 → Prop} {J : Int32 → Int32 → (Nat → Int32) → (Nat → Int32) → (Nat → Int32) → (Nat → Int32) → (Nat → Int32) → (Nat → Int32) → (Nat → Int32) → (Nat → Int32) → (Nat → Int32) → (Nat → Int32) → (Nat → Int32) → (Nat → Int32) → (Nat → Int32) → (Nat → Int32) → (Nat → Int32) → (Nat → Int32) → (Nat → Int32) → (Nat → Int32) → (Nat → Int32) → (Nat → Int32) → (Nat → Int32) → (Nat → Int32) → (Nat → Int32) → (Nat → Int32) → (Nat → Int32) → (Nat → Int32) → (Nat → Int32) → Prop} {n : Nat} {ls : Nat → Nat} (m : Nat) (hm : m < n) (hn : n ≤ 200) (hL : ∀ i, i < n → a1 i = nI (ls i)) (hcl : ∀ i, i < n → ls i < 8)
    (I : qq_RI n ls m a17 a18 a19 a20 a21) (e : qq_st ls m = true)
    (H : ∀ s17 s18 s19 s20 s21, qq_RI n ls (m + 1) s17 s18 s19 s20 s21 → J (nI (m + 1)) (nI (qq_rc ls (m + 1))) a1 a2 a3 a4 a5 a6 a7 a8 a9 a10 a11 a12 a13 a14 a15 a16 s17 s18 s19 s20 s21 a22 a23 a24 a25 a26 a27) :
    wX_packRuns_57 post J (nI m) (nI n) f0_isPacked (nI (qq_rc ls m)) f0_nodes f0_codeSum a1 a2 a3 a4 a5 a6 a7 a8 a9 a10 a11 a12 a13 a14 a15 a16 a17 a18 a19 a20 a21 a22 a23 a24 a25 a26 a27 := by
  have e8 := hcl m hm
  have ea : a1 (nI m).toNatClampNeg = nI (ls m) := qq_rd m (hL m hm)
  have cm : qq_rc ls m ≤ m := qq_ct_le _ _
  have h1 := I.1
  have tail : ∀ (v z0 : Int32), qq_SM ls (ls m) m v → z0 = nI (qq_rk ls (ls m) m) → wX_packRuns_142 post J (nI m) (nI (ls m)) z0 (nI (qq_rc ls m)) (nI n) f0_isPacked (nI (qq_rc ls m)) f0_nodes f0_codeSum a1 a2 a3 a4 a5 a6 a7 a8 a9 a10 a11 a12 a13 a14 a15 a16 (upd a17 (qq_rc ls m) (nI m)) (upd a18 (qq_rc ls m) (nI (ls m))) a19 (upd a20 (qq_rc ls m) v) a21 a22 a23 a24 a25 a26 a27 := by
    intro v z0 hv hz
    subst hz
    obtain ⟨g1, g2⟩ := qq_RI_put I e hv
    have rk : qq_rk ls (ls m) m ≤ m := qq_ct_le _ _
    refine And.intro (pk_in (qq_rc ls m) 200 (by omega)) (nm_r (e' := upd a19 (qq_rc ls m) (nI (qq_rk ls (ls m) m))) ?_ ⟨pk_in _ 8 e8, nm_r (e' := upd a21 (ls m) (nI (qq_rc ls m))) ?_ (nm_r (nI_1 _) ⟨pk_in (qq_rc ls m + 1) 201 (by omega), nm_r (e' := upd (upd a17 (qq_rc ls m) (nI m)) (qq_rc ls m + 1) (nI n)) ?_ (nm_r (nI_1 m) ?_)⟩)⟩)
    · rw [nI_clamp (by omega), qq_i16 (by omega)]
    · rw [nI_clamp (by omega), qq_i16 (by omega)]
    · rw [nI_clamp (by omega), qq_i16 (by omega)]
    · have := H _ _ _ _ _ g2
      rw [g1] at this
      exact this
  have hv := I.2.2 (ls m) e8
  refine And.intro (pk_in m 200 (by omega)) (nm_r ea ⟨pk_in _ 8 e8, nm_r (e' := a21 (ls m)) ?_ ⟨pk_in (qq_rc ls m) 201 (by omega), nm_r (e' := upd a17 (qq_rc ls m) (nI m)) ?_ ⟨pk_in (qq_rc ls m) 200 (by omega), nm_r (e' := upd a18 (qq_rc ls m) (nI (ls m))) ?_ ⟨pk_in (qq_rc ls m) 200 (by omega), nm_r (e' := upd a20 (qq_rc ls m) (a21 (ls m))) ?_ ?_⟩⟩⟩⟩)
  · rw [nI_clamp (by omega)]
  · rw [nI_clamp (by omega), qq_i16 (by omega)]
  · rw [nI_clamp (by omega), qq_i8 _ (by omega)]
  · rw [nI_clamp (by omega)]
    rcases hv with ⟨s, hs, es⟩ | ⟨_, es⟩
    · have cs : qq_rc ls s ≤ s := qq_ct_le _ _
      have := hs.1
      rw [es, qq_i16 (by omega)]
    · rw [es]
      exact congrArg _ (by decide)
  · have hv' := hv
    rcases hv with ⟨s, hs, es⟩ | ⟨hno, es⟩
    · have cs : qq_rc ls s ≤ s := qq_ct_le _ _
      have sm := hs.1
      have lt : qq_rc ls s < qq_rc ls m := qq_ct_lt sm hs.2.1
      obtain ⟨q1, q2, q3, q4⟩ := h1 s sm hs.2.1
      rw [hs.2.2.1] at q3
      -- the next start
      have nx : ∃ t, s < t ∧ t ≤ m ∧ qq_rc ls t = qq_rc ls s + 1 ∧ qq_st ls t = true ∧ upd a17 (qq_rc ls m) (nI m) (qq_rc ls s + 1) = nI t := by
        by_cases z : qq_rc ls s + 1 = qq_rc ls m
        · exact ⟨m, sm, Nat.le_refl m, z.symm, e, by rw [z, pk_us]⟩
        · obtain ⟨t, t1, t2, t3⟩ := qq_ct_find (p := qq_st ls) (k := qq_rc ls s + 1) (n := m) (by
            show _ < qq_rc ls m
            omega)
          have t3 : qq_rc ls t = qq_rc ls s + 1 := t3
          have st : s < t := by
            rcases Nat.lt_or_ge s t with y | y
            · exact y
            · have : qq_rc ls t ≤ qq_rc ls s := qq_ct_mono _ y
              omega
          refine ⟨t, st, by omega, t3, t2, ?_⟩
          rw [pk_un z, ← t3]
          exact (h1 t t1 t2).1
      obtain ⟨t, t1, t2, t3, t4, t5⟩ := nx
      have rk := qq_LS_rk hs t1 t2 t3 (Or.inr t4)
      have rs : qq_rk ls (ls m) s ≤ s := qq_ct_le _ _
      refine br_t (by rw [es]; exact nI_pos' (by omega)) ⟨pk_in _ 200 (by omega) es, pk_in (qq_rc ls s + 1) 201 (by omega) (by rw [es, nI_1]), pk_in _ 201 (by omega) es, tail _ _ hv' ?_⟩
      rw [es, nI_1, nI_clamp (by omega), nI_clamp (by omega), t5, q3, pk_un (by omega), q1, nI_add, pk_sub (by omega), rk]
      congr 1
      omega
    · refine br_f (by rw [es]; decide) (tail _ _ hv' ?_)
      rw [qq_SM_no hno]
      rfl
theorem wq_packRuns {post : St1 → Prop} {n : Nat} {ls : Nat → Nat} (hn : n ≤ 200) (hL : ∀ i, i < n → a1 i = nI (ls i)) (hcl : ∀ i, i < n → ls i < 8)
    (H : ∀ rc s17 s18 s19 s20 s21, qq_RX n ls rc s17 s18 s19 s20 s21 → post (nI n, f0_isPacked, rc, f0_nodes, f0_codeSum, a1, a2, a3, a4, a5, a6, a7, a8, a9, a10, a11, a12, a13, a14, a15, a16, s17, s18, s19, s20, s21, a22, a23, a24, a25, a26, a27)) : wpX_packRuns post (nI n, f0_isPacked, f0_runCount, f0_nodes, f0_codeSum, a1, a2, a3, a4, a5, a6, a7, a8, a9, a10, a11, a12, a13, a14, a15, a16, a17, a18, a19, a20, a21, a22, a23, a24, a25, a26, a27) := by
  refine pk_loop (σ := Nat → Int32) (fun f c s => wX_packRuns_7 post (nI n) f0_isPacked 0 f0_nodes f0_codeSum f (nI c) a1 a2 a3 a4 a5 a6 a7 a8 a9 a10 a11 a12 a13 a14 a15 a16 a17 a18 a19 a20 s a22 a23 a24 a25 a26 a27) (fun c s => ∀ d, d < c → s d = -1) 8 0 a21 (by omega) (fun d hd => absurd hd (by omega)) ?_ ?_
  rotate_left
  · intro f c s hc h hk
    refine pk_le 8 c (fun z => absurd z (by omega)) (fun _ => ⟨pk_in c 8 hc, nm_r (e' := upd s c (-1)) (by rw [nI_clamp (by omega)]) (nm_r (nI_1 c) (hk _ ?_))⟩)
    intro d hd
    by_cases z : d = c
    · rw [z, pk_us]
    · rw [pk_un z]
      exact h d (by omega)
  intro f s h
  refine pk_le 8 8 (fun _ => ?_) (fun z => absurd z (by omega))
  refine pk_loop (σ := Int32 × (Nat → Int32) × (Nat → Int32) × (Nat → Int32) × (Nat → Int32) × (Nat → Int32)) (fun g m t => wX_packRuns_28 post (nI n) f0_isPacked f0_nodes f0_codeSum g (nI m) t.1 a1 a2 a3 a4 a5 a6 a7 a8 a9 a10 a11 a12 a13 a14 a15 a16 t.2.1 t.2.2.1 t.2.2.2.1 t.2.2.2.2.1 t.2.2.2.2.2 a22 a23 a24 a25 a26 a27)
    (fun m t => t.1 = nI (qq_rc ls m) ∧ qq_RI n ls m t.2.1 t.2.2.1 t.2.2.2.1 t.2.2.2.2.1 t.2.2.2.2.2) n 0 (0, a17, a18, a19, a20, s) (by omega) ⟨rfl, ?_⟩ ?_ ?_
  · exact ⟨fun j hj => absurd hj (by omega), fun z => absurd z (by omega), fun c hc => Or.inr ⟨fun s hs => absurd hs (by omega), h c hc⟩⟩
  · intro g ⟨rc, s17, s18, s19, s20, s21⟩ ⟨k1, k2⟩
    exact pk_le n n (fun _ => H rc s17 s18 s19 s20 s21 ⟨k1, k2⟩) (fun z => absurd z (by omega))
  · intro g m ⟨rc, s17, s18, s19, s20, s21⟩ hm ⟨k1, k2⟩ hk
    have k1 : rc = nI (qq_rc ls m) := k1
    have k2 : qq_RI n ls m s17 s18 s19 s20 s21 := k2
    subst k1
    have e8 := hcl m hm
    have go : qq_st ls m = true → wX_packRuns_57 post (wX_packRuns_28 post (nI n) f0_isPacked f0_nodes f0_codeSum g) (nI m) (nI n) f0_isPacked (nI (qq_rc ls m)) f0_nodes f0_codeSum a1 a2 a3 a4 a5 a6 a7 a8 a9 a10 a11 a12 a13 a14 a15 a16 s17 s18 s19 s20 s21 a22 a23 a24 a25 a26 a27 := by
      intro e
      exact wq_runs57 m hm hn hL hcl k2 e (fun t17 t18 t19 t20 t21 q => hk (nI _, t17, t18, t19, t20, t21) ⟨rfl, q⟩)
    refine pk_le n m (fun z => absurd z (by omega)) (fun _ => pk_eq m 0 (fun z => go (decide_eq_true (Or.inl z))) (fun z => ⟨pk_in m 200 (by omega), pk_in (m - 1) 200 (by omega) (pk_sub (b := 1) (by omega)), pk_eq (ls m) (ls (m - 1)) (fun y => ?_) (fun y => go (decide_eq_true (Or.inr y))) (qq_rd m (hL m hm)) (qq_rd (m - 1) (hL (m - 1) (by omega)) (pk_sub (b := 1) (by omega))) (by omega) (by have := hcl (m - 1) (by omega); omega)⟩))
    obtain ⟨g1, g2⟩ := qq_RI_skip k2 (show qq_st ls m = false from decide_eq_false (fun q => by
      rcases q with q | q
      · exact z q
      · exact q y))
    exact nm_r (nI_1 m) (hk (nI _, s17, s18, s19, s20, s21) ⟨by show nI _ = nI _; rw [g1], g2⟩)
end
end
section
/-! ===== engine 5: asked ===== -/
theorem qq_m1 (x : Int32) : x - 1 = x + (-1) := Int32.sub_eq_add_neg x 1
section
variable {f0_n f0_isPacked f0_runCount f0_nodes f0_codeSum : Int32} {a1 a2 a3 a4 a5 a6 a7 a8 a9 a10 a11 a12 a13 a14 a15 a16 a17 a18 a19 a20 a21 a22 a23 a24 a25 a26 a27 : Nat → Int32}
theorem wq_rb35_0 {post : Int32 → Prop} {J : Int32 → Int32 → Prop} {x1 x2 x3 x4 : Int32} (h : J x2 x4) : wX_runBeforePlace_35 post J x1 x2 x3 x4 0 f0_n f0_isPacked f0_runCount f0_nodes f0_codeSum a1 a2 a3 a4 a5 a6 a7 a8 a9 a10 a11 a12 a13 a14 a15 a16 a17 a18 a19 a20 a21 a22 a23 a24 a25 a26 a27 := br_t rfl (br_t rfl h)
theorem wq_rb35_1 {post : Int32 → Prop} {J : Int32 → Int32 → Prop} {x1 x2 x3 x4 v : Int32} (e : x4 + 1 = v) (h : J v x3) : wX_runBeforePlace_35 post J x1 x2 x3 x4 1 f0_n f0_isPacked f0_runCount f0_nodes f0_codeSum a1 a2 a3 a4 a5 a6 a7 a8 a9 a10 a11 a12 a13 a14 a15 a16 a17 a18 a19 a20 a21 a22 a23 a24 a25 a26 a27 := by
  subst e
  exact br_f (by decide) (br_f (by decide) h)
theorem wq_rbp {post : Int32 → Prop} {x : Int32} {n : Nat} {ls : Nat → Nat} (m : Nat) (hm : m ≤ n) (hn : n ≤ 200) (R : qq_RX n ls f0_runCount a17 a18 a19 a20 a21)
    (hp : post (nI (qq_rc ls m) + (-1))) (hx : x = nI m := by rfl) : wpX_runBeforePlace post (nI n, f0_isPacked, f0_runCount, f0_nodes, f0_codeSum, a1, a2, a3, a4, a5, a6, a7, a8, a9, a10, a11, a12, a13, a14, a15, a16, a17, a18, a19, a20, a21, a22, a23, a24, a25, a26, a27) x := by
  subst hx
  obtain ⟨rfl, I1, I2, I3⟩ := R
  have cm : qq_rc ls m ≤ qq_rc ls n := qq_ct_mono _ hm
  have cn : qq_rc ls n ≤ n := qq_ct_le _ _
  refine loop_m (σ := Nat × Nat) (fun f s => wX_runBeforePlace_7 post (nI m) (nI n) f0_isPacked (nI (qq_rc ls n)) f0_nodes f0_codeSum a1 a2 a3 a4 a5 a6 a7 a8 a9 a10 a11 a12 a13 a14 a15 a16 a17 a18 a19 a20 a21 a22 a23 a24 a25 a26 a27 f (nI s.1) (nI s.2)) (fun s => s.1 ≤ qq_rc ls m ∧ qq_rc ls m ≤ s.2 ∧ s.2 ≤ qq_rc ls n) (fun s => s.2 - s.1) ?_ (0, qq_rc ls n) ⟨by omega, cm, Nat.le_refl _⟩
  intro f ⟨lo, hi⟩ ⟨g1, g2, g3⟩ hw
  have g1 : lo ≤ qq_rc ls m := g1
  have g2 : qq_rc ls m ≤ hi := g2
  have g3 : hi ≤ qq_rc ls n := g3
  refine pk_le hi lo (fun g => ?_) (fun g => ⟨by decide, nm_r (qq_mid (by omega)) ⟨pk_in ((lo + hi) / 2) 201 (by omega), ?_⟩⟩)
  · have : lo = qq_rc ls m := by omega
    subst this
    rw [qq_m1]
    exact hp
  · obtain ⟨p, p1, p2, p3⟩ := qq_ct_find (p := qq_st ls) (k := (lo + hi) / 2) (n := n) (by
      show _ < qq_rc ls n
      omega)
    have p3 : qq_rc ls p = (lo + hi) / 2 := p3
    have a := (I1 p p1 p2).1
    rw [p3] at a
    refine pk_le m p (fun g2' => wq_rb35_0 (hw (lo, (lo + hi) / 2) ⟨g1, ?_, ?_⟩ ?_)) (fun g2' => wq_rb35_1 (nI_1 _) (hw ((lo + hi) / 2 + 1, hi) ⟨?_, g2, g3⟩ ?_)) rfl (qq_rd _ a)
    · show qq_rc ls m ≤ (lo + hi) / 2
      rw [← p3]
      exact qq_ct_mono _ g2'
    · show (lo + hi) / 2 ≤ qq_rc ls n
      omega
    · show (lo + hi) / 2 - lo < hi - lo
      omega
    · show (lo + hi) / 2 + 1 ≤ qq_rc ls m
      have : qq_rc ls p < qq_rc ls m := qq_ct_lt g2' p2
      omega
    · show hi - ((lo + hi) / 2 + 1) < hi - lo
      omega
theorem wq_rr26 {post : Int32 → Prop} {n : Nat} {ls : Nat → Nat} (c m k s e : Nat) (hm : m ≤ n) (hn : n ≤ 200) (I : qq_RI n ls n a17 a18 a19 a20 a21) (hs : qq_st ls s = true) (hsm : s < m) (hk : qq_rc ls s = k) (hc : ls s = c) (hse : s < e) (hem : e ≤ m)
    (he : qq_rc ls e = k + 1) (hb : e = m ∨ qq_st ls e = true) (hbm : e = m → qq_rc ls m = k + 1)
    (hr : qq_rk ls c e = qq_rk ls c m) (hp : post (nI (qq_rk ls c m))) : wX_rankInRuns_26 post (nI m) (nI k) (nI n) f0_isPacked f0_runCount f0_nodes f0_codeSum a1 a2 a3 a4 a5 a6 a7 a8 a9 a10 a11 a12 a13 a14 a15 a16 a17 a18 a19 a20 a21 a22 a23 a24 a25 a26 a27 := by
  obtain ⟨I1, I2, I3⟩ := I
  obtain ⟨q1, q2, q3, q4⟩ := I1 s (by omega) hs
  rw [hc] at q3
  rw [hk] at q1 q3
  have nr := qq_run_n hs hse (by omega)
  have rr : qq_rk ls c e = qq_rk ls c s + (e - s) := qq_rk_run (by omega) (fun q g1 g2 => by rw [qq_run_c' nr g1 g2]; exact hc)
  have ks : k ≤ s := by rw [← hk]; exact qq_ct_le _ _
  have rs : qq_rk ls c s ≤ s := qq_ct_le _ _
  have fin : ∀ v : Int32, v = nI e → wX_rankInRuns_56 post (nI k) v (nI n) f0_isPacked f0_runCount f0_nodes f0_codeSum a1 a2 a3 a4 a5 a6 a7 a8 a9 a10 a11 a12 a13 a14 a15 a16 a17 a18 a19 a20 a21 a22 a23 a24 a25 a26 a27 := by
    intro v hv
    subst hv
    refine And.intro (pk_in k 200 (by omega)) (And.intro (pk_in k 201 (by omega)) ?_)
    rw [nI_clamp (by omega), q3, q1, nI_add, pk_sub (by omega), show qq_rk ls c s + e - s = qq_rk ls c e by omega, hr]
    exact hp
  -- where the next run begins
  have nx : ∃ t, a17 (k + 1) = nI t ∧ t ≤ n ∧ e ≤ t ∧ (e < m → t = e) := by
    rcases hb with z | z
    · -- e = m
      have hcm := hbm z
      by_cases y : qq_rc ls n = k + 1
      · exact ⟨n, by rw [← y]; exact I2 (by omega), Nat.le_refl n, by omega, fun w => absurd w (by omega)⟩
      · have mn : qq_rc ls m ≤ qq_rc ls n := qq_ct_mono _ hm
        obtain ⟨t, t1, t2, t3⟩ := qq_ct_find (p := qq_st ls) (k := k + 1) (n := n) (by
          show _ < qq_rc ls n
          omega)
        have t3 : qq_rc ls t = k + 1 := t3
        refine ⟨t, by rw [← t3]; exact (I1 t t1 t2).1, by omega, ?_, fun w => absurd w (by omega)⟩
        rcases Nat.lt_or_ge t e with w | w
        · have : qq_rc ls t < qq_rc ls e := qq_ct_lt w t2
          omega
        · exact w
    · by_cases y : e < n
      · exact ⟨e, by rw [← he]; exact (I1 e y z).1, by omega, Nat.le_refl e, fun _ => rfl⟩
      · have en : e = n := by omega
        refine ⟨n, ?_, Nat.le_refl n, by omega, fun w => absurd w (by omega)⟩
        rw [← he, en]
        exact I2 (by omega)
  obtain ⟨t, t1, t2, t3, t4⟩ := nx
  have et : a17 (nI k + 1).toNatClampNeg = nI t := qq_rd (k + 1) t1 (nI_1 k)
  refine pk_le 0 k (fun _ => ⟨pk_in (k + 1) 201 (by omega) (nI_1 k), pk_le m t (fun g => fin _ ?_) (fun g => ⟨pk_in (k + 1) 201 (by omega) (nI_1 k), fin _ ?_⟩) rfl et⟩) (fun z => absurd z (by omega))
  · congr 1
    rcases Nat.lt_or_ge e m with z | z
    · have := t4 z; omega
    · omega
  · rw [et]
    congr 1
    exact t4 (by omega)
theorem wq_rankRuns {post : Int32 → Prop} {x y : Int32} {n : Nat} {ls : Nat → Nat} (c m : Nat) (hc : c < 8) (hm : m ≤ n) (hn : n ≤ 200) (hcl : ∀ i, i < n → ls i < 8)
    (R : qq_RX n ls f0_runCount a17 a18 a19 a20 a21) (hp : post (nI (qq_rk ls c m))) (hx : x = nI c := by rfl) (hy : y = nI m := by rfl) : wpX_rankInRuns post (nI n, f0_isPacked, f0_runCount, f0_nodes, f0_codeSum, a1, a2, a3, a4, a5, a6, a7, a8, a9, a10, a11, a12, a13, a14, a15, a16, a17, a18, a19, a20, a21, a22, a23, a24, a25, a26, a27) x y := by
  subst hx hy
  refine wq_rbp m hm hn R ?_
  obtain ⟨_, I⟩ := R
  have I1 := I.1
  have cm : qq_rc ls m ≤ m := qq_ct_le _ _
  refine ⟨qq_rc ls m + 1, pk_loopD (σ := Unit) (fun f k _ => wX_rankInRuns_6 post (nI c) (nI m) (nI n) f0_isPacked f0_runCount f0_nodes f0_codeSum a1 a2 a3 a4 a5 a6 a7 a8 a9 a10 a11 a12 a13 a14 a15 a16 a17 a18 a19 a20 a21 a22 a23 a24 a25 a26 a27 f (nI k + (-1)))
    (fun k _ => ∃ e, e ≤ m ∧ qq_rk ls c e = qq_rk ls c m ∧ qq_rc ls e = k ∧ (e = m ∨ qq_st ls e = true)) ?_ ?_ (qq_rc ls m) () ⟨m, Nat.le_refl m, rfl, rfl, Or.inl rfl⟩⟩
  · intro f _ ⟨e, e1, e2, e3, _⟩
    have e0 : e = 0 := by
      rcases Nat.eq_zero_or_pos e with z | z
      · exact z
      · have := qq_rc_pos ls z; omega
    refine br_t (by decide) (br_f (by decide) ?_)
    rw [← e2, e0] at hp
    exact hp
  · intro f k _ ⟨e, e1, e2, e3, e4⟩ hk
    -- the run before e
    obtain ⟨s, s1, s2, s3⟩ := qq_ct_find (p := qq_st ls) (k := k) (n := e) (by
      show _ < qq_rc ls e
      omega)
    have s3 : qq_rc ls s = k := s3
    have ke : k ≤ s := by rw [← s3]; exact qq_ct_le _ _
    obtain ⟨q1, q2, q3, q4⟩ := I1 s (by omega) s2
    rw [s3] at q2
    have l8 := hcl s (by omega)
    show wX_rankInRuns_6 post (nI c) (nI m) (nI n) f0_isPacked f0_runCount f0_nodes f0_codeSum a1 a2 a3 a4 a5 a6 a7 a8 a9 a10 a11 a12 a13 a14 a15 a16 a17 a18 a19 a20 a21 a22 a23 a24 a25 a26 a27 (f + 1) (nI (k + 1) + (-1))
    rw [pk_m1]
    refine pk_lt k 0 (fun z => absurd z (by omega)) (fun _ => ⟨pk_in k 200 (by omega), pk_eq (ls s) c (fun z => ?_) (fun z => nm_e (hk () ⟨s, by omega, ?_, s3, Or.inr s2⟩)) (qq_rd k q2)⟩)
    · exact wq_rr26 c m k s e hm hn I s2 (by omega) s3 z s1 e1 e3 e4 (fun w => by rw [← w]; exact e3) e2 hp
    · have nr := qq_run_n s2 s1 (by omega)
      rw [← e2]
      exact (qq_rk_no (by omega) (fun q g1 g2 => by rw [qq_run_c' nr g1 g2]; exact z)).symm
theorem wq_atRuns {post : Int32 → Prop} {x : Int32} {n : Nat} {ls : Nat → Nat} (m : Nat) (hm : m < n) (hn : n ≤ 200)
    (R : qq_RX n ls f0_runCount a17 a18 a19 a20 a21) (hp : post (nI (ls m))) (hx : x = nI m := by rfl) : wpX_runBeforePlace (fun r => vp_in r 200 ∧ post (a18 r.toNatClampNeg)) (nI n, f0_isPacked, f0_runCount, f0_nodes, f0_codeSum, a1, a2, a3, a4, a5, a6, a7, a8, a9, a10, a11, a12, a13, a14, a15, a16, a17, a18, a19, a20, a21, a22, a23, a24, a25, a26, a27) (x + 1) := by
  subst hx
  refine wq_rbp (m + 1) (by omega) hn R ?_ (nI_1 m)
  obtain ⟨_, I1, _, _⟩ := R
  obtain ⟨s, s1, s2, s3⟩ := qq_run_of ls m
  have e : qq_rc ls (m + 1) = qq_rc ls s + 1 := by
    rw [show qq_rc ls (m + 1) = qq_ct (qq_st ls) (s + 1) from qq_ct_same (by omega) (fun q g1 g2 => s3 q (by omega) g2)]
    exact qq_ct_t s2
  have cs : qq_rc ls s ≤ s := qq_ct_le _ _
  obtain ⟨_, q2, _, _⟩ := I1 s (by omega) s2
  rw [e, pk_m1]
  refine ⟨pk_in (qq_rc ls s) 200 (by omega), ?_⟩
  rw [nI_clamp (by omega), q2, ← qq_run_c' s3 s1 (by omega)]
  exact hp
theorem wq_selRuns {post : Int32 → Prop} {x y : Int32} {n : Nat} {ls : Nat → Nat} (c k p : Nat) (hc : c < 8) (hpn : p < n) (hpc : ls p = c) (hpk : qq_rk ls c p = k) (hn : n ≤ 200)
    (R : qq_RX n ls f0_runCount a17 a18 a19 a20 a21) (hp : post (nI p)) (hx : x = nI c := by rfl) (hy : y = nI k := by rfl) : wpX_selectInRuns post (nI n, f0_isPacked, f0_runCount, f0_nodes, f0_codeSum, a1, a2, a3, a4, a5, a6, a7, a8, a9, a10, a11, a12, a13, a14, a15, a16, a17, a18, a19, a20, a21, a22, a23, a24, a25, a26, a27) x y := by
  subst hx hy
  obtain ⟨_, I1, _, I3⟩ := R
  obtain ⟨s0, h1, h2, h3⟩ := qq_run_of ls p
  have l0 : ls s0 = c := by rw [← qq_run_c' h3 h1 (by omega)]; exact hpc
  have kp : k ≤ p := by rw [← hpk]; exact qq_ct_le _ _
  have last : ∃ s, s < n ∧ s0 ≤ s ∧ qq_st ls s = true ∧ ls s = c ∧ a21 c = nI (qq_rc ls s) := by
    rcases I3 c hc with ⟨s, ⟨g1, g2, g3, g4⟩, g5⟩ | ⟨g1, _⟩
    · refine ⟨s, g1, ?_, g2, g3, g5⟩
      rcases Nat.lt_or_ge s s0 with z | z
      · exact absurd l0 (g4 s0 z (by omega) h2)
      · exact z
    · exact absurd l0 (g1 s0 (by omega) h2)
  obtain ⟨s, g1, g2, g3, g4, g5⟩ := last
  refine And.intro (pk_in c 8 hc) (nm_r (qq_rd c g5) ?_)
  refine loop_m (σ := Nat) (fun f s => wX_selectInRuns_7 post (nI k) (nI n) f0_isPacked f0_runCount f0_nodes f0_codeSum a1 a2 a3 a4 a5 a6 a7 a8 a9 a10 a11 a12 a13 a14 a15 a16 a17 a18 a19 a20 a21 a22 a23 a24 a25 a26 a27 f (nI (qq_rc ls s))) (fun s => s < n ∧ s0 ≤ s ∧ qq_st ls s = true ∧ ls s = c) (fun s => s) ?_ s ⟨g1, g2, g3, g4⟩
  clear g1 g2 g3 g4 g5
  intro f s ⟨g1, g2, g3, g4⟩ hh
  have g1 : s < n := g1
  have g2 : s0 ≤ s := g2
  have cs : qq_rc ls s ≤ s := qq_ct_le _ _
  have rs : qq_rk ls c s ≤ s := qq_ct_le _ _
  obtain ⟨q1, q2, q3, q4⟩ := I1 s g1 g3
  rw [g4] at q3 q4
  refine And.intro (pk_in (qq_rc ls s) 200 (by omega)) (pk_le (qq_rk ls c s) k (fun z => ⟨pk_in (qq_rc ls s) 201 (by omega), pk_in (qq_rc ls s) 200 (by omega), ?_⟩) (fun z => ⟨pk_in (qq_rc ls s) 200 (by omega), ?_⟩) (qq_rd _ q3))
  · have sp : s ≤ p := by
      rcases Nat.lt_or_ge p s with w | w
      · have : qq_rk ls c p < qq_rk ls c s := qq_ct_lt w (decide_eq_true hpc)
        omega
      · exact w
    have e : s = s0 := by
      rcases Nat.lt_or_ge s0 s with w | w
      · have := h3 s w (by omega)
        rw [this] at g3
        exact absurd g3 (by decide)
      · omega
    have rr : qq_rk ls c p = qq_rk ls c s + (p - s) := qq_rk_run sp (fun q w1 w2 => by rw [qq_run_c' h3 (by omega) (by omega)]; exact l0)
    rw [nI_clamp (by omega), q1, q3, nI_add, pk_sub (by omega), show s + k - qq_rk ls c s = p by omega]
    exact hp
  · rcases q4 with ⟨t, ⟨t1, t2, t3, t4⟩, t5⟩ | ⟨t1, _⟩
    · refine nm_r (qq_rd _ t5) (hh t ⟨by omega, ?_, t2, t3⟩ t1)
      have ps : p < s := by
        rcases Nat.lt_or_ge p s with w | w
        · exact w
        · have : qq_rk ls c s ≤ qq_rk ls c p := qq_ct_mono _ w
          omega
      rcases Nat.lt_or_ge t s0 with w | w
      · exact absurd l0 (t4 s0 w (by omega) h2)
      · exact w
    · have ps : p < s := by
        rcases Nat.lt_or_ge p s with w | w
        · exact w
        · have : qq_rk ls c s ≤ qq_rk ls c p := qq_ct_mono _ w
          omega
      exact absurd l0 (t1 s0 (by omega) h2)
end
end
section
/-! ===== engine 6: the tree of codes, the pure part ===== -/
def qq_fr (w : Nat → Nat) (jd : Nat → Bool) (y : Nat) : Bool := !jd y && decide (0 < w y)
def qq_hr (w : Nat → Nat) (jd : Nat → Bool) : Nat → Option Nat
  | 0 => none
  | k + 1 => if qq_fr w jd k = true then (match qq_hr w jd k with | none => some k | some b => if w b ≤ w k then some b else some k) else qq_hr w jd k
theorem qq_hr_ok (w : Nat → Nat) (jd : Nat → Bool) (k : Nat) : (∀ b, qq_hr w jd k = some b → b < k ∧ qq_fr w jd b = true) ∧ (qq_hr w jd k = none → ∀ x, x < k → qq_fr w jd x = false) := by
  induction k with
  | zero => exact ⟨fun b h => absurd h (by unfold qq_hr; simp), fun _ x hx => absurd hx (by omega)⟩
  | succ k ih =>
    obtain ⟨i1, i2⟩ := ih
    unfold qq_hr
    by_cases f : qq_fr w jd k = true
    · rw [if_pos f]
      cases e : qq_hr w jd k with
      | none => exact ⟨fun b h => by injection h with h; subst h; exact ⟨by omega, f⟩, fun h => absurd h (by simp)⟩
      | some c =>
        obtain ⟨j1, j2⟩ := i1 c e
        dsimp only
        by_cases g : w c ≤ w k
        · rw [if_pos g]
          exact ⟨fun b h => by injection h with h; subst h; exact ⟨by omega, j2⟩, fun h => absurd h (by simp)⟩
        · rw [if_neg g]
          exact ⟨fun b h => by injection h with h; subst h; exact ⟨by omega, f⟩, fun h => absurd h (by simp)⟩
    · rw [if_neg f]
      refine ⟨fun b h => ?_, fun h x hx => ?_⟩
      · obtain ⟨j1, j2⟩ := i1 b h
        exact ⟨by omega, j2⟩
      · by_cases z : x = k
        · rw [z]
          exact Bool.eq_false_iff.mpr f
        · exact i2 h x (by omega)
def qq_set (f : Nat → Bool) (k : Nat) : Nat → Bool := fun j => if j = k then true else f j
def qq_put (f : Nat → Nat) (k v : Nat) : Nat → Nat := fun j => if j = k then v else f j
theorem qq_put_s (f : Nat → Nat) (k v : Nat) : qq_put f k v k = v := if_pos rfl
theorem qq_put_n {f : Nat → Nat} {k v j : Nat} (h : j ≠ k) : qq_put f k v j = f j := if_neg h
theorem qq_set_s (f : Nat → Bool) (k : Nat) : qq_set f k k = true := if_pos rfl
theorem qq_set_n {f : Nat → Bool} {k j : Nat} (h : j ≠ k) : qq_set f k j = f j := if_neg h
def qq_hs : Nat → Nat → Nat → (Nat → Nat) → (Nat → Bool) → Nat × Nat
  | 0, N, cs, _, _ => (N, cs)
  | f + 1, N, cs, w, jd => match qq_hr w jd (8 + N) with
    | none => (N, cs)
    | some a => match qq_hr w (qq_set jd a) (8 + N) with
      | none => (N, cs)
      | some b => qq_hs f (N + 1) (cs + (w a + w b)) (qq_put w (8 + N) (w a + w b)) (qq_set (qq_set jd a) b)
theorem qq_hr_f {w : Nat → Nat} {jd : Nat → Bool} {k : Nat} (f : qq_fr w jd k = false) : qq_hr w jd (k + 1) = qq_hr w jd k := by
  show (if qq_fr w jd k = true then _ else _) = _
  rw [if_neg (by rw [f]; decide)]
theorem qq_hr_n {w : Nat → Nat} {jd : Nat → Bool} {k : Nat} (f : qq_fr w jd k = true) (e : qq_hr w jd k = none) : qq_hr w jd (k + 1) = some k := by
  unfold qq_hr
  rw [if_pos f, e]
theorem qq_hr_b {w : Nat → Nat} {jd : Nat → Bool} {k b : Nat} (f : qq_fr w jd k = true) (e : qq_hr w jd k = some b) : qq_hr w jd (k + 1) = if w b ≤ w k then some b else some k := by
  rw [qq_hr, if_pos f, e]
theorem qq_hs_0 {g N cs : Nat} {w : Nat → Nat} {jd : Nat → Bool} (ea : qq_hr w jd (8 + N) = none) : qq_hs (g + 1) N cs w jd = (N, cs) := by
  rw [qq_hs, ea]
theorem qq_hs_1 {g N cs a : Nat} {w : Nat → Nat} {jd : Nat → Bool} (ea : qq_hr w jd (8 + N) = some a) (eb : qq_hr w (qq_set jd a) (8 + N) = none) : qq_hs (g + 1) N cs w jd = (N, cs) := by
  rw [qq_hs, ea]
  show (match qq_hr w (qq_set jd a) (8 + N) with | none => (N, cs) | some b => _) = _
  rw [eb]
theorem qq_hs_2 {g N cs a b : Nat} {w : Nat → Nat} {jd : Nat → Bool} (ea : qq_hr w jd (8 + N) = some a) (eb : qq_hr w (qq_set jd a) (8 + N) = some b) : qq_hs (g + 1) N cs w jd = qq_hs g (N + 1) (cs + (w a + w b)) (qq_put w (8 + N) (w a + w b)) (qq_set (qq_set jd a) b) := by
  rw [qq_hs, ea]
  show (match qq_hr w (qq_set jd a) (8 + N) with | none => (N, cs) | some b => qq_hs g (N + 1) (cs + (w a + w b)) (qq_put w (8 + N) (w a + w b)) (qq_set (qq_set jd a) b)) = _
  rw [eb]
/-- joining: what holds with N nodes -/
def qq_HI (w0 : Nat → Nat) (N : Nat) (w : Nat → Nat) (jd : Nat → Bool) (L R : Nat → Nat) : Prop :=
  N ≤ 7 ∧ (∀ y, y < 8 → w y = w0 y) ∧ (∀ y, w y ≤ 200 * 2 ^ N) ∧ (∀ x, x < N → 0 < w (8 + x)) ∧
  (∀ x, x < N → L x < 8 + x ∧ R x < 8 + x ∧ L x ≠ R x ∧ 0 < w (L x) ∧ 0 < w (R x)) ∧
  (∀ y, jd y = true → ∃ x, x < N ∧ (L x = y ∨ R x = y)) ∧
  (∀ x, x < N → jd (L x) = true ∧ jd (R x) = true) ∧
  (∀ x x', x < x' → x' < N → L x ≠ L x' ∧ L x ≠ R x' ∧ R x ≠ L x' ∧ R x ≠ R x') ∧
  qq_ct (qq_fr w jd) (8 + N) + N ≤ 8
theorem qq_ct_del {p : Nat → Bool} {a k : Nat} (ha : a < k) (hp : p a = true) : qq_ct (fun y => p y && decide (y ≠ a)) k + 1 = qq_ct p k := by
  have h1 := qq_ct_split p (fun y => decide (y ≠ a)) k
  have h2 : qq_ct (fun j => p j && !decide (j ≠ a)) k = 1 := by
    have e1 : qq_ct (fun j => p j && !decide (j ≠ a)) k = qq_ct (fun j => p j && !decide (j ≠ a)) (a + 1) := qq_ct_same (by omega) (fun j j1 j2 => by
      rw [decide_eq_true (show j ≠ a by omega)]; simp)
    rw [e1, qq_ct_t (by rw [hp, decide_eq_false (by omega)]; rfl), qq_ct_z (fun j hj => by
      rw [decide_eq_true (show j ≠ a by omega)]; simp)]
  omega
theorem qq_HI_0 {w0 : Nat → Nat} (h8 : ∀ y, w0 y ≤ 200) (L R : Nat → Nat) : qq_HI w0 0 w0 (fun _ => false) L R :=
  ⟨by omega, fun _ _ => rfl, fun y => by have := h8 y; omega, fun x hx => absurd hx (by omega), fun x hx => absurd hx (by omega), fun y h => absurd (show false = true from h) (by decide), fun x hx => absurd hx (by omega), fun x x' _ hx => absurd hx (by omega), qq_ct_le _ _⟩
theorem qq_fr_1 {w : Nat → Nat} {jd : Nat → Bool} {y : Nat} (h : qq_fr w jd y = true) : jd y = false ∧ 0 < w y := by
  unfold qq_fr at h
  rw [Bool.and_eq_true] at h
  exact ⟨by simpa using h.1, of_decide_eq_true h.2⟩
theorem qq_HI_s {w0 : Nat → Nat} {N : Nat} {w : Nat → Nat} {jd : Nat → Bool} {L R : Nat → Nat} {a b : Nat} (h : qq_HI w0 N w jd L R) (ha : qq_hr w jd (8 + N) = some a) (hb : qq_hr w (qq_set jd a) (8 + N) = some b) :
    N ≤ 6 ∧ a < 8 + N ∧ b < 8 + N ∧ qq_HI w0 (N + 1) (qq_put w (8 + N) (w a + w b)) (qq_set (qq_set jd a) b) (qq_put L N a) (qq_put R N b) := by
  obtain ⟨h1, h2, h3, h4, h5, h6, h7, h8, h9⟩ := h
  obtain ⟨a1, a2⟩ := (qq_hr_ok w jd (8 + N)).1 a ha
  obtain ⟨b1, b2⟩ := (qq_hr_ok w (qq_set jd a) (8 + N)).1 b hb
  obtain ⟨a3, a4⟩ := qq_fr_1 a2
  obtain ⟨b3, b4⟩ := qq_fr_1 b2
  have ba : b ≠ a := by
    intro e
    rw [e, qq_set_s] at b3
    exact absurd b3 (by decide)
  rw [qq_set_n ba] at b3
  have b5 : qq_fr w jd b = true := by
    unfold qq_fr
    rw [b3, decide_eq_true b4]
    rfl
  -- the free ones
  have d1 := qq_ct_del a1 a2
  have d2 := qq_ct_del (p := fun y => qq_fr w jd y && decide (y ≠ a)) (a := b) b1 (by
    show (qq_fr w jd b && decide (b ≠ a)) = true
    rw [b5, decide_eq_true ba]
    rfl)
  have jn : jd (8 + N) = false := by
    cases e : jd (8 + N)
    · rfl
    · obtain ⟨x, hx, hh⟩ := h6 _ e
      have := h5 x hx
      omega
  have e : ∀ y, y < 8 + N → qq_fr (qq_put w (8 + N) (w a + w b)) (qq_set (qq_set jd a) b) y = ((qq_fr w jd y && decide (y ≠ a)) && decide (y ≠ b)) := by
    intro y hy
    unfold qq_fr
    rw [qq_put_n (by omega)]
    by_cases y1 : y = b
    · rw [y1, qq_set_s, decide_eq_false (show ¬ b ≠ b by omega), Bool.and_false]
      rfl
    · rw [qq_set_n y1]
      by_cases y2 : y = a
      · rw [y2, qq_set_s, decide_eq_false (show ¬ a ≠ a by omega), Bool.and_false]
        rfl
      · rw [qq_set_n y2, decide_eq_true y1, decide_eq_true y2, Bool.and_true, Bool.and_true]
  have c1 := qq_ct_congr e
  have top : qq_fr (qq_put w (8 + N) (w a + w b)) (qq_set (qq_set jd a) b) (8 + N) = true := by
    unfold qq_fr
    rw [qq_put_s, qq_set_n (by omega), qq_set_n (by omega), jn, decide_eq_true (by omega)]
    rfl
  have c2 := qq_ct_t top
  have p2 : 2 ^ (N + 1) = 2 * 2 ^ N := by rw [Nat.pow_succ, Nat.mul_comm]
  refine ⟨by omega, a1, b1, by omega, fun y hy => ?_, fun y => ?_, fun x hx => ?_, fun x hx => ?_, fun y hy => ?_, fun x hx => ?_, fun x x' hx hx' => ?_, ?_⟩
  · rw [qq_put_n (by omega)]
    exact h2 y hy
  · have ka := h3 a
    have kb := h3 b
    by_cases z : y = 8 + N
    · rw [z, qq_put_s, p2]
      omega
    · rw [qq_put_n z, p2]
      have := h3 y
      omega
  · by_cases z : x = N
    · rw [z, qq_put_s]
      omega
    · rw [qq_put_n (by omega)]
      exact h4 x (by omega)
  · by_cases z : x = N
    · rw [z, qq_put_s, qq_put_s, qq_put_n (by omega), qq_put_n (by omega)]
      exact ⟨a1, b1, fun q => ba q.symm, a4, b4⟩
    · obtain ⟨g1, g2, g3, g4, g5⟩ := h5 x (by omega)
      rw [qq_put_n z, qq_put_n z, qq_put_n (by omega), qq_put_n (by omega)]
      exact ⟨g1, g2, g3, g4, g5⟩
  · by_cases y1 : y = b
    · exact ⟨N, by omega, Or.inr (by rw [qq_put_s, y1])⟩
    · rw [qq_set_n y1] at hy
      by_cases y2 : y = a
      · exact ⟨N, by omega, Or.inl (by rw [qq_put_s, y2])⟩
      · rw [qq_set_n y2] at hy
        obtain ⟨x, hx, hh⟩ := h6 y hy
        exact ⟨x, by omega, by rw [qq_put_n (by omega), qq_put_n (by omega)]; exact hh⟩
  · by_cases z : x = N
    · rw [z, qq_put_s, qq_put_s, qq_set_s]
      refine ⟨?_, rfl⟩
      rw [qq_set_n (fun q => ba q.symm), qq_set_s]
    · obtain ⟨g1, g2⟩ := h7 x (by omega)
      rw [qq_put_n z, qq_put_n z]
      have q : ∀ y, jd y = true → qq_set (qq_set jd a) b y = true := by
        intro y hy
        by_cases y1 : y = b
        · rw [y1, qq_set_s]
        · rw [qq_set_n y1]
          by_cases y2 : y = a
          · rw [y2, qq_set_s]
          · rw [qq_set_n y2]; exact hy
      exact ⟨q _ g1, q _ g2⟩
  · by_cases z : x' = N
    · obtain ⟨g1, g2⟩ := h7 x (by omega)
      rw [z, qq_put_s, qq_put_s, qq_put_n (by omega), qq_put_n (by omega)]
      refine ⟨fun q => ?_, fun q => ?_, fun q => ?_, fun q => ?_⟩
      · rw [q, a3] at g1; exact absurd g1 (by decide)
      · rw [q, b3] at g1; exact absurd g1 (by decide)
      · rw [q, a3] at g2; exact absurd g2 (by decide)
      · rw [q, b3] at g2; exact absurd g2 (by decide)
    · rw [qq_put_n (by omega), qq_put_n (by omega), qq_put_n (by omega), qq_put_n (by omega)]
      exact h8 x x' hx (by omega)
  · have c3 : qq_ct (qq_fr (qq_put w (8 + N) (w a + w b)) (qq_set (qq_set jd a) b)) (8 + (N + 1)) = _ := c2
    omega
/-- the tree made -/
def qq_HF (w0 : Nat → Nat) (N : Nat) (L R : Nat → Nat) : Prop :=
  N ≤ 7 ∧ (∀ x, x < N → L x < 8 + x ∧ R x < 8 + x ∧ L x ≠ R x) ∧ (∀ x, x < N → (L x < 8 → 0 < w0 (L x)) ∧ (R x < 8 → 0 < w0 (R x))) ∧
  (∀ x x', x < x' → x' < N → L x ≠ L x' ∧ L x ≠ R x' ∧ R x ≠ L x' ∧ R x ≠ R x') ∧
  (0 < N → (∀ c, c < 8 → 0 < w0 c → ∃ x, x < N ∧ (L x = c ∨ R x = c)) ∧ (∀ y, y + 1 < N → ∃ x, x < N ∧ (L x = 8 + y ∨ R x = 8 + y))) ∧
  (N = 0 → ∀ c d, c < 8 → d < 8 → 0 < w0 c → 0 < w0 d → c = d)
theorem qq_HF_of {w0 : Nat → Nat} {N : Nat} {w : Nat → Nat} {jd : Nat → Bool} {L R : Nat → Nat} (h : qq_HI w0 N w jd L R) {r : Nat} (hr : ∀ y, y < 8 + N → y ≠ r → qq_fr w jd y = false) : qq_HF w0 N L R := by
  obtain ⟨h1, h2, h3, h4, h5, h6, h7, h8, h9⟩ := h
  have jt : ∀ y, y < 8 + N → 0 < w y → y ≠ r → ∃ x, x < N ∧ (L x = y ∨ R x = y) := by
    intro y hy hw ne
    have := hr y hy ne
    unfold qq_fr at this
    rw [decide_eq_true hw, Bool.and_true] at this
    exact h6 y (by simpa using this)
  refine ⟨h1, fun x hx => ⟨(h5 x hx).1, (h5 x hx).2.1, (h5 x hx).2.2.1⟩, fun x hx => ⟨fun z => ?_, fun z => ?_⟩, h8, fun hN => ?_, fun hN c d hc hd wc wd => ?_⟩
  · rw [← h2 _ z]; exact (h5 x hx).2.2.2.1
  · rw [← h2 _ z]; exact (h5 x hx).2.2.2.2
  · -- the last node is free, so it is r
    have er : 8 + (N - 1) = r := by
      refine Classical.byContradiction (fun ne => ?_)
      obtain ⟨x, hx, hh⟩ := jt (8 + (N - 1)) (by omega) (h4 _ (by omega)) ne
      have := h5 x hx
      omega
    refine ⟨fun c hc wc => jt c (by omega) (by rw [h2 c hc]; exact wc) (by omega), fun y hy => jt (8 + y) (by omega) (h4 y (by omega)) (by omega)⟩
  · subst hN
    have no : ∀ y, y < 8 → 0 < w0 y → y = r := by
      intro y hy wy
      refine Classical.byContradiction (fun ne => ?_)
      obtain ⟨x, hx, _⟩ := jt y (by omega) (by rw [h2 y hy]; exact wy) ne
      exact absurd hx (by omega)
    rw [no c hc wc, no d hd wd]
/-! the codes -/
def qq_nm (N : Nat) (L R : Nat → Nat) (k y : Nat) : Prop := y = 8 + (N - 1) ∨ ∃ x, k ≤ x ∧ x < N ∧ (L x = y ∨ R x = y)
def qq_pre (len bt : Nat → Nat) (y z : Nat) : Prop := len y ≤ len z ∧ bt z % 2 ^ len y = bt y
def qq_NI (N : Nat) (L R : Nat → Nat) (k : Nat) (len bt : Nat → Nat) : Prop :=
  len (8 + (N - 1)) = 0 ∧ bt (8 + (N - 1)) = 0 ∧
  (∀ x, k ≤ x → x < N → len (L x) = len (8 + x) + 1 ∧ bt (L x) = bt (8 + x) ∧ len (R x) = len (8 + x) + 1 ∧ bt (R x) = bt (8 + x) + 2 ^ len (8 + x)) ∧
  (∀ y, qq_nm N L R k y → bt y < 2 ^ len y ∧ len y ≤ N - k) ∧
  (∀ y z, qq_nm N L R k y → y < 8 + k → qq_nm N L R k z → y ≠ z → ¬ qq_pre len bt y z)
theorem qq_NI_top {N : Nat} {L R : Nat → Nat} (hN : 0 < N) : qq_NI N L R N (fun _ => 0) (fun _ => 0) := by
  have only : ∀ y, qq_nm N L R N y → y = 8 + (N - 1) := by
    intro y h
    rcases h with h | ⟨x, h1, h2, _⟩
    · exact h
    · omega
  refine ⟨rfl, rfl, fun x h1 h2 => absurd h1 (by omega), fun y _ => ⟨(show 0 < 2 ^ 0 by decide), (show 0 ≤ N - N by omega)⟩, fun y z hy _ hz ne => ?_⟩
  rw [only y hy, only z hz] at ne
  exact absurd rfl ne
theorem qq_md {x l b : Nat} (h : x % 2 ^ (l + 1) = b) : x % 2 ^ l = b % 2 ^ l := by
  rw [← h, Nat.mod_mod_of_dvd _ (Nat.pow_dvd_pow 2 (by omega))]
theorem qq_md2 {b l k : Nat} (h : k ≤ l) : (b + 2 ^ l) % 2 ^ k = b % 2 ^ k := by
  obtain ⟨d, rfl⟩ := Nat.exists_eq_add_of_le h
  rw [Nat.pow_add, Nat.add_mul_mod_self_left]
theorem qq_NI_s {w0 : Nat → Nat} {N : Nat} {L R : Nat → Nat} {k : Nat} {len bt : Nat → Nat} (F : qq_HF w0 N L R) (hk : k < N) (h : qq_NI N L R (k + 1) len bt) :
    qq_nm N L R (k + 1) (8 + k) ∧ qq_NI N L R k (qq_put (qq_put len (L k) (len (8 + k) + 1)) (R k) (len (8 + k) + 1)) (qq_put (qq_put bt (L k) (bt (8 + k))) (R k) (bt (8 + k) + 2 ^ len (8 + k))) := by
  obtain ⟨f1, f2, f3, f4, f5, f6⟩ := F
  obtain ⟨h1, h2, h3, h4, h5⟩ := h
  obtain ⟨k1, k2, k3⟩ := f2 k hk
  have nk : qq_nm N L R (k + 1) (8 + k) := by
    by_cases z : k + 1 = N
    · exact Or.inl (by omega)
    · obtain ⟨x, hx, hh⟩ := (f5 (by omega)).2 k (by omega)
      have := f2 x hx
      exact Or.inr ⟨x, by omega, hx, hh⟩
  have freshL : ∀ y, qq_nm N L R (k + 1) y → y ≠ L k := by
    intro y hy e
    rcases hy with hy | ⟨x, x1, x2, x3⟩
    · omega
    · have := f4 k x (by omega) x2
      rcases x3 with x3 | x3 <;> rw [← x3] at e <;> omega
  have freshR : ∀ y, qq_nm N L R (k + 1) y → y ≠ R k := by
    intro y hy e
    rcases hy with hy | ⟨x, x1, x2, x3⟩
    · omega
    · have := f4 k x (by omega) x2
      rcases x3 with x3 | x3 <;> rw [← x3] at e <;> omega
  obtain ⟨bk, lk⟩ := h4 _ nk
  have keep : ∀ (g : Nat → Nat) u v y, qq_nm N L R (k + 1) y → qq_put (qq_put g (L k) u) (R k) v y = g y := by
    intro g u v y hy
    rw [qq_put_n (freshR y hy), qq_put_n (freshL y hy)]
  have eL : ∀ (g : Nat → Nat) u v, qq_put (qq_put g (L k) u) (R k) v (L k) = u := by
    intro g u v
    rw [qq_put_n k3, qq_put_s]
  have eR : ∀ (g : Nat → Nat) u v, qq_put (qq_put g (L k) u) (R k) v (R k) = v := by
    intro g u v
    rw [qq_put_s]
  have hi : ∀ (g : Nat → Nat) u v x, k ≤ x → qq_put (qq_put g (L k) u) (R k) v (8 + x) = g (8 + x) := by
    intro g u v x hx
    rw [qq_put_n (by omega), qq_put_n (by omega)]
  have split : ∀ y, qq_nm N L R k y → qq_nm N L R (k + 1) y ∨ y = L k ∨ y = R k := by
    intro y hy
    rcases hy with hy | ⟨x, x1, x2, x3⟩
    · exact Or.inl (Or.inl hy)
    · by_cases z : x = k
      · subst z
        rcases x3 with x3 | x3
        · exact Or.inr (Or.inl x3.symm)
        · exact Or.inr (Or.inr x3.symm)
      · exact Or.inl (Or.inr ⟨x, by omega, x2, x3⟩)
  have p2 : 2 ^ (len (8 + k) + 1) = 2 * 2 ^ len (8 + k) := by rw [Nat.pow_succ, Nat.mul_comm]
  have bm : bt (8 + k) % 2 ^ len (8 + k) = bt (8 + k) := Nat.mod_eq_of_lt bk
  have bm2 : (bt (8 + k) + 2 ^ len (8 + k)) % 2 ^ len (8 + k) = bt (8 + k) := by rw [qq_md2 (Nat.le_refl _), bm]
  -- no named one but the node itself goes on from the node
  have noext : ∀ z, qq_nm N L R (k + 1) z → 8 + k ≠ z → len (8 + k) ≤ len z → bt z % 2 ^ len (8 + k) = bt (8 + k) → False := fun z hz ne e1 e2 => h5 _ z nk (by omega) hz ne ⟨e1, e2⟩
  have rootN : qq_nm N L R (k + 1) (8 + (N - 1)) := Or.inl rfl
  refine ⟨nk, by rw [keep _ _ _ _ rootN]; exact h1, by rw [keep _ _ _ _ rootN]; exact h2, fun x x1 x2 => ?_, fun y hy => ?_, fun y z hy hy8 hz ne hpre => ?_⟩
  · rw [hi len _ _ x x1, hi bt _ _ x x1]
    by_cases z : x = k
    · subst z
      rw [eL, eL, eR, eR]
      exact ⟨rfl, rfl, rfl, rfl⟩
    · have nL : qq_nm N L R (k + 1) (L x) := Or.inr ⟨x, by omega, x2, Or.inl rfl⟩
      have nR : qq_nm N L R (k + 1) (R x) := Or.inr ⟨x, by omega, x2, Or.inr rfl⟩
      rw [keep _ _ _ _ nL, keep _ _ _ _ nL, keep _ _ _ _ nR, keep _ _ _ _ nR]
      exact h3 x (by omega) x2
  · rcases split y hy with q | q | q
    · rw [keep _ _ _ _ q, keep _ _ _ _ q]
      obtain ⟨g1, g2⟩ := h4 y q
      exact ⟨g1, by omega⟩
    · subst q
      rw [eL, eL, p2]
      exact ⟨by omega, by omega⟩
    · subst q
      rw [eR, eR, p2]
      exact ⟨by omega, by omega⟩
  · obtain ⟨q1, q2⟩ := hpre
    rcases split y hy with y1 | y1 | y1
    · have ny : 8 + k ≠ y := by omega
      rcases split z hz with z1 | z1 | z1
      · rw [keep _ _ _ _ y1, keep _ _ _ _ z1] at q1
        rw [keep _ _ _ _ y1, keep _ _ _ _ z1, keep _ _ _ _ y1] at q2
        exact h5 y z y1 (by omega) z1 ne ⟨q1, q2⟩
      · subst z1
        rw [keep _ _ _ _ y1, eL] at q1 q2
        rw [keep _ _ _ _ y1] at q2
        by_cases e : len y ≤ len (8 + k)
        · exact h5 y (8 + k) y1 (by omega) nk (fun q => ny q.symm) ⟨e, q2⟩
        · have e2 : len y = len (8 + k) + 1 := by omega
          rw [e2, Nat.mod_eq_of_lt (by omega)] at q2
          exact noext y y1 ny (by omega) (by rw [← q2]; exact bm)
      · subst z1
        rw [keep _ _ _ _ y1, eR] at q1 q2
        rw [keep _ _ _ _ y1] at q2
        by_cases e : len y ≤ len (8 + k)
        · rw [qq_md2 e] at q2
          exact h5 y (8 + k) y1 (by omega) nk (fun q => ny q.symm) ⟨e, q2⟩
        · have e2 : len y = len (8 + k) + 1 := by omega
          rw [e2, Nat.mod_eq_of_lt (by omega)] at q2
          exact noext y y1 ny (by omega) (by rw [← q2]; exact bm2)
    · subst y1
      rw [eL] at q1 q2
      rw [eL] at q2
      rcases split z hz with z1 | z1 | z1
      · rw [keep _ _ _ _ z1] at q1 q2
        by_cases e : 8 + k = z
        · rw [← e] at q1; omega
        · exact noext z z1 e (by omega) (by rw [qq_md q2]; exact bm)
      · exact ne z1.symm
      · subst z1
        rw [eR, Nat.mod_eq_of_lt (by omega)] at q2
        have := Nat.two_pow_pos (len (8 + k))
        omega
    · subst y1
      rw [eR] at q1 q2
      rw [eR] at q2
      rcases split z hz with z1 | z1 | z1
      · rw [keep _ _ _ _ z1] at q1 q2
        by_cases e : 8 + k = z
        · rw [← e] at q1; omega
        · exact noext z z1 e (by omega) (by rw [qq_md q2]; exact bm2)
      · subst z1
        rw [eL, Nat.mod_eq_of_lt (by omega)] at q2
        have := Nat.two_pow_pos (len (8 + k))
        omega
      · exact ne z1.symm
end
section
/-! ===== engine 6: packed ===== -/
def qq_enc : Option Nat → Int32
  | none => -1
  | some b => nI b
section
variable {f0_n f0_isPacked f0_runCount f0_nodes f0_codeSum : Int32} {a1 a2 a3 a4 a5 a6 a7 a8 a9 a10 a11 a12 a13 a14 a15 a16 a17 a18 a19 a20 a21 a22 a23 a24 a25 a26 a27 : Nat → Int32}
theorem wq_rarest {post : Int32 → Prop} {N : Nat} {w : Nat → Nat} {jd : Nat → Bool} (hN : N ≤ 8) (h24 : ∀ y, y < 16 → a24 y = nI (w y)) (hw : ∀ y, w y < 2 ^ 31) (h25 : ∀ y, y < 16 → a25 y = nI (jd y).toNat)
    (hp : post (qq_enc (qq_hr w jd (8 + N)))) : wpX_rarest post (f0_n, f0_isPacked, f0_runCount, nI N, f0_codeSum, a1, a2, a3, a4, a5, a6, a7, a8, a9, a10, a11, a12, a13, a14, a15, a16, a17, a18, a19, a20, a21, a22, a23, a24, a25, a26, a27) := by
  have e8 : (8 : Int32) + nI N = nI (8 + N) := nI_add 8 N
  refine pk_loop (σ := Int32) (fun f k t => wX_rarest_4 post f0_n f0_isPacked f0_runCount (nI N) f0_codeSum a1 a2 a3 a4 a5 a6 a7 a8 a9 a10 a11 a12 a13 a14 a15 a16 a17 a18 a19 a20 a21 a22 a23 a24 a25 a26 a27 f t (nI k)) (fun k t => t = qq_enc (qq_hr w jd k)) (8 + N) 0 (-1) (by omega) rfl ?_ ?_
  · intro f t ht
    subst ht
    exact pk_le (8 + N) (8 + N) (fun _ => hp) (fun z => absurd z (by omega)) e8
  · intro f k t hk ht hh
    subst ht
    have no : qq_fr w jd k = false → wX_rarest_38 post (wX_rarest_4 post f0_n f0_isPacked f0_runCount (nI N) f0_codeSum a1 a2 a3 a4 a5 a6 a7 a8 a9 a10 a11 a12 a13 a14 a15 a16 a17 a18 a19 a20 a21 a22 a23 a24 a25 a26 a27 f) (qq_enc (qq_hr w jd k)) (nI k) 0 f0_n f0_isPacked f0_runCount (nI N) f0_codeSum a1 a2 a3 a4 a5 a6 a7 a8 a9 a10 a11 a12 a13 a14 a15 a16 a17 a18 a19 a20 a21 a22 a23 a24 a25 a26 a27 := by
      intro e
      refine br_t rfl (nm_r (nI_1 k) (hh _ ?_))
      show _ = qq_enc (qq_hr w jd (k + 1))
      rw [qq_hr_f e]
    have r25 := qq_rd k (h25 k (by omega))
    have r24 := qq_rd k (h24 k (by omega))
    refine pk_le (8 + N) k (fun z => absurd z (by omega)) (fun _ => ⟨pk_in k 16 (by omega), ?_⟩) e8
    cases j : jd k
    · rw [j] at r25
      refine br_t (r25.trans rfl) ⟨pk_in k 16 (by omega), pk_le (w k) 0 (fun z => no ?_) (fun z => ?_) r24 rfl (hw k)⟩
      · unfold qq_fr
        rw [decide_eq_false (by omega), Bool.and_false]
      · have fr : qq_fr w jd k = true := by
          unfold qq_fr
          rw [j, decide_eq_true z]
          rfl
        refine br_f (by decide) ?_
        cases e : qq_hr w jd k with
        | none =>
          have st := qq_hr_n fr e
          refine br_t (by show (-1 : Int32) < 0; decide) (nm_r (nI_1 k) (hh _ ?_))
          show nI k = qq_enc (qq_hr w jd (k + 1))
          rw [st]
          rfl
        | some b =>
          have st := qq_hr_b fr e
          have bk := ((qq_hr_ok w jd k).1 b e).1
          refine br_f (nI_pos (by omega)) ⟨pk_in k 16 (by omega), pk_in b 16 (by omega), pk_le (w b) (w k) (fun g => nm_r (nI_1 k) (hh _ ?_)) (fun g => nm_r (nI_1 k) (hh _ ?_)) (qq_rd b (h24 b (by omega))) r24 (hw b) (hw k)⟩
          · show nI b = qq_enc (qq_hr w jd (k + 1))
            rw [st, if_pos g]
            rfl
          · show nI k = qq_enc (qq_hr w jd (k + 1))
            rw [st, if_neg (by omega)]
            rfl
    · rw [j] at r25
      refine br_f (by rw [r25]; decide) (no ?_)
      unfold qq_fr
      rw [j]
      rfl
theorem qq_jd {a25 : Nat → Int32} {jd : Nat → Bool} (h : ∀ y, y < 16 → a25 y = nI (jd y).toNat) {k : Nat} : ∀ y, y < 16 → upd a25 k 1 y = nI (qq_set jd k y).toNat := by
  intro y hy
  by_cases z : y = k
  · rw [z, pk_us, qq_set_s]
    rfl
  · rw [pk_un z, qq_set_n z]
    exact h y hy
/-- the loop that joins -/
theorem wq_codes69 {post : St1 → Prop} {n : Nat} {w0 : Nat → Nat} {tg : Nat × Nat}
    (H : ∀ f N cs s22 s23 s24 s25 L R, qq_HF w0 N L R → (∀ x, x < N → s22 x = nI (L x) ∧ s23 x = nI (R x)) → (N, cs) = tg → wX_packCodes_69 post (nI n) f0_isPacked f0_runCount (f + 1) 0 (nI N) (nI cs) a1 a2 a3 a4 a5 a6 a7 a8 a9 a10 a11 a12 a13 a14 a15 a16 a17 a18 a19 a20 a21 s22 s23 s24 s25 a26 a27) :
    ∀ g N cs w jd L R s22 s23 s24 s25, 9 ≤ N + g → qq_HI w0 N w jd L R → (∀ x, x < N → s22 x = nI (L x) ∧ s23 x = nI (R x)) → (∀ y, y < 16 → s24 y = nI (w y)) → (∀ y, y < 16 → s25 y = nI (jd y).toNat) →
      qq_hs g N cs w jd = tg → wX_packCodes_69 post (nI n) f0_isPacked f0_runCount (g + 1) 1 (nI N) (nI cs) a1 a2 a3 a4 a5 a6 a7 a8 a9 a10 a11 a12 a13 a14 a15 a16 a17 a18 a19 a20 a21 s22 s23 s24 s25 a26 a27 := by
  intro g
  induction g with
  | zero =>
    intro N cs w jd L R s22 s23 s24 s25 hg I
    have := I.1
    omega
  | succ g ih =>
    intro N cs w jd L R s22 s23 s24 s25 hg I hLR h24 h25 hs
    have N7 := I.1
    have p2 : 2 ^ N ≤ 2 ^ 7 := Nat.pow_le_pow_right (by decide) N7
    have hw : ∀ y, w y ≤ 25600 := fun y => by have := I.2.2.1 y; omega
    have hw2 : ∀ y, w y < 2 ^ 31 := fun y => by have := hw y; omega
    refine br_f (by decide) (wq_rarest (by omega) h24 hw2 h25 ?_)
    cases ea : qq_hr w jd (8 + N) with
    | none =>
      rw [qq_hs_0 ea] at hs
      have no := (qq_hr_ok w jd (8 + N)).2 ea
      refine br_t (by show (-1 : Int32) < 0; decide) (wq_rarest (by omega) h24 hw2 h25 ?_)
      rw [ea]
      refine br_t (by show (-1 : Int32) < 0; decide) (br_t rfl ?_)
      exact H g N cs s22 s23 s24 s25 L R (qq_HF_of (r := 0) I (fun y hy _ => no y hy)) hLR hs
    | some a =>
      obtain ⟨a1, a2⟩ := (qq_hr_ok w jd (8 + N)).1 a ea
      rw [show qq_enc (some a) = nI a from rfl]
      refine br_f (nI_pos (by omega)) ⟨pk_in a 16 (by omega), nm_r (e' := upd s25 a 1) (by rw [nI_clamp (by omega)]) (wq_rarest (by omega) h24 hw2 (qq_jd h25) ?_)⟩
      cases eb : qq_hr w (qq_set jd a) (8 + N) with
      | none =>
        rw [qq_hs_1 ea eb] at hs
        have no := (qq_hr_ok w (qq_set jd a) (8 + N)).2 eb
        refine br_t (by show (-1 : Int32) < 0; decide) (br_t rfl ?_)
        refine H g N cs s22 s23 s24 _ L R (qq_HF_of (r := a) I (fun y hy ne => ?_)) hLR hs
        have := no y hy
        unfold qq_fr at this ⊢
        rw [qq_set_n ne] at this
        exact this
      | some b =>
        rw [qq_hs_2 ea eb] at hs
        obtain ⟨N6, _, b1, I'⟩ := qq_HI_s I ea eb
        have wa := hw a
        have wb := hw b
        have wab := I'.2.2.1 (8 + N)
        rw [qq_put_s] at wab
        have p3 : 2 ^ (N + 1) ≤ 2 ^ 7 := Nat.pow_le_pow_right (by decide) (by omega)
        have e8 : (8 : Int32) + nI N = nI (8 + N) := nI_add 8 N
        have r24 : ∀ y, y < 16 → upd s24 (8 + N) (nI (w a + w b)) y = nI (qq_put w (8 + N) (w a + w b) y) := by
          intro y hy
          by_cases z : y = 8 + N
          · rw [z, pk_us, qq_put_s]
          · rw [pk_un z, qq_put_n z]
            exact h24 y hy
        rw [show qq_enc (some b) = nI b from rfl]
        refine br_f (nI_pos (by omega)) (br_f (by decide) ⟨pk_in b 16 (by omega), nm_r (e' := upd (upd s25 a 1) b 1) (by rw [nI_clamp (by omega)]) ⟨pk_in N 8 (by omega), nm_r (e' := upd s22 N (nI a)) ?_ ⟨pk_in N 8 (by omega), nm_r (e' := upd s23 N (nI b)) ?_ ⟨pk_in a 16 (by omega), pk_in b 16 (by omega), pk_in (8 + N) 16 (by omega) e8, nm_r (e' := upd s24 (8 + N) (nI (w a + w b))) ?_ ⟨pk_in a 16 (by omega), pk_in b 16 (by omega), nm_r (e' := nI (cs + (w a + w b))) ?_ (nm_r (nI_1 N) ?_)⟩⟩⟩⟩⟩)
        · rw [nI_clamp (by omega), qq_i8 a (by omega)]
        · rw [nI_clamp (by omega), qq_i8 b (by omega)]
        · rw [e8, nI_clamp (by omega), nI_clamp (by omega), nI_clamp (by omega), h24 a (by omega), h24 b (by omega), nI_add, qq_i16 (by omega)]
        · rw [nI_clamp (by omega), nI_clamp (by omega), r24 a (by omega), r24 b (by omega), qq_put_n (by omega), qq_put_n (by omega), nI_add, nI_add]
        · refine ih (N + 1) _ _ _ _ _ _ _ _ _ (by omega) I' (fun x hx => ?_) r24 (qq_jd (qq_jd h25)) hs
          by_cases z : x = N
          · rw [z, pk_us, pk_us, qq_put_s, qq_put_s]
            exact ⟨rfl, rfl⟩
          · rw [pk_un z, pk_un z, qq_put_n z, qq_put_n z]
            exact hLR x (by omega)
/-- the codes are named -/
theorem wq_nameCodes {post : St1 → Prop} {N : Nat} {w0 L R : Nat → Nat} (F : qq_HF w0 N L R) (hLR : ∀ x, x < N → a22 x = nI (L x) ∧ a23 x = nI (R x)) (h26 : ∀ y, y < 16 → a26 y = 0) (h27 : ∀ y, y < 16 → a27 y = 0)
    (H : ∀ s26 s27 len bt, (∀ y, y < 16 → s26 y = nI (len y) ∧ s27 y = nI (bt y)) → (N = 0 → ∀ y, len y = 0) → (0 < N → qq_NI N L R 0 len bt) → post (f0_n, f0_isPacked, f0_runCount, nI N, f0_codeSum, a1, a2, a3, a4, a5, a6, a7, a8, a9, a10, a11, a12, a13, a14, a15, a16, a17, a18, a19, a20, a21, a22, a23, a24, a25, s26, s27)) :
    wpX_nameCodes post (f0_n, f0_isPacked, f0_runCount, nI N, f0_codeSum, a1, a2, a3, a4, a5, a6, a7, a8, a9, a10, a11, a12, a13, a14, a15, a16, a17, a18, a19, a20, a21, a22, a23, a24, a25, a26, a27) := by
  have N7 := F.1
  refine nm_r (qq_m1 (nI N)) ?_
  have key : ∀ k, k ≤ N → ∀ s26 s27 len bt, (∀ y, y < 16 → s26 y = nI (len y) ∧ s27 y = nI (bt y)) → (N = 0 → ∀ y, len y = 0) → (0 < N → qq_NI N L R k len bt) → wX_nameCodes_7 post f0_n f0_isPacked f0_runCount (nI N) f0_codeSum (k + 1) (nI k + (-1)) a1 a2 a3 a4 a5 a6 a7 a8 a9 a10 a11 a12 a13 a14 a15 a16 a17 a18 a19 a20 a21 a22 a23 a24 a25 s26 s27 := by
    intro k
    induction k with
    | zero =>
      intro _ s26 s27 len bt h1 h2 h3
      exact br_t (by decide) (H s26 s27 len bt h1 h2 h3)
    | succ k ih =>
      intro hk s26 s27 len bt h1 h2 h3
      obtain ⟨nk, NI⟩ := qq_NI_s F (show k < N by omega) (h3 (by omega))
      obtain ⟨f1, f2, _⟩ := (F.2.1 k (by omega))
      obtain ⟨bk, lk⟩ := (h3 (by omega)).2.2.2.1 _ nk
      obtain ⟨r22, r23⟩ := hLR k (by omega)
      obtain ⟨r26, r27⟩ := h1 (8 + k) (by omega)
      have e8 : (8 : Int32) + nI k = nI (8 + k) := nI_add 8 k
      have q22 := qq_rd k r22
      have q23 := qq_rd k r23
      have p1 : 2 ^ len (8 + k) ≤ 2 ^ 6 := Nat.pow_le_pow_right (by decide) (by omega)
      have g26 : ∀ y, y < 16 → upd (upd s26 (L k) (nI (len (8 + k) + 1))) (R k) (nI (len (8 + k) + 1)) y = nI (qq_put (qq_put len (L k) (len (8 + k) + 1)) (R k) (len (8 + k) + 1) y) := by
        intro y hy
        by_cases z : y = R k
        · rw [z, pk_us, qq_put_s]
        · rw [pk_un z, qq_put_n z]
          by_cases z2 : y = L k
          · rw [z2, pk_us, qq_put_s]
          · rw [pk_un z2, qq_put_n z2]
            exact (h1 y hy).1
      have g27 : ∀ y, y < 16 → upd (upd s27 (L k) (nI (bt (8 + k)))) (R k) (nI (bt (8 + k) + 2 ^ len (8 + k))) y = nI (qq_put (qq_put bt (L k) (bt (8 + k))) (R k) (bt (8 + k) + 2 ^ len (8 + k)) y) := by
        intro y hy
        by_cases z : y = R k
        · rw [z, pk_us, qq_put_s]
        · rw [pk_un z, qq_put_n z]
          by_cases z2 : y = L k
          · rw [z2, pk_us, qq_put_s]
          · rw [pk_un z2, qq_put_n z2]
            exact (h1 y hy).2
      have bo : bt (8 + k) ||| 2 ^ len (8 + k) = bt (8 + k) + 2 ^ len (8 + k) := by
        have := Nat.two_pow_add_eq_or_of_lt bk 1
        rw [Nat.mul_one] at this
        rw [Nat.or_comm, ← this, Nat.add_comm]
      rw [pk_m1]
      refine pk_lt k 0 (fun z => absurd z (by omega)) (fun _ => ⟨pk_in _ 16 (by omega) e8, nm_r (qq_rd _ r26 e8) ⟨pk_in _ 16 (by omega) e8, nm_r (qq_rd _ r27 e8) ⟨pk_in k 8 (by omega), pk_in (L k) 16 (by omega) q22, nm_r (e' := upd s26 (L k) (nI (len (8 + k) + 1))) ?_ ⟨pk_in k 8 (by omega), pk_in (L k) 16 (by omega) q22, nm_r (e' := upd s27 (L k) (nI (bt (8 + k)))) ?_ ⟨pk_in k 8 (by omega), pk_in (R k) 16 (by omega) q23, nm_r (e' := upd (upd s26 (L k) (nI (len (8 + k) + 1))) (R k) (nI (len (8 + k) + 1))) ?_ ⟨pk_in k 8 (by omega), pk_in (R k) 16 (by omega) q23, nm_r (e' := upd (upd s27 (L k) (nI (bt (8 + k)))) (R k) (nI (bt (8 + k) + 2 ^ len (8 + k)))) ?_ (nm_e ?_)⟩⟩⟩⟩⟩⟩)
      · rw [q22, nI_clamp (by omega), nI_1, qq_i8 _ (by omega)]
      · rw [q22, nI_clamp (by omega), qq_i8 _ (by omega)]
      · rw [q23, nI_clamp (by omega), nI_1, qq_i8 _ (by omega)]
      · rw [q23, nI_clamp (by omega), qq_1s _ (by omega), qq_or, bo, qq_i8 _ (by omega)]
      · exact ih (by omega) _ _ _ _ (fun y hy => ⟨g26 y hy, g27 y hy⟩) (fun z => absurd z (by omega)) (fun _ => NI)
  exact ⟨N + 1, key N (Nat.le_refl N) a26 a27 (fun _ => 0) (fun _ => 0) (fun y hy => ⟨h26 y hy, h27 y hy⟩) (fun _ _ => rfl) (fun h => qq_NI_top h)⟩
end
/-- the letters under an item -/
def qq_un (len bt : Nat → Nat) (y c : Nat) : Bool := decide (len y < len c ∧ bt c % 2 ^ len y = bt y)
def qq_uC (ls len bt : Nat → Nat) (y m : Nat) : Nat := qq_ct (fun j => qq_un len bt y (ls j)) m
def qq_uO (ls len bt : Nat → Nat) (y m : Nat) : Nat := qq_ct (fun j => qq_un len bt y (ls j) && (bt (ls j)).testBit (len y)) m
def qq_NR (n : Nat) (ls len bt : Nat → Nat) (y : Nat) (f : Nat → Bool) : Prop := ∀ m, m ≤ n → qq_ct f (qq_uC ls len bt y m) = qq_uO ls len bt y m
theorem qq_NR_congr {n : Nat} {ls len bt : Nat → Nat} {y : Nat} {f g : Nat → Bool} (hn : n ≤ 200) (h : qq_NR n ls len bt y f) (e : ∀ j, j < 224 → g j = f j) : qq_NR n ls len bt y g := by
  intro m hm
  rw [← h m hm]
  have : qq_uC ls len bt y m ≤ m := qq_ct_le _ _
  exact qq_ct_congr (fun j hj => e j (by omega))
section
variable {f0_n f0_isPacked f0_runCount f0_nodes f0_codeSum : Int32} {a1 a2 a3 a4 a5 a6 a7 a8 a9 a10 a11 a12 a13 a14 a15 a16 a17 a18 a19 a20 a21 a22 a23 a24 a25 a26 a27 : Nat → Int32}
theorem wq_packNode {post : St1 → Prop} {z : Int32} {n : Nat} {ls len bt : Nat → Nat} (x : Nat) (hx : x < 7) (hn : n ≤ 200) (hL : ∀ i, i < n → a1 i = nI (ls i)) (hcl : ∀ i, i < n → ls i < 8)
    (h26 : ∀ y, y < 16 → a26 y = nI (len y) ∧ a27 y = nI (bt y)) (hb : ∀ y, (y = 8 + x ∨ ∃ i, i < n ∧ ls i = y) → bt y < 128 ∧ len y ≤ 7) (hz : ∀ j, j < 224 → qq_gb 7 a5 (14 + x) j = false)
    (H : ∀ s5, qq_NR n ls len bt (8 + x) (qq_gb 7 s5 (14 + x)) → (∀ r j, r ≠ 14 + x → j < 224 → qq_gb 7 s5 r j = qq_gb 7 a5 r j) → post (nI n, f0_isPacked, f0_runCount, f0_nodes, f0_codeSum, a1, a2, a3, a4, s5, a6, a7, a8, a9, a10, a11, a12, a13, a14, a15, a16, a17, a18, a19, a20, a21, a22, a23, a24, a25, a26, a27)) (hzx : z = nI x := by rfl) :
    wpX_packNode post (nI n, f0_isPacked, f0_runCount, f0_nodes, f0_codeSum, a1, a2, a3, a4, a5, a6, a7, a8, a9, a10, a11, a12, a13, a14, a15, a16, a17, a18, a19, a20, a21, a22, a23, a24, a25, a26, a27) z := by
  subst hzx
  have e8 : (8 : Int32) + nI x = nI (8 + x) := nI_add 8 x
  obtain ⟨r26, r27⟩ := h26 (8 + x) (by omega)
  obtain ⟨bx, lx⟩ := hb (8 + x) (Or.inl rfl)
  refine And.intro (pk_in _ 16 (by omega) e8) (nm_r (qq_rd _ r26 e8) ⟨pk_in _ 16 (by omega) e8, nm_r (qq_rd _ r27 e8) ?_⟩)
  have p1 : 2 ^ len (8 + x) ≤ 2 ^ 7 := Nat.pow_le_pow_right (by decide) lx
  have p0 : 1 ≤ 2 ^ len (8 + x) := Nat.two_pow_pos _
  refine pk_loop (σ := Int32 × (Nat → Int32)) (fun f m s => wX_packNode_26 post (nI x) (nI (len (8 + x))) (nI (bt (8 + x))) f s.1 (nI m) (nI n) f0_isPacked f0_runCount f0_nodes f0_codeSum a1 a2 a3 a4 s.2 a6 a7 a8 a9 a10 a11 a12 a13 a14 a15 a16 a17 a18 a19 a20 a21 a22 a23 a24 a25 a26 a27)
    (fun m s => s.1 = nI (qq_uC ls len bt (8 + x) m) ∧ (∀ j, qq_uC ls len bt (8 + x) m ≤ j → j < 224 → qq_gb 7 s.2 (14 + x) j = false) ∧ (∀ k, k ≤ m → qq_ct (qq_gb 7 s.2 (14 + x)) (qq_uC ls len bt (8 + x) k) = qq_uO ls len bt (8 + x) k) ∧ (∀ r j, r ≠ 14 + x → j < 224 → qq_gb 7 s.2 r j = qq_gb 7 a5 r j))
    n 0 (0, a5) (by omega) ⟨rfl, fun j _ hj => hz j hj, fun k hk => by rw [show k = 0 by omega]; rfl, fun _ _ _ _ => rfl⟩ ?_ ?_
  · intro f ⟨x4, s⟩ ⟨_, _, h3, h4⟩
    exact pk_le n n (fun _ => H s h3 h4) (fun z => absurd z (by omega))
  · intro f m ⟨x4, s⟩ hm ⟨h1, h2, h3, h4⟩ hk
    have h1 : x4 = nI (qq_uC ls len bt (8 + x) m) := h1
    have h2 : ∀ j, qq_uC ls len bt (8 + x) m ≤ j → j < 224 → qq_gb 7 s (14 + x) j = false := h2
    have h3 : ∀ k, k ≤ m → qq_ct (qq_gb 7 s (14 + x)) (qq_uC ls len bt (8 + x) k) = qq_uO ls len bt (8 + x) k := h3
    have h4 : ∀ r j, r ≠ 14 + x → j < 224 → qq_gb 7 s r j = qq_gb 7 a5 r j := h4
    subst h1
    have ea : a1 (nI m).toNatClampNeg = nI (ls m) := qq_rd m (hL m hm)
    have l8 := hcl m hm
    obtain ⟨c26, c27⟩ := h26 (ls m) (by omega)
    obtain ⟨bc, lc⟩ := hb (ls m) (Or.inr ⟨m, hm, rfl⟩)
    have q26 := qq_rd (ls m) c26
    have q27 := qq_rd (ls m) c27
    have um : qq_uC ls len bt (8 + x) m ≤ m := qq_ct_le _ _
    have no : qq_un len bt (8 + x) (ls m) = false → wX_packNode_77 post (wX_packNode_26 post (nI x) (nI (len (8 + x))) (nI (bt (8 + x))) f) (nI x) (nI (len (8 + x))) (nI (bt (8 + x))) (nI (qq_uC ls len bt (8 + x) m)) (nI m) (nI (ls m)) 0 (nI n) f0_isPacked f0_runCount f0_nodes f0_codeSum a1 a2 a3 a4 s a6 a7 a8 a9 a10 a11 a12 a13 a14 a15 a16 a17 a18 a19 a20 a21 a22 a23 a24 a25 a26 a27 := by
      intro e
      have eC : qq_uC ls len bt (8 + x) (m + 1) = qq_uC ls len bt (8 + x) m := qq_ct_f e
      have eO : qq_uO ls len bt (8 + x) (m + 1) = qq_uO ls len bt (8 + x) m := qq_ct_f (by rw [e]; rfl)
      refine br_t rfl (nm_r (nI_1 m) (hk (nI _, s) ⟨?_, ?_, ?_, h4⟩))
      · show nI _ = nI _
        rw [eC]
      · intro j hj
        rw [eC] at hj
        exact h2 j hj
      · intro k hkm
        by_cases z : k = m + 1
        · rw [z, eC, eO]
          exact h3 m (Nat.le_refl m)
        · exact h3 k (by omega)
    refine pk_le n m (fun z => absurd z (by omega)) (fun _ => ⟨pk_in m 200 (by omega), nm_r ea ⟨pk_in (ls m) 16 (by omega), pk_le (len (ls m)) (len (8 + x)) (fun g => no (decide_eq_false (fun q => absurd q.1 (by omega)))) (fun g => ⟨pk_in (ls m) 16 (by omega), pk_eq (bt (ls m) % 2 ^ len (8 + x)) (bt (8 + x)) (fun g2 => ?_) (fun g2 => no (decide_eq_false (fun q => g2 q.2))) ?_ rfl ?_⟩) q26⟩⟩)
    · have eu : qq_un len bt (8 + x) (ls m) = true := decide_eq_true ⟨g, g2⟩
      have eC : qq_uC ls len bt (8 + x) (m + 1) = qq_uC ls len bt (8 + x) m + 1 := qq_ct_t eu
      have eO : qq_uO ls len bt (8 + x) (m + 1) = qq_uO ls len bt (8 + x) m + ((bt (ls m)).testBit (len (8 + x))).toNat := by
        show _ + (qq_un len bt (8 + x) (ls m) && _).toNat = _
        rw [eu, Bool.true_and]
        rfl
      have tb := qq_tb (y := bt (ls m)) (i := len (8 + x)) (by omega) (by omega)
      rw [← q27] at tb
      refine br_f (by decide) ⟨pk_in (ls m) 16 (by omega), ?_⟩
      -- s' has the bit
      have fin : ∀ s', (∀ r j, j < 224 → qq_gb 7 s' r j = (qq_gb 7 s r j || (decide (r = 14 + x) && decide (j = qq_uC ls len bt (8 + x) m) && (bt (ls m)).testBit (len (8 + x))))) → wX_packNode_26 post (nI x) (nI (len (8 + x))) (nI (bt (8 + x))) f (nI (qq_uC ls len bt (8 + x) m + 1)) (nI (m + 1)) (nI n) f0_isPacked f0_runCount f0_nodes f0_codeSum a1 a2 a3 a4 s' a6 a7 a8 a9 a10 a11 a12 a13 a14 a15 a16 a17 a18 a19 a20 a21 a22 a23 a24 a25 a26 a27 := by
        intro s' hs
        have low : ∀ k, k ≤ qq_uC ls len bt (8 + x) m → qq_ct (qq_gb 7 s' (14 + x)) k = qq_ct (qq_gb 7 s (14 + x)) k := by
          intro k hkk
          refine qq_ct_congr (fun j hj => ?_)
          rw [hs _ j (by omega), decide_eq_false (show ¬ j = qq_uC ls len bt (8 + x) m by omega), Bool.and_false, Bool.false_and, Bool.or_false]
        have top : qq_gb 7 s' (14 + x) (qq_uC ls len bt (8 + x) m) = (bt (ls m)).testBit (len (8 + x)) := by
          rw [hs _ _ (by omega), h2 _ (Nat.le_refl _) (by omega), decide_eq_true rfl, decide_eq_true rfl]
          rfl
        refine hk (nI _, s') ⟨?_, ?_, ?_, ?_⟩
        · show nI _ = nI _
          rw [eC]
        · intro j hj hj2
          show qq_gb 7 s' (14 + x) j = false
          rw [eC] at hj
          rw [hs _ j hj2, h2 j (by omega) hj2, decide_eq_false (show ¬ j = qq_uC ls len bt (8 + x) m by omega), Bool.and_false, Bool.false_and, Bool.or_false]
        · intro k hkm
          show qq_ct (qq_gb 7 s' (14 + x)) _ = _
          by_cases z : k = m + 1
          · rw [z, eC, eO, qq_ct_s, low _ (Nat.le_refl _), h3 m (Nat.le_refl m), top]
          · rw [low _ (show qq_uC ls len bt (8 + x) k ≤ _ from qq_ct_mono _ (by omega))]
            exact h3 k (by omega)
        · intro r j hr hj
          show qq_gb 7 s' r j = _
          rw [hs r j hj, decide_eq_false hr, Bool.false_and, Bool.false_and, Bool.or_false]
          exact h4 r j hr hj
      cases t : (bt (ls m)).testBit (len (8 + x))
      · rw [t] at tb fin
        exact br_t tb (nm_r (nI_1 _) (nm_r (nI_1 m) (fin s (fun r j hj => by rw [Bool.and_false, Bool.or_false]))))
      · rw [t] at tb fin
        refine br_f (by rw [tb]; decide) (wq_setBit (14 + x) (qq_uC ls len bt (8 + x) m) (by omega) (by omega) (nm_r (nI_1 _) (nm_r (nI_1 m) (fin _ (fun r j hj => ?_)))) (nI_add 14 x))
        rw [qq_gb_set s (by omega) r j (by omega), Bool.and_true]
    · rw [q27, qq_1s _ (by omega), show nI (2 ^ len (8 + x)) - 1 = nI (2 ^ len (8 + x) - 1) from pk_sub (b := 1) p0, pk_andN (by omega) _ (pk_tn (by omega))]
    · have : bt (ls m) % 2 ^ len (8 + x) ≤ bt (ls m) := Nat.mod_le _ _
      omega
end
end
section
/-! ===== engine 6: all of the packing, and asked ===== -/
def qq_w0 (n : Nat) (ls : Nat → Nat) (y : Nat) : Nat := if y < 8 then qq_rk ls y n else 0
theorem qq_w0_8 {n : Nat} {ls : Nat → Nat} {y : Nat} (h : y < 8) : qq_w0 n ls y = qq_rk ls y n := if_pos h
theorem qq_w0_h {n : Nat} {ls : Nat → Nat} {y : Nat} (h : 8 ≤ y) : qq_w0 n ls y = 0 := if_neg (by omega)
theorem qq_w0_le {n : Nat} {ls : Nat → Nat} (hn : n ≤ 200) (y : Nat) : qq_w0 n ls y ≤ 200 := by
  unfold qq_w0
  have : qq_rk ls y n ≤ n := qq_ct_le _ _
  split <;> omega
theorem qq_live {n : Nat} {ls : Nat → Nat} (hcl : ∀ i, i < n → ls i < 8) {i : Nat} (hi : i < n) : 0 < qq_w0 n ls (ls i) := by
  rw [qq_w0_8 (hcl i hi)]
  have : qq_rk ls (ls i) i < qq_rk ls (ls i) n := qq_ct_lt hi (decide_eq_true rfl)
  omega
def qq_KX (n : Nat) (ls : Nat → Nat) (nodes cs : Int32) (a5 a22 a23 a26 a27 : Nat → Int32) : Prop :=
  ∃ (N c : Nat) (L R len bt : Nat → Nat), nodes = nI N ∧ cs = nI c ∧ (N, c) = qq_hs 9 0 0 (qq_w0 n ls) (fun _ => false) ∧ qq_HF (qq_w0 n ls) N L R ∧ (∀ x, x < N → a22 x = nI (L x) ∧ a23 x = nI (R x)) ∧
    (∀ y, y < 16 → a26 y = nI (len y) ∧ a27 y = nI (bt y)) ∧ (N = 0 → ∀ y, len y = 0) ∧ (0 < N → qq_NI N L R 0 len bt) ∧ (∀ x, x < N → qq_NR n ls len bt (8 + x) (qq_gb 7 a5 (14 + x)))
theorem qq_KX_congr {n : Nat} {ls : Nat → Nat} {nodes cs : Int32} {a5 b5 a22 a23 a26 a27 : Nat → Int32} (hn : n ≤ 200) (h : qq_KX n ls nodes cs a5 a22 a23 a26 a27) (e : ∀ r j, 14 ≤ r → r < 21 → j < 224 → qq_gb 7 b5 r j = qq_gb 7 a5 r j) : qq_KX n ls nodes cs b5 a22 a23 a26 a27 := by
  obtain ⟨N, c, L, R, len, bt, h1, h2, h3, h4, h5, h6, h7, h8, h9⟩ := h
  have := h4.1
  exact ⟨N, c, L, R, len, bt, h1, h2, h3, h4, h5, h6, h7, h8, fun x hx => qq_NR_congr hn (h9 x hx) (fun j hj => e (14 + x) j (by omega) (by omega) hj)⟩
theorem qq_nm_letter {w0 : Nat → Nat} {N : Nat} {L R : Nat → Nat} (F : qq_HF w0 N L R) (hN : 0 < N) {c : Nat} (hc : c < 8) (hw : 0 < w0 c) : qq_nm N L R 0 c := by
  obtain ⟨x, hx, hh⟩ := (F.2.2.2.2.1 hN).1 c hc hw
  exact Or.inr ⟨x, by omega, hx, hh⟩
theorem qq_nm_node {w0 : Nat → Nat} {N : Nat} {L R : Nat → Nat} (F : qq_HF w0 N L R) {x : Nat} (hx : x < N) : qq_nm N L R 0 (8 + x) := by
  by_cases z : x + 1 = N
  · exact Or.inl (by omega)
  · obtain ⟨y, hy, hh⟩ := (F.2.2.2.2.1 (by omega)).2 x (by omega)
    exact Or.inr ⟨y, by omega, hy, hh⟩
section
variable {f0_n f0_isPacked f0_runCount f0_nodes f0_codeSum : Int32} {a1 a2 a3 a4 a5 a6 a7 a8 a9 a10 a11 a12 a13 a14 a15 a16 a17 a18 a19 a20 a21 a22 a23 a24 a25 a26 a27 : Nat → Int32}
theorem wq_codes39 {post : St1 → Prop} {J : Int32 → (Nat → Int32) → (Nat → Int32) → (Nat → Int32) → (Nat → Int32) → (Nat → Int32) → (Nat → Int32) → (Nat → Int32) → (Nat → Int32) → (Nat → Int32) → (Nat → Int32) → (Nat → Int32) → (Nat → Int32) → (Nat → Int32) → (Nat → Int32) → (Nat → Int32) → (Nat → Int32) → (Nat → Int32) → (Nat → Int32) → (Nat → Int32) → (Nat → Int32) → (Nat → Int32) → (Nat → Int32) → (Nat → Int32) → (Nat → Int32) → (Nat → Int32) → (Nat → Int32) → (Nat → Int32) → Prop} {z : Int32} (y v : Nat) (hy : y < 16) (hv : v < 32768) (hz : z = nI v) (h : J (nI (y + 1)) a1 a2 a3 a4 a5 a6 a7 a8 a9 a10 a11 a12 a13 a14 a15 a16 a17 a18 a19 a20 a21 a22 a23 (upd a24 y (nI v)) (upd a25 y 0) (upd a26 y 0) (upd a27 y 0)) :
    wX_packCodes_39 post J (nI y) z (nI y) f0_n f0_isPacked f0_runCount f0_nodes f0_codeSum a1 a2 a3 a4 a5 a6 a7 a8 a9 a10 a11 a12 a13 a14 a15 a16 a17 a18 a19 a20 a21 a22 a23 a24 a25 a26 a27 := by
  have c : (nI y).toNatClampNeg = y := nI_clamp (by omega)
  refine And.intro (pk_in y 16 hy) (nm_r (by rw [c, qq_ns v hz hv]) ⟨pk_in y 16 hy, nm_r (by rw [c]) ⟨pk_in y 16 hy, nm_r (by rw [c]) ⟨pk_in y 16 hy, nm_r (by rw [c]) (nm_r (nI_1 y) h)⟩⟩⟩)
theorem wq_packCodes {post : St1 → Prop} {n : Nat} {ls : Nat → Nat} (hn : n ≤ 200) (hL : ∀ i, i < n → a1 i = nI (ls i)) (hcl : ∀ i, i < n → ls i < 8) (h2 : ∀ c, c < 8 → a2 c = nI (qq_rk ls c n))
    (hz : ∀ r j, 14 ≤ r → r < 21 → j < 224 → qq_gb 7 a5 r j = false)
    (H : ∀ nodes cs s5 s22 s23 s24 s25 s26 s27, qq_KX n ls nodes cs s5 s22 s23 s26 s27 → (∀ r j, r < 14 → j < 224 → qq_gb 7 s5 r j = qq_gb 7 a5 r j) → post (nI n, f0_isPacked, f0_runCount, nodes, cs, a1, a2, a3, a4, s5, a6, a7, a8, a9, a10, a11, a12, a13, a14, a15, a16, a17, a18, a19, a20, a21, s22, s23, s24, s25, s26, s27)) :
    wpX_packCodes post (nI n, f0_isPacked, f0_runCount, f0_nodes, f0_codeSum, a1, a2, a3, a4, a5, a6, a7, a8, a9, a10, a11, a12, a13, a14, a15, a16, a17, a18, a19, a20, a21, a22, a23, a24, a25, a26, a27) := by
  refine pk_loop (σ := (Nat → Int32) × (Nat → Int32) × (Nat → Int32) × (Nat → Int32)) (fun f y t => wX_packCodes_12 post (nI n) f0_isPacked f0_runCount 0 0 f (nI y) a1 a2 a3 a4 a5 a6 a7 a8 a9 a10 a11 a12 a13 a14 a15 a16 a17 a18 a19 a20 a21 a22 a23 t.1 t.2.1 t.2.2.1 t.2.2.2)
    (fun k t => ∀ y, y < k → t.1 y = nI (qq_w0 n ls y) ∧ t.2.1 y = 0 ∧ t.2.2.1 y = 0 ∧ t.2.2.2 y = 0) 16 0 (a24, a25, a26, a27) (by omega) (fun y hy => absurd hy (by omega)) ?_ ?_
  rotate_left
  · intro f k ⟨s24, s25, s26, s27⟩ hk h hh
    have h : ∀ y, y < k → s24 y = nI (qq_w0 n ls y) ∧ s25 y = 0 ∧ s26 y = 0 ∧ s27 y = 0 := h
    have w := qq_w0_le (ls := ls) hn k
    have nxt : ∀ y, y < k + 1 → upd s24 k (nI (qq_w0 n ls k)) y = nI (qq_w0 n ls y) ∧ upd s25 k 0 y = 0 ∧ upd s26 k 0 y = 0 ∧ upd s27 k 0 y = 0 := by
      intro y hy
      by_cases z : y = k
      · rw [z, pk_us, pk_us, pk_us, pk_us]
        exact ⟨rfl, rfl, rfl, rfl⟩
      · rw [pk_un z, pk_un z, pk_un z, pk_un z]
        exact h y (by omega)
    refine pk_le 16 k (fun z => absurd z (by omega)) (fun _ => pk_le 8 k (fun g => wq_codes39 k (qq_w0 n ls k) hk (by omega) (by rw [qq_w0_h g]; rfl) (hh (upd s24 k _, upd s25 k 0, upd s26 k 0, upd s27 k 0) nxt)) (fun g => ⟨pk_in k 8 g, wq_codes39 k (qq_w0 n ls k) hk (by omega) (by rw [qq_w0_8 g]; exact qq_rd k (h2 k g)) (hh (upd s24 k _, upd s25 k 0, upd s26 k 0, upd s27 k 0) nxt)⟩))
  intro f ⟨s24, s25, s26, s27⟩ h
  have h : ∀ y, y < 16 → s24 y = nI (qq_w0 n ls y) ∧ s25 y = 0 ∧ s26 y = 0 ∧ s27 y = 0 := h
  refine pk_le 16 16 (fun _ => ⟨10, ?_⟩) (fun z => absurd z (by omega))
  refine wq_codes69 (w0 := qq_w0 n ls) (tg := qq_hs 9 0 0 (qq_w0 n ls) (fun _ => false)) ?_ 9 0 0 (qq_w0 n ls) (fun _ => false) (fun _ => 0) (fun _ => 0) a22 a23 s24 s25 (by omega) (qq_HI_0 (qq_w0_le hn) _ _) (fun x hx => absurd hx (by omega)) (fun y hy => (h y hy).1) (fun y hy => (h y hy).2.1) rfl
  intro g N cs s22 s23 t24 t25 L R F hLR hs
  have N7 := F.1
  refine br_t rfl (wq_nameCodes F hLR (fun y hy => (h y hy).2.2.1) (fun y hy => (h y hy).2.2.2) (fun u26 u27 len bt k1 k2 k3 => ?_))
  refine pk_loop (σ := Nat → Int32) (fun f x s => wX_packCodes_204 post f (nI x) (nI n) f0_isPacked f0_runCount (nI N) (nI cs) a1 a2 a3 a4 s a6 a7 a8 a9 a10 a11 a12 a13 a14 a15 a16 a17 a18 a19 a20 a21 s22 s23 t24 t25 u26 u27)
    (fun x s => (∀ y, y < x → qq_NR n ls len bt (8 + y) (qq_gb 7 s (14 + y))) ∧ (∀ r j, (r < 14 ∨ 14 + x ≤ r) → j < 224 → qq_gb 7 s r j = qq_gb 7 a5 r j)) N 0 a5 (by omega) ⟨fun y hy => absurd hy (by omega), fun _ _ _ _ => rfl⟩ ?_ ?_
  · intro f' s ⟨q1, q2⟩
    exact pk_le N N (fun _ => H _ _ s s22 s23 t24 t25 u26 u27 ⟨N, cs, L, R, len, bt, rfl, rfl, hs, F, hLR, k1, k2, k3, q1⟩ (fun r j hr hj => q2 r j (Or.inl hr) hj)) (fun z => absurd z (by omega))
  · intro f' x s hx ⟨q1, q2⟩ hk
    have NI := k3 (by omega)
    refine pk_le N x (fun z => absurd z (by omega)) (fun _ => wq_packNode x (by omega) hn hL hcl k1 (fun y hy => ?_) (fun j hj => ?_) (fun s' p1 p2 => nm_r (nI_1 x) (hk s' ⟨fun y hy => ?_, fun r j hr hj => ?_⟩)))
    · have nm : qq_nm N L R 0 y := by
        rcases hy with hy | ⟨i, hi, hy⟩
        · rw [hy]
          exact qq_nm_node F hx
        · rw [← hy]
          exact qq_nm_letter F (by omega) (hcl i hi) (qq_live hcl hi)
      obtain ⟨b1, b2⟩ := NI.2.2.2.1 y nm
      have : 2 ^ len y ≤ 2 ^ 7 := Nat.pow_le_pow_right (by decide) (by omega)
      exact ⟨by omega, by omega⟩
    · rw [q2 _ _ (Or.inr (Nat.le_refl _)) hj]
      exact hz _ _ (by omega) (by omega) hj
    · by_cases z : y = x
      · rw [z]
        exact p1
      · exact qq_NR_congr hn (q1 y (by omega)) (fun j hj => p2 _ j (by omega) hj)
    · rw [p2 r j (by omega) hj]
      exact q2 r j (by omega) hj
end
/-! pure, asked -/
def qq_pb (len bt : Nat → Nat) (y z : Nat) : Bool := decide (len y ≤ len z ∧ bt z % 2 ^ len y = bt y)
def qq_pC (ls len bt : Nat → Nat) (y m : Nat) : Nat := qq_ct (fun j => qq_pb len bt y (ls j)) m
theorem qq_ms (x l : Nat) : x % 2 ^ (l + 1) = x % 2 ^ l + 2 ^ l * (x.testBit l).toNat := by
  rw [Nat.mod_pow_succ, Nat.testBit_eq_decide_div_mod_eq]
  congr 2
  have h : x / 2 ^ l % 2 = 0 ∨ x / 2 ^ l % 2 = 1 := by omega
  rcases h with e | e <;> rw [e] <;> rfl
/-- a letter of the list is below no named item but itself -/
theorem qq_k1 {w0 : Nat → Nat} {N : Nat} {L R len bt : Nat → Nat} (F : qq_HF w0 N L R) (hN : 0 < N) (NI : qq_NI N L R 0 len bt) {c z : Nat} (hc : c < 8) (hw : 0 < w0 c) (hz : qq_nm N L R 0 z) (h : qq_pb len bt c z = true) : c = z :=
  Classical.byContradiction (fun ne => NI.2.2.2.2 c z (qq_nm_letter F hN hc hw) (by omega) hz ne (by
    unfold qq_pb at h
    have h2 := of_decide_eq_true h
    exact h2))
theorem qq_k2 {w0 : Nat → Nat} {N : Nat} {L R len bt : Nat → Nat} (F : qq_HF w0 N L R) (hN : 0 < N) (NI : qq_NI N L R 0 len bt) {x e : Nat} (hx : x < N) (he : e < 8) (hw : 0 < w0 e) : qq_pb len bt (8 + x) e = qq_un len bt (8 + x) e := by
  unfold qq_pb qq_un
  by_cases z : len (8 + x) = len e
  · rw [decide_eq_false (p := len (8 + x) < len e ∧ _) (fun q => absurd q.1 (by omega))]
    refine decide_eq_false (fun q => ?_)
    have nx := qq_nm_node F hx
    have b1 := (NI.2.2.2.1 _ nx).1
    have b2 := (NI.2.2.2.1 _ (qq_nm_letter F hN he hw)).1
    have q2 := q.2
    rw [z, Nat.mod_eq_of_lt b2] at q2
    have := qq_k1 F hN NI he hw nx (decide_eq_true ⟨by omega, by rw [← z, Nat.mod_eq_of_lt b1]; exact q2.symm⟩)
    omega
  · by_cases y : len (8 + x) < len e
    · by_cases u : bt e % 2 ^ len (8 + x) = bt (8 + x)
      · rw [decide_eq_true ⟨by omega, u⟩, decide_eq_true ⟨y, u⟩]
      · rw [decide_eq_false (fun q => u q.2), decide_eq_false (fun q => u q.2)]
    · rw [decide_eq_false (fun q => absurd q.1 (by omega)), decide_eq_false (fun q => absurd q.1 (by omega))]
theorem qq_k3 {N : Nat} {L R len bt : Nat → Nat} (F : qq_NI N L R 0 len bt) {x : Nat} (hx : x < N) (hb : bt (8 + x) < 2 ^ len (8 + x)) (e : Nat) :
    qq_pb len bt (R x) e = (qq_un len bt (8 + x) e && (bt e).testBit (len (8 + x))) ∧ qq_pb len bt (L x) e = (qq_un len bt (8 + x) e && !(bt e).testBit (len (8 + x))) := by
  obtain ⟨h1, h2, h3, h4⟩ := F.2.2.1 x (by omega) hx
  have ms := qq_ms (bt e) (len (8 + x))
  have ml := Nat.mod_lt (bt e) (Nat.two_pow_pos (len (8 + x)))
  unfold qq_pb qq_un
  rw [h1, h2, h3, h4, ms]
  generalize bt e % 2 ^ len (8 + x) = u at *
  generalize 2 ^ len (8 + x) = p at *
  cases (bt e).testBit (len (8 + x))
  · rw [Bool.and_false, show (!false) = true from rfl, Bool.and_true]
    refine ⟨decide_eq_false (fun q => ?_), ?_⟩
    · have := q.2
      have t : p * Bool.toNat false = 0 := Nat.mul_zero p
      omega
    · rw [show p * Bool.toNat false = 0 from Nat.mul_zero p, Nat.add_zero]
      congr 1
  · rw [Bool.and_true, show (!true) = false from rfl, Bool.and_false]
    have t : p * Bool.toNat true = p := Nat.mul_one p
    rw [t]
    refine ⟨?_, decide_eq_false (fun q => ?_)⟩
    · by_cases z : len (8 + x) < len e ∧ u = bt (8 + x)
      · rw [decide_eq_true z, decide_eq_true ⟨by omega, by omega⟩]
      · rw [decide_eq_false z, decide_eq_false (fun q => z ⟨by omega, by omega⟩)]
    · have := q.2
      omega
section
variable {f0_n f0_isPacked f0_runCount f0_nodes f0_codeSum : Int32} {a1 a2 a3 a4 a5 a6 a7 a8 a9 a10 a11 a12 a13 a14 a15 a16 a17 a18 a19 a20 a21 a22 a23 a24 a25 a26 a27 : Nat → Int32}
theorem wq_rc24 {post : Int32 → Prop} {n : Nat} {ls : Nat → Nat} (c m N : Nat) {L R len bt : Nat → Nat} (hc : c < 8) (hm : m ≤ n) (hn : n ≤ 200) (hcl : ∀ i, i < n → ls i < 8) (hwc : 0 < qq_w0 n ls c) (RS : ∀ r, r < 21 → qq_RS a5 a6 a7 r)
    (hN : 0 < N) (F : qq_HF (qq_w0 n ls) N L R) (hLR : ∀ x, x < N → a22 x = nI (L x) ∧ a23 x = nI (R x)) (h26 : ∀ y, y < 16 → a26 y = nI (len y) ∧ a27 y = nI (bt y)) (NI : qq_NI N L R 0 len bt) (NR : ∀ x, x < N → qq_NR n ls len bt (8 + x) (qq_gb 7 a5 (14 + x)))
    (hp : post (nI (qq_rk ls c m))) : ∀ d y, len c = len y + d → qq_nm N L R 0 y → qq_pb len bt y c = true → wX_rankInCodes_24 post (nI c) (nI n) f0_isPacked f0_runCount (nI N) f0_codeSum a1 a2 a3 a4 a5 a6 a7 a8 a9 a10 a11 a12 a13 a14 a15 a16 a17 a18 a19 a20 a21 a22 a23 a24 a25 a26 a27 (d + 1) (nI y - 8) (nI (qq_pC ls len bt y m)) (nI (len y)) := by
  obtain ⟨c26, c27⟩ := h26 c (by omega)
  have q26 := qq_rd c c26
  have q27 := qq_rd c c27
  have nc := qq_nm_letter F hN hc hwc
  obtain ⟨bc, lc⟩ := NI.2.2.2.1 c nc
  have N7 := F.1
  have bc7 : 2 ^ len c ≤ 2 ^ 7 := Nat.pow_le_pow_right (by decide) (by omega)
  intro d
  induction d with
  | zero =>
    intro y hd ny hpre
    have e : c = y := by
      refine qq_k1 F hN NI hc hwc ny (decide_eq_true ⟨by omega, ?_⟩)
      have h := (of_decide_eq_true hpre).2
      have hb := (NI.2.2.2.1 y ny).1
      rw [show len y = len c by omega] at h hb
      rw [Nat.mod_eq_of_lt hb, ← h, Nat.mod_eq_of_lt bc]
    subst e
    refine And.intro (pk_in c 16 (by omega)) (pk_le (len c) (len c) (fun _ => ?_) (fun z => absurd z (by omega)) q26)
    have e2 : qq_pC ls len bt c m = qq_rk ls c m := qq_ct_congr (fun j hj => by
      have lj := hcl j (by omega)
      have wj := qq_live hcl (show j < n by omega)
      cases t : qq_pb len bt c (ls j)
      · symm
        refine decide_eq_false (fun q => ?_)
        rw [q] at t
        have := of_decide_eq_false t
        exact this ⟨Nat.le_refl _, Nat.mod_eq_of_lt bc⟩
      · symm
        exact decide_eq_true (qq_k1 F hN NI hc hwc (qq_nm_letter F hN lj wj) t).symm)
    rw [e2]
    exact hp
  | succ d ih =>
    intro y hd ny hpre
    -- y is a node
    have hy8 : 8 ≤ y ∧ y - 8 < N := by
      rcases ny with z | ⟨x, _, x2, x3⟩
      · omega
      · have f2 := F.2.1 x x2
        have f3 := F.2.2.1 x x2
        refine Classical.byContradiction (fun q => ?_)
        have y8 : y < 8 := by omega
        have wy : 0 < qq_w0 n ls y := by
          rcases x3 with x3 | x3
          · rw [← x3]; exact f3.1 (by omega)
          · rw [← x3]; exact f3.2 (by omega)
        have := qq_k1 F hN NI y8 wy nc hpre
        rw [this] at hd
        omega
    obtain ⟨x, rfl⟩ : ∃ x, y = 8 + x := ⟨y - 8, by omega⟩
    have hx : x < N := by omega
    obtain ⟨r22, r23⟩ := hLR x hx
    have b8 := (NI.2.2.2.1 _ ny).1
    have e8 : nI (8 + x) - 8 = nI x := by
      rw [show nI (8 + x) - 8 = nI (8 + x - 8) from pk_sub (b := 8) (by omega)]
      congr 1
      omega
    obtain ⟨i1, i2, i3, i4⟩ := NI.2.2.1 x (by omega) hx
    have f2 := F.2.1 x hx
    have uC : qq_pC ls len bt (8 + x) m = qq_uC ls len bt (8 + x) m := qq_ct_congr (fun j hj => qq_k2 F hN NI hx (hcl j (by omega)) (qq_live hcl (by omega)))
    have nr := NR x hx m hm
    have cR : qq_pC ls len bt (R x) m = qq_uO ls len bt (8 + x) m := qq_ct_congr (fun j _ => (qq_k3 NI hx b8 (ls j)).1)
    have cL : qq_pC ls len bt (L x) m = qq_uC ls len bt (8 + x) m - qq_uO ls len bt (8 + x) m := by
      have s := qq_ct_split (fun j => qq_un len bt (8 + x) (ls j)) (fun j => (bt (ls j)).testBit (len (8 + x))) m
      have e : qq_pC ls len bt (L x) m = qq_ct (fun j => qq_un len bt (8 + x) (ls j) && !(bt (ls j)).testBit (len (8 + x))) m := qq_ct_congr (fun j _ => (qq_k3 NI hx b8 (ls j)).2)
      rw [e]
      have s2 : qq_uC ls len bt (8 + x) m = qq_uO ls len bt (8 + x) m + _ := s
      omega
    have um : qq_uC ls len bt (8 + x) m ≤ m := qq_ct_le _ _
    have oc : qq_uO ls len bt (8 + x) m ≤ qq_uC ls len bt (8 + x) m := qq_ct_imp (fun j _ h => by
      rw [Bool.and_eq_true] at h
      exact h.1)
    have uc : qq_un len bt (8 + x) c = true := by
      rw [← qq_k2 F hN NI hx hc hwc]
      exact hpre
    have tb := qq_tb (y := bt c) (i := len (8 + x)) (by omega) (by omega)
    rw [← q27] at tb
    have k3 := qq_k3 NI hx b8 c
    rw [uc, Bool.true_and, Bool.true_and] at k3
    have nL : qq_nm N L R 0 (L x) := Or.inr ⟨x, by omega, hx, Or.inl rfl⟩
    have nR : qq_nm N L R 0 (R x) := Or.inr ⟨x, by omega, hx, Or.inr rfl⟩
    rw [e8, uC]
    refine And.intro (pk_in c 16 (by omega)) (pk_le (len c) (len (8 + x)) (fun z => absurd z (by omega)) (fun _ => ⟨pk_in c 16 (by omega), ?_⟩) q26)
    cases t : (bt c).testBit (len (8 + x))
    · rw [t] at tb k3
      refine br_t tb (wq_ones (14 + x) (qq_uC ls len bt (8 + x) m) (by omega) (by omega) (RS _ (by omega)) ?_ (nI_add 14 x))
      have := ih (L x) (by omega) nL k3.2
      rw [cL, i1] at this
      rw [nr]
      refine br_t rfl (br_t rfl ⟨pk_in x 8 (by omega), nm_r (e' := nI (L x) - 8) (by rw [nI_clamp (by omega), r22]) (nm_r (nI_1 _) ?_)⟩)
      rw [pk_sub oc]
      exact this
    · rw [t] at tb k3
      refine br_f (by rw [tb]; decide) (wq_ones (14 + x) (qq_uC ls len bt (8 + x) m) (by omega) (by omega) (RS _ (by omega)) ?_ (nI_add 14 x))
      have := ih (R x) (by omega) nR k3.1
      rw [cR, i3] at this
      rw [nr]
      exact br_f (by decide) (br_f (by decide) ⟨pk_in x 8 (by omega), nm_r (e' := nI (R x) - 8) (by rw [nI_clamp (by omega), r23]) (nm_r (nI_1 _) this)⟩)
theorem wq_rankCodes {post : Int32 → Prop} {x y : Int32} {n : Nat} {ls : Nat → Nat} (c m : Nat) (hc : c < 8) (hm : m ≤ n) (hn : n ≤ 200) (hcl : ∀ i, i < n → ls i < 8) (h2 : a2 c = nI (qq_rk ls c n)) (RS : ∀ r, r < 21 → qq_RS a5 a6 a7 r)
    (K : qq_KX n ls f0_nodes f0_codeSum a5 a22 a23 a26 a27) (hp : post (nI (qq_rk ls c m))) (hx : x = nI c := by rfl) (hy : y = nI m := by rfl) : wpX_rankInCodes post (nI n, f0_isPacked, f0_runCount, f0_nodes, f0_codeSum, a1, a2, a3, a4, a5, a6, a7, a8, a9, a10, a11, a12, a13, a14, a15, a16, a17, a18, a19, a20, a21, a22, a23, a24, a25, a26, a27) x y := by
  subst hx hy
  obtain ⟨N, cs, L, R, len, bt, rfl, rfl, hs, F, hLR, h26, h0, h1, NR⟩ := K
  have cn : qq_rk ls c n ≤ n := qq_ct_le _ _
  have cm : qq_rk ls c m ≤ qq_rk ls c n := qq_ct_mono _ hm
  have N7 := F.1
  refine And.intro (pk_in c 8 hc) (pk_eq (qq_rk ls c n) 0 (fun z => ?_) (fun z => ?_) (qq_rd c h2))
  · rw [show qq_rk ls c m = 0 by omega] at hp
    exact hp
  · have wc : 0 < qq_w0 n ls c := by rw [qq_w0_8 hc]; omega
    by_cases hN : N = 0
    · refine nm_e ⟨1, And.intro (pk_in c 16 (by omega)) (pk_le 0 0 (fun _ => ?_) (fun z => absurd z (by omega)) (qq_rd c (by rw [(h26 c (by omega)).1, h0 hN])))⟩
      have e : qq_rk ls c m = m := qq_ct_all (fun j hj => decide_eq_true (F.2.2.2.2.2 hN _ _ (hcl j (by omega)) hc (qq_live hcl (by omega)) wc))
      rw [e] at hp
      exact hp
    · have NI := h1 (by omega)
      have root : qq_nm N L R 0 (8 + (N - 1)) := Or.inl rfl
      have pr : ∀ e, qq_pb len bt (8 + (N - 1)) e = true := by
        intro e
        unfold qq_pb
        rw [NI.1, NI.2.1]
        exact decide_eq_true ⟨by omega, Nat.mod_one _⟩
      have := wq_rc24 (f0_isPacked := f0_isPacked) (f0_runCount := f0_runCount) (f0_codeSum := nI cs) (a1 := a1) (a2 := a2) (a3 := a3) (a4 := a4) (a8 := a8) (a9 := a9) (a10 := a10) (a11 := a11) (a12 := a12) (a13 := a13) (a14 := a14) (a15 := a15) (a16 := a16) (a17 := a17) (a18 := a18) (a19 := a19) (a20 := a20) (a21 := a21) (a24 := a24) (a25 := a25)
        c m N hc hm hn hcl wc RS (by omega) F hLR h26 NI NR hp (len c) (8 + (N - 1)) (by rw [NI.1]; omega) root (pr c)
      have e1 : qq_pC ls len bt (8 + (N - 1)) m = m := qq_ct_all (fun j _ => pr (ls j))
      rw [e1, NI.1] at this
      refine nm_r (e' := nI (8 + (N - 1)) - 8) ?_ ⟨_, this⟩
      rw [show nI N - 1 = nI (N - 1) from pk_sub (b := 1) (by omega), show nI (8 + (N - 1)) - 8 = nI (8 + (N - 1) - 8) from pk_sub (b := 8) (by omega)]
      congr 1
      omega
theorem wq_ac28 {post : Int32 → Prop} {n : Nat} {ls : Nat → Nat} (m N : Nat) {L R len bt : Nat → Nat} (hm : m < n) (hn : n ≤ 200) (hcl : ∀ i, i < n → ls i < 8) (RS : ∀ r, r < 21 → qq_RS a5 a6 a7 r)
    (hN : 0 < N) (F : qq_HF (qq_w0 n ls) N L R) (hLR : ∀ x, x < N → a22 x = nI (L x) ∧ a23 x = nI (R x)) (NI : qq_NI N L R 0 len bt) (NR : ∀ x, x < N → qq_NR n ls len bt (8 + x) (qq_gb 7 a5 (14 + x)))
    (hp : post (nI (ls m))) : ∀ x, x < N → qq_pb len bt (8 + x) (ls m) = true → ∀ f, wX_atInCodes_28 post (nI n) f0_isPacked f0_runCount (nI N) f0_codeSum a1 a2 a3 a4 a5 a6 a7 a8 a9 a10 a11 a12 a13 a14 a15 a16 a17 a18 a19 a20 a21 a22 a23 a24 a25 a26 a27 (x + 2 + f) (nI x) (nI (qq_pC ls len bt (8 + x) m)) (-1) := by
  have lm := hcl m hm
  have wm := qq_live hcl hm
  have nc := qq_nm_letter F hN lm wm
  have N7 := F.1
  intro x
  induction x using Nat.strongRecOn with
  | ind x ih =>
    intro hx hpre f
    obtain ⟨r22, r23⟩ := hLR x hx
    have nx := qq_nm_node F hx
    have b8 := (NI.2.2.2.1 _ nx).1
    have f2 := F.2.1 x hx
    have f3 := F.2.2.1 x hx
    have uC : qq_pC ls len bt (8 + x) m = qq_uC ls len bt (8 + x) m := qq_ct_congr (fun j hj => qq_k2 F hN NI hx (hcl j (by omega)) (qq_live hcl (by omega)))
    have nr := NR x hx m (by omega)
    have nr1 := NR x hx (m + 1) (by omega)
    have uc : qq_un len bt (8 + x) (ls m) = true := by
      rw [← qq_k2 F hN NI hx lm wm]
      exact hpre
    have cR : qq_pC ls len bt (R x) m = qq_uO ls len bt (8 + x) m := qq_ct_congr (fun j _ => (qq_k3 NI hx b8 (ls j)).1)
    have cL : qq_pC ls len bt (L x) m = qq_uC ls len bt (8 + x) m - qq_uO ls len bt (8 + x) m := by
      have s := qq_ct_split (fun j => qq_un len bt (8 + x) (ls j)) (fun j => (bt (ls j)).testBit (len (8 + x))) m
      have e : qq_pC ls len bt (L x) m = qq_ct (fun j => qq_un len bt (8 + x) (ls j) && !(bt (ls j)).testBit (len (8 + x))) m := qq_ct_congr (fun j _ => (qq_k3 NI hx b8 (ls j)).2)
      rw [e]
      have s2 : qq_uC ls len bt (8 + x) m = qq_uO ls len bt (8 + x) m + _ := s
      omega
    have um : qq_uC ls len bt (8 + x) m ≤ m := qq_ct_le _ _
    have oc : qq_uO ls len bt (8 + x) m ≤ qq_uC ls len bt (8 + x) m := qq_ct_imp (fun j _ h => by
      rw [Bool.and_eq_true] at h
      exact h.1)
    have eC : qq_uC ls len bt (8 + x) (m + 1) = qq_uC ls len bt (8 + x) m + 1 := qq_ct_t uc
    have eO : qq_uO ls len bt (8 + x) (m + 1) = qq_uO ls len bt (8 + x) m + ((bt (ls m)).testBit (len (8 + x))).toNat := by
      show _ + (qq_un len bt (8 + x) (ls m) && _).toNat = _
      rw [uc, Bool.true_and]
      rfl
    rw [eC, eO, qq_ct_s, nr] at nr1
    have bit : (qq_gb 7 a5 (14 + x) (qq_uC ls len bt (8 + x) m)).toNat = ((bt (ls m)).testBit (len (8 + x))).toNat := by omega
    have k3 := qq_k3 NI hx b8 (ls m)
    rw [uc, Bool.true_and, Bool.true_and] at k3
    -- down to a child
    have go : ∀ (y : Nat), y < 8 + x → (y < 8 → 0 < qq_w0 n ls y) → qq_pb len bt y (ls m) = true → ∀ z0 : Int32, z0 = nI (qq_pC ls len bt y m) → wX_atInCodes_91 post (wX_atInCodes_28 post (nI n) f0_isPacked f0_runCount (nI N) f0_codeSum a1 a2 a3 a4 a5 a6 a7 a8 a9 a10 a11 a12 a13 a14 a15 a16 a17 a18 a19 a20 a21 a22 a23 a24 a25 a26 a27 (x + 1 + f)) (nI y) z0 (nI n) f0_isPacked f0_runCount (nI N) f0_codeSum a1 a2 a3 a4 a5 a6 a7 a8 a9 a10 a11 a12 a13 a14 a15 a16 a17 a18 a19 a20 a21 a22 a23 a24 a25 a26 a27 := by
      intro y hy hwy hpy z0 hz0
      subst hz0
      refine pk_le 8 y (fun g => ?_) (fun g => ?_)
      · have := ih (y - 8) (by omega) (by omega) (by rw [show 8 + (y - 8) = y by omega]; exact hpy) (x - 1 - (y - 8) + f)
        rw [show 8 + (y - 8) = y by omega, show y - 8 + 2 + (x - 1 - (y - 8) + f) = x + 1 + f by omega] at this
        exact nm_r (pk_sub (b := 8) g) this
      · have e := qq_k1 F hN NI g (hwy g) nc hpy
        subst e
        rw [show x + 1 + f = x + f + 1 by omega]
        exact nm_e (pk_le 0 (ls m) (fun _ => hp) (fun z => absurd z (by omega)))
    rw [uC, show x + 2 + f = (x + 1 + f) + 1 by omega]
    refine br_f (by decide) (wq_bitAt (14 + x) (qq_uC ls len bt (8 + x) m) (by omega) (by omega) (wq_ones (14 + x) (qq_uC ls len bt (8 + x) m) (by omega) (by omega) (RS _ (by omega)) ?_ (nI_add 14 x)) (nI_add 14 x))
    rw [bit, nr]
    cases t : (bt (ls m)).testBit (len (8 + x))
    · rw [t] at k3
      refine br_t rfl ⟨pk_in x 8 (by omega), br_t rfl ?_⟩
      rw [nI_clamp (by omega), r22]
      exact go (L x) (by omega) f3.1 k3.2 _ (by rw [cL, pk_sub oc])
    · rw [t] at k3
      refine br_f (by decide) ⟨pk_in x 8 (by omega), br_f (by decide) ?_⟩
      rw [nI_clamp (by omega), r23]
      exact go (R x) (by omega) f3.2 k3.1 _ (by rw [cR])
theorem wq_atCodes {post : Int32 → Prop} {y : Int32} {n : Nat} {ls : Nat → Nat} (m : Nat) (hm : m < n) (hn : n ≤ 200) (hL : ∀ i, i < n → a1 i = nI (ls i)) (hcl : ∀ i, i < n → ls i < 8) (RS : ∀ r, r < 21 → qq_RS a5 a6 a7 r)
    (K : qq_KX n ls f0_nodes f0_codeSum a5 a22 a23 a26 a27) (hp : post (nI (ls m))) (hy : y = nI m := by rfl) : wpX_atInCodes post (nI n, f0_isPacked, f0_runCount, f0_nodes, f0_codeSum, a1, a2, a3, a4, a5, a6, a7, a8, a9, a10, a11, a12, a13, a14, a15, a16, a17, a18, a19, a20, a21, a22, a23, a24, a25, a26, a27) y := by
  subst hy
  obtain ⟨N, cs, L, R, len, bt, rfl, rfl, hs, F, hLR, h26, h0, h1, NR⟩ := K
  have N7 := F.1
  have lm := hcl m hm
  by_cases hN : N = 0
  · subst hN
    exact nm_e (br_t rfl ⟨pk_in m 200 (by omega), nm_r (qq_rd m (hL m hm)) ⟨1, pk_le 0 (ls m) (fun _ => hp) (fun z => absurd z (by omega))⟩⟩)
  · have NI := h1 (by omega)
    have pr : ∀ e, qq_pb len bt (8 + (N - 1)) e = true := by
      intro e
      unfold qq_pb
      rw [NI.1, NI.2.1]
      exact decide_eq_true ⟨by omega, Nat.mod_one _⟩
    have e1 : qq_pC ls len bt (8 + (N - 1)) m = m := qq_ct_all (fun j _ => pr (ls j))
    have := wq_ac28 (f0_isPacked := f0_isPacked) (f0_runCount := f0_runCount) (f0_codeSum := nI cs) (a1 := a1) (a2 := a2) (a3 := a3) (a4 := a4) (a8 := a8) (a9 := a9) (a10 := a10) (a11 := a11) (a12 := a12) (a13 := a13) (a14 := a14) (a15 := a15) (a16 := a16) (a17 := a17) (a18 := a18) (a19 := a19) (a20 := a20) (a21 := a21) (a24 := a24) (a25 := a25) (a26 := a26) (a27 := a27)
      m N hm hn hcl RS (by omega) F hLR NI NR hp (N - 1) (by omega) (pr _) 0
    rw [e1] at this
    exact nm_r (pk_sub (b := 1) (by omega)) (br_f (nI_ne0 (by omega) (by omega)) ⟨_, this⟩)
end
end
section
/-! ===== the packed object ===== -/
def qq_PK (n : Nat) (ls : Nat → Nat) (f0_runCount f0_nodes f0_codeSum : Int32) (a2 a5 a6 a7 a8 a9 a10 a11 a12 a13 a14 a15 a17 a18 a19 a20 a21 a22 a23 a26 a27 : Nat → Int32) : Prop :=
  (∀ c, c < 8 → a2 c = nI (qq_rk ls c n)) ∧ (∀ r, r < 21 → qq_RS a5 a6 a7 r) ∧ (∀ l, l < 3 → qq_TR n ls l (qq_gb 7 a5 l)) ∧ qq_MX n ls a5 a8 ∧ (∀ c j, c < 8 → j < n → qq_gb 7 a5 (6 + c) j = decide (ls j = c)) ∧
  qq_PX n ls a9 a10 a11 a12 ∧ qq_BX n ls a13 a14 a15 ∧ qq_RX n ls f0_runCount a17 a18 a19 a20 a21 ∧ qq_KX n ls f0_nodes f0_codeSum a5 a22 a23 a26 a27
/-- the object holds the list; packed, if it says so -/
def qq_Rp (n : Nat) (ls : Nat → Nat) (u : St1) : Prop := match u with
  | (f0_n, f0_isPacked, f0_runCount, f0_nodes, f0_codeSum, a1, a2, a3, a4, a5, a6, a7, a8, a9, a10, a11, a12, a13, a14, a15, a16, a17, a18, a19, a20, a21, a22, a23, a24, a25, a26, a27) => f0_n = nI n ∧ n ≤ 200 ∧ (∀ i, i < n → a1 i = nI (ls i)) ∧ (∀ i, i < n → ls i < 8) ∧ qq_CH a16 ∧ (¬ f0_isPacked = 0 → qq_PK n ls f0_runCount f0_nodes f0_codeSum a2 a5 a6 a7 a8 a9 a10 a11 a12 a13 a14 a15 a17 a18 a19 a20 a21 a22 a23 a26 a27)
def qq_Rq (n : Nat) (ls : Nat → Nat) (u : St1) : Prop := match u with
  | (f0_n, f0_isPacked, f0_runCount, f0_nodes, f0_codeSum, a1, a2, a3, a4, a5, a6, a7, a8, a9, a10, a11, a12, a13, a14, a15, a16, a17, a18, a19, a20, a21, a22, a23, a24, a25, a26, a27) => f0_n = nI n ∧ n ≤ 200 ∧ (∀ i, i < n → a1 i = nI (ls i)) ∧ (∀ i, i < n → ls i < 8) ∧ qq_CH a16 ∧ qq_PK n ls f0_runCount f0_nodes f0_codeSum a2 a5 a6 a7 a8 a9 a10 a11 a12 a13 a14 a15 a17 a18 a19 a20 a21 a22 a23 a26 a27
theorem qq_Rqp {n : Nat} {ls : Nat → Nat} {u : St1} (h : qq_Rq n ls u) : qq_Rp n ls u := by
  obtain ⟨f0_n, f0_isPacked, f0_runCount, f0_nodes, f0_codeSum, a1, a2, a3, a4, a5, a6, a7, a8, a9, a10, a11, a12, a13, a14, a15, a16, a17, a18, a19, a20, a21, a22, a23, a24, a25, a26, a27⟩ := u
  obtain ⟨h1, h2, h3, h4, h5, h6⟩ := h
  exact ⟨h1, h2, h3, h4, h5, fun _ => h6⟩
section
variable {f0_n f0_isPacked f0_runCount f0_nodes f0_codeSum : Int32} {a1 a2 a3 a4 a5 a6 a7 a8 a9 a10 a11 a12 a13 a14 a15 a16 a17 a18 a19 a20 a21 a22 a23 a24 a25 a26 a27 : Nat → Int32}
theorem wq_pack101 {post : St1 → Prop} {n : Nat} {ls : Nat → Nat} (hn : n ≤ 200) (hL : ∀ i, i < n → a1 i = nI (ls i)) (hcl : ∀ i, i < n → ls i < 8) (C : qq_CH a16) (h2 : ∀ c, c < 8 → a2 c = nI (qq_rk ls c n))
    (hT : ∀ l, l < 3 → qq_TR n ls l (qq_gb 7 a5 l)) (hM : qq_MX n ls a5 a8) (hP : ∀ c j, c < 8 → j < n → qq_gb 7 a5 (6 + c) j = decide (ls j = c)) (hK : qq_KX n ls f0_nodes f0_codeSum a5 a22 a23 a26 a27)
    (H : ∀ u', qq_Rq n ls u' → post u') : ∃ f, wX_pack_101 post f 0 (nI n) f0_isPacked f0_runCount f0_nodes f0_codeSum a1 a2 a3 a4 a5 a6 a7 a8 a9 a10 a11 a12 a13 a14 a15 a16 a17 a18 a19 a20 a21 a22 a23 a24 a25 a26 a27 := by
  refine pk_loop (σ := (Nat → Int32) × (Nat → Int32)) (fun f r t => wX_pack_101 post f (nI r) (nI n) f0_isPacked f0_runCount f0_nodes f0_codeSum a1 a2 a3 a4 a5 t.1 t.2 a8 a9 a10 a11 a12 a13 a14 a15 a16 a17 a18 a19 a20 a21 a22 a23 a24 a25 a26 a27) (fun r t => ∀ q, q < r → qq_RS a5 t.1 t.2 q) 21 0 (a6, a7) (by omega) (fun q hq => absurd hq (by omega)) ?_ ?_
  · intro f ⟨s6, s7⟩ h
    have h : ∀ q, q < 21 → qq_RS a5 s6 s7 q := h
    refine pk_le 21 21 (fun _ => wq_packParts hn hL hcl h2 (fun s9 s10 s11 s12 X => ?_)) (fun z => absurd z (by omega))
    refine wq_packBlocks hn hL hcl C (fun s13 s14 s15 B => ?_)
    refine wq_packRuns hn hL hcl (fun rc s17 s18 s19 s20 s21 U => ?_)
    exact H _ ⟨rfl, hn, hL, hcl, C, h2, h, hT, hM, hP, X, B, U, hK⟩
  · intro f r ⟨s6, s7⟩ hr h hk
    have h : ∀ q, q < r → qq_RS a5 s6 s7 q := h
    refine pk_le 21 r (fun z => absurd z (by omega)) (fun _ => wq_sumRow r hr (fun t6 t7 g1 g2 g3 => nm_r (nI_1 r) (hk (t6, t7) ?_)))
    intro q hq
    show qq_RS a5 t6 t7 q
    by_cases z : q = r
    · rw [z]
      exact g1
    · obtain ⟨p1, p2⟩ := h q (by omega)
      refine ⟨fun w hw => ?_, fun b hb => ?_⟩
      · rw [g2 _ (by omega)]
        exact p1 w hw
      · rw [g3 _ (by omega)]
        exact p2 b hb
theorem wq_pack53 {post : St1 → Prop} {n : Nat} {ls : Nat → Nat} (hn : n ≤ 200) (hL : ∀ i, i < n → a1 i = nI (ls i)) (hcl : ∀ i, i < n → ls i < 8) (C : qq_CH a16) (h2 : ∀ c, c < 8 → a2 c = 0)
    (hz : ∀ r j, r < 21 → j < 224 → qq_gb 7 a5 r j = false)
    (H : ∀ u', qq_Rq n ls u' → post u') : ∃ f, wX_pack_53 post (nI n) f0_isPacked f0_runCount f0_nodes f0_codeSum f 0 a1 a2 a3 a4 a5 a6 a7 a8 a9 a10 a11 a12 a13 a14 a15 a16 a17 a18 a19 a20 a21 a22 a23 a24 a25 a26 a27 := by
  refine pk_loop (σ := Nat → Int32) (fun f m s => wX_pack_53 post (nI n) f0_isPacked f0_runCount f0_nodes f0_codeSum f (nI m) a1 s a3 a4 a5 a6 a7 a8 a9 a10 a11 a12 a13 a14 a15 a16 a17 a18 a19 a20 a21 a22 a23 a24 a25 a26 a27) (fun m s => ∀ c, c < 8 → s c = nI (qq_rk ls c m)) n 0 a2 (by omega) (fun c hc => h2 c hc) ?_ ?_
  · intro f s h
    refine pk_le n n (fun _ => wq_packTree hn hL hcl (fun r j hr hj => hz r j (by omega) hj) (fun t5 T1 T2 => ?_)) (fun z => absurd z (by omega))
    refine wq_packMatrix hn hL hcl (fun r j h1 h2 hj => ?_) (fun s3 s4 u5 s8 M1 M2 => ?_)
    · rw [T2 r j h1 hj]
      exact hz r j (by omega) hj
    refine wq_packMaps hn hL hcl (fun r j h1 h2 hj => ?_) (fun v5 P1 P2 => ?_)
    · rw [M2 r j (by omega) hj, T2 r j (by omega) hj]
      exact hz r j (by omega) hj
    refine wq_packCodes hn hL hcl h (fun r j h1 h2 hj => ?_) (fun nodes cs w5 s22 s23 s24 s25 s26 s27 K1 K2 => ?_)
    · rw [P2 r j (by omega) hj, M2 r j (by omega) hj, T2 r j (by omega) hj]
      exact hz r j (by omega) hj
    refine wq_pack101 hn hL hcl C h (fun l hl => qq_TR_congr hn (T1 l hl) (fun j hj => ?_)) (qq_MX_congr hn M1 (fun r j h1 h2 hj => ?_)) (fun c j hc hj => ?_) K1 H
    · rw [K2 l j (by omega) hj, P2 l j (by omega) hj, M2 l j (by omega) hj]
    · rw [K2 r j (by omega) hj, P2 r j (by omega) hj]
    · rw [K2 (6 + c) j (by omega) (by omega)]
      exact P1 c j hc hj
  · intro f m s hm h hk
    have e8 := hcl m hm
    have ea : a1 (nI m).toNatClampNeg = nI (ls m) := qq_rd m (hL m hm)
    have rm : qq_rk ls (ls m) m ≤ m := qq_ct_le _ _
    refine pk_le n m (fun z => absurd z (by omega)) (fun _ => ⟨pk_in m 200 (by omega), pk_in (ls m) 8 e8 ea, pk_in (ls m) 8 e8 ea, nm_r (e' := upd s (ls m) (nI (qq_rk ls (ls m) m + 1))) ?_ (nm_r (nI_1 m) (hk _ ?_))⟩)
    · rw [ea, nI_clamp (by omega), h _ e8, nI_1, qq_i16 (by omega)]
    · intro c hc
      by_cases z : c = ls m
      · rw [z, pk_us, qq_rk_t rfl]
      · rw [pk_un z, qq_rk_f (fun q => z q.symm)]
        exact h c hc
end
theorem wq_pack {post : St1 → Prop} {n : Nat} {ls : Nat → Nat} {u : St1} (h : qq_Rp n ls u) (H : ∀ u', qq_Rq n ls u' → post u') : wpX_pack post u := by
  obtain ⟨f0_n, f0_isPacked, f0_runCount, f0_nodes, f0_codeSum, a1, a2, a3, a4, a5, a6, a7, a8, a9, a10, a11, a12, a13, a14, a15, a16, a17, a18, a19, a20, a21, a22, a23, a24, a25, a26, a27⟩ := u
  obtain ⟨rfl, hn, hL, hcl, C, hP⟩ := h
  refine br_c (fun _ => ?_) (fun z => H _ ⟨rfl, hn, hL, hcl, C, hP z⟩)
  refine pk_loop (σ := Nat → Int32) (fun f m s => wX_pack_10 post (nI n) f0_isPacked f0_runCount f0_nodes f0_codeSum f (nI m) a1 a2 a3 a4 s a6 a7 a8 a9 a10 a11 a12 a13 a14 a15 a16 a17 a18 a19 a20 a21 a22 a23 a24 a25 a26 a27) (fun m s => ∀ j, j < m → s j = 0) 147 0 a5 (by omega) (fun j hj => absurd hj (by omega)) ?_ ?_
  rotate_left
  · intro f m s hm h hk
    refine pk_le 147 m (fun z => absurd z (by omega)) (fun _ => ⟨pk_in m 147 (by omega), nm_r (e' := upd s m 0) (by rw [nI_clamp (by omega)]) (nm_r (nI_1 m) (hk _ ?_))⟩)
    intro j hj
    by_cases z : j = m
    · rw [z, pk_us]
    · rw [pk_un z]
      exact h j (by omega)
  intro f s5 h5
  have hz : ∀ r j, r < 21 → j < 224 → qq_gb 7 s5 r j = false := by
    intro r j hr hj
    unfold qq_gb
    rw [h5 _ (by omega)]
    exact qq_bt_0 _
  refine pk_le 147 147 (fun _ => ?_) (fun z => absurd z (by omega))
  refine pk_loop (σ := Nat → Int32) (fun f m s => wX_pack_32 post (nI n) f0_isPacked f0_runCount f0_nodes f0_codeSum f (nI m) a1 s a3 a4 s5 a6 a7 a8 a9 a10 a11 a12 a13 a14 a15 a16 a17 a18 a19 a20 a21 a22 a23 a24 a25 a26 a27) (fun m s => ∀ j, j < m → s j = 0) 8 0 a2 (by omega) (fun j hj => absurd hj (by omega)) ?_ ?_
  · intro f s h
    exact pk_le 8 8 (fun _ => wq_pack53 hn hL hcl C h hz H) (fun z => absurd z (by omega))
  · intro f m s hm h hk
    refine pk_le 8 m (fun z => absurd z (by omega)) (fun _ => ⟨pk_in m 8 (by omega), nm_r (e' := upd s m 0) (by rw [nI_clamp (by omega)]) (nm_r (nI_1 m) (hk _ ?_))⟩)
    intro j hj
    by_cases z : j = m
    · rw [z, pk_us]
    · rw [pk_un z]
      exact h j (by omega)
end
section
/-! ===== a packed object is asked by an engine ===== -/
theorem wq_rankBy {post : Int32 → Prop} {n : Nat} {ls : Nat → Nat} {u : St1} {x y z : Int32} (h : qq_Rq n ls u) (e c m : Nat) (he : e < 7) (hc : c < 8) (hm : m ≤ n) (hp : post (nI (qq_rk ls c m)))
    (hx : x = nI e := by rfl) (hy : y = nI c := by rfl) (hz : z = nI m := by rfl) : wpX_rankBy post u x y z := by
  subst hx hy hz
  obtain ⟨f0_n, f0_isPacked, f0_runCount, f0_nodes, f0_codeSum, a1, a2, a3, a4, a5, a6, a7, a8, a9, a10, a11, a12, a13, a14, a15, a16, a17, a18, a19, a20, a21, a22, a23, a24, a25, a26, a27⟩ := u
  obtain ⟨rfl, hn, hL, hcl, C, h2, RS, T, M, P, X, B, U, K⟩ := h
  refine pk_lt e 0 (fun z => absurd z (by omega)) (fun _ => pk_lt 5 e (fun _ => ?_) (fun _ => pk_eq e 0 (fun _ => ?_) (fun _ => pk_eq e 1 (fun _ => ?_) (fun _ => pk_eq e 2 (fun _ => ?_) (fun _ => pk_eq e 3 (fun _ => ?_) (fun _ => pk_eq e 4 (fun _ => ?_) (fun _ => pk_eq e 5 (fun _ => ?_) (fun _ => trivial))))))))
  · exact wq_rankCodes c m hc hm hn hcl (h2 c hc) RS K hp
  · exact wq_rankTree c m hc hm hn hcl RS T hp
  · exact wq_rankMatrix c m hc hm hn hcl RS M hp
  · refine wq_ones (6 + c) m (by omega) (by omega) (RS _ (by omega)) ?_ (nI_add 6 c)
    have e : qq_ct (qq_gb 7 a5 (6 + c)) m = qq_rk ls c m := qq_ct_congr (fun j hj => P c j hc (by omega))
    rw [e]
    exact hp
  · exact wq_rankParts c m hc hm hn (h2 c hc) X hp
  · exact wq_rankBlocks c m hc hm hn C B hp
  · exact wq_rankRuns c m hc hm hn hcl U hp
theorem wq_atByRanks {post : Int32 → Prop} {n : Nat} {ls : Nat → Nat} {u : St1} {x y : Int32} (h : qq_Rq n ls u) (e i : Nat) (he : e < 7) (hi : i < n) (hp : post (nI (ls i)))
    (hx : x = nI e := by rfl) (hy : y = nI i := by rfl) : wpX_atByRanks post u x y := by
  subst hx hy
  obtain ⟨f0_n, f0_isPacked, f0_runCount, f0_nodes, f0_codeSum, a1, a2, a3, a4, a5, a6, a7, a8, a9, a10, a11, a12, a13, a14, a15, a16, a17, a18, a19, a20, a21, a22, a23, a24, a25, a26, a27⟩ := u
  have hcl : ∀ i, i < n → ls i < 8 := h.2.2.2.1
  have hn : n ≤ 200 := h.2.1
  have l8 := hcl i hi
  refine pk_loop (σ := Int32) (fun f c t => wX_atByRanks_5 post (nI e) (nI i) f0_n f0_isPacked f0_runCount f0_nodes f0_codeSum a1 a2 a3 a4 a5 a6 a7 a8 a9 a10 a11 a12 a13 a14 a15 a16 a17 a18 a19 a20 a21 a22 a23 a24 a25 a26 a27 f t (nI c)) (fun c t => t = nI (if ls i < c then ls i else 0)) 8 0 0 (by omega) rfl ?_ ?_
  · intro f t ht
    rw [if_pos l8] at ht
    subst ht
    exact pk_le 8 8 (fun _ => hp) (fun z => absurd z (by omega))
  · intro f c t hc ht hk
    have cm : qq_rk ls c (i + 1) ≤ i + 1 := qq_ct_le _ _
    have ci : qq_rk ls c i ≤ i := qq_ct_le _ _
    refine pk_le 8 c (fun z => absurd z (by omega)) (fun _ => wq_rankBy h e c i he hc (by omega) (wq_rankBy h e c (i + 1) he hc (by omega) ?_ rfl rfl (nI_1 i)))
    refine pk_le (qq_rk ls c (i + 1)) (qq_rk ls c i) (fun g => nm_r (nI_1 c) (hk _ ?_)) (fun g => nm_r (nI_1 c) (hk _ ?_))
    · have ne : ls i ≠ c := fun q => by rw [qq_rk_t q] at g; omega
      rw [ht]
      by_cases z : ls i < c
      · rw [if_pos z, if_pos (by omega)]
      · rw [if_neg z, if_neg (by omega)]
    · have eq : ls i = c := Classical.byContradiction (fun q => by rw [qq_rk_f q] at g; omega)
      rw [if_pos (by omega), eq]
theorem wq_atBy {post : Int32 → Prop} {n : Nat} {ls : Nat → Nat} {u : St1} {x y : Int32} (h : qq_Rq n ls u) (e i : Nat) (he : e < 7) (hi : i < n) (hp : post (nI (ls i)))
    (hx : x = nI e := by rfl) (hy : y = nI i := by rfl) : wpX_atBy post u x y := by
  subst hx hy
  obtain ⟨f0_n, f0_isPacked, f0_runCount, f0_nodes, f0_codeSum, a1, a2, a3, a4, a5, a6, a7, a8, a9, a10, a11, a12, a13, a14, a15, a16, a17, a18, a19, a20, a21, a22, a23, a24, a25, a26, a27⟩ := u
  have h' := h
  obtain ⟨rfl, hn, hL, hcl, C, h2, RS, T, M, P, X, B, U, K⟩ := h'
  refine pk_eq e 0 (fun _ => ?_) (fun _ => pk_eq e 1 (fun _ => ?_) (fun _ => pk_eq e 6 (fun _ => ?_) (fun _ => pk_eq e 5 (fun _ => ?_) (fun _ => ?_))))
  · exact wq_atTree i hi hn hcl RS T hp
  · exact wq_atMatrix i hi hn hcl RS M hp
  · exact wq_atCodes i hi hn hL hcl RS K hp
  · exact wq_atRuns i hi hn U hp
  · exact wq_atByRanks h e i he hi hp
section
variable {f0_n f0_isPacked f0_runCount f0_nodes f0_codeSum : Int32} {a1 a2 a3 a4 a5 a6 a7 a8 a9 a10 a11 a12 a13 a14 a15 a16 a17 a18 a19 a20 a21 a22 a23 a24 a25 a26 a27 : Nat → Int32}
theorem wq_sr44_0 {post : Int32 → Prop} {J : Int32 → Int32 → Prop} {x1 x2 x3 x4 x5 x6 : Int32} (h : J x4 x6) : wX_selectByRanks_44 post J x1 x2 x3 x4 x5 x6 0 f0_n f0_isPacked f0_runCount f0_nodes f0_codeSum a1 a2 a3 a4 a5 a6 a7 a8 a9 a10 a11 a12 a13 a14 a15 a16 a17 a18 a19 a20 a21 a22 a23 a24 a25 a26 a27 := br_t rfl (br_t rfl h)
theorem wq_sr44_1 {post : Int32 → Prop} {J : Int32 → Int32 → Prop} {x1 x2 x3 x4 x5 x6 v : Int32} (e : x6 + 1 = v) (h : J v x5) : wX_selectByRanks_44 post J x1 x2 x3 x4 x5 x6 1 f0_n f0_isPacked f0_runCount f0_nodes f0_codeSum a1 a2 a3 a4 a5 a6 a7 a8 a9 a10 a11 a12 a13 a14 a15 a16 a17 a18 a19 a20 a21 a22 a23 a24 a25 a26 a27 := by
  subst e
  exact br_f (by decide) (br_f (by decide) h)
end
theorem wq_selByRanks {post : Int32 → Prop} {n : Nat} {ls : Nat → Nat} {u : St1} {x y z : Int32} (h : qq_Rq n ls u) (e c p : Nat) (he : e < 7) (hc : c < 8) (hpn : p < n) (hpc : ls p = c) (hp : post (nI p))
    (hz : z = nI (qq_rk ls c p)) (hx : x = nI e := by rfl) (hy : y = nI c := by rfl) : wpX_selectByRanks post u x y z := by
  subst hx hy hz
  obtain ⟨f0_n, f0_isPacked, f0_runCount, f0_nodes, f0_codeSum, a1, a2, a3, a4, a5, a6, a7, a8, a9, a10, a11, a12, a13, a14, a15, a16, a17, a18, a19, a20, a21, a22, a23, a24, a25, a26, a27⟩ := u
  have e1 : f0_n = nI n := h.1
  subst e1
  have hn : n ≤ 200 := h.2.1
  have cp : qq_rk ls c p ≤ p := qq_ct_le _ _
  refine loop_m (σ := Nat × Nat) (fun f s => wX_selectByRanks_9 post (nI e) (nI c) (nI (qq_rk ls c p)) (nI n) f0_isPacked f0_runCount f0_nodes f0_codeSum a1 a2 a3 a4 a5 a6 a7 a8 a9 a10 a11 a12 a13 a14 a15 a16 a17 a18 a19 a20 a21 a22 a23 a24 a25 a26 a27 f (nI s.1) (nI s.2)) (fun s => s.1 ≤ p ∧ p ≤ s.2 ∧ s.2 ≤ n) (fun s => s.2 - s.1) ?_ (0, n) ⟨by omega, by omega, Nat.le_refl _⟩
  intro f ⟨lo, hi⟩ ⟨g1, g2, g3⟩ hw
  have g1 : lo ≤ p := g1
  have g2 : p ≤ hi := g2
  have g3 : hi ≤ n := g3
  refine pk_le hi lo (fun g => ?_) (fun g => ⟨by decide, nm_r (qq_mid (by omega)) (wq_rankBy h e c ((lo + hi) / 2 + 1) he hc (by omega) ?_ rfl rfl (nI_1 _))⟩)
  · have : lo = p := by omega
    subst this
    exact hp
  · have cm : qq_rk ls c ((lo + hi) / 2 + 1) ≤ (lo + hi) / 2 + 1 := qq_ct_le _ _
    have t : qq_rk ls c (p + 1) = qq_rk ls c p + 1 := qq_rk_t hpc
    refine pk_lt (qq_rk ls c p) (qq_rk ls c ((lo + hi) / 2 + 1)) (fun g2' => wq_sr44_0 (hw (lo, (lo + hi) / 2) ⟨g1, ?_, ?_⟩ ?_)) (fun g2' => wq_sr44_1 (nI_1 _) (hw ((lo + hi) / 2 + 1, hi) ⟨?_, g2, g3⟩ ?_))
    · show p ≤ (lo + hi) / 2
      rcases Nat.lt_or_ge ((lo + hi) / 2) p with z | z
      · have : qq_rk ls c ((lo + hi) / 2 + 1) ≤ qq_rk ls c p := qq_ct_mono _ (by omega)
        omega
      · exact z
    · show (lo + hi) / 2 ≤ n
      omega
    · show (lo + hi) / 2 - lo < hi - lo
      omega
    · show (lo + hi) / 2 + 1 ≤ p
      rcases Nat.lt_or_ge ((lo + hi) / 2) p with z | z
      · exact z
      · have : qq_rk ls c (p + 1) ≤ qq_rk ls c ((lo + hi) / 2 + 1) := qq_ct_mono _ (by omega)
        omega
    · show hi - ((lo + hi) / 2 + 1) < hi - lo
      omega
theorem wq_inRange {post : Int32 → Prop} {n : Nat} {ls : Nat → Nat} {u : St1} {x y z t : Int32} (h : qq_Rq n ls u) (e c i j : Nat) (he : e < 7) (hc : c < 8) (hij : i ≤ j) (hj : j ≤ n) (hp : post (nI (qq_rk ls c j - qq_rk ls c i)))
    (hx : x = nI e := by rfl) (hy : y = nI c := by rfl) (hz : z = nI i := by rfl) (ht : t = nI j := by rfl) : wpX_inRange post u x y z t := by
  subst hx hy hz ht
  obtain ⟨f0_n, f0_isPacked, f0_runCount, f0_nodes, f0_codeSum, a1, a2, a3, a4, a5, a6, a7, a8, a9, a10, a11, a12, a13, a14, a15, a16, a17, a18, a19, a20, a21, a22, a23, a24, a25, a26, a27⟩ := u
  refine wq_rankBy h e c i he hc (by omega) (wq_rankBy h e c j he hc hj ?_)
  have m : qq_rk ls c i ≤ qq_rk ls c j := qq_ct_mono _ hij
  rw [pk_sub m]
  exact hp
/-- how many of a stretch are less -/
def qq_lb (ls : Nat → Nat) (c i j : Nat) : Nat := qq_lo ls c j - qq_lo ls c i
theorem qq_lb_s (ls : Nat → Nat) (c : Nat) {i j : Nat} (h : i ≤ j) : qq_lb ls (c + 1) i j = qq_lb ls c i j + (qq_rk ls c j - qq_rk ls c i) := by
  unfold qq_lb
  have s1 := qq_lo_s ls c i
  have s2 := qq_lo_s ls c j
  have m1 : qq_rk ls c i ≤ qq_rk ls c j := qq_ct_mono _ h
  have m2 : qq_lo ls c i ≤ qq_lo ls c j := qq_ct_mono _ h
  omega
theorem qq_lb_8 {n : Nat} {ls : Nat → Nat} (hcl : ∀ i, i < n → ls i < 8) {i j : Nat} (h : i ≤ j) (hj : j ≤ n) : qq_lb ls 8 i j = j - i := by
  unfold qq_lb
  have e : ∀ m, m ≤ n → qq_lo ls 8 m = m := fun m hm => qq_ct_all (fun x hx => decide_eq_true (hcl x (by omega)))
  rw [e i (by omega), e j hj]
theorem qq_lb_le (ls : Nat → Nat) (c : Nat) {i j : Nat} (h : i ≤ j) : qq_lb ls c i j ≤ j - i := by
  unfold qq_lb
  have := qq_ct_gap' (fun x => decide (ls x < c)) h
  have this : qq_lo ls c j ≤ qq_lo ls c i + (j - i) := this
  omega
theorem qq_lb_0 (ls : Nat → Nat) (i j : Nat) : qq_lb ls 0 i j = 0 := by
  unfold qq_lb
  rw [qq_lo_0, qq_lo_0]
theorem qq_lb_m (ls : Nat → Nat) {c d : Nat} (hcd : c ≤ d) {i j : Nat} (h : i ≤ j) : qq_lb ls c i j ≤ qq_lb ls d i j := by
  induction d with
  | zero => rw [show c = 0 by omega]; exact Nat.le_refl _
  | succ d ih =>
    by_cases z : c = d + 1
    · rw [z]; exact Nat.le_refl _
    · have := ih (by omega)
      rw [qq_lb_s ls d h]
      omega
theorem wq_belowBy {post : Int32 → Prop} {n : Nat} {ls : Nat → Nat} {u : St1} {x y z t : Int32} (h : qq_Rq n ls u) (e i j c : Nat) (he : e < 7) (hc : c ≤ 8) (hij : i ≤ j) (hj : j ≤ n) (hp : post (nI (qq_lb ls c i j)))
    (hx : x = nI e := by rfl) (hy : y = nI i := by rfl) (hz : z = nI j := by rfl) (ht : t = nI c := by rfl) : wpX_belowBy post u x y z t := by
  subst hx hy hz ht
  obtain ⟨f0_n, f0_isPacked, f0_runCount, f0_nodes, f0_codeSum, a1, a2, a3, a4, a5, a6, a7, a8, a9, a10, a11, a12, a13, a14, a15, a16, a17, a18, a19, a20, a21, a22, a23, a24, a25, a26, a27⟩ := u
  have h' := h
  obtain ⟨rfl, hn, hL, hcl, C, h2, RS, T, M, P, X, B, U, K⟩ := h'
  refine pk_eq c 8 (fun z => ?_) (fun z => pk_eq e 0 (fun _ => ?_) (fun _ => ?_))
  · rw [pk_sub hij]
    rw [z, qq_lb_8 hcl hij hj] at hp
    exact hp
  · refine wq_belowTree c i (by omega) (by omega) hn hcl RS T (wq_belowTree c j (by omega) hj hn hcl RS T ?_)
    have m2 : qq_lo ls c i ≤ qq_lo ls c j := qq_ct_mono _ hij
    rw [pk_sub m2]
    exact hp
  · refine pk_loop (σ := Int32) (fun f d t => wX_belowBy_41 post (nI e) (nI i) (nI j) (nI c) (nI n) f0_isPacked f0_runCount f0_nodes f0_codeSum a1 a2 a3 a4 a5 a6 a7 a8 a9 a10 a11 a12 a13 a14 a15 a16 a17 a18 a19 a20 a21 a22 a23 a24 a25 a26 a27 f t (nI d)) (fun d t => t = nI (qq_lb ls d i j)) c 0 0 (by omega) ?_ ?_ ?_
    · show (0 : Int32) = nI (qq_lb ls 0 i j)
      rw [qq_lb_0]
      rfl
    · intro f t ht
      subst ht
      exact pk_le c c (fun _ => hp) (fun z => absurd z (by omega))
    · intro f d t hd ht hk
      subst ht
      refine pk_le c d (fun z => absurd z (by omega)) (fun _ => wq_inRange h e d i j he (by omega) hij hj (nm_r (nI_add _ _) (nm_r (nI_1 d) (hk _ ?_))))
      rw [qq_lb_s ls d hij]
end
section
/-! ===== the public questions: any state that holds the list ===== -/
theorem wq_at {post : Int32 → St1 → Prop} {n : Nat} {ls : Nat → Nat} {u : St1} {x y : Int32} (h : qq_Rp n ls u) (e i : Nat) (he : e < 7) (hi : i < 2 ^ 31)
    (H : ∀ u', qq_Rp n ls u' → post (if i < n then nI (ls i) else -1) u') (hx : x = nI e := by rfl) (hy : y = nI i := by rfl) : wpX_at post u x y := by
  subst hx hy
  obtain ⟨f0_n, f0_isPacked, f0_runCount, f0_nodes, f0_codeSum, a1, a2, a3, a4, a5, a6, a7, a8, a9, a10, a11, a12, a13, a14, a15, a16, a17, a18, a19, a20, a21, a22, a23, a24, a25, a26, a27⟩ := u
  have e1 : f0_n = nI n := h.1
  subst e1
  have hn : n ≤ 200 := h.2.1
  unfold wpX_at
  refine wq_engine e he ?_
  refine br_f (by decide) ?_
  refine pk_lt i 0 (fun z => absurd z (by omega)) (fun _ => pk_lt i n (fun g => wq_pack h (fun u' h' => ?_)) (fun g => ?_))
  · have H' := H u' (qq_Rqp h')
    rw [if_pos g] at H'
    obtain ⟨f0_nq, f0_isPackedq, f0_runCountq, f0_nodesq, f0_codeSumq, a1q, a2q, a3q, a4q, a5q, a6q, a7q, a8q, a9q, a10q, a11q, a12q, a13q, a14q, a15q, a16q, a17q, a18q, a19q, a20q, a21q, a22q, a23q, a24q, a25q, a26q, a27q⟩ := u'
    exact wq_atBy h' e i he g H'
  · have H' := H _ h
    rw [if_neg (by omega)] at H'
    exact H'
theorem wq_rank {post : Int32 → St1 → Prop} {n : Nat} {ls : Nat → Nat} {u : St1} {x y z : Int32} (h : qq_Rp n ls u) (e c i : Nat) (he : e < 7) (hc : c < 8) (hi : i < 2 ^ 31)
    (H : ∀ u', qq_Rp n ls u' → post (if i ≤ n then nI (qq_rk ls c i) else -1) u') (hx : x = nI e := by rfl) (hy : y = nI c := by rfl) (hz : z = nI i := by rfl) : wpX_rank post u x y z := by
  subst hx hy hz
  obtain ⟨f0_n, f0_isPacked, f0_runCount, f0_nodes, f0_codeSum, a1, a2, a3, a4, a5, a6, a7, a8, a9, a10, a11, a12, a13, a14, a15, a16, a17, a18, a19, a20, a21, a22, a23, a24, a25, a26, a27⟩ := u
  have e1 : f0_n = nI n := h.1
  subst e1
  have hn : n ≤ 200 := h.2.1
  unfold wpX_rank
  refine wq_engine e he ?_
  refine br_f (by decide) ?_
  refine wq_letter (nI c) (fun _ _ _ => br_f (by decide) (pk_lt i 0 (fun z => absurd z (by omega)) (fun _ => pk_le i n (fun g => wq_pack h (fun u' h' => ?_)) (fun g => ?_)))) (fun q => absurd rfl (q c hc))
  · have H' := H u' (qq_Rqp h')
    rw [if_pos g] at H'
    obtain ⟨f0_nq, f0_isPackedq, f0_runCountq, f0_nodesq, f0_codeSumq, a1q, a2q, a3q, a4q, a5q, a6q, a7q, a8q, a9q, a10q, a11q, a12q, a13q, a14q, a15q, a16q, a17q, a18q, a19q, a20q, a21q, a22q, a23q, a24q, a25q, a26q, a27q⟩ := u'
    exact wq_rankBy h' e c i he hc g H'
  · have H' := H _ h
    rw [if_neg (by omega)] at H'
    exact H'
/-- what select answers -/
def qq_sel (n : Nat) (ls : Nat → Nat) (c k : Nat) (v : Int32) : Prop := (∃ p, p < n ∧ ls p = c ∧ qq_rk ls c p = k ∧ v = nI p) ∨ (qq_rk ls c n ≤ k ∧ v = -1)
theorem qq_sel_u {n : Nat} {ls : Nat → Nat} {c k : Nat} {v w : Int32} (h : qq_sel n ls c k v) (h' : qq_sel n ls c k w) : v = w := by
  have no : ∀ p, p < n → ls p = c → qq_rk ls c p = k → qq_rk ls c n ≤ k → False := by
    intro p p1 p2 p3 p4
    have : qq_rk ls c p < qq_rk ls c n := qq_ct_lt p1 (decide_eq_true p2)
    omega
  rcases h with ⟨p, p1, p2, p3, p4⟩ | ⟨p1, p2⟩ <;> rcases h' with ⟨q, q1, q2, q3, q4⟩ | ⟨q1, q2⟩
  · rw [p4, q4, qq_ct_inj (p := fun j => decide (ls j = c)) (decide_eq_true p2) (decide_eq_true q2) (p3.trans q3.symm)]
  · exact (no p p1 p2 p3 q1).elim
  · exact (no q q1 q2 q3 p1).elim
  · rw [p2, q2]
theorem wq_select {post : Int32 → St1 → Prop} {n : Nat} {ls : Nat → Nat} {u : St1} {x y z : Int32} (h : qq_Rp n ls u) (e c k : Nat) (he : e < 7) (hc : c < 8) (hk : k < 2 ^ 31)
    (H : ∀ u' v, qq_Rp n ls u' → qq_sel n ls c k v → post v u') (hx : x = nI e := by rfl) (hy : y = nI c := by rfl) (hz : z = nI k := by rfl) : wpX_select post u x y z := by
  subst hx hy hz
  obtain ⟨f0_nq, f0_isPackedq, f0_runCountq, f0_nodesq, f0_codeSumq, a1q, a2q, a3q, a4q, a5q, a6q, a7q, a8q, a9q, a10q, a11q, a12q, a13q, a14q, a15q, a16q, a17q, a18q, a19q, a20q, a21q, a22q, a23q, a24q, a25q, a26q, a27q⟩ := u
  refine wq_pack h (fun u' h' => ?_)
  have hR := qq_Rqp h'
  obtain ⟨f0_n, f0_isPacked, f0_runCount, f0_nodes, f0_codeSum, a1, a2, a3, a4, a5, a6, a7, a8, a9, a10, a11, a12, a13, a14, a15, a16, a17, a18, a19, a20, a21, a22, a23, a24, a25, a26, a27⟩ := u'
  have h'' := h'
  obtain ⟨rfl, hn, hL, hcl, C, h2, RS, T, M, P, X, B, U, K⟩ := h''
  have cn : qq_rk ls c n ≤ n := qq_ct_le _ _
  refine wq_engine e he (br_f (by decide) (wq_letter (nI c) (fun _ _ _ => br_f (by decide) (pk_lt k 0 (fun z => absurd z (by omega)) (fun _ => ⟨pk_in c 8 hc, pk_lt k (qq_rk ls c n) (fun g => ?_) (fun g => H _ _ hR (Or.inr ⟨g, rfl⟩)) rfl (qq_rd c (h2 c hc))⟩))) (fun q => absurd rfl (q c hc))))
  obtain ⟨p, p1, p2, p3⟩ := qq_ct_find (p := fun j => decide (ls j = c)) g
  have p2 : ls p = c := of_decide_eq_true p2
  have p3 : qq_rk ls c p = k := p3
  have H' := H _ (nI p) hR (Or.inl ⟨p, p1, p2, p3, rfl⟩)
  refine pk_eq e 1 (fun _ => ?_) (fun _ => pk_eq e 2 (fun _ => ?_) (fun _ => pk_eq e 3 (fun _ => ?_) (fun _ => pk_eq e 5 (fun _ => ?_) (fun _ => ?_))))
  · exact wq_selMatrix c k p hc p1 p2 p3 hn hcl RS M H'
  · refine wq_placeE n (6 + c) p true (by omega) (RS _ (by omega)) hn p1 (by rw [P c p hc p1]; exact decide_eq_true p2) H' ?_ (nI_add 6 c)
    show nI k = nI (qq_ct (qq_gb 7 a5 (6 + c)) p)
    rw [← p3]
    exact congrArg nI (qq_ct_congr (fun j hj => (P c j hc (by omega)).symm))
  · exact wq_selParts c k p hc p1 p2 p3 hn X H'
  · exact wq_selRuns c k p hc p1 p2 p3 hn U H'
  · exact wq_selByRanks h' e c p he hc p1 p2 H' (by rw [p3])
theorem wq_isRange {post : Int32 → Prop} {n : Nat} {ls : Nat → Nat} {u : St1} {x y : Int32} (h : qq_Rp n ls u) (i j : Nat) (hij : i ≤ j) (hj : j < 2 ^ 31) (h1 : j ≤ n → post 1) (h0 : n < j → post 0)
    (hx : x = nI i := by rfl) (hy : y = nI j := by rfl) : wpX_isRange post u x y := by
  subst hx hy
  obtain ⟨f0_n, f0_isPacked, f0_runCount, f0_nodes, f0_codeSum, a1, a2, a3, a4, a5, a6, a7, a8, a9, a10, a11, a12, a13, a14, a15, a16, a17, a18, a19, a20, a21, a22, a23, a24, a25, a26, a27⟩ := u
  have e1 : f0_n = nI n := h.1
  subst e1
  have hn : n ≤ 200 := h.2.1
  exact pk_lt i 0 (fun z => absurd z (by omega)) (fun _ => pk_lt j i (fun z => absurd z (by omega)) (fun _ => pk_lt n j (fun g => h0 g) (fun g => h1 g)))
theorem wq_below {post : Int32 → St1 → Prop} {n : Nat} {ls : Nat → Nat} {u : St1} {x y z t : Int32} (h : qq_Rp n ls u) (e i j c : Nat) (he : e < 7) (hij : i ≤ j) (hj : j < 2 ^ 31) (hc : c ≤ 8)
    (H : ∀ u', qq_Rp n ls u' → post (if j ≤ n then nI (qq_lb ls c i j) else -1) u') (hx : x = nI e := by rfl) (hy : y = nI i := by rfl) (hz : z = nI j := by rfl) (ht : t = nI c := by rfl) : wpX_below post u x y z t := by
  subst hx hy hz ht
  obtain ⟨f0_n, f0_isPacked, f0_runCount, f0_nodes, f0_codeSum, a1, a2, a3, a4, a5, a6, a7, a8, a9, a10, a11, a12, a13, a14, a15, a16, a17, a18, a19, a20, a21, a22, a23, a24, a25, a26, a27⟩ := u
  unfold wpX_below
  refine wq_engine e he ?_
  refine br_f (by decide) ?_
  refine wq_isRange h i j hij hj (fun g => br_f (by decide) (pk_lt c 0 (fun z => absurd z (by omega)) (fun _ => pk_le c 8 (fun _ => wq_pack h (fun u' h' => ?_)) (fun z => absurd z (by omega))))) (fun g => br_t rfl ?_)
  · have H' := H u' (qq_Rqp h')
    rw [if_pos g] at H'
    obtain ⟨f0_nq, f0_isPackedq, f0_runCountq, f0_nodesq, f0_codeSumq, a1q, a2q, a3q, a4q, a5q, a6q, a7q, a8q, a9q, a10q, a11q, a12q, a13q, a14q, a15q, a16q, a17q, a18q, a19q, a20q, a21q, a22q, a23q, a24q, a25q, a26q, a27q⟩ := u'
    exact wq_belowBy h' e i j c he hc hij g H'
  · have H' := H _ h
    rw [if_neg (by omega)] at H'
    exact H'
/-- what ordered answers -/
def qq_ord (n : Nat) (ls : Nat → Nat) (i j k : Nat) (v : Int32) : Prop := (j ≤ n ∧ k < j - i ∧ ∃ p, p < 8 ∧ qq_lb ls p i j ≤ k ∧ k < qq_lb ls (p + 1) i j ∧ v = nI p) ∨ (¬ (j ≤ n ∧ k < j - i) ∧ v = -1)
theorem qq_ord_u {n : Nat} {ls : Nat → Nat} {i j k : Nat} {v w : Int32} (hij : i ≤ j) (h : qq_ord n ls i j k v) (h' : qq_ord n ls i j k w) : v = w := by
  rcases h with ⟨a1, a2, p, p1, p2, p3, p4⟩ | ⟨a1, a2⟩ <;> rcases h' with ⟨b1, b2, q, q1, q2, q3, q4⟩ | ⟨b1, b2⟩
  · have e : p = q := by
      rcases Nat.lt_trichotomy p q with z | z | z
      · have := qq_lb_m ls (show p + 1 ≤ q by omega) hij
        omega
      · exact z
      · have := qq_lb_m ls (show q + 1 ≤ p by omega) hij
        omega
    rw [p4, q4, e]
  · exact absurd ⟨a1, a2⟩ b1
  · exact absurd ⟨b1, b2⟩ a1
  · rw [a2, b2]
theorem wq_ordered {post : Int32 → St1 → Prop} {n : Nat} {ls : Nat → Nat} {u : St1} {x y z t : Int32} (h : qq_Rp n ls u) (e i j k : Nat) (he : e < 7) (hij : i ≤ j) (hj : j < 2 ^ 31) (hk : k < 2 ^ 31)
    (H : ∀ u' v, qq_Rp n ls u' → qq_ord n ls i j k v → post v u') (hx : x = nI e := by rfl) (hy : y = nI i := by rfl) (hz : z = nI j := by rfl) (ht : t = nI k := by rfl) : wpX_ordered post u x y z t := by
  subst hx hy hz ht
  obtain ⟨f0_n, f0_isPacked, f0_runCount, f0_nodes, f0_codeSum, a1, a2, a3, a4, a5, a6, a7, a8, a9, a10, a11, a12, a13, a14, a15, a16, a17, a18, a19, a20, a21, a22, a23, a24, a25, a26, a27⟩ := u
  unfold wpX_ordered
  refine wq_engine e he ?_
  refine br_f (by decide) ?_
  refine wq_isRange h i j hij hj (fun g => br_f (by decide) (pk_lt k 0 (fun z => absurd z (by omega)) (fun _ => pk_lt k (j - i) (fun g2 => wq_pack h (fun u' h' => ?_)) (fun g2 => H _ _ h (Or.inr ⟨fun q => absurd q.2 (by omega), rfl⟩)) rfl (pk_sub hij)))) (fun g => br_t rfl (H _ _ h (Or.inr ⟨fun q => absurd q.1 (by omega), rfl⟩)))
  have hR := qq_Rqp h'
  obtain ⟨f0_nq, f0_isPackedq, f0_runCountq, f0_nodesq, f0_codeSumq, a1q, a2q, a3q, a4q, a5q, a6q, a7q, a8q, a9q, a10q, a11q, a12q, a13q, a14q, a15q, a16q, a17q, a18q, a19q, a20q, a21q, a22q, a23q, a24q, a25q, a26q, a27q⟩ := u'
  have h'' := h'
  obtain ⟨rfl, hn, hL, hcl, C, h2, RS, T, M, P, X, B, U, K⟩ := h''
  have l8 := qq_lb_8 hcl hij g
  refine pk_eq e 1 (fun _ => ?_) (fun _ => ?_)
  · exact wq_ordMatrix i j k hij g g2 hn hcl RS M (fun p p1 p2 p3 => H _ _ hR (Or.inl ⟨g, g2, p, p1, p2, p3, rfl⟩))
  · refine pk_loop (σ := Unit) (fun f p _ => wX_ordered_52 post (nI e) (nI i) (nI j) (nI k) (nI n) f0_isPackedq f0_runCountq f0_nodesq f0_codeSumq a1q a2q a3q a4q a5q a6q a7q a8q a9q a10q a11q a12q a13q a14q a15q a16q a17q a18q a19q a20q a21q a22q a23q a24q a25q a26q a27q f (nI p)) (fun p _ => qq_lb ls p i j ≤ k) 7 0 () (by omega) (by rw [qq_lb_0]; omega) ?_ ?_
    · intro f _ hb
      exact pk_le 7 7 (fun _ => H _ _ hR (Or.inl ⟨g, g2, 7, by omega, hb, by rw [l8]; exact g2, rfl⟩)) (fun z => absurd z (by omega))
    · intro f p _ hp hb hw
      have le := qq_lb_le ls (p + 1) hij
      refine pk_le 7 p (fun z => absurd z (by omega)) (fun _ => wq_belowBy h' e i j (p + 1) he (by omega) hij g ?_ rfl rfl rfl (nI_1 p))
      exact pk_lt k (qq_lb ls (p + 1) i j) (fun w => H _ _ hR (Or.inl ⟨g, g2, p, by omega, hb, w, rfl⟩)) (fun w => nm_r (nI_1 p) (hw () w))
/-- the letter that stands most often in a stretch, and how often -/
def qq_mo (ls : Nat → Nat) (i j : Nat) : Nat → Nat × Nat
  | 0 => (0, 0)
  | c + 1 => if qq_rk ls c j - qq_rk ls c i ≤ (qq_mo ls i j c).2 then qq_mo ls i j c else (c, qq_rk ls c j - qq_rk ls c i)
theorem qq_mo_le {ls : Nat → Nat} {i j : Nat} (c : Nat) : (qq_mo ls i j c).2 ≤ j := by
  induction c with
  | zero => exact Nat.zero_le j
  | succ c ih =>
    unfold qq_mo
    have : qq_rk ls c j ≤ j := qq_ct_le _ _
    split
    · exact ih
    · show qq_rk ls c j - qq_rk ls c i ≤ j
      omega
theorem wq_most {post : Int32 → St1 → Prop} {n : Nat} {ls : Nat → Nat} {u : St1} {x y z : Int32} (h : qq_Rp n ls u) (e i j : Nat) (he : e < 7) (hij : i ≤ j) (hj : j < 2 ^ 31)
    (H : ∀ u', qq_Rp n ls u' → post (if j ≤ n ∧ i ≠ j then nI (qq_mo ls i j 8).1 else -1) u') (hx : x = nI e := by rfl) (hy : y = nI i := by rfl) (hz : z = nI j := by rfl) : wpX_most post u x y z := by
  subst hx hy hz
  obtain ⟨f0_n, f0_isPacked, f0_runCount, f0_nodes, f0_codeSum, a1, a2, a3, a4, a5, a6, a7, a8, a9, a10, a11, a12, a13, a14, a15, a16, a17, a18, a19, a20, a21, a22, a23, a24, a25, a26, a27⟩ := u
  unfold wpX_most
  refine wq_engine e he ?_
  refine br_f (by decide) ?_
  refine wq_isRange h i j hij hj (fun g => br_f (by decide) (pk_eq i j (fun g2 => ?_) (fun g2 => wq_pack h (fun u' h' => ?_)))) (fun g => br_t rfl ?_)
  · have H' := H _ h
    rw [if_neg (fun q => q.2 g2)] at H'
    exact H'
  · have H' := H u' (qq_Rqp h')
    rw [if_pos ⟨g, g2⟩] at H'
    obtain ⟨f0_nq, f0_isPackedq, f0_runCountq, f0_nodesq, f0_codeSumq, a1q, a2q, a3q, a4q, a5q, a6q, a7q, a8q, a9q, a10q, a11q, a12q, a13q, a14q, a15q, a16q, a17q, a18q, a19q, a20q, a21q, a22q, a23q, a24q, a25q, a26q, a27q⟩ := u'
    have hn : n ≤ 200 := h'.2.1
    refine pk_loop (σ := Int32 × Int32) (fun f c t => wX_most_36 post (nI e) (nI i) (nI j) f0_nq f0_isPackedq f0_runCountq f0_nodesq f0_codeSumq a1q a2q a3q a4q a5q a6q a7q a8q a9q a10q a11q a12q a13q a14q a15q a16q a17q a18q a19q a20q a21q a22q a23q a24q a25q a26q a27q f t.1 t.2 (nI c)) (fun c t => t.1 = nI (qq_mo ls i j c).1 ∧ t.2 = nI (qq_mo ls i j c).2) 8 0 (0, 0) (by omega) ⟨rfl, rfl⟩ ?_ ?_
    · intro f ⟨x4, x5⟩ ⟨k1, k2⟩
      have k1 : x4 = nI (qq_mo ls i j 8).1 := k1
      subst k1
      exact pk_le 8 8 (fun _ => H') (fun z => absurd z (by omega))
    · intro f c ⟨x4, x5⟩ hc ⟨k1, k2⟩ hk
      have k1 : x4 = nI (qq_mo ls i j c).1 := k1
      have k2 : x5 = nI (qq_mo ls i j c).2 := k2
      subst k1 k2
      have m1 := qq_mo_le (ls := ls) (i := i) (j := j) c
      have m2 : qq_rk ls c j ≤ j := qq_ct_le _ _
      have st : qq_mo ls i j (c + 1) = if qq_rk ls c j - qq_rk ls c i ≤ (qq_mo ls i j c).2 then qq_mo ls i j c else (c, qq_rk ls c j - qq_rk ls c i) := rfl
      refine pk_le 8 c (fun z => absurd z (by omega)) (fun _ => wq_inRange h' e c i j he hc hij g ?_)
      refine pk_le (qq_rk ls c j - qq_rk ls c i) (qq_mo ls i j c).2 (fun w => ?_) (fun w => ?_)
      · rw [if_pos w] at st
        exact pk_le (qq_rk ls c j - qq_rk ls c i) (qq_mo ls i j c).2 (fun _ => nm_r (nI_1 c) (hk (nI _, nI _) ⟨by rw [st], by rw [st]⟩)) (fun z => absurd z (by omega))
      · rw [if_neg (by omega)] at st
        exact pk_le (qq_rk ls c j - qq_rk ls c i) (qq_mo ls i j c).2 (fun z => absurd z (by omega)) (fun _ => nm_r (nI_1 c) (hk (nI _, nI _) ⟨by rw [st], by rw [st]⟩))
  · have H' := H _ h
    rw [if_neg (fun q => absurd q.1 (by omega))] at H'
    exact H'
theorem wq_different {post : Int32 → St1 → Prop} {n : Nat} {ls : Nat → Nat} {u : St1} {x y : Int32} (h : qq_Rp n ls u) (i j : Nat) (hij : i ≤ j) (hj : j < 2 ^ 31)
    (H : ∀ u', qq_Rp n ls u' → post (if j ≤ n then nI (qq_ct (fun c => decide (0 < qq_rk ls c j - qq_rk ls c i)) 8) else -1) u') (hx : x = nI i := by rfl) (hy : y = nI j := by rfl) : wpX_different post u x y := by
  subst hx hy
  obtain ⟨f0_n, f0_isPacked, f0_runCount, f0_nodes, f0_codeSum, a1, a2, a3, a4, a5, a6, a7, a8, a9, a10, a11, a12, a13, a14, a15, a16, a17, a18, a19, a20, a21, a22, a23, a24, a25, a26, a27⟩ := u
  unfold wpX_different
  refine wq_isRange h i j hij hj (fun g => br_f (by decide) (wq_pack h (fun u' h' => ?_))) (fun g => br_t rfl ?_)
  · have H' := H u' (qq_Rqp h')
    rw [if_pos g] at H'
    obtain ⟨f0_nq, f0_isPackedq, f0_runCountq, f0_nodesq, f0_codeSumq, a1q, a2q, a3q, a4q, a5q, a6q, a7q, a8q, a9q, a10q, a11q, a12q, a13q, a14q, a15q, a16q, a17q, a18q, a19q, a20q, a21q, a22q, a23q, a24q, a25q, a26q, a27q⟩ := u'
    have hn : n ≤ 200 := h'.2.1
    refine pk_loop (σ := Int32) (fun f c t => wX_different_20 post (nI i) (nI j) f0_nq f0_isPackedq f0_runCountq f0_nodesq f0_codeSumq a1q a2q a3q a4q a5q a6q a7q a8q a9q a10q a11q a12q a13q a14q a15q a16q a17q a18q a19q a20q a21q a22q a23q a24q a25q a26q a27q f t (nI c)) (fun c t => t = nI (qq_ct (fun c => decide (0 < qq_rk ls c j - qq_rk ls c i)) c)) 8 0 0 (by omega) rfl ?_ ?_
    · intro f t ht
      subst ht
      exact pk_le 8 8 (fun _ => H') (fun z => absurd z (by omega))
    · intro f c t hc ht hk
      subst ht
      have m2 : qq_rk ls c j ≤ j := qq_ct_le _ _
      refine pk_le 8 c (fun z => absurd z (by omega)) (fun _ => wq_inRange h' 4 c i j (by omega) hc hij g ?_)
      refine pk_le (qq_rk ls c j - qq_rk ls c i) 0 (fun w => nm_r (Int32.add_zero _) (nm_r (nI_1 c) (hk _ ?_))) (fun w => nm_r (nI_1 _) (nm_r (nI_1 c) (hk _ ?_)))
      · rw [qq_ct_f (p := fun c => decide (0 < qq_rk ls c j - qq_rk ls c i)) (decide_eq_false (by omega))]
      · rw [qq_ct_t (p := fun c => decide (0 < qq_rk ls c j - qq_rk ls c i)) (decide_eq_true w)]
  · have H' := H _ h
    rw [if_neg (by omega)] at H'
    exact H'
/-- what next answers -/
def qq_nx (n : Nat) (ls : Nat → Nat) (c i : Nat) (v : Int32) : Prop := (i < n ∧ qq_sel n ls c (qq_rk ls c i) v) ∨ (n ≤ i ∧ v = -1)
theorem qq_nx_u {n : Nat} {ls : Nat → Nat} {c i : Nat} {v w : Int32} (h : qq_nx n ls c i v) (h' : qq_nx n ls c i w) : v = w := by
  rcases h with ⟨a1, a2⟩ | ⟨a1, a2⟩ <;> rcases h' with ⟨b1, b2⟩ | ⟨b1, b2⟩
  · exact qq_sel_u a2 b2
  · omega
  · omega
  · rw [a2, b2]
theorem wq_next {post : Int32 → St1 → Prop} {n : Nat} {ls : Nat → Nat} {u : St1} {x y : Int32} (h : qq_Rp n ls u) (c i : Nat) (hc : c < 8) (hi : i < 2 ^ 31)
    (H : ∀ u' v, qq_Rp n ls u' → qq_nx n ls c i v → post v u') (hx : x = nI c := by rfl) (hy : y = nI i := by rfl) : wpX_next post u x y := by
  subst hx hy
  obtain ⟨f0_n, f0_isPacked, f0_runCount, f0_nodes, f0_codeSum, a1, a2, a3, a4, a5, a6, a7, a8, a9, a10, a11, a12, a13, a14, a15, a16, a17, a18, a19, a20, a21, a22, a23, a24, a25, a26, a27⟩ := u
  have e1 : f0_n = nI n := h.1
  subst e1
  have hn : n ≤ 200 := h.2.1
  unfold wpX_next
  refine wq_letter (nI c) (fun _ _ _ => br_f (by decide) (pk_lt i n (fun g => wq_pack h (fun u' h' => ?_)) (fun g => H _ _ h (Or.inr ⟨g, rfl⟩)))) (fun q => absurd rfl (q c hc))
  have hR := qq_Rqp h'
  obtain ⟨f0_nq, f0_isPackedq, f0_runCountq, f0_nodesq, f0_codeSumq, a1q, a2q, a3q, a4q, a5q, a6q, a7q, a8q, a9q, a10q, a11q, a12q, a13q, a14q, a15q, a16q, a17q, a18q, a19q, a20q, a21q, a22q, a23q, a24q, a25q, a26q, a27q⟩ := u'
  have h'' := h'
  obtain ⟨rfl, _, hL, hcl, C, h2, RS, T, M, P, X, B, U, K⟩ := h''
  have cn : qq_rk ls c n ≤ n := qq_ct_le _ _
  have ci : qq_rk ls c i ≤ i := qq_ct_le _ _
  refine pk_le 0 i (fun _ => wq_rankBy h' 2 c i (by omega) hc (by omega) ⟨pk_in c 8 hc, pk_le (qq_rk ls c n) (qq_rk ls c i) (fun w => H _ _ hR (Or.inl ⟨g, Or.inr ⟨w, rfl⟩⟩)) (fun w => ?_) (qq_rd c (h2 c hc))⟩) (fun z => absurd z (by omega))
  obtain ⟨p, p1, p2, p3⟩ := qq_ct_find (p := fun j => decide (ls j = c)) w
  have p2 : ls p = c := of_decide_eq_true p2
  have p3 : qq_rk ls c p = qq_rk ls c i := p3
  refine wq_placeE n (6 + c) p true (by omega) (RS _ (by omega)) hn p1 (by rw [P c p hc p1]; exact decide_eq_true p2) (H _ _ hR (Or.inl ⟨g, Or.inl ⟨p, p1, p2, p3, rfl⟩⟩)) ?_ (nI_add 6 c)
  show nI _ = nI (qq_ct (qq_gb 7 a5q (6 + c)) p)
  rw [← p3]
  exact congrArg nI (qq_ct_congr (fun j hj => (P c j hc (by omega)).symm))
theorem wq_runs {post : Int32 → St1 → Prop} {n : Nat} {ls : Nat → Nat} {u : St1} (h : qq_Rp n ls u) (H : ∀ u', qq_Rp n ls u' → post (nI (qq_rc ls n)) u') : wpX_runs post u := by
  obtain ⟨f0_nq, f0_isPackedq, f0_runCountq, f0_nodesq, f0_codeSumq, a1q, a2q, a3q, a4q, a5q, a6q, a7q, a8q, a9q, a10q, a11q, a12q, a13q, a14q, a15q, a16q, a17q, a18q, a19q, a20q, a21q, a22q, a23q, a24q, a25q, a26q, a27q⟩ := u
  refine wq_pack h (fun u' h' => ?_)
  have hR := qq_Rqp h'
  obtain ⟨f0_n, f0_isPacked, f0_runCount, f0_nodes, f0_codeSum, a1, a2, a3, a4, a5, a6, a7, a8, a9, a10, a11, a12, a13, a14, a15, a16, a17, a18, a19, a20, a21, a22, a23, a24, a25, a26, a27⟩ := u'
  obtain ⟨_, _, _, _, _, _, _, _, _, _, _, _, U, _⟩ := h'
  have H' := H _ hR
  rw [← U.1] at H'
  exact H'
def qq_bits (n : Nat) (ls : Nat → Nat) : Int32 := if (qq_hs 9 0 0 (qq_w0 n ls) (fun _ => false)).1 = 0 then nI n else nI (qq_hs 9 0 0 (qq_w0 n ls) (fun _ => false)).2
theorem wq_bits {post : Int32 → St1 → Prop} {n : Nat} {ls : Nat → Nat} {u : St1} (h : qq_Rp n ls u) (H : ∀ u', qq_Rp n ls u' → post (qq_bits n ls) u') : wpX_bits post u := by
  obtain ⟨f0_nq, f0_isPackedq, f0_runCountq, f0_nodesq, f0_codeSumq, a1q, a2q, a3q, a4q, a5q, a6q, a7q, a8q, a9q, a10q, a11q, a12q, a13q, a14q, a15q, a16q, a17q, a18q, a19q, a20q, a21q, a22q, a23q, a24q, a25q, a26q, a27q⟩ := u
  refine wq_pack h (fun u' h' => ?_)
  have hR := qq_Rqp h'
  obtain ⟨f0_n, f0_isPacked, f0_runCount, f0_nodes, f0_codeSum, a1, a2, a3, a4, a5, a6, a7, a8, a9, a10, a11, a12, a13, a14, a15, a16, a17, a18, a19, a20, a21, a22, a23, a24, a25, a26, a27⟩ := u'
  obtain ⟨rfl, hn, _, _, _, _, _, _, _, _, _, _, _, K⟩ := h'
  have H' := H _ hR
  obtain ⟨N, cs, L, R, len, bt, rfl, rfl, hs, F, _⟩ := K
  have N7 := F.1
  unfold qq_bits at H'
  rw [← hs] at H'
  refine pk_eq N 0 (fun z => ?_) (fun z => ?_)
  · rw [if_pos z] at H'
    exact H'
  · rw [if_neg z] at H'
    exact H'
end
section
/-! ===== changes of the list ===== -/
theorem wq_cut {post : Int32 → St1 → Prop} {n : Nat} {ls : Nat → Nat} {u : St1} (h : qq_Rp n ls u) (x : Int32)
    (HA : ∀ k, x = nI k → k ≤ 200 → ∀ u', (∀ ls', (∀ i, i < n - k → ls' i = ls i) → qq_Rp (n - k) ls' u') → post (nI (n - k)) u') (HC : (∀ k, k ≤ 200 → x ≠ nI k) → post (-1) u) : wpX_cut post u x := by
  obtain ⟨f0_n, f0_isPacked, f0_runCount, f0_nodes, f0_codeSum, a1, a2, a3, a4, a5, a6, a7, a8, a9, a10, a11, a12, a13, a14, a15, a16, a17, a18, a19, a20, a21, a22, a23, a24, a25, a26, a27⟩ := u
  obtain ⟨rfl, hn, hL, hcl, C, hP⟩ := h
  refine br_c (fun z => HC (fun k hk e => ?_)) (fun z => ?_)
  · rw [e] at z
    exact nI_pos (by omega) z
  · obtain ⟨k, hk, rfl⟩ := nI_of z
    have rep : ∀ ls', (∀ i, i < n - k → ls' i = ls i) → qq_Rp (n - k) ls' (nI (n - k), 0, f0_runCount, f0_nodes, f0_codeSum, a1, a2, a3, a4, a5, a6, a7, a8, a9, a10, a11, a12, a13, a14, a15, a16, a17, a18, a19, a20, a21, a22, a23, a24, a25, a26, a27) := by
      intro ls' e
      exact ⟨rfl, by omega, fun i hi => by rw [e i hi]; exact hL i (by omega), fun i hi => by rw [e i hi]; exact hcl i (by omega), C, fun q => absurd rfl q⟩
    refine pk_le k 200 (fun g => pk_le k n (fun g2 => nm_r (pk_sub g2) (HA k rfl g _ rep)) (fun g2 => ?_)) (fun g => HC (fun j hj e => ?_))
    · have := HA k rfl g _ rep
      rw [show n - k = 0 by omega] at this
      exact this
    · rw [nI_eq hk (by omega)] at e
      omega
theorem wq_change {post : Int32 → St1 → Prop} {n : Nat} {ls : Nat → Nat} {u : St1} (h : qq_Rp n ls u) (x y : Int32)
    (HA : ∀ i c, x = nI i → y = nI c → i < n → c < 8 → ∀ u', (∀ ls', (∀ j, j < n → ls' j = if j = i then c else ls j) → qq_Rp n ls' u') → post (nI (ls i)) u') (HC : (∀ i c, x = nI i → y = nI c → i < n → c < 8 → False) → post (-1) u) : wpX_change post u x y := by
  obtain ⟨f0_n, f0_isPacked, f0_runCount, f0_nodes, f0_codeSum, a1, a2, a3, a4, a5, a6, a7, a8, a9, a10, a11, a12, a13, a14, a15, a16, a17, a18, a19, a20, a21, a22, a23, a24, a25, a26, a27⟩ := u
  obtain ⟨rfl, hn, hL, hcl, C, hP⟩ := h
  refine br_c (fun z => HC (fun i c e _ hi _ => ?_)) (fun z => ?_)
  · rw [e] at z
    exact nI_pos (by omega) z
  · obtain ⟨i, hi, rfl⟩ := nI_of z
    refine pk_le n i (fun g => HC (fun j c e _ hj _ => ?_)) (fun g => wq_letter y (fun c hc e => ?_) (fun e => br_t rfl (HC (fun j c _ e2 _ hc => e c hc e2))))
    · rw [nI_eq hi (by omega)] at e
      omega
    · subst e
      have l8 := hcl i g
      refine br_f (by decide) ⟨pk_in i 200 (by omega), nm_r (qq_rd i (hL i g)) ⟨pk_in i 200 (by omega), nm_r (e' := upd a1 i (nI c)) (by rw [nI_clamp (by omega), qq_i8 c (by omega)]) (HA i c rfl rfl g hc _ (fun ls' e => ⟨rfl, hn, fun j hj => ?_, fun j hj => ?_, C, fun q => absurd rfl q⟩))⟩⟩
      · rw [e j hj]
        by_cases z : j = i
        · rw [z, pk_us, if_pos rfl]
        · rw [pk_un z, if_neg z]
          exact hL j hj
      · rw [e j hj]
        by_cases z : j = i
        · rw [if_pos z]
          exact hc
        · rw [if_neg z]
          exact hcl j hj
theorem wq_append {post : Int32 → St1 → Prop} {n : Nat} {ls : Nat → Nat} {u : St1} (h : qq_Rp n ls u) (x y : Int32)
    (HA : ∀ c k, x = nI c → y = nI k → c < 8 → 1 ≤ k → n + k ≤ 200 → ∀ u', qq_Rp (n + k) (fun i => if i < n then ls i else c) u' → post (nI (n + k)) u')
    (HB : ∀ c k, x = nI c → y = nI k → c < 8 → 1 ≤ k → k ≤ 200 → 200 < n + k → post (-2) u)
    (HC : (∀ c k, x = nI c → y = nI k → c < 8 → 1 ≤ k → k ≤ 200 → False) → post (-1) u) : wpX_append post u x y := by
  obtain ⟨f0_n, f0_isPacked, f0_runCount, f0_nodes, f0_codeSum, a1, a2, a3, a4, a5, a6, a7, a8, a9, a10, a11, a12, a13, a14, a15, a16, a17, a18, a19, a20, a21, a22, a23, a24, a25, a26, a27⟩ := u
  obtain ⟨rfl, hn, hL, hcl, C, hP⟩ := h
  unfold wpX_append
  refine wq_letter x (fun c hc e => br_f (by decide) (br_c (fun z => HC (fun d k _ e2 _ h1 h2 => ?_)) (fun z => ?_))) (fun e => br_t rfl (HC (fun d k e1 _ hd _ _ => e d hd e1)))
  · rw [e2] at z
    exact nI_nlt (b := 1) h1 (by omega) z
  · subst e
    have hy : ¬ y < 0 := fun q => z (Int32.lt_trans q (by decide))
    obtain ⟨k, hk, rfl⟩ := nI_of hy
    have k1 : 1 ≤ k := by
      rcases Nat.lt_or_ge k 1 with q | q
      · exact absurd (nI_lt (b := 1) q (by decide)) z
      · exact q
    refine pk_le k 200 (fun g => pk_le (n + k) 200 (fun g2 => ?_) (fun g2 => HB c k rfl rfl hc k1 g g2) (nI_add n k)) (fun g => HC (fun d j _ e2 _ _ h2 => ?_))
    · refine pk_loop (σ := Nat → Int32) (fun f m s => wX_append_38 post (nI c) (nI k) f0_isPacked f0_runCount f0_nodes f0_codeSum f (nI m) (nI (n + m)) s a2 a3 a4 a5 a6 a7 a8 a9 a10 a11 a12 a13 a14 a15 a16 a17 a18 a19 a20 a21 a22 a23 a24 a25 a26 a27) (fun m s => ∀ i, i < n + m → s i = nI (if i < n then ls i else c)) k 0 a1 (by omega) (fun i hi => by rw [if_pos (by omega)]; exact hL i (by omega)) ?_ ?_
      · intro f s hs
        refine pk_le k k (fun _ => HA c k rfl rfl hc k1 g2 _ ⟨rfl, g2, hs, fun i hi => ?_, C, fun q => absurd rfl q⟩) (fun z => absurd z (by omega))
        show (if i < n then ls i else c) < 8
        by_cases q : i < n
        · rw [if_pos q]; exact hcl i q
        · rw [if_neg q]; exact hc
      · intro f m s hm hs hw
        refine pk_le k m (fun z => absurd z (by omega)) (fun _ => ⟨pk_in (n + m) 200 (by omega), nm_r (e' := upd s (n + m) (nI c)) (by rw [nI_clamp (by omega), qq_i8 c (by omega)]) (nm_r (nI_1 _) (nm_r (nI_1 m) (hw _ ?_)))⟩)
        intro i hi
        by_cases q : i = n + m
        · rw [q, pk_us, if_neg (by omega)]
        · rw [pk_un q]
          exact hs i (by omega)
    · rw [nI_eq hk (by omega)] at e2
      omega
/-- the list that goes on as it was b before -/
def qq_ag (ls : Nat → Nat) (n b i : Nat) : Nat := if i < n then ls i else ls (n - b + (i - n) % b)
theorem qq_ag_s {ls : Nat → Nat} {n b i : Nat} (hb : 1 ≤ b) (hbn : b ≤ n) (hi : n ≤ i) : qq_ag ls n b i = qq_ag ls n b (i - b) := by
  unfold qq_ag
  rw [if_neg (by omega)]
  by_cases z : i - b < n
  · rw [if_pos z, Nat.mod_eq_of_lt (by omega), show n - b + (i - n) = i - b by omega]
  · rw [if_neg z]
    have e : (i - n) % b = (i - b - n) % b := by
      rw [show i - n = (i - b - n) + b by omega, Nat.add_mod_right]
    rw [e]
theorem wq_again {post : Int32 → St1 → Prop} {n : Nat} {ls : Nat → Nat} {u : St1} (h : qq_Rp n ls u) (x y : Int32)
    (HA : ∀ b k, x = nI b → y = nI k → 1 ≤ b → b ≤ n → 1 ≤ k → n + k ≤ 200 → ∀ u', qq_Rp (n + k) (qq_ag ls n b) u' → post (nI (n + k)) u')
    (HB : ∀ b k, x = nI b → y = nI k → 1 ≤ b → b ≤ n → 1 ≤ k → k ≤ 200 → 200 < n + k → post (-2) u)
    (HC : (∀ b k, x = nI b → y = nI k → 1 ≤ b → b ≤ n → 1 ≤ k → k ≤ 200 → False) → post (-1) u) : wpX_again post u x y := by
  obtain ⟨f0_n, f0_isPacked, f0_runCount, f0_nodes, f0_codeSum, a1, a2, a3, a4, a5, a6, a7, a8, a9, a10, a11, a12, a13, a14, a15, a16, a17, a18, a19, a20, a21, a22, a23, a24, a25, a26, a27⟩ := u
  obtain ⟨rfl, hn, hL, hcl, C, hP⟩ := h
  refine br_c (fun z => HC (fun b k e _ h1 h2 _ _ => ?_)) (fun z => ?_)
  · rw [e] at z
    exact nI_nlt (b := 1) h1 (by omega) z
  have hx : ¬ x < 0 := fun q => z (Int32.lt_trans q (by decide))
  obtain ⟨b, hb, rfl⟩ := nI_of hx
  have b1 : 1 ≤ b := by
    rcases Nat.lt_or_ge b 1 with q | q
    · exact absurd (nI_lt (b := 1) q (by decide)) z
    · exact q
  refine pk_lt n b (fun g => HC (fun d k e _ _ h2 _ _ => ?_)) (fun g => br_c (fun z => HC (fun d k _ e2 _ _ h1 h2 => ?_)) (fun z => ?_))
  · rw [nI_eq hb (by omega)] at e
    omega
  · rw [e2] at z
    exact nI_nlt (b := 1) h1 (by omega) z
  · have hy : ¬ y < 0 := fun q => z (Int32.lt_trans q (by decide))
    obtain ⟨k, hk, rfl⟩ := nI_of hy
    have k1 : 1 ≤ k := by
      rcases Nat.lt_or_ge k 1 with q | q
      · exact absurd (nI_lt (b := 1) q (by decide)) z
      · exact q
    refine pk_le k 200 (fun g1 => pk_le (n + k) 200 (fun g2 => ?_) (fun g2 => HB b k rfl rfl b1 g k1 g1 g2) (nI_add n k)) (fun g1 => HC (fun d j _ e2 _ _ _ h2 => ?_))
    · have ag8 : ∀ i, qq_ag ls n b i < 8 := by
        intro i
        unfold qq_ag
        by_cases q : i < n
        · rw [if_pos q]; exact hcl i q
        · rw [if_neg q]
          have := Nat.mod_lt (i - n) (show 0 < b by omega)
          exact hcl _ (by omega)
      refine pk_loop (σ := Nat → Int32) (fun f m s => wX_again_44 post (nI b) (nI k) f0_isPacked f0_runCount f0_nodes f0_codeSum f (nI m) (nI (n + m)) s a2 a3 a4 a5 a6 a7 a8 a9 a10 a11 a12 a13 a14 a15 a16 a17 a18 a19 a20 a21 a22 a23 a24 a25 a26 a27) (fun m s => ∀ i, i < n + m → s i = nI (qq_ag ls n b i)) k 0 a1 (by omega) (fun i hi => ?_) ?_ ?_
      · unfold qq_ag
        rw [if_pos (by omega)]
        exact hL i (by omega)
      · intro f s hs
        exact pk_le k k (fun _ => HA b k rfl rfl b1 g k1 g2 _ ⟨rfl, g2, hs, fun i _ => ag8 i, C, fun q => absurd rfl q⟩) (fun z => absurd z (by omega))
      · intro f m s hm hs hw
        have a8 := ag8 (n + m)
        have rd : s (nI (n + m) - nI b).toNatClampNeg = nI (qq_ag ls n b (n + m)) := by
          rw [pk_sub (by omega), nI_clamp (by omega), hs _ (by omega), ← qq_ag_s b1 g (by omega)]
        refine pk_le k m (fun z => absurd z (by omega)) (fun _ => ⟨pk_in (n + m - b) 200 (by omega) (pk_sub (by omega)), pk_in (n + m) 200 (by omega), nm_r (e' := upd s (n + m) (nI (qq_ag ls n b (n + m)))) (by rw [rd, nI_clamp (by omega), qq_nb _ rfl (by omega)]) (nm_r (nI_1 _) (nm_r (nI_1 m) (hw _ ?_)))⟩)
        intro i hi
        by_cases q : i = n + m
        · rw [q, pk_us]
        · rw [pk_un q]
          exact hs i (by omega)
    · rw [nI_eq hk (by omega)] at e2
      omega
/-! one turn: the same for every object that holds the list -/
theorem wq_appendE (n : Nat) (ls : Nat → Nat) (x y : Int32) : ∃ n' ls', ∀ (post : Int32 → St1 → Prop) u, qq_Rp n ls u → (∀ r u', qq_Rp n' ls' u' → post r u') → wpX_append post u x y := by
  by_cases hA : ∃ c k, x = nI c ∧ y = nI k ∧ c < 8 ∧ 1 ≤ k ∧ k ≤ 200 ∧ n + k ≤ 200
  · obtain ⟨c, k, hx, hy, hc, k1, k2, k3⟩ := hA
    refine ⟨n + k, (fun i => if i < n then ls i else c), fun post u h H => wq_append h x y (fun d j e1 e2 hd j1 j2 u' hu => ?_) (fun d j e1 e2 hd j1 j2 j3 => ?_) (fun q => (q c k hx hy hc k1 k2).elim)⟩
    · rw [hx, nI_eq (by omega) (by omega)] at e1
      rw [hy, nI_eq (by omega) (by omega)] at e2
      subst e1 e2
      exact H _ _ hu
    · rw [hy, nI_eq (by omega) (by omega)] at e2
      omega
  · exact ⟨n, ls, fun post u h H => wq_append h x y (fun d j e1 e2 hd j1 j2 u' _ => (hA ⟨d, j, e1, e2, hd, j1, by omega, j2⟩).elim) (fun _ _ _ _ _ _ _ _ => H _ _ h) (fun _ => H _ _ h)⟩
theorem wq_againE (n : Nat) (ls : Nat → Nat) (hn : n ≤ 200) (x y : Int32) : ∃ n' ls', ∀ (post : Int32 → St1 → Prop) u, qq_Rp n ls u → (∀ r u', qq_Rp n' ls' u' → post r u') → wpX_again post u x y := by
  by_cases hA : ∃ b k, x = nI b ∧ y = nI k ∧ 1 ≤ b ∧ b ≤ n ∧ 1 ≤ k ∧ k ≤ 200 ∧ n + k ≤ 200
  · obtain ⟨b, k, hx, hy, b1, b2, k1, k2, k3⟩ := hA
    refine ⟨n + k, qq_ag ls n b, fun post u h H => wq_again h x y (fun d j e1 e2 d1 d2 j1 j2 u' hu => ?_) (fun d j e1 e2 d1 d2 j1 j2 j3 => ?_) (fun q => (q b k hx hy b1 b2 k1 k2).elim)⟩
    · rw [hx, nI_eq (by omega) (by omega)] at e1
      rw [hy, nI_eq (by omega) (by omega)] at e2
      subst e1 e2
      exact H _ _ hu
    · rw [hy, nI_eq (by omega) (by omega)] at e2
      omega
  · exact ⟨n, ls, fun post u h H => wq_again h x y (fun d j e1 e2 d1 d2 j1 j2 u' _ => (hA ⟨d, j, e1, e2, d1, d2, j1, by omega, j2⟩).elim) (fun _ _ _ _ _ _ _ _ _ => H _ _ h) (fun _ => H _ _ h)⟩
theorem wq_changeE (n : Nat) (ls : Nat → Nat) (hn : n ≤ 200) (x y : Int32) : ∃ n' ls', ∀ (post : Int32 → St1 → Prop) u, qq_Rp n ls u → (∀ r u', qq_Rp n' ls' u' → post r u') → wpX_change post u x y := by
  by_cases hA : ∃ i c, x = nI i ∧ y = nI c ∧ i < n ∧ c < 8
  · obtain ⟨i, c, hx, hy, hi, hc⟩ := hA
    refine ⟨n, (fun j => if j = i then c else ls j), fun post u h H => wq_change h x y (fun d j e1 e2 d1 j1 u' hu => ?_) (fun q => (q i c hx hy hi hc).elim)⟩
    rw [hx, nI_eq (by omega) (by omega)] at e1
    rw [hy, nI_eq (by omega) (by omega)] at e2
    subst e1 e2
    exact H _ _ (hu _ (fun _ _ => rfl))
  · exact ⟨n, ls, fun post u h H => wq_change h x y (fun d j e1 e2 d1 j1 u' _ => (hA ⟨d, j, e1, e2, d1, j1⟩).elim) (fun _ => H _ _ h)⟩
theorem wq_cutE (n : Nat) (ls : Nat → Nat) (x : Int32) : ∃ n' ls', ∀ (post : Int32 → St1 → Prop) u, qq_Rp n ls u → (∀ r u', qq_Rp n' ls' u' → post r u') → wpX_cut post u x := by
  by_cases hA : ∃ k, x = nI k ∧ k ≤ 200
  · obtain ⟨k, hx, hk⟩ := hA
    refine ⟨n - k, ls, fun post u h H => wq_cut h x (fun j e1 j1 u' hu => ?_) (fun q => (q k hk hx).elim)⟩
    rw [hx, nI_eq (by omega) (by omega)] at e1
    subst e1
    exact H _ _ (hu _ (fun _ _ => rfl))
  · exact ⟨n, ls, fun post u h H => wq_cut h x (fun j e1 j1 u' _ => (hA ⟨j, e1, j1⟩).elim) (fun _ => H _ _ h)⟩
end
section
/-! ===== the law's turn ===== -/
theorem wq_turn37 (n : Nat) (ls : Nat → Nat) (hn : n ≤ 200) (x2 x3 x4 x5 z0 : Int32) : ∃ n' ls', ∀ (post : St1 → Prop) {f0_n f0_isPacked f0_runCount f0_nodes f0_codeSum : Int32} {a1 a2 a3 a4 a5 a6 a7 a8 a9 a10 a11 a12 a13 a14 a15 a16 a17 a18 a19 a20 a21 a22 a23 a24 a25 a26 a27 : Nat → Int32}, qq_Rp n ls (f0_n, f0_isPacked, f0_runCount, f0_nodes, f0_codeSum, a1, a2, a3, a4, a5, a6, a7, a8, a9, a10, a11, a12, a13, a14, a15, a16, a17, a18, a19, a20, a21, a22, a23, a24, a25, a26, a27) → (∀ u', qq_Rp n' ls' u' → post u') → wL_turn_37 post x2 x3 x4 x5 z0 f0_n f0_isPacked f0_runCount f0_nodes f0_codeSum a1 a2 a3 a4 a5 a6 a7 a8 a9 a10 a11 a12 a13 a14 a15 a16 a17 a18 a19 a20 a21 a22 a23 a24 a25 a26 a27 := by
  by_cases c1 : 5 < x4
  · by_cases c2 : 7 < x4
    · by_cases c3 : 12 < x4
      · by_cases c5 : x5 = 0
        · obtain ⟨n', ls', E⟩ := wq_cutE n ls x3
          refine ⟨n', ls', fun post => ?_⟩
          intros _ _ _ _ _ _ _ _ _ _ _ _ _ _ _ _ _ _ _ _ _ _ _ _ _ _ _ _ _ _ _ _ h H
          exact br_t c1 (br_t c2 (br_t c3 (br_t c5 (E _ _ h (fun r u' hu => H u' hu)))))
        · obtain ⟨n', ls', E⟩ := wq_cutE n ls (x3 &&& 15)
          refine ⟨n', ls', fun post => ?_⟩
          intros _ _ _ _ _ _ _ _ _ _ _ _ _ _ _ _ _ _ _ _ _ _ _ _ _ _ _ _ _ _ _ _ h H
          exact br_t c1 (br_t c2 (br_t c3 (br_f c5 (E _ _ h (fun r u' hu => H u' hu)))))
      · by_cases c5 : x5 = 0
        · obtain ⟨n', ls', E⟩ := wq_changeE n ls hn x3 x2
          refine ⟨n', ls', fun post => ?_⟩
          intros _ _ _ _ _ _ _ _ _ _ _ _ _ _ _ _ _ _ _ _ _ _ _ _ _ _ _ _ _ _ _ _ h H
          exact br_t c1 (br_t c2 (br_f c3 (br_t c5 (br_t c5 (E _ _ h (fun r u' hu => H u' hu))))))
        · obtain ⟨n', ls', E⟩ := wq_changeE n ls hn ((x3 &&& 255) - (x3 &&& 255) / 200 * 200) z0
          refine ⟨n', ls', fun post => ?_⟩
          intros _ _ _ _ _ _ _ _ _ _ _ _ _ _ _ _ _ _ _ _ _ _ _ _ _ _ _ _ _ _ _ _ h H
          exact br_t c1 (br_t c2 (br_f c3 (br_f c5 ⟨by decide, br_f c5 (E _ _ h (fun r u' hu => H u' hu))⟩)))
    · by_cases c5 : x5 = 0
      · obtain ⟨n', ls', E⟩ := wq_againE n ls hn x2 x3
        refine ⟨n', ls', fun post => ?_⟩
        intros _ _ _ _ _ _ _ _ _ _ _ _ _ _ _ _ _ _ _ _ _ _ _ _ _ _ _ _ _ _ _ _ h H
        exact br_t c1 (br_f c2 (br_t c5 (br_t c5 (E _ _ h (fun r u' hu => H u' hu)))))
      · obtain ⟨n', ls', E⟩ := wq_againE n ls hn (1 + (x2 &&& 7)) (1 + (x3 &&& 31))
        refine ⟨n', ls', fun post => ?_⟩
        intros _ _ _ _ _ _ _ _ _ _ _ _ _ _ _ _ _ _ _ _ _ _ _ _ _ _ _ _ _ _ _ _ h H
        exact br_t c1 (br_f c2 (br_f c5 (br_f c5 (E _ _ h (fun r u' hu => H u' hu)))))
  · by_cases c5 : x5 = 0
    · obtain ⟨n', ls', E⟩ := wq_appendE n ls x2 x3
      refine ⟨n', ls', fun post => ?_⟩
      intros _ _ _ _ _ _ _ _ _ _ _ _ _ _ _ _ _ _ _ _ _ _ _ _ _ _ _ _ _ _ _ _ h H
      exact br_f c1 (br_t c5 (br_t c5 (E _ _ h (fun r u' hu => H u' hu))))
    · obtain ⟨n', ls', E⟩ := wq_appendE n ls z0 (1 + (x3 &&& 15))
      refine ⟨n', ls', fun post => ?_⟩
      intros _ _ _ _ _ _ _ _ _ _ _ _ _ _ _ _ _ _ _ _ _ _ _ _ _ _ _ _ _ _ _ _ h H
      exact br_f c1 (br_f c5 (br_f c5 (E _ _ h (fun r u' hu => H u' hu))))
theorem wq_turn (n : Nat) (ls : Nat → Nat) (hn : n ≤ 200) (p1 p2 p3 : Int32) : ∃ n' ls', ∀ (post : St1 → Prop) u, qq_Rp n ls u → (∀ u', qq_Rp n' ls' u' → post u') → wpL_turn post u p1 p2 p3 := by
  by_cases c16 : (p1 &&& 16) = 0
  · by_cases c32 : (p1 &&& 32) = 0
    · obtain ⟨n', ls', E⟩ := wq_turn37 n ls hn p2 p3 (p1 &&& 15) 1 (p2 &&& 7)
      refine ⟨n', ls', fun post u h H => ?_⟩
      obtain ⟨f0_n, f0_isPacked, f0_runCount, f0_nodes, f0_codeSum, a1, a2, a3, a4, a5, a6, a7, a8, a9, a10, a11, a12, a13, a14, a15, a16, a17, a18, a19, a20, a21, a22, a23, a24, a25, a26, a27⟩ := u
      exact nm_e (br_t c16 (br_t c32 (E post h H)))
    · obtain ⟨n', ls', E⟩ := wq_turn37 n ls hn p2 p3 (p1 &&& 15) 1 (p2 &&& 1)
      refine ⟨n', ls', fun post u h H => ?_⟩
      obtain ⟨f0_n, f0_isPacked, f0_runCount, f0_nodes, f0_codeSum, a1, a2, a3, a4, a5, a6, a7, a8, a9, a10, a11, a12, a13, a14, a15, a16, a17, a18, a19, a20, a21, a22, a23, a24, a25, a26, a27⟩ := u
      exact nm_e (br_t c16 (br_f c32 (E post h H)))
  · by_cases c32 : (p1 &&& 32) = 0
    · obtain ⟨n', ls', E⟩ := wq_turn37 n ls hn p2 p3 (p1 &&& 15) 0 (p2 &&& 7)
      refine ⟨n', ls', fun post u h H => ?_⟩
      obtain ⟨f0_n, f0_isPacked, f0_runCount, f0_nodes, f0_codeSum, a1, a2, a3, a4, a5, a6, a7, a8, a9, a10, a11, a12, a13, a14, a15, a16, a17, a18, a19, a20, a21, a22, a23, a24, a25, a26, a27⟩ := u
      exact nm_e (br_f c16 (br_t c32 (E post h H)))
    · obtain ⟨n', ls', E⟩ := wq_turn37 n ls hn p2 p3 (p1 &&& 15) 0 (p2 &&& 1)
      refine ⟨n', ls', fun post u h H => ?_⟩
      obtain ⟨f0_n, f0_isPacked, f0_runCount, f0_nodes, f0_codeSum, a1, a2, a3, a4, a5, a6, a7, a8, a9, a10, a11, a12, a13, a14, a15, a16, a17, a18, a19, a20, a21, a22, a23, a24, a25, a26, a27⟩ := u
      exact nm_e (br_f c16 (br_f c32 (E post h H)))
end
section
/-! ===== the law's way there and back ===== -/
theorem qq_m3 (x : Int32) (s : Int32) : ∃ j : Nat, j < 4 ∧ (x >>> s) &&& 3 = nI j := pk_andE (x >>> s) 2 (by decide)
theorem qq_m7 (x : Int32) : ∃ j : Nat, j < 8 ∧ x &&& 7 = nI j := pk_andE x 3 (by decide)
theorem qq_neg1 {t : Nat} (ht : t < 1024) : (-1 : Int32) - nI t < 0 := by
  have e : (-1 : Int32) - nI t = nI 0 - nI (t + 1) := by
    rw [nI_succ, nI_0]
    grind
  rw [e]
  exact pk_sneg (by omega) (by omega)
section
variable {f0_n f0_isPacked f0_runCount f0_nodes f0_codeSum : Int32} {a1 a2 a3 a4 a5 a6 a7 a8 a9 a10 a11 a12 a13 a14 a15 a16 a17 a18 a19 a20 a21 a22 a23 a24 a25 a26 a27 : Nat → Int32}
/-- the calls that must fail, and the verdict -/
theorem wq_back181 {post : Int32 → St1 → Prop} {n : Nat} {ls : Nat → Nat} (x2 x3 x4 x6 x7 x8 x9 x10 x11 z0 : Int32) (h : qq_Rp n ls (f0_n, f0_isPacked, f0_runCount, f0_nodes, f0_codeSum, a1, a2, a3, a4, a5, a6, a7, a8, a9, a10, a11, a12, a13, a14, a15, a16, a17, a18, a19, a20, a21, a22, a23, a24, a25, a26, a27)) (h6 : ¬ x6 = 0) (h7 : x7 = x4) (h8 : x8 = x3)
    (hv : (0 ≤ x10 ∧ x11 = ((x2 >>> ((3 : Int32) &&& 31)) &&& 7) ∧ z0 = x11) ∨ (¬ 0 ≤ x10 ∧ ¬ x9 < x3 ∧ x11 = -1))
    (H : ∀ u', qq_Rp n ls u' → post 1 u') : wL_thereAndBack_181 post x2 x3 x4 x6 x7 x8 x9 x10 x11 z0 f0_n f0_isPacked f0_runCount f0_nodes f0_codeSum a1 a2 a3 a4 a5 a6 a7 a8 a9 a10 a11 a12 a13 a14 a15 a16 a17 a18 a19 a20 a21 a22 a23 a24 a25 a26 a27 := by
  obtain ⟨t, ht, et⟩ := pk_andE x2 (m := 1023) 10 (by decide)
  have hn : n ≤ 200 := h.2.1
  have e8 : (8 : Int32) + (x2 &&& 1023) = nI (8 + t) := by rw [et]; exact nI_add 8 t
  have e201 : (201 : Int32) + (x2 &&& 1023) = nI (201 + t) := by rw [et]; exact nI_add 201 t
  refine wq_append h _ _ (fun c k e1 e2 hc _ _ => ?_) (fun c k e1 e2 hc _ _ _ => ?_) (fun _ => ?_)
  · exfalso; rw [e8, nI_eq (by omega) (by omega)] at e1; omega
  · exfalso; rw [e8, nI_eq (by omega) (by omega)] at e1; omega
  refine wq_append h _ _ (fun c k e1 e2 hc k1 k2 => ?_) (fun c k e1 e2 hc _ k2 _ => ?_) (fun _ => ?_)
  · exfalso; rw [e201, nI_eq (by omega) (by omega)] at e2; omega
  · exfalso; rw [e201, nI_eq (by omega) (by omega)] at e2; omega
  refine wq_again h _ _ (fun b k e1 e2 b1 b2 _ _ => ?_) (fun b k e1 e2 b1 b2 _ _ _ => ?_) (fun _ => ?_)
  · exfalso; rw [e201, nI_eq (by omega) (by omega)] at e1; omega
  · exfalso; rw [e201, nI_eq (by omega) (by omega)] at e1; omega
  refine wq_change h _ _ (fun i c e1 e2 hi hc => ?_) (fun _ => ?_)
  · have := qq_neg1 ht
    rw [← et, e1] at this
    exact absurd this (nI_pos (by omega))
  refine wq_cut h _ (fun k e1 hk => ?_) (fun _ => ?_)
  · exfalso; rw [e201, nI_eq (by omega) (by omega)] at e1; omega
  have fin : wL_thereAndBack_315 post (-1) (-1) (-1) (-1) (-1) f0_n f0_isPacked f0_runCount f0_nodes f0_codeSum a1 a2 a3 a4 a5 a6 a7 a8 a9 a10 a11 a12 a13 a14 a15 a16 a17 a18 a19 a20 a21 a22 a23 a24 a25 a26 a27 := br_t rfl (br_t rfl (br_t rfl (br_t rfl (br_t rfl (H _ h)))))
  refine br_f h6 (br_t h7 (br_t h8 ?_))
  rcases hv with ⟨v1, v2, v3⟩ | ⟨v1, v2, v3⟩
  · exact br_t v1 (br_t v2 (br_t v3 fin))
  · exact br_f v1 (br_f v2 (br_t v3 fin))
theorem wq_back115 {post : Int32 → St1 → Prop} {n : Nat} {ls : Nat → Nat} (x1 x2 x4 x6 x7 : Int32) (h : qq_Rp n ls (f0_n, f0_isPacked, f0_runCount, f0_nodes, f0_codeSum, a1, a2, a3, a4, a5, a6, a7, a8, a9, a10, a11, a12, a13, a14, a15, a16, a17, a18, a19, a20, a21, a22, a23, a24, a25, a26, a27)) (h6 : ¬ x6 = 0) (h7 : x7 = x4)
    (H : ∀ u', qq_Rp n ls u' → post 1 u') : wL_thereAndBack_115 post x1 x2 (nI n) x4 x6 x7 (nI n) f0_n f0_isPacked f0_runCount f0_nodes f0_codeSum a1 a2 a3 a4 a5 a6 a7 a8 a9 a10 a11 a12 a13 a14 a15 a16 a17 a18 a19 a20 a21 a22 a23 a24 a25 a26 a27 := by
  have hn : n ≤ 200 := h.2.1
  have hcl : ∀ i, i < n → ls i < 8 := h.2.2.2.1
  obtain ⟨v, hv, ev⟩ := pk_andE (x1 >>> ((8 : Int32) &&& 31)) (m := 255) 8 (by decide)
  obtain ⟨d, hd, ed⟩ := qq_m7 (x2 >>> ((3 : Int32) &&& 31))
  obtain ⟨en, hen, een⟩ := qq_m3 x1 ((16 : Int32) &&& 31)
  have e9 : ((x1 >>> ((8 : Int32) &&& 31)) &&& 255) - ((x1 >>> ((8 : Int32) &&& 31)) &&& 255) / 200 * 200 = nI (v % 200) := by
    rw [ev]
    exact pk_rem (d := 200) (by omega) (by omega) (by omega)
  have i200 : v % 200 < 200 := Nat.mod_lt _ (by omega)
  refine And.intro (by decide) (nm_r e9 (wq_change h _ _ (fun i c e1 e2 hi hc u' hu => ?_) (fun hno => ?_)))
  · rw [nI_eq (by omega) (by omega)] at e1
    rw [ed, nI_eq (by omega) (by omega)] at e2
    subst e1 e2
    have h1 := hu (fun j => if j = v % 200 then d else ls j) (fun _ _ => rfl)
    obtain ⟨f0_na, f0_isPackeda, f0_runCounta, f0_nodesa, f0_codeSuma, a1a, a2a, a3a, a4a, a5a, a6a, a7a, a8a, a9a, a10a, a11a, a12a, a13a, a14a, a15a, a16a, a17a, a18a, a19a, a20a, a21a, a22a, a23a, a24a, a25a, a26a, a27a⟩ := u'
    have li := hcl (v % 200) hi
    refine wq_at h1 en (v % 200) (by omega) (by omega) (fun u2 h2 => ?_) een
    rw [if_pos hi]
    show (match u2 with | (f0_nb, f0_isPackedb, f0_runCountb, f0_nodesb, f0_codeSumb, a1b, a2b, a3b, a4b, a5b, a6b, a7b, a8b, a9b, a10b, a11b, a12b, a13b, a14b, a15b, a16b, a17b, a18b, a19b, a20b, a21b, a22b, a23b, a24b, a25b, a26b, a27b) => _)
    obtain ⟨f0_nb, f0_isPackedb, f0_runCountb, f0_nodesb, f0_codeSumb, a1b, a2b, a3b, a4b, a5b, a6b, a7b, a8b, a9b, a10b, a11b, a12b, a13b, a14b, a15b, a16b, a17b, a18b, a19b, a20b, a21b, a22b, a23b, a24b, a25b, a26b, a27b⟩ := u2
    refine br_f (nI_pos (by omega)) (wq_change h2 _ _ (fun i c e1 e2 hi2 hc2 u3 hu3 => ?_) (fun hno => ?_))
    · rw [nI_eq (by omega) (by omega)] at e1
      rw [nI_eq (by omega) (by omega)] at e2
      subst e1 e2
      have h3 := hu3 ls (fun j hj => ?_)
      rotate_left
      · by_cases z : j = v % 200
        · rw [if_pos z, z]
        · rw [if_neg z]
          show ls j = if j = v % 200 then d else ls j
          rw [if_neg z]
      obtain ⟨f0_nc, f0_isPackedc, f0_runCountc, f0_nodesc, f0_codeSumc, a1c, a2c, a3c, a4c, a5c, a6c, a7c, a8c, a9c, a10c, a11c, a12c, a13c, a14c, a15c, a16c, a17c, a18c, a19c, a20c, a21c, a22c, a23c, a24c, a25c, a26c, a27c⟩ := u3
      refine wq_back181 _ _ _ _ _ _ _ _ _ _ h3 h6 h7 rfl (Or.inl ⟨nI_pos' (by omega), ?_, rfl⟩) H
      rw [ed, if_pos rfl]
    · exact (hno (v % 200) (ls (v % 200)) rfl rfl hi li).elim
  · have hi : ¬ v % 200 < n := fun q => hno (v % 200) d rfl ed q hd
    refine wq_at h en (v % 200) (by omega) (by omega) (fun u2 h2 => ?_) een
    rw [if_neg hi]
    obtain ⟨f0_nb, f0_isPackedb, f0_runCountb, f0_nodesb, f0_codeSumb, a1b, a2b, a3b, a4b, a5b, a6b, a7b, a8b, a9b, a10b, a11b, a12b, a13b, a14b, a15b, a16b, a17b, a18b, a19b, a20b, a21b, a22b, a23b, a24b, a25b, a26b, a27b⟩ := u2
    exact br_t (by decide) (wq_back181 _ _ _ _ _ _ _ _ _ _ h2 h6 h7 rfl (Or.inr ⟨by decide, nI_nlt (by omega) (by omega), rfl⟩) H)
end
theorem wq_cut0 {post : Int32 → St1 → Prop} {n : Nat} {ls : Nat → Nat} {u : St1} (h : qq_Rp n ls u) (hn : n ≤ 200) (H : ∀ u', qq_Rp n ls u' → post (nI n) u') : wpX_cut post u 0 := by
  refine wq_cut h 0 (fun k e1 hk u' hu => ?_) (fun q => absurd rfl (q 0 (by omega)))
  rw [← nI_0, nI_eq (by omega) (by omega)] at e1
  subst e1
  exact H u' (hu ls (fun _ _ => rfl))
theorem wq_back {post : Int32 → St1 → Prop} {n : Nat} {ls : Nat → Nat} {u : St1} (h : qq_Rp n ls u) (p1 p2 : Int32) (H : ∀ u', qq_Rp n ls u' → post 1 u') : wpL_thereAndBack post u p1 p2 := by
  obtain ⟨w, hw, ew⟩ := pk_andE p1 (m := 15) 4 (by decide)
  obtain ⟨c, hc, ec⟩ := qq_m7 p2
  obtain ⟨en, hen, een⟩ := qq_m3 p1 ((4 : Int32) &&& 31)
  obtain ⟨en2, hen2, een2⟩ := qq_m3 p1 ((6 : Int32) &&& 31)
  have e4 : (1 : Int32) + (p1 &&& 15) = nI (1 + w) := by rw [ew]; exact nI_add 1 w
  obtain ⟨f0_nz, f0_isPackedz, f0_runCountz, f0_nodesz, f0_codeSumz, a1z, a2z, a3z, a4z, a5z, a6z, a7z, a8z, a9z, a10z, a11z, a12z, a13z, a14z, a15z, a16z, a17z, a18z, a19z, a20z, a21z, a22z, a23z, a24z, a25z, a26z, a27z⟩ := u
  have hn : n ≤ 200 := h.2.1
  unfold wpL_thereAndBack
  refine wq_cut0 h hn (fun u' h1 => ?_)
  obtain ⟨f0_n, f0_isPacked, f0_runCount, f0_nodes, f0_codeSum, a1, a2, a3, a4, a5, a6, a7, a8, a9, a10, a11, a12, a13, a14, a15, a16, a17, a18, a19, a20, a21, a22, a23, a24, a25, a26, a27⟩ := u'
  refine nm_r e4 (wq_append h1 _ _ (fun d k e1 e2 hd k1 k2 u2 h2 => ?_) (fun d k e1 e2 hd k1 k2 k3 => ?_) (fun hno => ?_))
  · rw [nI_eq (by omega) (by omega)] at e2
    rw [ec, nI_eq (by omega) (by omega)] at e1
    subst e1 e2
    obtain ⟨f0_na, f0_isPackeda, f0_runCounta, f0_nodesa, f0_codeSuma, a1a, a2a, a3a, a4a, a5a, a6a, a7a, a8a, a9a, a10a, a11a, a12a, a13a, a14a, a15a, a16a, a17a, a18a, a19a, a20a, a21a, a22a, a23a, a24a, a25a, a26a, a27a⟩ := u2
    refine pk_lt 200 (n + (1 + w)) (fun g => absurd g (by omega)) (fun g => ?_) rfl (nI_add _ _)
    refine br_t (nI_add _ _).symm (pk_le (n + (1 + w)) 0 (fun z => absurd z (by omega)) (fun _ => ?_))
    refine wq_rank h2 en c (n + (1 + w)) (by omega) hc (by omega) (fun u3 h3 => ?_) een ec
    rw [if_pos (Nat.le_refl _)]
    obtain ⟨f0_nb, f0_isPackedb, f0_runCountb, f0_nodesb, f0_codeSumb, a1b, a2b, a3b, a4b, a5b, a6b, a7b, a8b, a9b, a10b, a11b, a12b, a13b, a14b, a15b, a16b, a17b, a18b, a19b, a20b, a21b, a22b, a23b, a24b, a25b, a26b, a27b⟩ := u3
    refine wq_rank h3 en2 c n (by omega) hc (by omega) (fun u4 h4 => ?_) een2 ec
    rw [if_pos (Nat.le_add_right _ _)]
    obtain ⟨f0_nc, f0_isPackedc, f0_runCountc, f0_nodesc, f0_codeSumc, a1c, a2c, a3c, a4c, a5c, a6c, a7c, a8c, a9c, a10c, a11c, a12c, a13c, a14c, a15c, a16c, a17c, a18c, a19c, a20c, a21c, a22c, a23c, a24c, a25c, a26c, a27c⟩ := u4
    have rk : qq_rk (fun i => if i < n then ls i else c) c (n + (1 + w)) = qq_rk (fun i => if i < n then ls i else c) c n + (1 + w) := by
      have := qq_rk_run (ls := fun i => if i < n then ls i else c) (c := c) (s := n) (e := n + (1 + w)) (by omega) (fun q q1 q2 => by
        show (if q < n then ls q else c) = c
        rw [if_neg (by omega)])
      rw [this]
      congr 1
      omega
    refine pk_le (n + (1 + w)) 0 (fun z => absurd z (by omega)) (fun _ => wq_cut h4 _ (fun k e1 hk u5 hu5 => ?_) (fun q => absurd rfl (q (1 + w) (by omega))))
    rw [nI_eq (by omega) (by omega)] at e1
    subst e1
    have h5 := hu5 ls (fun i hi => (if_pos (show i < n by omega)).symm)
    rw [show n + (1 + w) - (1 + w) = n by omega] at h5 ⊢
    obtain ⟨f0_nd, f0_isPackedd, f0_runCountd, f0_nodesd, f0_codeSumd, a1d, a2d, a3d, a4d, a5d, a6d, a7d, a8d, a9d, a10d, a11d, a12d, a13d, a14d, a15d, a16d, a17d, a18d, a19d, a20d, a21d, a22d, a23d, a24d, a25d, a26d, a27d⟩ := u5
    exact wq_back115 _ _ _ _ _ h5 (by decide) (by rw [rk, pk_sub (by omega)]; congr 1; omega) H
  · rw [nI_eq (by omega) (by omega)] at e2
    subst e2
    refine pk_lt 200 (n + (1 + w)) (fun g => ?_) (fun g => absurd g (by omega)) rfl (nI_add _ _)
    refine br_t rfl (br_t (by decide) (br_t (by decide) (wq_back115 _ _ _ _ _ h1 (by decide) rfl H)))
  · exact (hno c (1 + w) ec rfl hc (by omega) (by omega)).elim
end
section
/-! ===== the law's comparison ===== -/
abbrev qq_jn (u v : St1) : St3 := match u with
  | (f0_n, f0_isPacked, f0_runCount, f0_nodes, f0_codeSum, a1, a2, a3, a4, a5, a6, a7, a8, a9, a10, a11, a12, a13, a14, a15, a16, a17, a18, a19, a20, a21, a22, a23, a24, a25, a26, a27) => match v with
    | (f28_n, f28_isPacked, f28_runCount, f28_nodes, f28_codeSum, a29, a30, a31, a32, a33, a34, a35, a36, a37, a38, a39, a40, a41, a42, a43, a44, a45, a46, a47, a48, a49, a50, a51, a52, a53, a54, a55) => (f0_n, f0_isPacked, f0_runCount, f0_nodes, f0_codeSum, a1, a2, a3, a4, a5, a6, a7, a8, a9, a10, a11, a12, a13, a14, a15, a16, a17, a18, a19, a20, a21, a22, a23, a24, a25, a26, a27, f28_n, f28_isPacked, f28_runCount, f28_nodes, f28_codeSum, a29, a30, a31, a32, a33, a34, a35, a36, a37, a38, a39, a40, a41, a42, a43, a44, a45, a46, a47, a48, a49, a50, a51, a52, a53, a54, a55)
theorem wq_alike39 {post : Int32 → St3 → Prop} {n : Nat} {ls : Nat → Nat} (e e2 : Nat) (he : e < 7) (he2 : e2 < 7) (hn : n ≤ 200)
    (H : ∀ u v, qq_Rp n ls u → qq_Rp n ls v → post 1 (qq_jn u v)) {f0_n f0_isPacked f0_runCount f0_nodes f0_codeSum : Int32} {a1 a2 a3 a4 a5 a6 a7 a8 a9 a10 a11 a12 a13 a14 a15 a16 a17 a18 a19 a20 a21 a22 a23 a24 a25 a26 a27 : Nat → Int32} {f28_n f28_isPacked f28_runCount f28_nodes f28_codeSum : Int32} {a29 a30 a31 a32 a33 a34 a35 a36 a37 a38 a39 a40 a41 a42 a43 a44 a45 a46 a47 a48 a49 a50 a51 a52 a53 a54 a55 : Nat → Int32} (g1 : qq_Rp n ls (f0_n, f0_isPacked, f0_runCount, f0_nodes, f0_codeSum, a1, a2, a3, a4, a5, a6, a7, a8, a9, a10, a11, a12, a13, a14, a15, a16, a17, a18, a19, a20, a21, a22, a23, a24, a25, a26, a27)) (g2 : qq_Rp n ls (f28_n, f28_isPacked, f28_runCount, f28_nodes, f28_codeSum, a29, a30, a31, a32, a33, a34, a35, a36, a37, a38, a39, a40, a41, a42, a43, a44, a45, a46, a47, a48, a49, a50, a51, a52, a53, a54, a55)) :
    ∃ f, wL_alike_39 post (nI e) (nI e2) f 1 0 f0_n f0_isPacked f0_runCount f0_nodes f0_codeSum a1 a2 a3 a4 a5 a6 a7 a8 a9 a10 a11 a12 a13 a14 a15 a16 a17 a18 a19 a20 a21 a22 a23 a24 a25 a26 a27 f28_n f28_isPacked f28_runCount f28_nodes f28_codeSum a29 a30 a31 a32 a33 a34 a35 a36 a37 a38 a39 a40 a41 a42 a43 a44 a45 a46 a47 a48 a49 a50 a51 a52 a53 a54 a55 := by
  refine pk_loop (σ := St1 × St1) (fun f i s => match s with | ((f0_n, f0_isPacked, f0_runCount, f0_nodes, f0_codeSum, a1, a2, a3, a4, a5, a6, a7, a8, a9, a10, a11, a12, a13, a14, a15, a16, a17, a18, a19, a20, a21, a22, a23, a24, a25, a26, a27), (f28_n, f28_isPacked, f28_runCount, f28_nodes, f28_codeSum, a29, a30, a31, a32, a33, a34, a35, a36, a37, a38, a39, a40, a41, a42, a43, a44, a45, a46, a47, a48, a49, a50, a51, a52, a53, a54, a55)) => wL_alike_39 post (nI e) (nI e2) f 1 (nI i) f0_n f0_isPacked f0_runCount f0_nodes f0_codeSum a1 a2 a3 a4 a5 a6 a7 a8 a9 a10 a11 a12 a13 a14 a15 a16 a17 a18 a19 a20 a21 a22 a23 a24 a25 a26 a27 f28_n f28_isPacked f28_runCount f28_nodes f28_codeSum a29 a30 a31 a32 a33 a34 a35 a36 a37 a38 a39 a40 a41 a42 a43 a44 a45 a46 a47 a48 a49 a50 a51 a52 a53 a54 a55) (fun _ s => qq_Rp n ls s.1 ∧ qq_Rp n ls s.2) 200 0 ((f0_n, f0_isPacked, f0_runCount, f0_nodes, f0_codeSum, a1, a2, a3, a4, a5, a6, a7, a8, a9, a10, a11, a12, a13, a14, a15, a16, a17, a18, a19, a20, a21, a22, a23, a24, a25, a26, a27), (f28_n, f28_isPacked, f28_runCount, f28_nodes, f28_codeSum, a29, a30, a31, a32, a33, a34, a35, a36, a37, a38, a39, a40, a41, a42, a43, a44, a45, a46, a47, a48, a49, a50, a51, a52, a53, a54, a55)) (by omega) ⟨g1, g2⟩ ?_ ?_
  · intro f ⟨u1, u2⟩ ⟨h1, h2⟩
    obtain ⟨f0_n, f0_isPacked, f0_runCount, f0_nodes, f0_codeSum, a1, a2, a3, a4, a5, a6, a7, a8, a9, a10, a11, a12, a13, a14, a15, a16, a17, a18, a19, a20, a21, a22, a23, a24, a25, a26, a27⟩ := u1
    obtain ⟨f28_n, f28_isPacked, f28_runCount, f28_nodes, f28_codeSum, a29, a30, a31, a32, a33, a34, a35, a36, a37, a38, a39, a40, a41, a42, a43, a44, a45, a46, a47, a48, a49, a50, a51, a52, a53, a54, a55⟩ := u2
    exact pk_le 200 200 (fun _ => ⟨rfl, H _ _ h1 h2⟩) (fun z => absurd z (by omega))
  · clear g1 g2
    intro f i ⟨u1, u2⟩ hi ⟨h1, h2⟩ hk
    have e6 : nI i &&& 7 = nI (i % 8) := pk_andN (by omega) 3 (by decide)
    have e7 : nI i + nI (i % 8) = nI (i + i % 8) := nI_add _ _
    have s3 : nI i >>> ((3 : Int32) &&& 31) = nI (i / 8) := pk_shrN (by omega) _ 3 (by decide)
    have s1 : nI (i % 8) >>> ((1 : Int32) &&& 31) = nI (i % 8 / 2) := pk_shrN (by omega) _ 1 (by decide)
    obtain ⟨f0_n, f0_isPacked, f0_runCount, f0_nodes, f0_codeSum, a1, a2, a3, a4, a5, a6, a7, a8, a9, a10, a11, a12, a13, a14, a15, a16, a17, a18, a19, a20, a21, a22, a23, a24, a25, a26, a27⟩ := u1
    obtain ⟨f28_n, f28_isPacked, f28_runCount, f28_nodes, f28_codeSum, a29, a30, a31, a32, a33, a34, a35, a36, a37, a38, a39, a40, a41, a42, a43, a44, a45, a46, a47, a48, a49, a50, a51, a52, a53, a54, a55⟩ := u2
    refine pk_le 200 i (fun z => absurd z (by omega)) (fun _ => nm_r e6 (nm_r e7 (br_f (by decide) ?_)))
    refine wq_at h1 e i he (by omega) (fun u h1 => ?_)
    obtain ⟨f0_n, f0_isPacked, f0_runCount, f0_nodes, f0_codeSum, a1, a2, a3, a4, a5, a6, a7, a8, a9, a10, a11, a12, a13, a14, a15, a16, a17, a18, a19, a20, a21, a22, a23, a24, a25, a26, a27⟩ := u
    refine wq_at h2 e2 i he2 (by omega) (fun u h2 => ?_)
    obtain ⟨f28_n, f28_isPacked, f28_runCount, f28_nodes, f28_codeSum, a29, a30, a31, a32, a33, a34, a35, a36, a37, a38, a39, a40, a41, a42, a43, a44, a45, a46, a47, a48, a49, a50, a51, a52, a53, a54, a55⟩ := u
    refine br_t rfl (wq_rank h1 e (i % 8) i he (by omega) (by omega) (fun u h1 => ?_))
    obtain ⟨f0_n, f0_isPacked, f0_runCount, f0_nodes, f0_codeSum, a1, a2, a3, a4, a5, a6, a7, a8, a9, a10, a11, a12, a13, a14, a15, a16, a17, a18, a19, a20, a21, a22, a23, a24, a25, a26, a27⟩ := u
    refine wq_rank h2 e2 (i % 8) i he2 (by omega) (by omega) (fun u h2 => ?_)
    obtain ⟨f28_n, f28_isPacked, f28_runCount, f28_nodes, f28_codeSum, a29, a30, a31, a32, a33, a34, a35, a36, a37, a38, a39, a40, a41, a42, a43, a44, a45, a46, a47, a48, a49, a50, a51, a52, a53, a54, a55⟩ := u
    refine br_t rfl (wq_select h1 e (i % 8) (i / 8) he (by omega) (by omega) (fun u v1 h1 k1 => ?_) rfl rfl s3)
    obtain ⟨f0_n, f0_isPacked, f0_runCount, f0_nodes, f0_codeSum, a1, a2, a3, a4, a5, a6, a7, a8, a9, a10, a11, a12, a13, a14, a15, a16, a17, a18, a19, a20, a21, a22, a23, a24, a25, a26, a27⟩ := u
    refine wq_select h2 e2 (i % 8) (i / 8) he2 (by omega) (by omega) (fun u v2 h2 k2 => ?_) rfl rfl s3
    obtain ⟨f28_n, f28_isPacked, f28_runCount, f28_nodes, f28_codeSum, a29, a30, a31, a32, a33, a34, a35, a36, a37, a38, a39, a40, a41, a42, a43, a44, a45, a46, a47, a48, a49, a50, a51, a52, a53, a54, a55⟩ := u
    refine br_t (qq_sel_u k1 k2) (wq_below h1 e i (i + i % 8) (i % 8) he (by omega) (by omega) (by omega) (fun u h1 => ?_))
    obtain ⟨f0_n, f0_isPacked, f0_runCount, f0_nodes, f0_codeSum, a1, a2, a3, a4, a5, a6, a7, a8, a9, a10, a11, a12, a13, a14, a15, a16, a17, a18, a19, a20, a21, a22, a23, a24, a25, a26, a27⟩ := u
    refine wq_below h2 e2 i (i + i % 8) (i % 8) he2 (by omega) (by omega) (by omega) (fun u h2 => ?_)
    obtain ⟨f28_n, f28_isPacked, f28_runCount, f28_nodes, f28_codeSum, a29, a30, a31, a32, a33, a34, a35, a36, a37, a38, a39, a40, a41, a42, a43, a44, a45, a46, a47, a48, a49, a50, a51, a52, a53, a54, a55⟩ := u
    refine br_t rfl (wq_ordered h1 e i (i + i % 8) (i % 8 / 2) he (by omega) (by omega) (by omega) (fun u w1 h1 q1 => ?_) rfl rfl rfl s1)
    obtain ⟨f0_n, f0_isPacked, f0_runCount, f0_nodes, f0_codeSum, a1, a2, a3, a4, a5, a6, a7, a8, a9, a10, a11, a12, a13, a14, a15, a16, a17, a18, a19, a20, a21, a22, a23, a24, a25, a26, a27⟩ := u
    refine wq_ordered h2 e2 i (i + i % 8) (i % 8 / 2) he2 (by omega) (by omega) (by omega) (fun u w2 h2 q2 => ?_) rfl rfl rfl s1
    obtain ⟨f28_n, f28_isPacked, f28_runCount, f28_nodes, f28_codeSum, a29, a30, a31, a32, a33, a34, a35, a36, a37, a38, a39, a40, a41, a42, a43, a44, a45, a46, a47, a48, a49, a50, a51, a52, a53, a54, a55⟩ := u
    refine br_t (qq_ord_u (by omega) q1 q2) (wq_most h1 e i (i + i % 8) he (by omega) (by omega) (fun u h1 => ?_))
    obtain ⟨f0_n, f0_isPacked, f0_runCount, f0_nodes, f0_codeSum, a1, a2, a3, a4, a5, a6, a7, a8, a9, a10, a11, a12, a13, a14, a15, a16, a17, a18, a19, a20, a21, a22, a23, a24, a25, a26, a27⟩ := u
    refine wq_most h2 e2 i (i + i % 8) he2 (by omega) (by omega) (fun u h2 => ?_)
    obtain ⟨f28_n, f28_isPacked, f28_runCount, f28_nodes, f28_codeSum, a29, a30, a31, a32, a33, a34, a35, a36, a37, a38, a39, a40, a41, a42, a43, a44, a45, a46, a47, a48, a49, a50, a51, a52, a53, a54, a55⟩ := u
    refine br_t rfl (wq_different h1 i (i + i % 8) (by omega) (by omega) (fun u h1 => ?_))
    obtain ⟨f0_n, f0_isPacked, f0_runCount, f0_nodes, f0_codeSum, a1, a2, a3, a4, a5, a6, a7, a8, a9, a10, a11, a12, a13, a14, a15, a16, a17, a18, a19, a20, a21, a22, a23, a24, a25, a26, a27⟩ := u
    refine wq_different h2 i (i + i % 8) (by omega) (by omega) (fun u h2 => ?_)
    obtain ⟨f28_n, f28_isPacked, f28_runCount, f28_nodes, f28_codeSum, a29, a30, a31, a32, a33, a34, a35, a36, a37, a38, a39, a40, a41, a42, a43, a44, a45, a46, a47, a48, a49, a50, a51, a52, a53, a54, a55⟩ := u
    refine br_t rfl (wq_next h1 (i % 8) i (by omega) (by omega) (fun u v3 h1 r1 => ?_))
    obtain ⟨f0_n, f0_isPacked, f0_runCount, f0_nodes, f0_codeSum, a1, a2, a3, a4, a5, a6, a7, a8, a9, a10, a11, a12, a13, a14, a15, a16, a17, a18, a19, a20, a21, a22, a23, a24, a25, a26, a27⟩ := u
    refine wq_next h2 (i % 8) i (by omega) (by omega) (fun u v4 h2 r2 => ?_)
    obtain ⟨f28_n, f28_isPacked, f28_runCount, f28_nodes, f28_codeSum, a29, a30, a31, a32, a33, a34, a35, a36, a37, a38, a39, a40, a41, a42, a43, a44, a45, a46, a47, a48, a49, a50, a51, a52, a53, a54, a55⟩ := u
    exact br_t (qq_nx_u r1 r2) (nm_r (nI_1 i) (hk ((f0_n, f0_isPacked, f0_runCount, f0_nodes, f0_codeSum, a1, a2, a3, a4, a5, a6, a7, a8, a9, a10, a11, a12, a13, a14, a15, a16, a17, a18, a19, a20, a21, a22, a23, a24, a25, a26, a27), (f28_n, f28_isPacked, f28_runCount, f28_nodes, f28_codeSum, a29, a30, a31, a32, a33, a34, a35, a36, a37, a38, a39, a40, a41, a42, a43, a44, a45, a46, a47, a48, a49, a50, a51, a52, a53, a54, a55)) ⟨h1, h2⟩))
theorem wq_alike {post : Int32 → St3 → Prop} {n : Nat} {ls : Nat → Nat} {x : Int32} (e : Nat) (he : e < 7) (hn : n ≤ 200)
    (H : ∀ u v, qq_Rp n ls u → qq_Rp n ls v → post 1 (qq_jn u v)) {f0_n f0_isPacked f0_runCount f0_nodes f0_codeSum : Int32} {a1 a2 a3 a4 a5 a6 a7 a8 a9 a10 a11 a12 a13 a14 a15 a16 a17 a18 a19 a20 a21 a22 a23 a24 a25 a26 a27 : Nat → Int32} {f28_n f28_isPacked f28_runCount f28_nodes f28_codeSum : Int32} {a29 a30 a31 a32 a33 a34 a35 a36 a37 a38 a39 a40 a41 a42 a43 a44 a45 a46 a47 a48 a49 a50 a51 a52 a53 a54 a55 : Nat → Int32} (h1 : qq_Rp n ls (f0_n, f0_isPacked, f0_runCount, f0_nodes, f0_codeSum, a1, a2, a3, a4, a5, a6, a7, a8, a9, a10, a11, a12, a13, a14, a15, a16, a17, a18, a19, a20, a21, a22, a23, a24, a25, a26, a27)) (h2 : qq_Rp n ls (f28_n, f28_isPacked, f28_runCount, f28_nodes, f28_codeSum, a29, a30, a31, a32, a33, a34, a35, a36, a37, a38, a39, a40, a41, a42, a43, a44, a45, a46, a47, a48, a49, a50, a51, a52, a53, a54, a55)) (hx : x = nI e := by rfl) :
    wpL_alike post (f0_n, f0_isPacked, f0_runCount, f0_nodes, f0_codeSum, a1, a2, a3, a4, a5, a6, a7, a8, a9, a10, a11, a12, a13, a14, a15, a16, a17, a18, a19, a20, a21, a22, a23, a24, a25, a26, a27, f28_n, f28_isPacked, f28_runCount, f28_nodes, f28_codeSum, a29, a30, a31, a32, a33, a34, a35, a36, a37, a38, a39, a40, a41, a42, a43, a44, a45, a46, a47, a48, a49, a50, a51, a52, a53, a54, a55) x := by
  subst hx
  have e2 : (nI e + 2) - (nI e + 2) / 7 * 7 = nI ((e + 2) % 7) := by
    rw [show nI e + 2 = nI (e + 2) from nI_add e 2]
    exact pk_rem (d := 7) (by omega) (by omega) (by omega)
  refine And.intro (by decide) (nm_r e2 ?_)
  refine wq_runs h1 (fun u h1 => ?_)
  obtain ⟨f0_n, f0_isPacked, f0_runCount, f0_nodes, f0_codeSum, a1, a2, a3, a4, a5, a6, a7, a8, a9, a10, a11, a12, a13, a14, a15, a16, a17, a18, a19, a20, a21, a22, a23, a24, a25, a26, a27⟩ := u
  refine wq_runs h2 (fun u h2 => ?_)
  obtain ⟨f28_n, f28_isPacked, f28_runCount, f28_nodes, f28_codeSum, a29, a30, a31, a32, a33, a34, a35, a36, a37, a38, a39, a40, a41, a42, a43, a44, a45, a46, a47, a48, a49, a50, a51, a52, a53, a54, a55⟩ := u
  refine br_t rfl (wq_bits h1 (fun u h1 => ?_))
  obtain ⟨f0_n, f0_isPacked, f0_runCount, f0_nodes, f0_codeSum, a1, a2, a3, a4, a5, a6, a7, a8, a9, a10, a11, a12, a13, a14, a15, a16, a17, a18, a19, a20, a21, a22, a23, a24, a25, a26, a27⟩ := u
  refine wq_bits h2 (fun u h2 => ?_)
  obtain ⟨f28_n, f28_isPacked, f28_runCount, f28_nodes, f28_codeSum, a29, a30, a31, a32, a33, a34, a35, a36, a37, a38, a39, a40, a41, a42, a43, a44, a45, a46, a47, a48, a49, a50, a51, a52, a53, a54, a55⟩ := u
  exact br_t rfl (wq_alike39 e ((e + 2) % 7) he (by omega) hn H h1 h2)
end
section
/-! ===== making an object ===== -/
theorem qq_ch_z : ∀ d, d < 8 → ∀ k, k < 8 → d < k → qq_ch d k = 0 := by decide +kernel
/-- rows below i whole, row i below k, zeros behind -/
def qq_IC (i k : Nat) (s : Nat → Int32) : Prop :=
  (∀ d m, d < i → m < 8 → s (d * 8 + m) = nI (qq_ch d m)) ∧ (∀ m, m < k → s (i * 8 + m) = nI (qq_ch i m)) ∧ (∀ d m, d < 8 → m < 8 → (i < d ∨ d = i ∧ k ≤ m) → s (d * 8 + m) = 0)
theorem wq_init253 {post : St1 → Prop} {mc ms kc ks : Nat} {J : Int32 → (Nat → Int32) → (Nat → Int32) → (Nat → Int32) → (Nat → Int32) → (Nat → Int32) → (Nat → Int32) → (Nat → Int32) → (Nat → Int32) → (Nat → Int32) → (Nat → Int32) → (Nat → Int32) → (Nat → Int32) → (Nat → Int32) → (Nat → Int32) → (Nat → Int32) → (Nat → Int32) → (Nat → Int32) → (Nat → Int32) → (Nat → Int32) → (Nat → Int32) → (Nat → Int32) → (Nat → Int32) → (Nat → Int32) → (Nat → Int32) → (Nat → Int32) → (Nat → Int32) → (Nat → Int32) → Prop} {f0_n f0_isPacked f0_runCount f0_nodes f0_codeSum : Int32} {a1 a2 a3 a4 a5 a6 a7 a8 a9 a10 a11 a12 a13 a14 a15 a16 a17 a18 a19 a20 a21 a22 a23 a24 a25 a26 a27 : Nat → Int32} (i : Nat) (hi : i < 8) (I : qq_IC i 1 a16)
    (H : ∀ s, qq_IC (i + 1) 0 s → J (nI (i + 1)) a1 a2 a3 a4 a5 a6 a7 a8 a9 a10 a11 a12 a13 a14 a15 s a17 a18 a19 a20 a21 a22 a23 a24 a25 a26 a27) :
    ∃ f, wX_init_253 post mc ms J (nI i) kc ks f0_n f0_isPacked f0_runCount f0_nodes f0_codeSum f 1 a1 a2 a3 a4 a5 a6 a7 a8 a9 a10 a11 a12 a13 a14 a15 a16 a17 a18 a19 a20 a21 a22 a23 a24 a25 a26 a27 := by
  refine pk_loop (σ := Nat → Int32) (fun f k s => wX_init_253 post mc ms J (nI i) kc ks f0_n f0_isPacked f0_runCount f0_nodes f0_codeSum f (nI k) a1 a2 a3 a4 a5 a6 a7 a8 a9 a10 a11 a12 a13 a14 a15 s a17 a18 a19 a20 a21 a22 a23 a24 a25 a26 a27) (fun k s => 1 ≤ k ∧ qq_IC i k s) (i + 1) 1 a16 (by omega) ⟨Nat.le_refl 1, I⟩ ?_ ?_
  · intro f s ⟨_, k1, k2, k3⟩
    refine pk_lt i (i + 1) (fun _ => nm_r (nI_1 i) (H s ⟨fun d m hd hm => ?_, fun m hm => absurd hm (by omega), fun d m hd hm h => k3 d m hd hm (by omega)⟩)) (fun z => absurd z (by omega))
    by_cases z : d = i
    · rw [z]
      by_cases y : m < i + 1
      · exact k2 m y
      · rw [k3 i m hi hm (Or.inr ⟨rfl, by omega⟩), qq_ch_z i hi m hm (by omega)]
        rfl
    · exact k1 d m (by omega) hm
  · intro f k s hk ⟨k0, k1, k2, k3⟩ hw
    obtain ⟨j, rfl⟩ : ∃ j, i = j + 1 := ⟨i - 1, by omega⟩
    obtain ⟨l, rfl⟩ : ∃ l, k = l + 1 := ⟨k - 1, by omega⟩
    have e1 : (nI (j + 1) - 1) * 8 + nI (l + 1) = nI (j * 8 + (l + 1)) := by
      rw [nI_pred, show nI j * 8 = nI (j * 8) from pk_mul j 8, nI_add]
    have e2 : (nI (j + 1) - 1) * 8 + nI (l + 1) - 1 = nI (j * 8 + l) := by
      rw [e1, ← Nat.add_assoc, nI_pred]
    have e3 : nI (j + 1) * 8 + nI (l + 1) = nI ((j + 1) * 8 + (l + 1)) := by
      rw [show nI (j + 1) * 8 = nI ((j + 1) * 8) from pk_mul (j + 1) 8, nI_add]
    have cl := qq_ch_lt (j + 1) hi (l + 1) (by omega)
    have pas : qq_ch (j + 1) (l + 1) = qq_ch j l + qq_ch j (l + 1) := rfl
    refine pk_lt (j + 1) (l + 1) (fun z => absurd z (by omega)) (fun _ => ⟨pk_in _ 64 (by omega) e2, pk_in _ 64 (by omega) e1, pk_in _ 64 (by omega) e3, nm_r (e' := upd s ((j + 1) * 8 + (l + 1)) (nI (qq_ch (j + 1) (l + 1)))) ?_ (nm_r (nI_1 _) (hw _ ⟨by omega, fun d m hd hm => ?_, fun m hm => ?_, fun d m hd hm h => ?_⟩))⟩)
    · rw [e2, e1, e3, nI_clamp (by omega), nI_clamp (by omega), nI_clamp (by omega), k1 j l (by omega) (by omega), k1 j (l + 1) (by omega) (by omega), nI_add, ← pas, qq_i8 _ cl]
    · rw [pk_un (by omega)]
      exact k1 d m hd hm
    · by_cases z : m = l + 1
      · rw [z, pk_us]
      · rw [pk_un (by omega)]
        exact k2 m (by omega)
    · rw [pk_un (by omega)]
      exact k3 d m hd hm (by omega)
theorem wq_init {post : St1 → Prop} (ls : Nat → Nat) (H : ∀ u, qq_Rp 0 ls u → post u) : wpX_init post 27 3516 (0, 0, 0, 0, 0) := by
  iterate 54 refine And.intro (by decide) ?_
  refine pk_loop (σ := Nat → Int32) (fun f i s => wX_init_235 post 27 3516 27 3516 0 0 0 0 0 f (nI i) (fun _ => 0) (fun _ => 0) (fun _ => 0) (fun _ => 0) (fun _ => 0) (fun _ => 0) (fun _ => 0) (fun _ => 0) (fun _ => 0) (fun _ => 0) (fun _ => 0) (fun _ => 0) (fun _ => 0) (fun _ => 0) (fun _ => 0) s (fun _ => 0) (fun _ => 0) (fun _ => 0) (fun _ => 0) (fun _ => 0) (fun _ => 0) (fun _ => 0) (fun _ => 0) (fun _ => 0) (fun _ => 0) (fun _ => 0))
    (fun i s => qq_IC i 0 s) 8 0 (fun _ => 0) (by omega) ⟨fun d m hd => absurd hd (by omega), fun m hm => absurd hm (by omega), fun _ _ _ _ _ => rfl⟩ ?_ ?_
  · intro f s ⟨k1, _, _⟩
    exact pk_le 8 8 (fun _ => H _ ⟨rfl, by omega, fun i hi => absurd hi (by omega), fun i hi => absurd hi (by omega), fun i k hi hk => k1 i k hi (by omega), fun q => absurd rfl q⟩) (fun z => absurd z (by omega))
  · intro f i s hi ⟨k1, k2, k3⟩ hw
    have e8 : nI i * 8 = nI (i * 8) := pk_mul i 8
    refine pk_le 8 i (fun z => absurd z (by omega)) (fun _ => ⟨pk_in _ 64 (by omega) e8, nm_r (e' := upd s (i * 8) 1) (by rw [e8, nI_clamp (by omega)]) (wq_init253 i hi ⟨fun d m hd hm => ?_, fun m hm => ?_, fun d m hd hm h => ?_⟩ (fun t ht => hw t ht))⟩)
    · rw [pk_un (by omega)]
      exact k1 d m hd hm
    · rw [show m = 0 by omega, Nat.add_zero, pk_us]
      cases i <;> rfl
    · rw [pk_un (by omega)]
      exact k3 d m hd hm (by omega)
end
section
/-! ===== the law ===== -/
theorem wq_law18 {post : Int32 → Prop} (L : Nat) (xs : Nat → Int32) (hL : L ≤ 260) (kc ks n0 : Nat) (ls0 : Nat → Nat) (hp : post 1) {f0_n f0_isPacked f0_runCount f0_nodes f0_codeSum : Int32} {a1 a2 a3 a4 a5 a6 a7 a8 a9 a10 a11 a12 a13 a14 a15 a16 a17 a18 a19 a20 a21 a22 a23 a24 a25 a26 a27 : Nat → Int32} {f28_n f28_isPacked f28_runCount f28_nodes f28_codeSum : Int32} {a29 a30 a31 a32 a33 a34 a35 a36 a37 a38 a39 a40 a41 a42 a43 a44 a45 a46 a47 a48 a49 a50 a51 a52 a53 a54 a55 : Nat → Int32} (g1 : qq_Rp n0 ls0 (f0_n, f0_isPacked, f0_runCount, f0_nodes, f0_codeSum, a1, a2, a3, a4, a5, a6, a7, a8, a9, a10, a11, a12, a13, a14, a15, a16, a17, a18, a19, a20, a21, a22, a23, a24, a25, a26, a27)) (g2 : qq_Rp n0 ls0 (f28_n, f28_isPacked, f28_runCount, f28_nodes, f28_codeSum, a29, a30, a31, a32, a33, a34, a35, a36, a37, a38, a39, a40, a41, a42, a43, a44, a45, a46, a47, a48, a49, a50, a51, a52, a53, a54, a55)) :
    ∃ f, wL_law_18 post L xs kc ks f 0 f0_n f0_isPacked f0_runCount f0_nodes f0_codeSum a1 a2 a3 a4 a5 a6 a7 a8 a9 a10 a11 a12 a13 a14 a15 a16 a17 a18 a19 a20 a21 a22 a23 a24 a25 a26 a27 f28_n f28_isPacked f28_runCount f28_nodes f28_codeSum a29 a30 a31 a32 a33 a34 a35 a36 a37 a38 a39 a40 a41 a42 a43 a44 a45 a46 a47 a48 a49 a50 a51 a52 a53 a54 a55 := by
  refine loop_m (σ := Nat × St1 × St1) (fun f s => match s with | (k, (f0_n, f0_isPacked, f0_runCount, f0_nodes, f0_codeSum, a1, a2, a3, a4, a5, a6, a7, a8, a9, a10, a11, a12, a13, a14, a15, a16, a17, a18, a19, a20, a21, a22, a23, a24, a25, a26, a27), (f28_n, f28_isPacked, f28_runCount, f28_nodes, f28_codeSum, a29, a30, a31, a32, a33, a34, a35, a36, a37, a38, a39, a40, a41, a42, a43, a44, a45, a46, a47, a48, a49, a50, a51, a52, a53, a54, a55)) => wL_law_18 post L xs kc ks f (nI k) f0_n f0_isPacked f0_runCount f0_nodes f0_codeSum a1 a2 a3 a4 a5 a6 a7 a8 a9 a10 a11 a12 a13 a14 a15 a16 a17 a18 a19 a20 a21 a22 a23 a24 a25 a26 a27 f28_n f28_isPacked f28_runCount f28_nodes f28_codeSum a29 a30 a31 a32 a33 a34 a35 a36 a37 a38 a39 a40 a41 a42 a43 a44 a45 a46 a47 a48 a49 a50 a51 a52 a53 a54 a55) (fun s => s.1 ≤ 300 ∧ ∃ n ls, qq_Rp n ls s.2.1 ∧ qq_Rp n ls s.2.2) (fun s => 400 - s.1) ?_ (0, (f0_n, f0_isPacked, f0_runCount, f0_nodes, f0_codeSum, a1, a2, a3, a4, a5, a6, a7, a8, a9, a10, a11, a12, a13, a14, a15, a16, a17, a18, a19, a20, a21, a22, a23, a24, a25, a26, a27), (f28_n, f28_isPacked, f28_runCount, f28_nodes, f28_codeSum, a29, a30, a31, a32, a33, a34, a35, a36, a37, a38, a39, a40, a41, a42, a43, a44, a45, a46, a47, a48, a49, a50, a51, a52, a53, a54, a55)) ⟨by omega, n0, ls0, g1, g2⟩
  clear g1 g2
  intro f ⟨k, u1, u2⟩ ⟨hk, n, ls, h1, h2⟩ hw
  have hk : k ≤ 300 := hk
  have ea : nI k + 1 = nI (k + 1) := nI_1 k
  have eb : nI k + 2 = nI (k + 2) := nI_add k 2
  obtain ⟨f0_n, f0_isPacked, f0_runCount, f0_nodes, f0_codeSum, a1, a2, a3, a4, a5, a6, a7, a8, a9, a10, a11, a12, a13, a14, a15, a16, a17, a18, a19, a20, a21, a22, a23, a24, a25, a26, a27⟩ := u1
  obtain ⟨f28_n, f28_isPacked, f28_runCount, f28_nodes, f28_codeSum, a29, a30, a31, a32, a33, a34, a35, a36, a37, a38, a39, a40, a41, a42, a43, a44, a45, a46, a47, a48, a49, a50, a51, a52, a53, a54, a55⟩ := u2
  have hn : n ≤ 200 := h1.2.1
  obtain ⟨n', ls', E⟩ := wq_turn n ls hn (xs (nI k).toNatClampNeg) (xs (nI k + 1).toNatClampNeg) (xs (nI k + 2).toNatClampNeg)
  refine pk_le L (k + 2) (fun _ => hp) (fun g => ⟨pk_in k L (by omega), pk_in (k + 1) L (by omega) ea, pk_in (k + 2) L (by omega) eb, E _ _ h1 (fun u h1 => ?_)⟩) rfl eb
  obtain ⟨f0_n, f0_isPacked, f0_runCount, f0_nodes, f0_codeSum, a1, a2, a3, a4, a5, a6, a7, a8, a9, a10, a11, a12, a13, a14, a15, a16, a17, a18, a19, a20, a21, a22, a23, a24, a25, a26, a27⟩ := u
  have hn' : n' ≤ 200 := h1.2.1
  refine ⟨pk_in k L (by omega), pk_in (k + 1) L (by omega) ea, pk_in (k + 2) L (by omega) eb, E _ _ h2 (fun u h2 => ?_)⟩
  obtain ⟨f28_n, f28_isPacked, f28_runCount, f28_nodes, f28_codeSum, a29, a30, a31, a32, a33, a34, a35, a36, a37, a38, a39, a40, a41, a42, a43, a44, a45, a46, a47, a48, a49, a50, a51, a52, a53, a54, a55⟩ := u
  refine ⟨pk_in (k + 1) L (by omega) ea, pk_in (k + 2) L (by omega) eb, wq_back h2 _ _ (fun u h2 => ?_)⟩
  obtain ⟨f28_n, f28_isPacked, f28_runCount, f28_nodes, f28_codeSum, a29, a30, a31, a32, a33, a34, a35, a36, a37, a38, a39, a40, a41, a42, a43, a44, a45, a46, a47, a48, a49, a50, a51, a52, a53, a54, a55⟩ := u
  obtain ⟨v, hv, ev⟩ := pk_andE (xs (nI k).toNatClampNeg >>> ((6 : Int32) &&& 31)) (m := 255) 8 (by decide)
  refine br_f (by decide) ⟨pk_in k L (by omega), by decide, wq_alike (v % 7) (by omega) hn' (fun u v' hu hv' => ?_) h1 h2 ?_⟩
  · obtain ⟨f0_n, f0_isPacked, f0_runCount, f0_nodes, f0_codeSum, a1, a2, a3, a4, a5, a6, a7, a8, a9, a10, a11, a12, a13, a14, a15, a16, a17, a18, a19, a20, a21, a22, a23, a24, a25, a26, a27⟩ := u
    obtain ⟨f28_n, f28_isPacked, f28_runCount, f28_nodes, f28_codeSum, a29, a30, a31, a32, a33, a34, a35, a36, a37, a38, a39, a40, a41, a42, a43, a44, a45, a46, a47, a48, a49, a50, a51, a52, a53, a54, a55⟩ := v'
    refine br_f (by decide) (nm_r (nI_add k 3) (hw (k + 3, (f0_n, f0_isPacked, f0_runCount, f0_nodes, f0_codeSum, a1, a2, a3, a4, a5, a6, a7, a8, a9, a10, a11, a12, a13, a14, a15, a16, a17, a18, a19, a20, a21, a22, a23, a24, a25, a26, a27), (f28_n, f28_isPacked, f28_runCount, f28_nodes, f28_codeSum, a29, a30, a31, a32, a33, a34, a35, a36, a37, a38, a39, a40, a41, a42, a43, a44, a45, a46, a47, a48, a49, a50, a51, a52, a53, a54, a55)) ⟨?_, n', ls', hu, hv'⟩ ?_))
    · show k + 3 ≤ 300
      omega
    · show 400 - (k + 3) < 400 - k
      omega
  · rw [ev]
    exact pk_rem (d := 7) (by omega) (by omega) (by omega)
theorem i_vc (xs : Nat → Int32) (L : Nat) (hL : L ≤ 260) : wpL_law (fun r => r = 1) L xs := by
  refine ⟨27, 3516, by omega, by omega, wq_init (fun _ => 0) (fun u h1 => ?_)⟩
  obtain ⟨f0_n, f0_isPacked, f0_runCount, f0_nodes, f0_codeSum, a1, a2, a3, a4, a5, a6, a7, a8, a9, a10, a11, a12, a13, a14, a15, a16, a17, a18, a19, a20, a21, a22, a23, a24, a25, a26, a27⟩ := u
  refine ⟨by omega, by omega, 27, 3516, by omega, by omega, wq_init (fun _ => 0) (fun u h2 => ?_)⟩
  obtain ⟨f28_n, f28_isPacked, f28_runCount, f28_nodes, f28_codeSum, a29, a30, a31, a32, a33, a34, a35, a36, a37, a38, a39, a40, a41, a42, a43, a44, a45, a46, a47, a48, a49, a50, a51, a52, a53, a54, a55⟩ := u
  exact wq_law18 (post := fun r => r = 1) L xs hL _ _ 0 (fun _ => 0) rfl h1 h2
end
