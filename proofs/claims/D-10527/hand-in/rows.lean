section
/-! integers as Int32 and Int64 -/
def hb_i (z : Int) : Int32 := Int32.ofInt z
def hb_l (z : Int) : Int64 := Int64.ofInt z
theorem hb_iadd (x y : Int) : hb_i x + hb_i y = hb_i (x + y) := (Int32.ofInt_add x y).symm
theorem hb_isub (x y : Int) : hb_i x - hb_i y = hb_i (x - y) := (Int32.ofInt_sub x y).symm
theorem hb_imul (x y : Int) : hb_i x * hb_i y = hb_i (x * y) := (Int32.ofInt_mul x y).symm
theorem hb_ineg (x : Int) : -hb_i x = hb_i (-x) := (Int32.ofInt_neg x).symm
theorem hb_ladd (x y : Int) : hb_l x + hb_l y = hb_l (x + y) := (Int64.ofInt_add x y).symm
theorem hb_lsub (x y : Int) : hb_l x - hb_l y = hb_l (x - y) := (Int64.ofInt_sub x y).symm
theorem hb_lmul (x y : Int) : hb_l x * hb_l y = hb_l (x * y) := (Int64.ofInt_mul x y).symm
theorem hb_lneg (x : Int) : -hb_l x = hb_l (-x) := (Int64.ofInt_neg x).symm
theorem hb_in (n : Nat) : nI n = hb_i (n : Int) := Int32.ofInt_eq_ofNat.symm
theorem hb_ln (n : Nat) : lN n = hb_l (n : Int) := Int64.ofInt_eq_ofNat.symm
theorem hb_iT {x : Int} (h : -2147483648 ≤ x) (h' : x ≤ 2147483647) : (hb_i x).toInt = x := Int32.toInt_ofInt_of_le (by omega) (by omega)
theorem hb_lT {x : Int} (h : -4611686018427387904 ≤ x) (h' : x ≤ 4611686018427387904) : (hb_l x).toInt = x := Int64.toInt_ofInt_of_le (by omega) (by omega)
theorem hb_wide {x : Int} (h : -2147483648 ≤ x) (h' : x ≤ 2147483647) : (hb_i x).toInt64 = hb_l x := by
  apply Int64.toInt.inj
  rw [Int32.toInt_toInt64, hb_iT h h', hb_lT (by omega) (by omega)]
theorem hb_thin (x : Int) : (hb_l x).toInt32 = hb_i x := Int64.toInt32_ofInt
theorem hb_ile {x y : Int} (h1 : -2147483648 ≤ x) (h2 : x ≤ 2147483647) (h3 : -2147483648 ≤ y) (h4 : y ≤ 2147483647) : hb_i x ≤ hb_i y ↔ x ≤ y := by
  rw [Int32.le_iff_toInt_le, hb_iT h1 h2, hb_iT h3 h4]
theorem hb_ilt {x y : Int} (h1 : -2147483648 ≤ x) (h2 : x ≤ 2147483647) (h3 : -2147483648 ≤ y) (h4 : y ≤ 2147483647) : hb_i x < hb_i y ↔ x < y := by
  rw [Int32.lt_iff_toInt_lt, hb_iT h1 h2, hb_iT h3 h4]
theorem hb_ieq {x y : Int} (h1 : -2147483648 ≤ x) (h2 : x ≤ 2147483647) (h3 : -2147483648 ≤ y) (h4 : y ≤ 2147483647) : hb_i x = hb_i y ↔ x = y := by
  rw [← Int32.toInt_inj, hb_iT h1 h2, hb_iT h3 h4]
theorem hb_lle {x y : Int} (h1 : -4611686018427387904 ≤ x) (h2 : x ≤ 4611686018427387904) (h3 : -4611686018427387904 ≤ y) (h4 : y ≤ 4611686018427387904) : hb_l x ≤ hb_l y ↔ x ≤ y := by
  rw [Int64.le_iff_toInt_le, hb_lT h1 h2, hb_lT h3 h4]
theorem hb_llt {x y : Int} (h1 : -4611686018427387904 ≤ x) (h2 : x ≤ 4611686018427387904) (h3 : -4611686018427387904 ≤ y) (h4 : y ≤ 4611686018427387904) : hb_l x < hb_l y ↔ x < y := by
  rw [Int64.lt_iff_toInt_lt, hb_lT h1 h2, hb_lT h3 h4]
theorem hb_leq {x y : Int} (h1 : -4611686018427387904 ≤ x) (h2 : x ≤ 4611686018427387904) (h3 : -4611686018427387904 ≤ y) (h4 : y ≤ 4611686018427387904) : hb_l x = hb_l y ↔ x = y := by
  rw [← Int64.toInt_inj, hb_lT h1 h2, hb_lT h3 h4]
theorem hb_l0 : hb_l 0 = 0 := rfl
theorem hb_l1 : hb_l 1 = 1 := rfl
theorem hb_i0 : hb_i 0 = 0 := rfl
theorem hb_ldiv {x y : Int} (h1 : -4611686018427387904 ≤ x) (h2 : x ≤ 4611686018427387904) (h3 : -4611686018427387904 ≤ y) (h4 : y ≤ 4611686018427387904) : hb_l x / hb_l y = hb_l (x.tdiv y) := by
  refine (Int64.ofInt_tdiv ?_ ?_ ?_ ?_).symm
  · rw [Int64.toInt_minValue]; omega
  · rw [Int64.toInt_maxValue]; omega
  · rw [Int64.toInt_minValue]; omega
  · rw [Int64.toInt_maxValue]; omega
theorem hb_byte {x : Int} (h : -128 ≤ x) (h' : x ≤ 127) : (hb_i x).toInt8.toInt32 = hb_i x := by
  have e : (hb_i x).toInt8 = Int8.ofInt x := Int32.toInt8_ofInt
  apply Int32.toInt.inj
  rw [e, Int8.toInt_toInt32, Int8.toInt_ofInt_of_le (by omega) (by omega), hb_iT (by omega) (by omega)]
/-- a branch on a condition whose two sides differ in one value -/
theorem hb_ite {c d : Prop} [Decidable d] (F : Int32 → Prop) {x y : Int32} (e : c ↔ d) (h : F (if d then x else y)) : (c → F x) ∧ (¬ c → F y) := by
  by_cases hd : d
  · rw [if_pos hd] at h
    exact br_t (e.mpr hd) h
  · rw [if_neg hd] at h
    exact br_f (fun z => hd (e.mp z)) h
/-! bits -/
def hb_b (x : Int32) (i : Nat) : Bool := x.toBitVec.getLsbD i
theorem hb_bext {x y : Int32} (h : ∀ i, i < 32 → hb_b x i = hb_b y i) : x = y := Int32.toBitVec_inj.mp (BitVec.eq_of_getLsbD_eq (fun i hi => h i hi))
theorem hb_bor (x y : Int32) (i : Nat) : hb_b (x ||| y) i = (hb_b x i || hb_b y i) := by unfold hb_b; rw [Int32.toBitVec_or, BitVec.getLsbD_or]
theorem hb_band (x y : Int32) (i : Nat) : hb_b (x &&& y) i = (hb_b x i && hb_b y i) := by unfold hb_b; rw [Int32.toBitVec_and, BitVec.getLsbD_and]
theorem hb_bm1 : ∀ i, i < 32 → hb_b (-1) i = true := by decide +kernel
theorem hb_b0 (i : Nat) : hb_b 0 i = false := BitVec.getLsbD_zero
theorem hb_sl : ∀ n, n < 32 → ((nI n &&& 31).toBitVec.smod 32).toNat = n := by decide +kernel
theorem hb_bsshr (n : Nat) (hn : n < 32) (x : Int32) {i : Nat} (hi : i < 32) : hb_b (x >>> (nI n &&& 31)) i = if n + i < 32 then hb_b x (n + i) else hb_b x 31 := by
  unfold hb_b
  rw [Int32.toBitVec_shiftRight]
  show (x.toBitVec.sshiftRight ((nI n &&& 31).toBitVec.smod 32).toNat).getLsbD i = _
  rw [hb_sl n hn, BitVec.getLsbD_sshiftRight, BitVec.msb_eq_getLsbD_last]
  simp [hi]
theorem hb_one : ∀ i, i < 32 → 0 < i → hb_b 1 i = false := by decide +kernel
theorem hb_bit {x : Int32} {p : Nat} (hp : p < 32) : ((x >>> (nI p &&& 31)) &&& 1) = 0 ↔ hb_b x p = false := by
  have e : hb_b (x >>> (nI p &&& 31)) 0 = hb_b x p := by
    rw [hb_bsshr p hp x (by omega), if_pos (by omega)]
    rfl
  constructor
  · intro h
    have t : hb_b ((x >>> (nI p &&& 31)) &&& 1) 0 = hb_b 0 0 := by rw [h]
    rw [hb_band, e, hb_b0, show hb_b 1 0 = true from by decide, Bool.and_true] at t
    exact t
  · intro h
    apply hb_bext
    intro i hi
    rw [hb_band, hb_b0]
    rcases Nat.eq_zero_or_pos i with h0 | h0
    · rw [h0, e, h]
      rfl
    · rw [hb_one i hi h0, Bool.and_false]
theorem hb_64 : ∀ p, p < 16 → hb_b 64 p = decide (p = 6) := by decide +kernel
/-! plain integers -/
theorem hb_shrink {G x N : Int} (hG : 1 ≤ G) (h1 : -N ≤ G * x) (h2 : G * x ≤ N) : -N ≤ x ∧ x ≤ N := by
  rcases Int.le_total 0 x with h | h
  · have t : 1 * x ≤ G * x := Int.mul_le_mul_of_nonneg_right hG h
    have t0 : 0 ≤ G * x := Int.mul_nonneg (by omega) h
    rw [Int.one_mul] at t
    omega
  · have t : 1 * (-x) ≤ G * (-x) := Int.mul_le_mul_of_nonneg_right hG (by omega)
    have t0 : 0 ≤ G * (-x) := Int.mul_nonneg (by omega) (by omega)
    rw [Int.one_mul, Int.mul_neg] at t
    rw [Int.mul_neg] at t0
    omega
theorem hb_posdiv {G w : Int} (hG : 1 ≤ G) (h : 0 < G * w) : 1 ≤ w := by
  rcases Int.lt_or_le 0 w with t | t
  · omega
  · exfalso
    have t0 : 0 ≤ G * (-w) := Int.mul_nonneg (by omega) (by omega)
    rw [Int.mul_neg] at t0
    omega
end
section
/-! the picture: a corner is five Int32 (three tops, a bottom, its planes); a list of corners; the cube; what one plane leaves of it -/
abbrev hb_Q : Type := Int32 × Int32 × Int32 × Int32 × Int32
def hb_col (X Y Z W P : Nat → Int32) (j : Nat) : hb_Q := (X j, Y j, Z j, W j, P j)
def hb_at (L : List hb_Q) (j : Nat) : hb_Q := L.getD j (0, 0, 0, 0, 0)
def hb_rep (L : List hb_Q) (X Y Z W P : Nat → Int32) : Prop := ∀ j, j < L.length → hb_col X Y Z W P j = hb_at L j
theorem hb_at_lo {L M : List hb_Q} {j : Nat} (h : j < L.length) : hb_at (L ++ M) j = hb_at L j := by
  unfold hb_at
  rw [List.getD_eq_getElem?_getD, List.getD_eq_getElem?_getD, List.getElem?_append_left h]
theorem hb_at_last {L : List hb_Q} {q : hb_Q} : hb_at (L ++ [q]) L.length = q := by
  unfold hb_at
  rw [List.getD_eq_getElem?_getD, List.getElem?_append_right (Nat.le_refl _)]
  simp
theorem hb_at_mem {L : List hb_Q} {j : Nat} (h : j < L.length) : hb_at L j ∈ L := by
  unfold hb_at
  rw [List.getD_eq_getElem?_getD, List.getElem?_eq_getElem h]
  exact List.getElem_mem h
theorem hb_mem_at {L : List hb_Q} {q : hb_Q} (h : q ∈ L) : ∃ j, j < L.length ∧ hb_at L j = q := by
  obtain ⟨j, hj, e⟩ := List.getElem_of_mem h
  refine ⟨j, hj, ?_⟩
  unfold hb_at
  rw [List.getD_eq_getElem?_getD, List.getElem?_eq_getElem hj]
  exact e
theorem hb_fill {X Y Z W P : Nat → Int32} {x y z w p : Int32} {f : Nat → hb_Q} {i k : Nat} (hk : k = i) (h : ∀ j, j < i → hb_col X Y Z W P j = f j) (hq : (x, y, z, w, p) = f i) :
    ∀ j, j < i + 1 → hb_col (upd X k x) (upd Y k y) (upd Z k z) (upd W k w) (upd P k p) j = f j := by
  intro j hj
  subst hk
  by_cases e : j = k
  · subst e
    unfold hb_col
    rw [pk_us, pk_us, pk_us, pk_us, pk_us]
    exact hq
  · unfold hb_col
    rw [pk_un e, pk_un e, pk_un e, pk_un e, pk_un e]
    exact h j (by omega)
theorem hb_rep_add {L : List hb_Q} {X Y Z W P : Nat → Int32} {x y z w p : Int32} {k : Nat} (hk : k = L.length) (h : hb_rep L X Y Z W P) :
    hb_rep (L ++ [(x, y, z, w, p)]) (upd X k x) (upd Y k y) (upd Z k z) (upd W k w) (upd P k p) := by
  intro j hj
  rw [List.length_append, List.length_singleton] at hj
  refine hb_fill (f := hb_at (L ++ [(x, y, z, w, p)])) hk (fun j hj => ?_) hb_at_last.symm j hj
  rw [hb_at_lo hj]
  exact h j hj
/-! the cube -/
def hb_X (k : Nat) : Int := if k % 2 = 0 then 8 else -8
def hb_Y (k : Nat) : Int := if k / 2 % 2 = 0 then 8 else -8
def hb_Z (k : Nat) : Int := if k / 4 % 2 = 0 then 8 else -8
def hb_P (k : Nat) : Int32 := nI (2 ^ (k % 2) + 4 * 2 ^ (k / 2 % 2) + 16 * 2 ^ (k / 4 % 2))
def hb_v (a b c : Int) (k : Nat) : Int := a * hb_X k + b * hb_Y k + c * hb_Z k
def hb_D (a b c d : Int) (k : Nat) : Int := d - hb_v a b c k
def hb_cube (k : Nat) : hb_Q := (hb_i (hb_X k), hb_i (hb_Y k), hb_i (hb_Z k), hb_i 1, hb_P k)
def hb_nb (k l : Nat) : Bool := decide (k ≠ l) && (List.range 8).all (fun m => decide (m = k) || (decide (m = l) || decide (¬ (hb_P m &&& (hb_P k &&& hb_P l) = hb_P k &&& hb_P l))))
theorem hb_nb_iff (k l : Nat) : hb_nb k l = true ↔ (k ≠ l ∧ ∀ m, m < 8 → (m = k ∨ m = l ∨ ¬ (hb_P m &&& (hb_P k &&& hb_P l) = hb_P k &&& hb_P l))) := by
  unfold hb_nb
  rw [Bool.and_eq_true, decide_eq_true_iff, List.all_eq_true]
  constructor
  · rintro ⟨h1, h2⟩
    refine ⟨h1, fun m hm => ?_⟩
    have t := h2 m (List.mem_range.mpr hm)
    rw [Bool.or_eq_true, Bool.or_eq_true, decide_eq_true_iff, decide_eq_true_iff, decide_eq_true_iff] at t
    exact t
  · rintro ⟨h1, h2⟩
    refine ⟨h1, fun m hm => ?_⟩
    rw [Bool.or_eq_true, Bool.or_eq_true, decide_eq_true_iff, decide_eq_true_iff, decide_eq_true_iff]
    exact h2 m (List.mem_range.mp hm)
def hb_kept (a b c d : Int) (k : Nat) : hb_Q := (hb_i (hb_X k), hb_i (hb_Y k), hb_i (hb_Z k), hb_i 1, hb_P k ||| (if hb_D a b c d k = 0 then 64 else 0))
def hb_G (x y z w : Int) : Int := (Int.gcd ((Int.gcd ((Int.gcd x y : Nat) : Int) z : Nat) : Int) w : Nat)
def hb_cx (f g x x' : Int) : Int := f * x + g * x'
def hb_cG (f g : Int) (k l : Nat) : Int := hb_G (hb_cx f g (hb_X k) (hb_X l)) (hb_cx f g (hb_Y k) (hb_Y l)) (hb_cx f g (hb_Z k) (hb_Z l)) (hb_cx f g 1 1)
def hb_cr (f g : Int) (k l : Nat) : hb_Q :=
  (hb_i ((hb_cx f g (hb_X k) (hb_X l)).tdiv (hb_cG f g k l)), hb_i ((hb_cx f g (hb_Y k) (hb_Y l)).tdiv (hb_cG f g k l)), hb_i ((hb_cx f g (hb_Z k) (hb_Z l)).tdiv (hb_cG f g k l)), hb_i ((hb_cx f g 1 1).tdiv (hb_cG f g k l)), (hb_P k &&& hb_P l) ||| 64)
def hb_K (a b c d : Int) : Nat → List hb_Q
  | 0 => []
  | i + 1 => hb_K a b c d i ++ (if 0 ≤ hb_D a b c d i then [hb_kept a b c d i] else [])
def hb_C (a b c d : Int) (k : Nat) : Nat → List hb_Q
  | 0 => []
  | l + 1 => hb_C a b c d k l ++ (if 0 < hb_D a b c d k ∧ hb_D a b c d l < 0 ∧ hb_nb k l = true then [hb_cr (-hb_D a b c d l) (hb_D a b c d k) k l] else [])
def hb_CC (a b c d : Int) : Nat → List hb_Q
  | 0 => []
  | k + 1 => hb_CC a b c d k ++ hb_C a b c d k 8
def hb_M (a b c d : Int) : List hb_Q := hb_K a b c d 8 ++ hb_CC a b c d 8
def hb_KC : List hb_Q := [hb_cube 0, hb_cube 1, hb_cube 2, hb_cube 3, hb_cube 4, hb_cube 5, hb_cube 6, hb_cube 7]
theorem hb_XX (k : Nat) : hb_X k = 8 ∨ hb_X k = -8 := by unfold hb_X; split <;> simp
theorem hb_YY (k : Nat) : hb_Y k = 8 ∨ hb_Y k = -8 := by unfold hb_Y; split <;> simp
theorem hb_ZZ (k : Nat) : hb_Z k = 8 ∨ hb_Z k = -8 := by unfold hb_Z; split <;> simp
/-! lengths -/
def hb_cnt (k : Nat) : Nat → Nat
  | 0 => 0
  | l + 1 => hb_cnt k l + (if hb_nb k l = true then 1 else 0)
theorem hb_cnt_le : ∀ k, k < 8 → ∀ l, l < 9 → hb_cnt k l ≤ 3 := by decide +kernel
theorem hb_K_len (a b c d : Int) (i : Nat) : (hb_K a b c d i).length ≤ i := by
  induction i with
  | zero => exact Nat.le_refl 0
  | succ i ih =>
    unfold hb_K
    rw [List.length_append]
    split <;> simp <;> omega
theorem hb_C_len (a b c d : Int) (k l : Nat) : (hb_C a b c d k l).length ≤ hb_cnt k l := by
  induction l with
  | zero => exact Nat.le_refl 0
  | succ l ih =>
    unfold hb_C hb_cnt
    rw [List.length_append]
    by_cases h : 0 < hb_D a b c d k ∧ hb_D a b c d l < 0 ∧ hb_nb k l = true
    · rw [if_pos h, if_pos h.2.2, List.length_singleton]
      omega
    · rw [if_neg h, List.length_nil]
      omega
theorem hb_CC_len (a b c d : Int) (k : Nat) (hk : k ≤ 8) : (hb_CC a b c d k).length ≤ 3 * k := by
  induction k with
  | zero => exact Nat.le_refl 0
  | succ k ih =>
    unfold hb_CC
    rw [List.length_append]
    have h1 := ih (by omega)
    have h2 := hb_C_len a b c d k 8
    have h3 := hb_cnt_le k (by omega) 8 (by omega)
    omega
theorem hb_len3 (a b c d : Int) {k l : Nat} (hk : k < 8) (hl : l ≤ 8) : (hb_K a b c d 8 ++ hb_CC a b c d k ++ hb_C a b c d k l).length < 64 := by
  rw [List.length_append, List.length_append]
  have h1 := hb_K_len a b c d 8
  have h2 := hb_CC_len a b c d k (by omega)
  have h3 := hb_C_len a b c d k l
  have h4 := hb_cnt_le k hk l (by omega)
  omega
theorem hb_M_len (a b c d : Int) : (hb_M a b c d).length ≤ 32 := by
  unfold hb_M
  rw [List.length_append]
  have h1 := hb_K_len a b c d 8
  have h2 := hb_CC_len a b c d 8 (by omega)
  omega
/-! members -/
theorem hb_K_mem {a b c d : Int} {q : hb_Q} (i : Nat) : q ∈ hb_K a b c d i ↔ ∃ k, k < i ∧ 0 ≤ hb_D a b c d k ∧ q = hb_kept a b c d k := by
  induction i with
  | zero =>
    constructor
    · intro h; exact absurd h (by unfold hb_K; simp)
    · rintro ⟨k, h, _⟩; omega
  | succ i ih =>
    unfold hb_K
    rw [List.mem_append, ih]
    constructor
    · rintro (⟨k, h1, h2⟩ | h)
      · exact ⟨k, by omega, h2⟩
      · by_cases hd : 0 ≤ hb_D a b c d i
        · rw [if_pos hd, List.mem_singleton] at h
          exact ⟨i, by omega, hd, h⟩
        · rw [if_neg hd] at h
          exact absurd h (by simp)
    · rintro ⟨k, h1, h2, h3⟩
      by_cases e : k = i
      · subst e
        rw [if_pos h2, List.mem_singleton]
        exact Or.inr h3
      · exact Or.inl ⟨k, by omega, h2, h3⟩
theorem hb_C_mem {a b c d : Int} {q : hb_Q} {k : Nat} (l : Nat) : q ∈ hb_C a b c d k l ↔ ∃ j, j < l ∧ (0 < hb_D a b c d k ∧ hb_D a b c d j < 0 ∧ hb_nb k j = true) ∧ q = hb_cr (-hb_D a b c d j) (hb_D a b c d k) k j := by
  induction l with
  | zero =>
    constructor
    · intro h; exact absurd h (by unfold hb_C; simp)
    · rintro ⟨k, h, _⟩; omega
  | succ l ih =>
    unfold hb_C
    rw [List.mem_append, ih]
    constructor
    · rintro (⟨j, h1, h2⟩ | h)
      · exact ⟨j, by omega, h2⟩
      · by_cases hd : 0 < hb_D a b c d k ∧ hb_D a b c d l < 0 ∧ hb_nb k l = true
        · rw [if_pos hd, List.mem_singleton] at h
          exact ⟨l, by omega, hd, h⟩
        · rw [if_neg hd] at h
          exact absurd h (by simp)
    · rintro ⟨j, h1, h2, h3⟩
      by_cases e : j = l
      · subst e
        rw [if_pos h2, List.mem_singleton]
        exact Or.inr h3
      · exact Or.inl ⟨j, by omega, h2, h3⟩
theorem hb_CC_mem {a b c d : Int} {q : hb_Q} (k : Nat) : q ∈ hb_CC a b c d k ↔ ∃ j, j < k ∧ q ∈ hb_C a b c d j 8 := by
  induction k with
  | zero =>
    constructor
    · intro h; exact absurd h (by unfold hb_CC; simp)
    · rintro ⟨k, h, _⟩; omega
  | succ k ih =>
    unfold hb_CC
    rw [List.mem_append, ih]
    constructor
    · rintro (⟨j, h1, h2⟩ | h)
      · exact ⟨j, by omega, h2⟩
      · exact ⟨k, by omega, h⟩
    · rintro ⟨j, h1, h2⟩
      by_cases e : j = k
      · subst e
        exact Or.inr h2
      · exact Or.inl ⟨j, by omega, h2⟩
theorem hb_M_kept {a b c d : Int} {k : Nat} (hk : k < 8) (h : 0 ≤ hb_D a b c d k) : hb_kept a b c d k ∈ hb_M a b c d :=
  List.mem_append.mpr (Or.inl ((hb_K_mem 8).mpr ⟨k, hk, h, rfl⟩))
theorem hb_M_cr {a b c d : Int} {k l : Nat} (hk : k < 8) (hl : l < 8) (h : 0 < hb_D a b c d k) (h' : hb_D a b c d l < 0) (hn : hb_nb k l = true) : hb_cr (-hb_D a b c d l) (hb_D a b c d k) k l ∈ hb_M a b c d :=
  List.mem_append.mpr (Or.inr ((hb_CC_mem 8).mpr ⟨k, hk, (hb_C_mem 8).mpr ⟨l, hl, ⟨h, h', hn⟩, rfl⟩⟩))
theorem hb_M_mem {a b c d : Int} {q : hb_Q} (h : q ∈ hb_M a b c d) : (∃ k, k < 8 ∧ 0 ≤ hb_D a b c d k ∧ q = hb_kept a b c d k) ∨ (∃ k l, k < 8 ∧ l < 8 ∧ 0 < hb_D a b c d k ∧ hb_D a b c d l < 0 ∧ hb_nb k l = true ∧ q = hb_cr (-hb_D a b c d l) (hb_D a b c d k) k l) := by
  rcases List.mem_append.mp h with h | h
  · exact Or.inl ((hb_K_mem 8).mp h)
  · obtain ⟨k, hk, h⟩ := (hb_CC_mem 8).mp h
    obtain ⟨l, hl, ⟨h1, h2, h3⟩, e⟩ := (hb_C_mem 8).mp h
    exact Or.inr ⟨k, l, hk, hl, h1, h2, h3, e⟩
end
section
/-! what the law asks of the corners, in plain integers -/
def hb_ab (x : Int) : Int := if x < 0 then -x else x
def hb_far (a b c : Int) : Int := 8 * (hb_ab a + hb_ab b + hb_ab c)
def hb_R (a b c d : Int) : Prop := (-4 ≤ a ∧ a ≤ 4) ∧ (-4 ≤ b ∧ b ≤ 4) ∧ (-4 ≤ c ∧ c ≤ 4) ∧ -60 ≤ d ∧ d ≤ 60
def hb_fit (q : hb_Q) (x y z w : Int) : Prop := (q.1 = hb_i x ∧ q.2.1 = hb_i y ∧ q.2.2.1 = hb_i z ∧ q.2.2.2.1 = hb_i w) ∧ (-4000 ≤ x ∧ x ≤ 4000) ∧ (-4000 ≤ y ∧ y ≤ 4000) ∧ (-4000 ≤ z ∧ z ≤ 4000) ∧ 1 ≤ w ∧ w ≤ 4000
theorem hb_ab_nn {x : Int} (h : 0 ≤ x) : hb_ab x = x := if_neg (by omega)
theorem hb_ab_np {x : Int} (h : x ≤ 0) : hb_ab x = -x := by unfold hb_ab; split <;> omega
theorem hb_v_le {a b c d : Int} (k : Nat) : hb_v a b c k ≤ hb_far a b c ∧ -hb_far a b c ≤ hb_v a b c k := by
  have A : -hb_ab a ≤ a ∧ a ≤ hb_ab a := by unfold hb_ab; split <;> omega
  have B : -hb_ab b ≤ b ∧ b ≤ hb_ab b := by unfold hb_ab; split <;> omega
  have C : -hb_ab c ≤ c ∧ c ≤ hb_ab c := by unfold hb_ab; split <;> omega
  unfold hb_v hb_far
  rcases hb_XX k with h1 | h1 <;> rcases hb_YY k with h2 | h2 <;> rcases hb_ZZ k with h3 | h3 <;> rw [h1, h2, h3] <;> omega
theorem hb_far_le {a b c d : Int} (h : hb_R a b c d) : 0 ≤ hb_far a b c ∧ hb_far a b c ≤ 96 := by
  obtain ⟨h1, h2, h3, h4⟩ := h
  have A : 0 ≤ hb_ab a ∧ hb_ab a ≤ 4 := by unfold hb_ab; split <;> omega
  have B : 0 ≤ hb_ab b ∧ hb_ab b ≤ 4 := by unfold hb_ab; split <;> omega
  have C : 0 ≤ hb_ab c ∧ hb_ab c ≤ 4 := by unfold hb_ab; split <;> omega
  unfold hb_far
  omega
theorem hb_D_le {a b c d : Int} (h : hb_R a b c d) (k : Nat) : -156 ≤ hb_D a b c d k ∧ hb_D a b c d k ≤ 156 := by
  have h1 := hb_v_le (a := a) (b := b) (c := c) (d := d) k
  have h2 := hb_far_le h
  have h3 := h.2.2.2
  unfold hb_D
  omega
theorem hb_lo (a b c : Int) : ∃ k, k < 8 ∧ hb_v a b c k = -hb_far a b c := by
  unfold hb_far
  rcases Int.le_total 0 a with h1 | h1 <;> rcases Int.le_total 0 b with h2 | h2 <;> rcases Int.le_total 0 c with h3 | h3
  · refine ⟨7, by omega, ?_⟩
    rw [hb_ab_nn h1, hb_ab_nn h2, hb_ab_nn h3]
    show a * (-8) + b * (-8) + c * (-8) = _
    omega
  · refine ⟨3, by omega, ?_⟩
    rw [hb_ab_nn h1, hb_ab_nn h2, hb_ab_np h3]
    show a * (-8) + b * (-8) + c * 8 = _
    omega
  · refine ⟨5, by omega, ?_⟩
    rw [hb_ab_nn h1, hb_ab_np h2, hb_ab_nn h3]
    show a * (-8) + b * 8 + c * (-8) = _
    omega
  · refine ⟨1, by omega, ?_⟩
    rw [hb_ab_nn h1, hb_ab_np h2, hb_ab_np h3]
    show a * (-8) + b * 8 + c * 8 = _
    omega
  · refine ⟨6, by omega, ?_⟩
    rw [hb_ab_np h1, hb_ab_nn h2, hb_ab_nn h3]
    show a * 8 + b * (-8) + c * (-8) = _
    omega
  · refine ⟨2, by omega, ?_⟩
    rw [hb_ab_np h1, hb_ab_nn h2, hb_ab_np h3]
    show a * 8 + b * (-8) + c * 8 = _
    omega
  · refine ⟨4, by omega, ?_⟩
    rw [hb_ab_np h1, hb_ab_np h2, hb_ab_nn h3]
    show a * 8 + b * 8 + c * (-8) = _
    omega
  · refine ⟨0, by omega, ?_⟩
    rw [hb_ab_np h1, hb_ab_np h2, hb_ab_np h3]
    show a * 8 + b * 8 + c * 8 = _
    omega
theorem hb_antiT : ∀ k, k < 8 → hb_X (7 - k) = -hb_X k ∧ hb_Y (7 - k) = -hb_Y k ∧ hb_Z (7 - k) = -hb_Z k := by decide +kernel
theorem hb_anti (a b c : Int) {k : Nat} (hk : k < 8) : hb_v a b c (7 - k) = -hb_v a b c k := by
  obtain ⟨h1, h2, h3⟩ := hb_antiT k hk
  unfold hb_v
  rw [h1, h2, h3, Int.mul_neg, Int.mul_neg, Int.mul_neg]
  omega
theorem hb_path : ∀ k, k < 8 → k ^^^ 1 < 8 ∧ k ^^^ 3 < 8 ∧ hb_nb k (k ^^^ 1) = true ∧ hb_nb (k ^^^ 1) (k ^^^ 3) = true ∧ hb_nb (k ^^^ 3) (7 - k) = true := by decide +kernel
theorem hb_side : ∀ k, k < 8 → ∀ p, p < 6 → hb_b (hb_P k) p = true → k ^^^ (2 ^ (p / 2)) < 8 ∧ hb_nb k (k ^^^ (2 ^ (p / 2))) = true ∧ hb_b (hb_P (k ^^^ (2 ^ (p / 2)))) p = false := by decide +kernel
theorem hb_Phi : ∀ k, k < 8 → ∀ p, p < 16 → 6 ≤ p → hb_b (hb_P k) p = false := by decide +kernel
/-! a crossing lies on the plane -/
theorem hb_G_dvd (x y z w : Int) : hb_G x y z w ∣ x ∧ hb_G x y z w ∣ y ∧ hb_G x y z w ∣ z ∧ hb_G x y z w ∣ w := by
  unfold hb_G
  have h1 := Int.gcd_dvd_left x y
  have h2 := Int.gcd_dvd_right x y
  have h3 := Int.gcd_dvd_left ((Int.gcd x y : Nat) : Int) z
  have h4 := Int.gcd_dvd_right ((Int.gcd x y : Nat) : Int) z
  have h5 := Int.gcd_dvd_left ((Int.gcd ((Int.gcd x y : Nat) : Int) z : Nat) : Int) w
  have h6 := Int.gcd_dvd_right ((Int.gcd ((Int.gcd x y : Nat) : Int) z : Nat) : Int) w
  exact ⟨Int.dvd_trans h5 (Int.dvd_trans h3 h1), Int.dvd_trans h5 (Int.dvd_trans h3 h2), Int.dvd_trans h5 h4, h6⟩
theorem hb_G_pos (x y z : Int) {w : Int} (hw : w ≠ 0) : 1 ≤ hb_G x y z w := by
  unfold hb_G
  have h := Int.gcd_pos_of_ne_zero_right ((Int.gcd ((Int.gcd x y : Nat) : Int) z : Nat) : Int) hw
  omega
theorem hb_cross {a b c d f g : Int} {k l : Nat} (hf : 0 < f) (hf' : f ≤ 156) (hg : 0 < g) (hg' : g ≤ 156) (hk : hb_v a b c k = d - g) (hl : hb_v a b c l = d + f) :
    ∃ x y z w, hb_fit (hb_cr f g k l) x y z w ∧ a * x + b * y + c * z = d * w := by
  have hG : 1 ≤ hb_cG f g k l := hb_G_pos _ _ _ (by unfold hb_cx; omega)
  obtain ⟨d1, d2, d3, d4⟩ := hb_G_dvd (hb_cx f g (hb_X k) (hb_X l)) (hb_cx f g (hb_Y k) (hb_Y l)) (hb_cx f g (hb_Z k) (hb_Z l)) (hb_cx f g 1 1)
  have D1 : hb_cG f g k l ∣ hb_cx f g (hb_X k) (hb_X l) := d1
  have D2 : hb_cG f g k l ∣ hb_cx f g (hb_Y k) (hb_Y l) := d2
  have D3 : hb_cG f g k l ∣ hb_cx f g (hb_Z k) (hb_Z l) := d3
  have D4 : hb_cG f g k l ∣ hb_cx f g 1 1 := d4
  obtain ⟨x, ex⟩ := D1
  obtain ⟨y, ey⟩ := D2
  obtain ⟨z, ez⟩ := D3
  obtain ⟨w, ew⟩ := D4
  have hne : hb_cG f g k l ≠ 0 := by omega
  have tx : (hb_cx f g (hb_X k) (hb_X l)).tdiv (hb_cG f g k l) = x := by rw [ex]; exact Int.mul_tdiv_cancel_left _ hne
  have ty : (hb_cx f g (hb_Y k) (hb_Y l)).tdiv (hb_cG f g k l) = y := by rw [ey]; exact Int.mul_tdiv_cancel_left _ hne
  have tz : (hb_cx f g (hb_Z k) (hb_Z l)).tdiv (hb_cG f g k l) = z := by rw [ez]; exact Int.mul_tdiv_cancel_left _ hne
  have tw : (hb_cx f g 1 1).tdiv (hb_cG f g k l) = w := by rw [ew]; exact Int.mul_tdiv_cancel_left _ hne
  have bx : -4000 ≤ hb_cx f g (hb_X k) (hb_X l) ∧ hb_cx f g (hb_X k) (hb_X l) ≤ 4000 := by
    unfold hb_cx
    rcases hb_XX k with h1 | h1 <;> rcases hb_XX l with h2 | h2 <;> rw [h1, h2] <;> omega
  have by' : -4000 ≤ hb_cx f g (hb_Y k) (hb_Y l) ∧ hb_cx f g (hb_Y k) (hb_Y l) ≤ 4000 := by
    unfold hb_cx
    rcases hb_YY k with h1 | h1 <;> rcases hb_YY l with h2 | h2 <;> rw [h1, h2] <;> omega
  have bz : -4000 ≤ hb_cx f g (hb_Z k) (hb_Z l) ∧ hb_cx f g (hb_Z k) (hb_Z l) ≤ 4000 := by
    unfold hb_cx
    rcases hb_ZZ k with h1 | h1 <;> rcases hb_ZZ l with h2 | h2 <;> rw [h1, h2] <;> omega
  have bw : 0 < hb_cx f g 1 1 ∧ hb_cx f g 1 1 ≤ 4000 := by
    unfold hb_cx
    omega
  have e0 : a * hb_cx f g (hb_X k) (hb_X l) + b * hb_cx f g (hb_Y k) (hb_Y l) + c * hb_cx f g (hb_Z k) (hb_Z l) = d * hb_cx f g 1 1 := by
    unfold hb_v at hk hl
    unfold hb_cx
    grind
  refine ⟨x, y, z, w, ⟨⟨?_, ?_, ?_, ?_⟩, ?_, ?_, ?_, ?_, ?_⟩, ?_⟩
  · exact congrArg hb_i tx
  · exact congrArg hb_i ty
  · exact congrArg hb_i tz
  · exact congrArg hb_i tw
  · rw [ex] at bx; exact hb_shrink hG bx.1 bx.2
  · rw [ey] at by'; exact hb_shrink hG by'.1 by'.2
  · rw [ez] at bz; exact hb_shrink hG bz.1 bz.2
  · rw [ew] at bw; exact hb_posdiv hG bw.1
  · rw [ew] at bw
    exact (hb_shrink hG (N := 4000) (by omega) bw.2).2
  · rw [ex, ey, ez, ew] at e0
    refine Int.eq_of_mul_eq_mul_left hne ?_
    generalize hb_cG f g k l = G at *
    grind
theorem hb_crD {a b c d : Int} (hR : hb_R a b c d) {k l : Nat} (hk : 0 < hb_D a b c d k) (hl : hb_D a b c d l < 0) :
    ∃ x y z w, hb_fit (hb_cr (-hb_D a b c d l) (hb_D a b c d k) k l) x y z w ∧ a * x + b * y + c * z = d * w := by
  have h1 := hb_D_le hR k
  have h2 := hb_D_le hR l
  exact hb_cross (by omega) (by omega) hk (by omega) (by unfold hb_D; omega) (by unfold hb_D; omega)
theorem hb_keptfit (a b c d : Int) (k : Nat) : hb_fit (hb_kept a b c d k) (hb_X k) (hb_Y k) (hb_Z k) 1 := by
  refine ⟨⟨rfl, rfl, rfl, rfl⟩, ?_, ?_, ?_, by omega, by omega⟩
  · rcases hb_XX k with h | h <;> rw [h] <;> omega
  · rcases hb_YY k with h | h <;> rw [h] <;> omega
  · rcases hb_ZZ k with h | h <;> rw [h] <;> omega
theorem hb_keptv (a b c d : Int) (k : Nat) : a * hb_X k + b * hb_Y k + c * hb_Z k = d - hb_D a b c d k := by
  unfold hb_D hb_v
  omega
/-! the greatest value -/
def hb_tg (a b c d : Int) : Int := if d < hb_far a b c then d else hb_far a b c
theorem hb_noD {a b c d : Int} (h : hb_far a b c ≤ d) (k : Nat) : 0 ≤ hb_D a b c d k := by
  have h1 := hb_v_le (a := a) (b := b) (c := c) (d := d) k
  unfold hb_D
  omega
theorem hb_below {a b c d : Int} (hR : hb_R a b c d) {q : hb_Q} (hq : q ∈ hb_M a b c d) : ∃ x y z w, hb_fit q x y z w ∧ a * x + b * y + c * z ≤ d * w ∧ a * x + b * y + c * z ≤ hb_tg a b c d * w := by
  rcases hb_M_mem hq with ⟨k, hk, h, e⟩ | ⟨k, l, hk, hl, h1, h2, h3, e⟩
  · refine ⟨hb_X k, hb_Y k, hb_Z k, 1, e ▸ hb_keptfit a b c d k, ?_, ?_⟩
    · rw [hb_keptv a b c d k]; omega
    · have t := (hb_v_le (a := a) (b := b) (c := c) (d := d) k).1
      unfold hb_tg
      rw [hb_keptv a b c d k]
      unfold hb_D at h ⊢
      split <;> omega
  · obtain ⟨x, y, z, w, f, e'⟩ := hb_crD hR h1 h2
    refine ⟨x, y, z, w, e ▸ f, by omega, ?_⟩
    have t : d < hb_far a b c := by
      rcases Int.lt_or_le d (hb_far a b c) with t | t
      · exact t
      · have := hb_noD t l
        omega
    unfold hb_tg
    rw [if_pos t]
    omega
theorem hb_edge {a b c d : Int} (hR : hb_R a b c d) {k l : Nat} (hk : k < 8) (hl : l < 8) (hn : hb_nb k l = true) (h1 : 0 < hb_D a b c d k) (h2 : hb_D a b c d l ≤ 0) :
    ∃ q, q ∈ hb_M a b c d ∧ ∃ x y z w, hb_fit q x y z w ∧ a * x + b * y + c * z = d * w := by
  by_cases h : hb_D a b c d l = 0
  · refine ⟨_, hb_M_kept hl (by omega), _, _, _, _, hb_keptfit a b c d l, ?_⟩
    rw [hb_keptv a b c d l]; omega
  · exact ⟨_, hb_M_cr hk hl h1 (by omega) hn, hb_crD hR h1 (by omega)⟩
theorem hb_reach {a b c d : Int} (hR : hb_R a b c d) (hd : -hb_far a b c ≤ d) : ∃ q, q ∈ hb_M a b c d ∧ ∃ x y z w, hb_fit q x y z w ∧ a * x + b * y + c * z = hb_tg a b c d * w := by
  obtain ⟨k, hk, hv⟩ := hb_lo a b c
  have ha := hb_anti a b c hk
  unfold hb_tg
  by_cases h : d < hb_far a b c
  · rw [if_pos h]
    by_cases h0 : d = -hb_far a b c
    · have e : hb_D a b c d k = 0 := by unfold hb_D; omega
      refine ⟨_, hb_M_kept hk (by omega), _, _, _, _, hb_keptfit a b c d k, ?_⟩
      rw [hb_keptv a b c d k]; omega
    · obtain ⟨p1, p2, p3, p4, p5⟩ := hb_path k hk
      have e : 0 < hb_D a b c d k := by unfold hb_D; omega
      have e7 : hb_D a b c d (7 - k) < 0 := by unfold hb_D; omega
      rcases Int.lt_or_le 0 (hb_D a b c d (k ^^^ 1)) with t1 | t1
      · rcases Int.lt_or_le 0 (hb_D a b c d (k ^^^ 3)) with t2 | t2
        · exact hb_edge hR p2 (by omega) p5 t2 (by omega)
        · exact hb_edge hR p1 p2 p4 t1 t2
      · exact hb_edge hR hk p1 p3 e t1
  · rw [if_neg h]
    have e : hb_v a b c (7 - k) = hb_far a b c := by omega
    refine ⟨_, hb_M_kept (show 7 - k < 8 by omega) (hb_noD (by omega) _), _, _, _, _, hb_keptfit a b c d (7 - k), ?_⟩
    show hb_v a b c (7 - k) = _
    omega
/-! the dimension -/
theorem hb_dim_hi {a b c d : Int} (hd : -hb_far a b c < d) {p : Nat} (hp : p < 16) : ∃ q, q ∈ hb_M a b c d ∧ hb_b q.2.2.2.2 p = false := by
  obtain ⟨k, hk, hv⟩ := hb_lo a b c
  have e : 0 < hb_D a b c d k := by unfold hb_D; omega
  by_cases hb : hb_b (hb_P k) p = true
  · have h6 : p < 6 := by
      rcases Nat.lt_or_ge p 6 with t | t
      · exact t
      · rw [hb_Phi k hk p hp t] at hb
        exact absurd hb (by decide)
    obtain ⟨s1, s2, s3⟩ := hb_side k hk p h6 hb
    have z64 : hb_b 64 p = false := by rw [hb_64 p hp]; exact decide_eq_false (by omega)
    rcases Int.lt_or_le (hb_D a b c d (k ^^^ (2 ^ (p / 2)))) 0 with t | t
    · refine ⟨_, hb_M_cr hk s1 e t s2, ?_⟩
      show hb_b ((hb_P k &&& hb_P (k ^^^ (2 ^ (p / 2)))) ||| 64) p = false
      rw [hb_bor, hb_band, s3, z64]
      simp
    · refine ⟨_, hb_M_kept s1 t, ?_⟩
      show hb_b (hb_P (k ^^^ (2 ^ (p / 2))) ||| (if hb_D a b c d (k ^^^ (2 ^ (p / 2))) = 0 then 64 else 0)) p = false
      rw [hb_bor, s3]
      split
      · rw [z64]; rfl
      · rw [hb_b0]; rfl
  · refine ⟨_, hb_M_kept hk (by omega), ?_⟩
    show hb_b (hb_P k ||| (if hb_D a b c d k = 0 then 64 else 0)) p = false
    rw [if_neg (by omega), hb_bor, hb_b0, Bool.or_false]
    exact Bool.eq_false_iff.mpr hb
theorem hb_dim_lo {a b c d : Int} (hd : d < -hb_far a b c) : hb_M a b c d = [] := by
  have h : ∀ k, hb_D a b c d k < 0 := by
    intro k
    have h1 := hb_v_le (a := a) (b := b) (c := c) (d := d) k
    unfold hb_D
    omega
  refine List.eq_nil_iff_forall_not_mem.mpr (fun q hq => ?_)
  rcases hb_M_mem hq with ⟨k, hk, h', e⟩ | ⟨k, l, hk, hl, h1, h2, h3, e⟩
  · have := h k; omega
  · have := h k; omega
def hb_px (a : Int) : Nat := if 0 < a then 1 else 0
def hb_py (b : Int) : Nat := if 0 < b then 3 else 2
def hb_pz (c : Int) : Nat := if 0 < c then 5 else 4
def hb_to (a b c : Int) : Nat := (if a = 0 then 1 else 0) + (if b = 0 then 1 else 0) + (if c = 0 then 1 else 0)
def hb_on (a b c : Int) (p : Nat) : Prop := (a ≠ 0 ∧ p = hb_px a) ∨ (b ≠ 0 ∧ p = hb_py b) ∨ (c ≠ 0 ∧ p = hb_pz c) ∨ p = 6
def hb_sgn (a b c : Int) (k : Nat) : Bool := decide ((a = 0 ∨ k % 2 = hb_px a) ∧ (b = 0 ∨ k / 2 % 2 + 2 = hb_py b) ∧ (c = 0 ∨ k / 4 % 2 + 4 = hb_pz c))
theorem hb_signT : ∀ i, i < 9 → ∀ j, j < 9 → ∀ l, l < 9 → ∀ k, k < 8 → decide (0 ≤ hb_D ((i : Nat) - 4 : Int) ((j : Nat) - 4 : Int) ((l : Nat) - 4 : Int) (-hb_far ((i : Nat) - 4 : Int) ((j : Nat) - 4 : Int) ((l : Nat) - 4 : Int)) k) = hb_sgn ((i : Nat) - 4 : Int) ((j : Nat) - 4 : Int) ((l : Nat) - 4 : Int) k := by decide +kernel
theorem hb_lenT : ∀ i, i < 9 → ∀ j, j < 9 → ∀ l, l < 9 → (hb_K ((i : Nat) - 4 : Int) ((j : Nat) - 4 : Int) ((l : Nat) - 4 : Int) (-hb_far ((i : Nat) - 4 : Int) ((j : Nat) - 4 : Int) ((l : Nat) - 4 : Int)) 8).length = 2 ^ hb_to ((i : Nat) - 4 : Int) ((j : Nat) - 4 : Int) ((l : Nat) - 4 : Int) := by decide +kernel
theorem hb_as (a : Int) (h : -4 ≤ a ∧ a ≤ 4) : ∃ i : Nat, i < 9 ∧ a = (i : Int) - 4 := ⟨(a + 4).toNat, by omega, by omega⟩
theorem hb_sign {a b c d : Int} (hR : hb_R a b c d) (hd : d = -hb_far a b c) {k : Nat} (hk : k < 8) : 0 ≤ hb_D a b c d k ↔ hb_sgn a b c k = true := by
  obtain ⟨i, hi, rfl⟩ := hb_as a hR.1
  obtain ⟨j, hj, rfl⟩ := hb_as b hR.2.1
  obtain ⟨l, hl, rfl⟩ := hb_as c hR.2.2.1
  subst hd
  rw [← hb_signT i hi j hj l hl k hk, decide_eq_true_iff]
theorem hb_noC {a b c d : Int} (hd : d ≤ -hb_far a b c ∨ hb_far a b c ≤ d) : hb_CC a b c d 8 = [] := by
  refine List.eq_nil_iff_forall_not_mem.mpr (fun q hq => ?_)
  obtain ⟨k, hk, h⟩ := (hb_CC_mem 8).mp hq
  obtain ⟨l, hl, ⟨h1, h2, h3⟩, e⟩ := (hb_C_mem 8).mp h
  have e1 := hb_v_le (a := a) (b := b) (c := c) (d := d) k
  have e2 := hb_v_le (a := a) (b := b) (c := c) (d := d) l
  unfold hb_D at h1 h2
  omega
theorem hb_len_eq {a b c d : Int} (hR : hb_R a b c d) (hd : d = -hb_far a b c) : (hb_M a b c d).length = 2 ^ hb_to a b c := by
  unfold hb_M
  rw [hb_noC (Or.inl (by omega)), List.append_nil]
  obtain ⟨i, hi, rfl⟩ := hb_as a hR.1
  obtain ⟨j, hj, rfl⟩ := hb_as b hR.2.1
  obtain ⟨l, hl, rfl⟩ := hb_as c hR.2.2.1
  subst hd
  exact hb_lenT i hi j hj l hl
/-- the bits of a corner's planes -/
theorem hb_bitP : ∀ k, k < 8 → ∀ p, p < 16 → hb_b (hb_P k) p = decide (p = k % 2 ∨ p = k / 2 % 2 + 2 ∨ p = k / 4 % 2 + 4) := by decide +kernel
theorem hb_flipT : ∀ x, x < 2 → ∀ y, y < 2 → ∀ z, z < 2 → (x + 2 * y + 4 * z) % 2 = x ∧ (x + 2 * y + 4 * z) / 2 % 2 = y ∧ (x + 2 * y + 4 * z) / 4 % 2 = z := by decide
theorem hb_dim_eq {a b c d : Int} (hR : hb_R a b c d) (hd : d = -hb_far a b c) {p : Nat} (hp : p < 16) : (∀ q, q ∈ hb_M a b c d → hb_b q.2.2.2.2 p = true) ↔ hb_on a b c p := by
  have hpx : hb_px a < 2 := by unfold hb_px; split <;> omega
  have hpy : 2 ≤ hb_py b ∧ hb_py b < 4 := by unfold hb_py; split <;> omega
  have hpz : 4 ≤ hb_pz c ∧ hb_pz c < 6 := by unfold hb_pz; split <;> omega
  have key : ∀ k, k < 8 → hb_sgn a b c k = true → hb_kept a b c d k ∈ hb_M a b c d ∧ (hb_b (hb_kept a b c d k).2.2.2.2 p = true ↔ (p = k % 2 ∨ p = k / 2 % 2 + 2 ∨ p = k / 4 % 2 + 4 ∨ p = 6)) := by
    intro k hk hs
    have h0 := (hb_sign hR hd hk).mpr hs
    have hz : hb_D a b c d k = 0 := by
      have h1 := hb_v_le (a := a) (b := b) (c := c) (d := d) k
      unfold hb_D at h0 ⊢
      omega
    refine ⟨hb_M_kept hk h0, ?_⟩
    show hb_b (hb_P k ||| (if hb_D a b c d k = 0 then 64 else 0)) p = true ↔ _
    rw [if_pos hz, hb_bor, hb_bitP k hk p hp, hb_64 p hp, Bool.or_eq_true, decide_eq_true_iff, decide_eq_true_iff]
    omega
  constructor
  · intro h
    -- two corners that are kept and differ wherever they may
    have w : ∀ x y z, x < 2 → y < 2 → z < 2 → (a = 0 ∨ x = hb_px a) → (b = 0 ∨ y + 2 = hb_py b) → (c = 0 ∨ z + 4 = hb_pz c) → (p = x ∨ p = y + 2 ∨ p = z + 4 ∨ p = 6) := by
      intro x y z hx hy hz h1 h2 h3
      obtain ⟨e1, e2, e3⟩ := hb_flipT x hx y hy z hz
      have hs : hb_sgn a b c (x + 2 * y + 4 * z) = true := by
        unfold hb_sgn
        rw [e1, e2, e3]
        exact decide_eq_true ⟨h1, h2, h3⟩
      obtain ⟨m, hm⟩ := key (x + 2 * y + 4 * z) (by omega) hs
      have t := hm.mp (h _ m)
      rw [e1, e2, e3] at t
      exact t
    have w1 := w (hb_px a) (hb_py b - 2) (hb_pz c - 4) hpx (by omega) (by omega) (Or.inr rfl) (Or.inr (by omega)) (Or.inr (by omega))
    unfold hb_on
    by_cases ha : a = 0
    · by_cases hb : b = 0
      · by_cases hc : c = 0
        · have w2 := w (1 - hb_px a) (3 - hb_py b) (5 - hb_pz c) (by omega) (by omega) (by omega) (Or.inl ha) (Or.inl hb) (Or.inl hc)
          omega
        · have w2 := w (1 - hb_px a) (3 - hb_py b) (hb_pz c - 4) (by omega) (by omega) (by omega) (Or.inl ha) (Or.inl hb) (Or.inr (by omega))
          omega
      · by_cases hc : c = 0
        · have w2 := w (1 - hb_px a) (hb_py b - 2) (5 - hb_pz c) (by omega) (by omega) (by omega) (Or.inl ha) (Or.inr (by omega)) (Or.inl hc)
          omega
        · have w2 := w (1 - hb_px a) (hb_py b - 2) (hb_pz c - 4) (by omega) (by omega) (by omega) (Or.inl ha) (Or.inr (by omega)) (Or.inr (by omega))
          omega
    · by_cases hb : b = 0
      · by_cases hc : c = 0
        · have w2 := w (hb_px a) (3 - hb_py b) (5 - hb_pz c) (by omega) (by omega) (by omega) (Or.inr rfl) (Or.inl hb) (Or.inl hc)
          omega
        · have w2 := w (hb_px a) (3 - hb_py b) (hb_pz c - 4) (by omega) (by omega) (by omega) (Or.inr rfl) (Or.inl hb) (Or.inr (by omega))
          omega
      · by_cases hc : c = 0
        · have w2 := w (hb_px a) (hb_py b - 2) (5 - hb_pz c) (by omega) (by omega) (by omega) (Or.inr rfl) (Or.inr (by omega)) (Or.inl hc)
          omega
        · omega
  · intro h q hq
    rcases hb_M_mem hq with ⟨k, hk, h', e⟩ | ⟨k, l, hk, hl, h1, h2, h3, e⟩
    · have hs := (hb_sign hR hd hk).mp h'
      rw [e]
      refine (key k hk hs).2.mpr ?_
      unfold hb_sgn at hs
      have hs' := of_decide_eq_true hs
      unfold hb_on at h
      omega
    · exfalso
      have e1 := hb_v_le (a := a) (b := b) (c := c) (d := d) k
      unfold hb_D at h1
      omega
/-! the cube again: when nothing is cut off, and when something is -/
def hb_f4 (q : hb_Q) : Int32 × Int32 × Int32 × Int32 := (q.1, q.2.1, q.2.2.1, q.2.2.2.1)
theorem hb_f4at (L : List hb_Q) (j : Nat) : hb_f4 (hb_at L j) = (L.map hb_f4).getD j (0, 0, 0, 0) := by
  unfold hb_at
  rw [List.getD_eq_getElem?_getD, List.getD_eq_getElem?_getD, List.getElem?_map]
  cases L[j]? <;> rfl
theorem hb_same {a b c d : Int} (hd : hb_far a b c ≤ d) : (hb_M a b c d).map hb_f4 = hb_KC.map hb_f4 := by
  unfold hb_M
  rw [hb_noC (Or.inr hd), List.append_nil]
  have h := fun k => hb_noD hd k
  have e : hb_K a b c d 8 = (((((((([] ++ (if 0 ≤ hb_D a b c d 0 then [hb_kept a b c d 0] else [])) ++ (if 0 ≤ hb_D a b c d 1 then [hb_kept a b c d 1] else [])) ++ (if 0 ≤ hb_D a b c d 2 then [hb_kept a b c d 2] else [])) ++ (if 0 ≤ hb_D a b c d 3 then [hb_kept a b c d 3] else [])) ++ (if 0 ≤ hb_D a b c d 4 then [hb_kept a b c d 4] else [])) ++ (if 0 ≤ hb_D a b c d 5 then [hb_kept a b c d 5] else [])) ++ (if 0 ≤ hb_D a b c d 6 then [hb_kept a b c d 6] else [])) ++ (if 0 ≤ hb_D a b c d 7 then [hb_kept a b c d 7] else [])) := rfl
  rw [e, if_pos (h 0), if_pos (h 1), if_pos (h 2), if_pos (h 3), if_pos (h 4), if_pos (h 5), if_pos (h 6), if_pos (h 7)]
  rfl
theorem hb_KCat : ∀ k, k < 8 → hb_at hb_KC k = hb_cube k := by
  intro k hk
  match k, hk with
  | 0, _ => rfl
  | 1, _ => rfl
  | 2, _ => rfl
  | 3, _ => rfl
  | 4, _ => rfl
  | 5, _ => rfl
  | 6, _ => rfl
  | 7, _ => rfl
theorem hb_gone {a b c d : Int} (hR : hb_R a b c d) (hd : d < hb_far a b c) : ∃ r, r ∈ hb_KC ∧ ∀ q, q ∈ hb_M a b c d → hb_f4 q ≠ hb_f4 r := by
  obtain ⟨k, hk, hv⟩ := hb_lo a b c
  have ha := hb_anti a b c hk
  refine ⟨hb_cube (7 - k), ?_, fun q hq e => ?_⟩
  · rw [← hb_KCat (7 - k) (by omega)]
    exact hb_at_mem (show 7 - k < 8 by omega)
  · obtain ⟨x, y, z, w, ⟨⟨f1, f2, f3, f4⟩, bx, by', bz, bw⟩, h1, _⟩ := hb_below hR hq
    have e1 : q.1 = hb_i (hb_X (7 - k)) := congrArg (fun t => t.1) e
    have e2 : q.2.1 = hb_i (hb_Y (7 - k)) := congrArg (fun t => t.2.1) e
    have e3 : q.2.2.1 = hb_i (hb_Z (7 - k)) := congrArg (fun t => t.2.2.1) e
    have e4 : q.2.2.2.1 = hb_i 1 := congrArg (fun t => t.2.2.2) e
    have cx := hb_XX (7 - k)
    have cy := hb_YY (7 - k)
    have cz := hb_ZZ (7 - k)
    rw [f1, hb_ieq (by omega) (by omega) (by omega) (by omega)] at e1
    rw [f2, hb_ieq (by omega) (by omega) (by omega) (by omega)] at e2
    rw [f3, hb_ieq (by omega) (by omega) (by omega) (by omega)] at e3
    rw [f4, hb_ieq (by omega) (by omega) (by omega) (by omega)] at e4
    rw [e1, e2, e3, e4] at h1
    have h2 : hb_v a b c (7 - k) ≤ d * 1 := h1
    omega
end
section
/-! the order: insertion, as a permutation of places -/
def hb_bv (q r : Int32 × Int32 × Int32 × Int32) : Bool :=
  if (q.1.toInt64 * r.2.2.2.toInt64) - (r.1.toInt64 * q.2.2.2.toInt64) = 0 then
    (if (q.2.1.toInt64 * r.2.2.2.toInt64) - (r.2.1.toInt64 * q.2.2.2.toInt64) = 0 then
      (if (r.2.2.1.toInt64 * q.2.2.2.toInt64) ≤ (q.2.2.1.toInt64 * r.2.2.2.toInt64) then false else true)
    else (if 0 ≤ (q.2.1.toInt64 * r.2.2.2.toInt64) - (r.2.1.toInt64 * q.2.2.2.toInt64) then false else true))
  else (if 0 ≤ (q.1.toInt64 * r.2.2.2.toInt64) - (r.1.toInt64 * q.2.2.2.toInt64) then false else true)
def hb_tr (π : Nat → Nat) (k l : Nat) : Nat → Nat := fun j => if j = l then π k else if j = k then π l else π j
def hb_si (B : Nat → Nat → Bool) : Nat → (Nat → Nat) → Nat → Nat
  | 0, π => π
  | t + 1, π => if B (π (t + 1)) (π t) = true then hb_si B t (hb_tr π (t + 1) t) else π
def hb_so (B : Nat → Nat → Bool) : Nat → Nat → Nat
  | 0 => fun j => j
  | i + 1 => hb_si B i (hb_so B i)
def hb_pm (m : Nat) (π : Nat → Nat) : Prop := (∀ j, j < m → π j < m) ∧ ∀ j, j < m → ∃ k, k < m ∧ π k = j
theorem hb_pm_tr {m : Nat} {π : Nat → Nat} (h : hb_pm m π) {k l : Nat} (hk : k < m) (hl : l < m) : hb_pm m (hb_tr π k l) := by
  refine ⟨fun j hj => ?_, fun j hj => ?_⟩
  · unfold hb_tr
    split
    · exact h.1 k hk
    · split
      · exact h.1 l hl
      · exact h.1 j hj
  · obtain ⟨i, hi, e⟩ := h.2 j hj
    by_cases h1 : i = k
    · refine ⟨l, hl, ?_⟩
      unfold hb_tr
      rw [if_pos rfl, ← h1, e]
    · by_cases h2 : i = l
      · refine ⟨k, hk, ?_⟩
        unfold hb_tr
        by_cases h3 : k = l
        · exact absurd (h2.trans h3.symm) h1
        · rw [if_neg h3, if_pos rfl, ← h2, e]
      · refine ⟨i, hi, ?_⟩
        unfold hb_tr
        rw [if_neg h2, if_neg h1, e]
theorem hb_pm_si {m : Nat} (B : Nat → Nat → Bool) (t : Nat) (ht : t < m) : ∀ π, hb_pm m π → hb_pm m (hb_si B t π) := by
  induction t with
  | zero => exact fun π h => h
  | succ t ih =>
    intro π h
    unfold hb_si
    split
    · exact ih (by omega) _ (hb_pm_tr h ht (by omega))
    · exact h
theorem hb_pm_so {m : Nat} (B : Nat → Nat → Bool) (i : Nat) (hi : i ≤ m) : hb_pm m (hb_so B i) := by
  induction i with
  | zero => exact ⟨fun j hj => hj, fun j hj => ⟨j, hj, rfl⟩⟩
  | succ i ih =>
    unfold hb_so
    exact hb_pm_si B i (by omega) _ (ih (by omega))
def hb_B (L : List hb_Q) (k l : Nat) : Bool := hb_bv (hb_f4 (hb_at L k)) (hb_f4 (hb_at L l))
def hb_sg (L : List hb_Q) : Nat → Nat := hb_so (hb_B L) L.length
/-- the arrays hold L, in order -/
def hb_srt (L : List hb_Q) (X Y Z W P : Nat → Int32) : Prop := ∀ j, j < L.length → hb_col X Y Z W P j = hb_at L (hb_sg L j)
theorem hb_srt_in {L : List hb_Q} {X Y Z W P : Nat → Int32} (h : hb_srt L X Y Z W P) {j : Nat} (hj : j < L.length) : hb_col X Y Z W P j ∈ L := by
  rw [h j hj]
  exact hb_at_mem ((hb_pm_so (hb_B L) L.length (Nat.le_refl _)).1 j hj)
theorem hb_srt_ex {L : List hb_Q} {X Y Z W P : Nat → Int32} (h : hb_srt L X Y Z W P) {q : hb_Q} (hq : q ∈ L) : ∃ j, j < L.length ∧ hb_col X Y Z W P j = q := by
  obtain ⟨i, hi, e⟩ := hb_mem_at hq
  obtain ⟨j, hj, e'⟩ := (hb_pm_so (hb_B L) L.length (Nat.le_refl _)).2 i hi
  refine ⟨j, hj, ?_⟩
  rw [h j hj]
  show hb_at L (hb_so (hb_B L) L.length j) = q
  rw [e', e]
theorem hb_B_eq {L M : List hb_Q} (h : L.map hb_f4 = M.map hb_f4) : hb_B L = hb_B M := by
  funext k l
  unfold hb_B
  rw [hb_f4at, hb_f4at, hb_f4at, hb_f4at, h]
theorem hb_sg_eq {L M : List hb_Q} (h : L.map hb_f4 = M.map hb_f4) : hb_sg L = hb_sg M := by
  unfold hb_sg
  have e : L.length = M.length := by
    have t := congrArg List.length h
    rw [List.length_map, List.length_map] at t
    exact t
  rw [hb_B_eq h, e]
theorem hb_tr_col {L : List hb_Q} {m : Nat} {π : Nat → Nat} {X Y Z W P : Nat → Int32} {k l : Nat} (hk : k < m) (hl : l < m) (h : ∀ j, j < m → hb_col X Y Z W P j = hb_at L (π j)) :
    ∀ j, j < m → hb_col (upd (upd X k (X l)) l (X k)) (upd (upd Y k (Y l)) l (Y k)) (upd (upd Z k (Z l)) l (Z k)) (upd (upd W k (W l)) l (W k)) (upd (upd P k (P l)) l (P k)) j = hb_at L (hb_tr π k l j) := by
  intro j hj
  unfold hb_tr
  by_cases h1 : j = l
  · rw [if_pos h1, h1]
    unfold hb_col
    rw [pk_us, pk_us, pk_us, pk_us, pk_us]
    exact h k hk
  · rw [if_neg h1]
    by_cases h2 : j = k
    · rw [if_pos h2, h2]
      rw [h2] at h1
      unfold hb_col
      rw [pk_un h1, pk_un h1, pk_un h1, pk_un h1, pk_un h1, pk_us, pk_us, pk_us, pk_us, pk_us]
      exact h l hl
    · rw [if_neg h2]
      unfold hb_col
      rw [pk_un h1, pk_un h1, pk_un h1, pk_un h1, pk_un h1, pk_un h2, pk_un h2, pk_un h2, pk_un h2, pk_un h2]
      exact h j hj
/-! the walks: isBefore, exchange, sortCorners -/
theorem hb_isBefore {post : Int32 → Prop} {cc bu cn mn kn : Int32} {bt bb : Int64} {a1 a2 a3 a4 a5 a6 a7 a8 a9 a10 a11 a12 a13 a14 a16 a17 a18 a19 a20 a21 : Nat → Int32} {a15 : Nat → Int64} {k l : Nat} (hk : k < 64) (hl : l < 64)
    (H0 : hb_bv (hb_f4 (hb_col a5 a6 a7 a8 a9 k)) (hb_f4 (hb_col a5 a6 a7 a8 a9 l)) = false → post 0)
    (H1 : hb_bv (hb_f4 (hb_col a5 a6 a7 a8 a9 k)) (hb_f4 (hb_col a5 a6 a7 a8 a9 l)) = true → post 1) :
    wpX_isBefore post (cc, bu, cn, mn, kn, bt, bb, a1, a2, a3, a4, a5, a6, a7, a8, a9, a10, a11, a12, a13, a14, a15, a16, a17, a18, a19, a20, a21) (nI k) (nI l) := by
  unfold wpX_isBefore
  dsimp only
  rw [nI_clamp (show k < 2 ^ 31 by omega), nI_clamp (show l < 2 ^ 31 by omega)]
  have ik := pk_in (x := nI k) k 64 hk
  have il := pk_in (x := nI l) l 64 hl
  exact ⟨ik, il, il, ik, nm_e (br_c
    (fun h1 => ⟨ik, il, il, ik, nm_e (br_c
      (fun h2 => ⟨ik, il, il, ik, br_c
        (fun h3 => H0 ((if_pos h1).trans ((if_pos h2).trans (if_pos h3))))
        (fun h3 => H1 ((if_pos h1).trans ((if_pos h2).trans (if_neg h3))))⟩)
      (fun h2 => br_c
        (fun h3 => H0 ((if_pos h1).trans ((if_neg h2).trans (if_pos h3))))
        (fun h3 => H1 ((if_pos h1).trans ((if_neg h2).trans (if_neg h3))))))⟩)
    (fun h1 => br_c
      (fun h3 => H0 ((if_neg h1).trans (if_pos h3)))
      (fun h3 => H1 ((if_neg h1).trans (if_neg h3)))))⟩
theorem hb_swap1 {post : St2 → Prop} {cc bu cn mn kn : Int32} {bt bb : Int64} {a1 a2 a3 a4 a5 a6 a7 a8 a9 a10 a11 a12 a13 a14 a16 a17 a18 a19 a20 a21 : Nat → Int32} {a15 : Nat → Int64} {k l : Nat} (hk : k < 64) (hl : l < 64) (H : post (cc, bu, cn, mn, kn, bt, bb, a1, a2, a3, a4, upd (upd a5 k (a5 l)) l (a5 k), a6, a7, a8, a9, a10, a11, a12, a13, a14, a15, a16, a17, a18, a19, a20, a21)) : wpX_swapIn post (cc, bu, cn, mn, kn, bt, bb, a1, a2, a3, a4, a5, a6, a7, a8, a9, a10, a11, a12, a13, a14, a15, a16, a17, a18, a19, a20, a21) (nI k) (nI l) := by
  unfold wpX_swapIn
  dsimp only
  rw [nI_clamp (show k < 2 ^ 31 by omega), nI_clamp (show l < 2 ^ 31 by omega)]
  have ik := pk_in (x := nI k) k 64 hk
  have il := pk_in (x := nI l) l 64 hl
  exact ⟨ik, nm_e ⟨il, ik, nm_e ⟨il, nm_e H⟩⟩⟩
theorem hb_swap2 {post : St2 → Prop} {cc bu cn mn kn : Int32} {bt bb : Int64} {a1 a2 a3 a4 a5 a6 a7 a8 a9 a10 a11 a12 a13 a14 a16 a17 a18 a19 a20 a21 : Nat → Int32} {a15 : Nat → Int64} {k l : Nat} (hk : k < 64) (hl : l < 64) (H : post (cc, bu, cn, mn, kn, bt, bb, a1, a2, a3, a4, a5, upd (upd a6 k (a6 l)) l (a6 k), a7, a8, a9, a10, a11, a12, a13, a14, a15, a16, a17, a18, a19, a20, a21)) : wpX_swapIn_2 post (cc, bu, cn, mn, kn, bt, bb, a1, a2, a3, a4, a5, a6, a7, a8, a9, a10, a11, a12, a13, a14, a15, a16, a17, a18, a19, a20, a21) (nI k) (nI l) := by
  unfold wpX_swapIn_2
  dsimp only
  rw [nI_clamp (show k < 2 ^ 31 by omega), nI_clamp (show l < 2 ^ 31 by omega)]
  have ik := pk_in (x := nI k) k 64 hk
  have il := pk_in (x := nI l) l 64 hl
  exact ⟨ik, nm_e ⟨il, ik, nm_e ⟨il, nm_e H⟩⟩⟩
theorem hb_swap3 {post : St2 → Prop} {cc bu cn mn kn : Int32} {bt bb : Int64} {a1 a2 a3 a4 a5 a6 a7 a8 a9 a10 a11 a12 a13 a14 a16 a17 a18 a19 a20 a21 : Nat → Int32} {a15 : Nat → Int64} {k l : Nat} (hk : k < 64) (hl : l < 64) (H : post (cc, bu, cn, mn, kn, bt, bb, a1, a2, a3, a4, a5, a6, upd (upd a7 k (a7 l)) l (a7 k), a8, a9, a10, a11, a12, a13, a14, a15, a16, a17, a18, a19, a20, a21)) : wpX_swapIn_3 post (cc, bu, cn, mn, kn, bt, bb, a1, a2, a3, a4, a5, a6, a7, a8, a9, a10, a11, a12, a13, a14, a15, a16, a17, a18, a19, a20, a21) (nI k) (nI l) := by
  unfold wpX_swapIn_3
  dsimp only
  rw [nI_clamp (show k < 2 ^ 31 by omega), nI_clamp (show l < 2 ^ 31 by omega)]
  have ik := pk_in (x := nI k) k 64 hk
  have il := pk_in (x := nI l) l 64 hl
  exact ⟨ik, nm_e ⟨il, ik, nm_e ⟨il, nm_e H⟩⟩⟩
theorem hb_swap4 {post : St2 → Prop} {cc bu cn mn kn : Int32} {bt bb : Int64} {a1 a2 a3 a4 a5 a6 a7 a8 a9 a10 a11 a12 a13 a14 a16 a17 a18 a19 a20 a21 : Nat → Int32} {a15 : Nat → Int64} {k l : Nat} (hk : k < 64) (hl : l < 64) (H : post (cc, bu, cn, mn, kn, bt, bb, a1, a2, a3, a4, a5, a6, a7, upd (upd a8 k (a8 l)) l (a8 k), a9, a10, a11, a12, a13, a14, a15, a16, a17, a18, a19, a20, a21)) : wpX_swapIn_4 post (cc, bu, cn, mn, kn, bt, bb, a1, a2, a3, a4, a5, a6, a7, a8, a9, a10, a11, a12, a13, a14, a15, a16, a17, a18, a19, a20, a21) (nI k) (nI l) := by
  unfold wpX_swapIn_4
  dsimp only
  rw [nI_clamp (show k < 2 ^ 31 by omega), nI_clamp (show l < 2 ^ 31 by omega)]
  have ik := pk_in (x := nI k) k 64 hk
  have il := pk_in (x := nI l) l 64 hl
  exact ⟨ik, nm_e ⟨il, ik, nm_e ⟨il, nm_e H⟩⟩⟩
theorem hb_swap5 {post : St2 → Prop} {cc bu cn mn kn : Int32} {bt bb : Int64} {a1 a2 a3 a4 a5 a6 a7 a8 a9 a10 a11 a12 a13 a14 a16 a17 a18 a19 a20 a21 : Nat → Int32} {a15 : Nat → Int64} {k l : Nat} (hk : k < 64) (hl : l < 64) (H : post (cc, bu, cn, mn, kn, bt, bb, a1, a2, a3, a4, a5, a6, a7, a8, upd (upd a9 k (a9 l)) l (a9 k), a10, a11, a12, a13, a14, a15, a16, a17, a18, a19, a20, a21)) : wpX_swapIn_5 post (cc, bu, cn, mn, kn, bt, bb, a1, a2, a3, a4, a5, a6, a7, a8, a9, a10, a11, a12, a13, a14, a15, a16, a17, a18, a19, a20, a21) (nI k) (nI l) := by
  unfold wpX_swapIn_5
  dsimp only
  rw [nI_clamp (show k < 2 ^ 31 by omega), nI_clamp (show l < 2 ^ 31 by omega)]
  have ik := pk_in (x := nI k) k 64 hk
  have il := pk_in (x := nI l) l 64 hl
  exact ⟨ik, nm_e ⟨il, ik, nm_e ⟨il, nm_e H⟩⟩⟩
theorem hb_exchange {post : St2 → Prop} {cc bu cn mn kn : Int32} {bt bb : Int64} {a1 a2 a3 a4 a5 a6 a7 a8 a9 a10 a11 a12 a13 a14 a16 a17 a18 a19 a20 a21 : Nat → Int32} {a15 : Nat → Int64} {k l : Nat} (hk : k < 64) (hl : l < 64)
    (H : post (cc, bu, cn, mn, kn, bt, bb, a1, a2, a3, a4, upd (upd a5 k (a5 l)) l (a5 k), upd (upd a6 k (a6 l)) l (a6 k), upd (upd a7 k (a7 l)) l (a7 k), upd (upd a8 k (a8 l)) l (a8 k), upd (upd a9 k (a9 l)) l (a9 k), a10, a11, a12, a13, a14, a15, a16, a17, a18, a19, a20, a21)) : wpX_exchange post (cc, bu, cn, mn, kn, bt, bb, a1, a2, a3, a4, a5, a6, a7, a8, a9, a10, a11, a12, a13, a14, a15, a16, a17, a18, a19, a20, a21) (nI k) (nI l) := by
  unfold wpX_exchange
  dsimp only
  refine hb_swap1 hk hl ?_
  dsimp only
  refine hb_swap2 hk hl ?_
  dsimp only
  refine hb_swap3 hk hl ?_
  dsimp only
  refine hb_swap4 hk hl ?_
  dsimp only
  refine hb_swap5 hk hl ?_
  exact H
theorem hb_sort12 {post : St2 → Prop} {J : Int32 → Int32 → Int32 → Int32 → Int32 → Int32 → Int64 → Int64 → (Nat → Int32) → (Nat → Int32) → (Nat → Int32) → (Nat → Int32) → (Nat → Int32) → (Nat → Int32) → (Nat → Int32) → (Nat → Int32) → (Nat → Int32) → (Nat → Int32) → (Nat → Int32) → (Nat → Int32) → (Nat → Int32) → (Nat → Int32) → (Nat → Int64) → (Nat → Int32) → (Nat → Int32) → (Nat → Int32) → (Nat → Int32) → (Nat → Int32) → (Nat → Int32) → Prop} {L : List hb_Q} {m i : Nat} {cc bu cn mn kn : Int32} {bt bb : Int64} {a1 a2 a3 a4 a10 a11 a12 a13 a14 a16 a17 a18 a19 a20 a21 : Nat → Int32} {a15 : Nat → Int64} (hm : m ≤ 64) :
    ∀ (t : Nat), t < m → ∀ (π : Nat → Nat) (X Y Z W P : Nat → Int32), (∀ j, j < m → hb_col X Y Z W P j = hb_at L (π j)) →
      (∀ X' Y' Z' W' P' : Nat → Int32, (∀ j, j < m → hb_col X' Y' Z' W' P' j = hb_at L (hb_si (hb_B L) t π j)) → J (nI (i + 1)) cc bu cn mn kn bt bb a1 a2 a3 a4 X' Y' Z' W' P' a10 a11 a12 a13 a14 a15 a16 a17 a18 a19 a20 a21) →
      wX_sortCorners_12 post J (nI i) (t + 1) (nI t) cc bu cn mn kn bt bb a1 a2 a3 a4 X Y Z W P a10 a11 a12 a13 a14 a15 a16 a17 a18 a19 a20 a21 := by
  intro t
  induction t with
  | zero =>
    intro ht π X Y Z W P h H
    exact pk_le 0 0 (fun _ => nm_r (nI_1 i) (H X Y Z W P h)) (fun z => absurd z (by omega))
  | succ t ih =>
    intro ht π X Y Z W P h H
    refine pk_le (t + 1) 0 (fun z => absurd z (by omega)) (fun _ => ?_)
    rw [nI_pred]
    refine hb_isBefore (by omega) (by omega) (fun hb => br_t rfl (nm_r (nI_1 i) (H X Y Z W P ?_))) (fun hb => br_f (by decide) ?_)
    · rw [h (t + 1) ht, h t (by omega)] at hb
      have e : hb_si (hb_B L) (t + 1) π = π := if_neg (by rw [show hb_B L (π (t + 1)) (π t) = false from hb]; decide)
      rw [e]
      exact h
    · rw [h (t + 1) ht, h t (by omega)] at hb
      have e : hb_si (hb_B L) (t + 1) π = hb_si (hb_B L) t (hb_tr π (t + 1) t) := if_pos hb
      rw [e] at H
      refine hb_exchange (by omega) (by omega) ?_
      exact nm_r (pk_m1 t) (ih (by omega) (hb_tr π (t + 1) t) _ _ _ _ _ (hb_tr_col ht (by omega) h) H)
theorem hb_sort2 {post : St2 → Prop} {L : List hb_Q} {m : Nat} {cc bu mn kn : Int32} {bt bb : Int64} {a1 a2 a3 a4 a10 a11 a12 a13 a14 a16 a17 a18 a19 a20 a21 : Nat → Int32} {a15 : Nat → Int64} (hm : m ≤ 64)
    (H : ∀ X' Y' Z' W' P' : Nat → Int32, (∀ j, j < m → hb_col X' Y' Z' W' P' j = hb_at L (hb_so (hb_B L) m j)) → post (cc, bu, nI m, mn, kn, bt, bb, a1, a2, a3, a4, X', Y', Z', W', P', a10, a11, a12, a13, a14, a15, a16, a17, a18, a19, a20, a21)) :
    ∀ (r i : Nat), 1 ≤ i → i + r = max m 1 → ∀ (X Y Z W P : Nat → Int32), (∀ j, j < m → hb_col X Y Z W P j = hb_at L (hb_so (hb_B L) i j)) →
      wX_sortCorners_2 post (r + 1) (nI i) cc bu (nI m) mn kn bt bb a1 a2 a3 a4 X Y Z W P a10 a11 a12 a13 a14 a15 a16 a17 a18 a19 a20 a21 := by
  intro r
  induction r with
  | zero =>
    intro i h1 hi X Y Z W P h
    refine pk_le m i (fun _ => H X Y Z W P (fun j hj => ?_)) (fun z => absurd z (by omega))
    rw [h j hj, show i = m by omega]
  | succ r ih =>
    intro i h1 hi X Y Z W P h
    refine pk_le m i (fun z => absurd z (by omega)) (fun z => ⟨i + 1, hb_sort12 hm i z (hb_so (hb_B L) i) X Y Z W P h (fun X' Y' Z' W' P' h' => ?_)⟩)
    exact ih (i + 1) (by omega) (by omega) X' Y' Z' W' P' h'
theorem hb_sort {post : St2 → Prop} {L : List hb_Q} {cc bu mn kn : Int32} {bt bb : Int64} {a1 a2 a3 a4 a5 a6 a7 a8 a9 a10 a11 a12 a13 a14 a16 a17 a18 a19 a20 a21 : Nat → Int32} {a15 : Nat → Int64} (hm : L.length ≤ 64) (hr : hb_rep L a5 a6 a7 a8 a9)
    (H : ∀ X Y Z W P : Nat → Int32, hb_srt L X Y Z W P → post (cc, bu, nI L.length, mn, kn, bt, bb, a1, a2, a3, a4, X, Y, Z, W, P, a10, a11, a12, a13, a14, a15, a16, a17, a18, a19, a20, a21)) : wpX_sortCorners post (cc, bu, nI L.length, mn, kn, bt, bb, a1, a2, a3, a4, a5, a6, a7, a8, a9, a10, a11, a12, a13, a14, a15, a16, a17, a18, a19, a20, a21) :=
  ⟨max L.length 1 - 1 + 1, hb_sort2 hm H (max L.length 1 - 1) 1 (by omega) (by omega) a5 a6 a7 a8 a9 hr⟩
end
section
/-! startCube -/
theorem hb_m1T : ∀ i, i < 8 → ((nI i &&& 1) = 0 ↔ i % 2 = 0) := by decide +kernel
theorem hb_m2T : ∀ i, i < 8 → ((nI i &&& 2) = 0 ↔ i / 2 % 2 = 0) := by decide +kernel
theorem hb_m4T : ∀ i, i < 8 → ((nI i &&& 4) = 0 ↔ i / 4 % 2 = 0) := by decide +kernel
theorem hb_cubeT : ∀ i, i < 8 → ((if i % 2 = 0 then (8 : Int32) else -8), (if i / 2 % 2 = 0 then (8 : Int32) else -8), (if i / 4 % 2 = 0 then (8 : Int32) else -8), (1 : Int32), ((((1 : Int32) <<< ((nI i &&& 1) &&& 31)) ||| ((4 : Int32) <<< (((nI i >>> ((1 : Int32) &&& 31)) &&& 1) &&& 31))) ||| ((16 : Int32) <<< ((nI i >>> ((2 : Int32) &&& 31)) &&& 31)))) = hb_cube i := by decide +kernel
theorem hb_start8 {post : St2 → Prop} {cc bu mn kn : Int32} {bt bb : Int64} {a1 a2 a3 a4 a10 a11 a12 a13 a14 a16 a17 a18 a19 a20 a21 : Nat → Int32} {a15 : Nat → Int64}
    (H : ∀ X Y Z W P : Nat → Int32, (∀ j, j < 8 → hb_col X Y Z W P j = hb_cube j) → post (cc, bu, nI 8, mn, kn, bt, bb, a1, a2, a3, a4, X, Y, Z, W, P, a10, a11, a12, a13, a14, a15, a16, a17, a18, a19, a20, a21)) :
    ∀ (r i : Nat), i + r = 8 → ∀ X Y Z W P : Nat → Int32, (∀ j, j < i → hb_col X Y Z W P j = hb_cube j) →
      wX_startCube_8 post cc bu (nI 8) mn kn bt bb (r + 1) (nI i) a1 a2 a3 a4 X Y Z W P a10 a11 a12 a13 a14 a15 a16 a17 a18 a19 a20 a21 := by
  intro r
  induction r with
  | zero =>
    intro i hi X Y Z W P h
    have e : i = 8 := by omega
    subst e
    exact pk_le 8 8 (fun _ => H X Y Z W P h) (fun z => absurd z (by omega))
  | succ r ih =>
    intro i hi X Y Z W P h
    have h8 : i < 8 := by omega
    have ii := pk_in (x := nI i) i 64 (by omega)
    refine pk_le 8 i (fun z => absurd z (by omega)) (fun _ => ?_)
    refine hb_ite (fun z => wX_startCube_32 post _ (nI i) z (nI i) cc bu (nI 8) mn kn bt bb a1 a2 a3 a4 X Y Z W P a10 a11 a12 a13 a14 a15 a16 a17 a18 a19 a20 a21) (hb_m1T i h8) ?_
    refine ⟨ii, nm_e ?_⟩
    refine hb_ite (fun z => wX_startCube_51 post _ (nI i) z (nI i) cc bu (nI 8) mn kn bt bb a1 a2 a3 a4 (upd X (nI i).toNatClampNeg (if i % 2 = 0 then 8 else -8)) Y Z W P a10 a11 a12 a13 a14 a15 a16 a17 a18 a19 a20 a21) (hb_m2T i h8) ?_
    refine ⟨ii, nm_e ?_⟩
    refine hb_ite (fun z => wX_startCube_70 post _ (nI i) z (nI i) cc bu (nI 8) mn kn bt bb a1 a2 a3 a4 (upd X (nI i).toNatClampNeg (if i % 2 = 0 then 8 else -8)) (upd Y (nI i).toNatClampNeg (if i / 2 % 2 = 0 then 8 else -8)) Z W P a10 a11 a12 a13 a14 a15 a16 a17 a18 a19 a20 a21) (hb_m4T i h8) ?_
    refine ⟨ii, nm_e ⟨ii, nm_e ⟨ii, nm_e (nm_r (nI_1 i) ?_)⟩⟩⟩
    exact ih (i + 1) (by omega) _ _ _ _ _ (hb_fill (nI_clamp (by omega)) h (hb_cubeT i h8))
theorem hb_start {post : St2 → Prop} {cc bu cn mn kn : Int32} {bt bb : Int64} {a1 a2 a3 a4 a5 a6 a7 a8 a9 a10 a11 a12 a13 a14 a16 a17 a18 a19 a20 a21 : Nat → Int32} {a15 : Nat → Int64}
    (H : ∀ X Y Z W P : Nat → Int32, (∀ j, j < 8 → hb_col X Y Z W P j = hb_cube j) → post (cc, bu, nI 8, mn, kn, bt, bb, a1, a2, a3, a4, X, Y, Z, W, P, a10, a11, a12, a13, a14, a15, a16, a17, a18, a19, a20, a21)) :
    wpX_startCube post (cc, bu, cn, mn, kn, bt, bb, a1, a2, a3, a4, a5, a6, a7, a8, a9, a10, a11, a12, a13, a14, a15, a16, a17, a18, a19, a20, a21) :=
  ⟨9, hb_start8 H 8 0 (by omega) a5 a6 a7 a8 a9 (fun j hj => absurd hj (by omega))⟩
/-! areNeighbours, on the cube -/
theorem hb_nbr24 {post : Int32 → Prop} {cc bu mn kn : Int32} {bt bb : Int64} {a1 a2 a3 a4 a5 a6 a7 a8 a9 a10 a11 a12 a13 a14 a16 a17 a18 a19 a20 a21 : Nat → Int32} {a15 : Nat → Int64} {k l : Nat} (hP : ∀ j, j < 8 → a9 j = hb_P j) (hk : k < 8) (hl : l < 8) (hne : k ≠ l)
    (H0 : hb_nb k l = false → post 0) (H1 : hb_nb k l = true → post 1) :
    ∀ (r i : Nat), i + r = 8 → (∀ m, m < i → (m = k ∨ m = l ∨ ¬ (hb_P m &&& (hb_P k &&& hb_P l) = hb_P k &&& hb_P l))) →
      wX_areNeighbours_24 post (nI k) (nI l) (hb_P k &&& hb_P l) cc bu (nI 8) mn kn bt bb a1 a2 a3 a4 a5 a6 a7 a8 a9 a10 a11 a12 a13 a14 a15 a16 a17 a18 a19 a20 a21 (r + 1) (nI i) := by
  intro r
  induction r with
  | zero =>
    intro i hi h
    have e : i = 8 := by omega
    subst e
    exact pk_le 8 8 (fun _ => H1 ((hb_nb_iff k l).mpr ⟨hne, h⟩)) (fun z => absurd z (by omega))
  | succ r ih =>
    intro i hi h
    have nx : ∀ {p : Prop}, (i = k ∨ i = l ∨ ¬ (hb_P i &&& (hb_P k &&& hb_P l) = hb_P k &&& hb_P l)) → (∀ m, m < i + 1 → (m = k ∨ m = l ∨ ¬ (hb_P m &&& (hb_P k &&& hb_P l) = hb_P k &&& hb_P l))) := by
      intro _ hi' m hm
      by_cases e : m = i
      · rw [e]; exact hi'
      · exact h m (by omega)
    refine pk_le 8 i (fun z => absurd z (by omega)) (fun _ => pk_eq i k (fun e => nm_r (nI_1 i) (ih (i + 1) (by omega) (nx (p := True) (Or.inl e)))) (fun _ => pk_eq i l (fun e => nm_r (nI_1 i) (ih (i + 1) (by omega) (nx (p := True) (Or.inr (Or.inl e))))) (fun _ => ⟨pk_in i 64 (by omega), br_c (fun hh => H0 ?_) (fun hh => nm_r (nI_1 i) (ih (i + 1) (by omega) (nx (p := True) (Or.inr (Or.inr ?_)))))⟩)))
    · rw [nI_clamp (show i < 2 ^ 31 by omega), hP i (by omega)] at hh
      refine Bool.eq_false_iff.mpr (fun t => ?_)
      rcases ((hb_nb_iff k l).mp t).2 i (by omega) with t | t | t
      · contradiction
      · contradiction
      · exact t hh
    · rw [nI_clamp (show i < 2 ^ 31 by omega), hP i (by omega)] at hh
      exact hh
theorem hb_nbr {post : Int32 → Prop} {cc bu mn kn : Int32} {bt bb : Int64} {a1 a2 a3 a4 a5 a6 a7 a8 a9 a10 a11 a12 a13 a14 a16 a17 a18 a19 a20 a21 : Nat → Int32} {a15 : Nat → Int64} {k l : Nat} (hP : ∀ j, j < 8 → a9 j = hb_P j) (hk : k < 8) (hl : l < 8)
    (H0 : hb_nb k l = false → post 0) (H1 : hb_nb k l = true → post 1) : wpX_areNeighbours post (cc, bu, nI 8, mn, kn, bt, bb, a1, a2, a3, a4, a5, a6, a7, a8, a9, a10, a11, a12, a13, a14, a15, a16, a17, a18, a19, a20, a21) (nI k) (nI l) := by
  refine pk_eq k l (fun e => H0 (Bool.eq_false_iff.mpr (fun t => ((hb_nb_iff k l).mp t).1 e))) (fun ne => ⟨pk_in k 64 (by omega), pk_in l 64 (by omega), nm_r (e' := hb_P k &&& hb_P l) ?_ ⟨9, hb_nbr24 hP hk hl ne H0 H1 8 0 (by omega) (fun m hm => absurd hm (by omega))⟩⟩)
  rw [nI_clamp (show k < 2 ^ 31 by omega), nI_clamp (show l < 2 ^ 31 by omega), hP k hk, hP l hl]
/-! commonDivisor -/
theorem hb_cd28 {post : Int64 → Prop} {cc bu cn mn kn : Int32} {bt bb : Int64} {a1 a2 a3 a4 a5 a6 a7 a8 a9 a10 a11 a12 a13 a14 a16 a17 a18 a19 a20 a21 : Nat → Int32} {a15 : Nat → Int64} : ∀ (y x : Nat), x < 2 ^ 63 → y < 2 ^ 63 → post (lN (Nat.gcd x y)) → ∃ n, wX_commonDivisor_28 post cc bu cn mn kn bt bb a1 a2 a3 a4 a5 a6 a7 a8 a9 a10 a11 a12 a13 a14 a15 a16 a17 a18 a19 a20 a21 n (lN x) (lN y) := by
  intro y
  induction y using Nat.strongRecOn with
  | ind y ih =>
    intro x hx hy H
    by_cases h0 : y = 0
    · subst h0
      rw [Nat.gcd_zero_right] at H
      exact ⟨1, br_t rfl H⟩
    · have hlt : x % y < y := Nat.mod_lt _ (by omega)
      have hne : ¬ lN y = 0 := fun t => h0 ((pk_lEQ hy (by omega)).mp (t.trans (show (0 : Int64) = lN 0 from rfl)))
      obtain ⟨n, hn⟩ := ih (x % y) hlt y hy (by omega) (by rw [Nat.gcd_comm, ← Nat.gcd_rec, Nat.gcd_comm]; exact H)
      exact ⟨n + 1, br_f hne ⟨hne, nm_r (pk_lRem hx (by omega) hy) hn⟩⟩
theorem hb_lneg0 {x : Int} (h : -4611686018427387904 ≤ x) (h' : x ≤ 4611686018427387904) : (0 ≤ x ∧ hb_l x = lN x.natAbs ∧ 0 ≤ hb_l x) ∨ (x < 0 ∧ -hb_l x = lN x.natAbs ∧ ¬ 0 ≤ hb_l x) := by
  rcases Int.lt_or_le x 0 with t | t
  · refine Or.inr ⟨t, ?_, ?_⟩
    · rw [hb_lneg, hb_ln, Int.ofNat_natAbs_of_nonpos (by omega)]
    · rw [← hb_l0, hb_lle (by omega) (by omega) h h']
      omega
  · refine Or.inl ⟨t, ?_, ?_⟩
    · rw [hb_ln, Int.natAbs_of_nonneg t]
    · rw [← hb_l0, hb_lle (by omega) (by omega) h h']
      omega
theorem hb_cd12 {post : Int64 → Prop} {cc bu cn mn kn : Int32} {bt bb : Int64} {a1 a2 a3 a4 a5 a6 a7 a8 a9 a10 a11 a12 a13 a14 a16 a17 a18 a19 a20 a21 : Nat → Int32} {a15 : Nat → Int64} {x : Nat} {y : Int} (hx : x ≤ 4611686018427387904) (h3 : -4611686018427387904 ≤ y) (h4 : y ≤ 4611686018427387904)
    (H : post (lN (Nat.gcd x y.natAbs))) : wX_commonDivisor_12 post (hb_l y) (lN x) cc bu cn mn kn bt bb a1 a2 a3 a4 a5 a6 a7 a8 a9 a10 a11 a12 a13 a14 a15 a16 a17 a18 a19 a20 a21 := by
  have by' : y.natAbs < 2 ^ 63 := by omega
  rcases hb_lneg0 h3 h4 with ⟨_, e, c⟩ | ⟨_, e, c⟩
  · refine br_t c ?_
    rw [e]
    exact hb_cd28 _ _ (by omega) by' H
  · refine br_f c (nm_r e ?_)
    exact hb_cd28 _ _ (by omega) by' H
theorem hb_cd {post : Int64 → Prop} {cc bu cn mn kn : Int32} {bt bb : Int64} {a1 a2 a3 a4 a5 a6 a7 a8 a9 a10 a11 a12 a13 a14 a16 a17 a18 a19 a20 a21 : Nat → Int32} {a15 : Nat → Int64} {x y : Int} (h1 : -4611686018427387904 ≤ x) (h2 : x ≤ 4611686018427387904) (h3 : -4611686018427387904 ≤ y) (h4 : y ≤ 4611686018427387904)
    (H : post (hb_l ((Int.gcd x y : Nat) : Int))) : wpX_commonDivisor post (cc, bu, cn, mn, kn, bt, bb, a1, a2, a3, a4, a5, a6, a7, a8, a9, a10, a11, a12, a13, a14, a15, a16, a17, a18, a19, a20, a21) (hb_l x) (hb_l y) := by
  rw [← hb_ln] at H
  rcases hb_lneg0 h1 h2 with ⟨_, e, c⟩ | ⟨_, e, c⟩
  · refine br_t c ?_
    rw [e]
    exact hb_cd12 (by omega) h3 h4 H
  · refine br_f c ?_
    rw [e]
    exact hb_cd12 (by omega) h3 h4 H
/-! addMade, distanceTo, addCrossing -/
theorem hb_addMade {post : St2 → Prop} {cc bu cn kn : Int32} {bt bb : Int64} {a1 a2 a3 a4 a5 a6 a7 a8 a9 a10 a11 a12 a13 a14 a16 a17 a18 a19 a20 a21 : Nat → Int32} {a15 : Nat → Int64} {M : List hb_Q} (hM : hb_rep M a10 a11 a12 a13 a14) (hl : M.length < 64) {x y z w p : Int32}
    (H : ∀ X Y Z W P : Nat → Int32, hb_rep (M ++ [(x, y, z, w, p)]) X Y Z W P → post (cc, bu, cn, nI (M ++ [(x, y, z, w, p)]).length, kn, bt, bb, a1, a2, a3, a4, a5, a6, a7, a8, a9, X, Y, Z, W, P, a15, a16, a17, a18, a19, a20, a21)) :
    wpX_addMade post (cc, bu, cn, nI M.length, kn, bt, bb, a1, a2, a3, a4, a5, a6, a7, a8, a9, a10, a11, a12, a13, a14, a15, a16, a17, a18, a19, a20, a21) x y z w p := by
  have ii := pk_in (x := nI M.length) M.length 64 hl
  refine ⟨ii, nm_e ⟨ii, nm_e ⟨ii, nm_e ⟨ii, nm_e ⟨ii, nm_e (nm_r (e' := nI (M ++ [(x, y, z, w, p)]).length) ?_ (H _ _ _ _ _ (hb_rep_add (nI_clamp (by omega)) hM)))⟩⟩⟩⟩⟩
  rw [List.length_append, List.length_singleton]
  exact nI_1 _
def hb_on6 (a b c d : Int) (a1 a2 a3 a4 : Nat → Int32) : Prop := a1 6 = hb_i a ∧ a2 6 = hb_i b ∧ a3 6 = hb_i c ∧ a4 6 = hb_i d
theorem hb_dist {post : Int64 → Prop} {cc bu cn mn kn : Int32} {bt bb : Int64} {a1 a2 a3 a4 a5 a6 a7 a8 a9 a10 a11 a12 a13 a14 a16 a17 a18 a19 a20 a21 : Nat → Int32} {a15 : Nat → Int64} {a b c d : Int} (hR : hb_R a b c d) (h6 : hb_on6 a b c d a1 a2 a3 a4) {k : Nat} (hk : k < 64) (hc : hb_col a5 a6 a7 a8 a9 k = hb_cube k)
    (H : post (hb_l (hb_D a b c d k))) : wpX_distanceTo post (cc, bu, cn, mn, kn, bt, bb, a1, a2, a3, a4, a5, a6, a7, a8, a9, a10, a11, a12, a13, a14, a15, a16, a17, a18, a19, a20, a21) (nI 6) (nI k) := by
  obtain ⟨p1, p2, p3, p4⟩ := h6
  obtain ⟨r1, r2, r3, r4⟩ := hR
  have e5 : a5 k = hb_i (hb_X k) := congrArg (fun t => t.1) hc
  have e6 : a6 k = hb_i (hb_Y k) := congrArg (fun t => t.2.1) hc
  have e7 : a7 k = hb_i (hb_Z k) := congrArg (fun t => t.2.2.1) hc
  have e8 : a8 k = hb_i 1 := congrArg (fun t => t.2.2.2.1) hc
  have cx := hb_XX k
  have cy := hb_YY k
  have cz := hb_ZZ k
  unfold wpX_distanceTo
  dsimp only
  rw [nI_clamp (show k < 2 ^ 31 by omega), nI_clamp (show 6 < 2 ^ 31 by omega), p1, p2, p3, p4, e5, e6, e7, e8]
  rw [hb_wide (x := a) (by omega) (by omega), hb_wide (x := b) (by omega) (by omega), hb_wide (x := c) (by omega) (by omega), hb_wide (x := d) (by omega) (by omega), hb_wide (x := hb_X k) (by omega) (by omega), hb_wide (x := hb_Y k) (by omega) (by omega), hb_wide (x := hb_Z k) (by omega) (by omega), hb_wide (x := 1) (by omega) (by omega)]
  have i6 := pk_in (x := nI 6) 6 16 (by omega)
  have ik := pk_in (x := nI k) k 64 hk
  refine ⟨i6, ik, i6, ik, i6, ik, nm_e ⟨i6, ik, ?_⟩⟩
  rw [hb_lmul, hb_lmul, hb_lmul, hb_lmul, hb_ladd, hb_ladd, hb_lsub]
  have e : d * 1 - (a * hb_X k + b * hb_Y k + c * hb_Z k) = hb_D a b c d k := by
    unfold hb_D hb_v
    omega
  rw [e]
  exact H
theorem hb_gcdb {x y N : Int} (h1 : -N ≤ x) (h2 : x ≤ N) (h3 : -N ≤ y) (h4 : y ≤ N) : 0 ≤ ((Int.gcd x y : Nat) : Int) ∧ ((Int.gcd x y : Nat) : Int) ≤ N := by
  by_cases hx : x = 0
  · subst hx
    rw [Int.gcd_zero_left]
    omega
  · have t := Int.gcd_le_natAbs_left y hx
    omega
theorem hb_shl6 : (1 : Int32) <<< (nI 6 &&& 31) = 64 := by decide
theorem hb_addCr {post : St2 → Prop} {cc bu cn kn : Int32} {bt bb : Int64} {a1 a2 a3 a4 a5 a6 a7 a8 a9 a10 a11 a12 a13 a14 a16 a17 a18 a19 a20 a21 : Nat → Int32} {a15 : Nat → Int64} {f g : Int} {k l : Nat} {M : List hb_Q} (hM : hb_rep M a10 a11 a12 a13 a14) (hl : M.length < 64)
    (hck : hb_col a5 a6 a7 a8 a9 k = hb_cube k) (hcl : hb_col a5 a6 a7 a8 a9 l = hb_cube l) (hk : k < 64) (hl' : l < 64)
    (hf : a15 l = hb_l (-f)) (hg : a15 k = hb_l g) (f1 : 0 < f) (f2 : f ≤ 156) (g1 : 0 < g) (g2 : g ≤ 156)
    (H : ∀ X Y Z W P : Nat → Int32, hb_rep (M ++ [hb_cr f g k l]) X Y Z W P → post (cc, bu, cn, nI (M ++ [hb_cr f g k l]).length, kn, bt, bb, a1, a2, a3, a4, a5, a6, a7, a8, a9, X, Y, Z, W, P, a15, a16, a17, a18, a19, a20, a21)) :
    wpX_addCrossing post (cc, bu, cn, nI M.length, kn, bt, bb, a1, a2, a3, a4, a5, a6, a7, a8, a9, a10, a11, a12, a13, a14, a15, a16, a17, a18, a19, a20, a21) (nI k) (nI l) (nI 6) := by
  have k5 : a5 k = hb_i (hb_X k) := congrArg (fun t => t.1) hck
  have k6 : a6 k = hb_i (hb_Y k) := congrArg (fun t => t.2.1) hck
  have k7 : a7 k = hb_i (hb_Z k) := congrArg (fun t => t.2.2.1) hck
  have k8 : a8 k = hb_i 1 := congrArg (fun t => t.2.2.2.1) hck
  have k9 : a9 k = hb_P k := congrArg (fun t => t.2.2.2.2) hck
  have l5 : a5 l = hb_i (hb_X l) := congrArg (fun t => t.1) hcl
  have l6 : a6 l = hb_i (hb_Y l) := congrArg (fun t => t.2.1) hcl
  have l7 : a7 l = hb_i (hb_Z l) := congrArg (fun t => t.2.2.1) hcl
  have l8 : a8 l = hb_i 1 := congrArg (fun t => t.2.2.2.1) hcl
  have l9 : a9 l = hb_P l := congrArg (fun t => t.2.2.2.2) hcl
  have cx := hb_XX k
  have cy := hb_YY k
  have cz := hb_ZZ k
  have dx := hb_XX l
  have dy := hb_YY l
  have dz := hb_ZZ l
  have bx : -4000 ≤ hb_cx f g (hb_X k) (hb_X l) ∧ hb_cx f g (hb_X k) (hb_X l) ≤ 4000 := by
    unfold hb_cx
    rcases cx with h1 | h1 <;> rcases dx with h2 | h2 <;> rw [h1, h2] <;> omega
  have by' : -4000 ≤ hb_cx f g (hb_Y k) (hb_Y l) ∧ hb_cx f g (hb_Y k) (hb_Y l) ≤ 4000 := by
    unfold hb_cx
    rcases cy with h1 | h1 <;> rcases dy with h2 | h2 <;> rw [h1, h2] <;> omega
  have bz : -4000 ≤ hb_cx f g (hb_Z k) (hb_Z l) ∧ hb_cx f g (hb_Z k) (hb_Z l) ≤ 4000 := by
    unfold hb_cx
    rcases cz with h1 | h1 <;> rcases dz with h2 | h2 <;> rw [h1, h2] <;> omega
  have bw : 0 < hb_cx f g 1 1 ∧ hb_cx f g 1 1 ≤ 4000 := by
    unfold hb_cx
    omega
  have hG : 1 ≤ hb_cG f g k l := hb_G_pos _ _ _ (by omega)
  have hGw : hb_cG f g k l ≤ 4000 := Int.le_trans (Int.le_of_dvd bw.1 (hb_G_dvd _ _ _ _).2.2.2) bw.2
  have g1b := hb_gcdb bx.1 bx.2 by'.1 by'.2
  have g2b := hb_gcdb (N := 4000) (by omega) g1b.2 bz.1 bz.2
  have ik := pk_in (x := nI k) k 64 hk
  have il := pk_in (x := nI l) l 64 hl'
  unfold wpX_addCrossing
  dsimp only
  rw [nI_clamp (show k < 2 ^ 31 by omega), nI_clamp (show l < 2 ^ 31 by omega), hf, hg, k5, k6, k7, k8, k9, l5, l6, l7, l8, l9]
  rw [hb_wide (x := hb_X k) (by omega) (by omega), hb_wide (x := hb_Y k) (by omega) (by omega), hb_wide (x := hb_Z k) (by omega) (by omega), hb_wide (x := 1) (by omega) (by omega), hb_wide (x := hb_X l) (by omega) (by omega), hb_wide (x := hb_Y l) (by omega) (by omega), hb_wide (x := hb_Z l) (by omega) (by omega)]
  refine ⟨il, nm_r (e' := hb_l f) (by rw [hb_lneg, Int.neg_neg]) ⟨ik, nm_e ⟨ik, il, nm_r (e' := hb_l (hb_cx f g (hb_X k) (hb_X l))) (by rw [hb_lmul, hb_lmul, hb_ladd]; rfl) ⟨ik, il, nm_r (e' := hb_l (hb_cx f g (hb_Y k) (hb_Y l))) (by rw [hb_lmul, hb_lmul, hb_ladd]; rfl) ⟨ik, il, nm_r (e' := hb_l (hb_cx f g (hb_Z k) (hb_Z l))) (by rw [hb_lmul, hb_lmul, hb_ladd]; rfl) ⟨ik, il, nm_r (e' := hb_l (hb_cx f g 1 1)) (by rw [hb_lmul, hb_lmul, hb_ladd]; rfl) ?_⟩⟩⟩⟩⟩⟩
  refine hb_cd (by omega) (by omega) (by omega) (by omega) ?_
  refine hb_cd (by omega) (by omega) (by omega) (by omega) ?_
  refine hb_cd (by omega) (by omega) (by omega) (by omega) ?_
  have nz : ¬ hb_l (hb_cG f g k l) = 0 := by
    rw [← hb_l0, hb_leq (by omega) (by omega) (by omega) (by omega)]
    omega
  refine ⟨nz, nz, nz, nz, ik, il, ?_⟩
  show wpX_addMade _ _ ((hb_l (hb_cx f g (hb_X k) (hb_X l)) / hb_l (hb_cG f g k l)).toInt32) ((hb_l (hb_cx f g (hb_Y k) (hb_Y l)) / hb_l (hb_cG f g k l)).toInt32) ((hb_l (hb_cx f g (hb_Z k) (hb_Z l)) / hb_l (hb_cG f g k l)).toInt32) ((hb_l (hb_cx f g 1 1) / hb_l (hb_cG f g k l)).toInt32) ((hb_P k &&& hb_P l) ||| ((1 : Int32) <<< (nI 6 &&& 31)))
  rw [hb_ldiv (x := hb_cx f g (hb_X k) (hb_X l)) (by omega) (by omega) (by omega) (by omega), hb_ldiv (x := hb_cx f g (hb_Y k) (hb_Y l)) (by omega) (by omega) (by omega) (by omega), hb_ldiv (x := hb_cx f g (hb_Z k) (hb_Z l)) (by omega) (by omega) (by omega) (by omega), hb_ldiv (x := hb_cx f g 1 1) (by omega) (by omega) (by omega) (by omega), hb_thin, hb_thin, hb_thin, hb_thin, hb_shl6]
  exact hb_addMade hM hl H
end
section
/-! applyPlane(6) on the cube: the loops -/
def hb_cu8 (X Y Z W P : Nat → Int32) : Prop := ∀ j, j < 8 → hb_col X Y Z W P j = hb_cube j
theorem hb_ap177 {post : St2 → Prop} {cc bu kn : Int32} {bt bb : Int64} {a1 a2 a3 a4 a10 a11 a12 a13 a14 a16 a17 a18 a19 a20 a21 : Nat → Int32} {a15 : Nat → Int64} {m : Nat} (hm : m ≤ 64)
    (H : ∀ X Y Z W P : Nat → Int32, (∀ j, j < m → hb_col X Y Z W P j = hb_col a10 a11 a12 a13 a14 j) → post (cc, bu, nI m, nI m, kn, bt, bb, a1, a2, a3, a4, X, Y, Z, W, P, a10, a11, a12, a13, a14, a15, a16, a17, a18, a19, a20, a21)) :
    ∀ (r i : Nat), i + r = m → ∀ X Y Z W P : Nat → Int32, (∀ j, j < i → hb_col X Y Z W P j = hb_col a10 a11 a12 a13 a14 j) →
      wX_applyPlane_177 post cc bu (nI m) (nI m) kn bt bb (r + 1) (nI i) a1 a2 a3 a4 X Y Z W P a10 a11 a12 a13 a14 a15 a16 a17 a18 a19 a20 a21 := by
  intro r
  induction r with
  | zero =>
    intro i hi X Y Z W P h
    have e : i = m := by omega
    subst e
    exact pk_le i i (fun _ => H X Y Z W P h) (fun z => absurd z (by omega))
  | succ r ih =>
    intro i hi X Y Z W P h
    have ii := pk_in (x := nI i) i 64 (by omega)
    refine pk_le m i (fun z => absurd z (by omega)) (fun _ => ⟨ii, ii, nm_e ⟨ii, ii, nm_e ⟨ii, ii, nm_e ⟨ii, ii, nm_e ⟨ii, ii, nm_e (nm_r (nI_1 i) ?_)⟩⟩⟩⟩⟩)
    refine ih (i + 1) (by omega) _ _ _ _ _ (hb_fill (nI_clamp (by omega)) h ?_)
    rw [nI_clamp (show i < 2 ^ 31 by omega)]
    rfl
theorem hb_ap109 {post : St2 → Prop} {J : Int32 → Int32 → Int32 → Int32 → Int32 → Int32 → Int64 → Int64 → (Nat → Int32) → (Nat → Int32) → (Nat → Int32) → (Nat → Int32) → (Nat → Int32) → (Nat → Int32) → (Nat → Int32) → (Nat → Int32) → (Nat → Int32) → (Nat → Int32) → (Nat → Int32) → (Nat → Int32) → (Nat → Int32) → (Nat → Int32) → (Nat → Int64) → (Nat → Int32) → (Nat → Int32) → (Nat → Int32) → (Nat → Int32) → (Nat → Int32) → (Nat → Int32) → Prop} {cc bu kn : Int32} {bt bb : Int64} {a1 a2 a3 a4 a5 a6 a7 a8 a9 a16 a17 a18 a19 a20 a21 : Nat → Int32} {a15 : Nat → Int64} {a b c d : Int} {k : Nat} (hR : hb_R a b c d) (hk : k < 8)
    (hc : hb_cu8 a5 a6 a7 a8 a9) (h15 : ∀ j, j < 8 → a15 j = hb_l (hb_D a b c d j))
    (H : ∀ X Y Z W P : Nat → Int32, hb_rep (hb_K a b c d 8 ++ hb_CC a b c d k ++ hb_C a b c d k 8) X Y Z W P → J (nI (k + 1)) cc bu (nI 8) (nI (hb_K a b c d 8 ++ hb_CC a b c d k ++ hb_C a b c d k 8).length) kn bt bb a1 a2 a3 a4 a5 a6 a7 a8 a9 X Y Z W P a15 a16 a17 a18 a19 a20 a21) :
    ∀ (r l : Nat), l + r = 8 → ∀ X Y Z W P : Nat → Int32, hb_rep (hb_K a b c d 8 ++ hb_CC a b c d k ++ hb_C a b c d k l) X Y Z W P →
      wX_applyPlane_109 post J (nI 6) (nI k) (r + 1) (nI l) cc bu (nI 8) (nI (hb_K a b c d 8 ++ hb_CC a b c d k ++ hb_C a b c d k l).length) kn bt bb a1 a2 a3 a4 a5 a6 a7 a8 a9 X Y Z W P a15 a16 a17 a18 a19 a20 a21 := by
  intro r
  induction r with
  | zero =>
    intro l hl X Y Z W P h
    have e : l = 8 := by omega
    subst e
    exact pk_le 8 8 (fun _ => nm_r (nI_1 k) (H X Y Z W P h)) (fun z => absurd z (by omega))
  | succ r ih =>
    intro l hl X Y Z W P h
    have ik := pk_in (x := nI k) k 64 (by omega)
    have il := pk_in (x := nI l) l 64 (by omega)
    have bk := hb_D_le hR k
    have bl := hb_D_le hR l
    have ek : a15 (nI k).toNatClampNeg = hb_l (hb_D a b c d k) := by rw [nI_clamp (show k < 2 ^ 31 by omega)]; exact h15 k hk
    have el : a15 (nI l).toNatClampNeg = hb_l (hb_D a b c d l) := by rw [nI_clamp (show l < 2 ^ 31 by omega)]; exact h15 l (by omega)
    have stay : ¬ (0 < hb_D a b c d k ∧ hb_D a b c d l < 0 ∧ hb_nb k l = true) → wX_applyPlane_109 post J (nI 6) (nI k) (r + 1) (nI (l + 1)) cc bu (nI 8) (nI (hb_K a b c d 8 ++ hb_CC a b c d k ++ hb_C a b c d k l).length) kn bt bb a1 a2 a3 a4 a5 a6 a7 a8 a9 X Y Z W P a15 a16 a17 a18 a19 a20 a21 := by
      intro hn
      have e : hb_C a b c d k (l + 1) = hb_C a b c d k l := by
        show hb_C a b c d k l ++ _ = _
        rw [if_neg hn, List.append_nil]
      have t := ih (l + 1) (by omega) X Y Z W P (by rw [e]; exact h)
      rw [e] at t
      exact t
    refine pk_le 8 l (fun z => absurd z (by omega)) (fun _ => ⟨ik, br_c (fun g => nm_r (nI_1 l) (stay (fun t => ?_))) (fun g => ⟨il, br_c (fun g2 => nm_r (nI_1 l) (stay (fun t => ?_))) (fun g2 => ?_)⟩)⟩)
    · rw [ek, ← hb_l0, hb_lle (by omega) (by omega) (by omega) (by omega)] at g
      omega
    · rw [el, ← hb_l0, hb_lle (by omega) (by omega) (by omega) (by omega)] at g2
      omega
    · rw [ek, ← hb_l0, hb_lle (by omega) (by omega) (by omega) (by omega)] at g
      rw [el, ← hb_l0, hb_lle (by omega) (by omega) (by omega) (by omega)] at g2
      refine hb_nbr (fun j hj => congrArg (fun t => t.2.2.2.2) (hc j hj)) hk (by omega) (fun hn => br_t rfl (nm_r (nI_1 l) (stay (fun t => ?_)))) (fun hn => br_f (by decide) ?_)
      · rw [hn] at t
        exact absurd t.2.2 (by decide)
      · have e : hb_C a b c d k (l + 1) = hb_C a b c d k l ++ [hb_cr (-hb_D a b c d l) (hb_D a b c d k) k l] := by
          show hb_C a b c d k l ++ _ = _
          rw [if_pos ⟨by omega, by omega, hn⟩]
        refine hb_addCr (f := -hb_D a b c d l) (g := hb_D a b c d k) h (hb_len3 a b c d hk (by omega)) (hc k hk) (hc l (by omega)) (by omega) (by omega) (by rw [Int.neg_neg]; exact h15 l (by omega)) (h15 k hk) (by omega) (by omega) (by omega) (by omega) (fun X' Y' Z' W' P' h' => nm_r (nI_1 l) ?_)
        have t := ih (l + 1) (by omega) X' Y' Z' W' P' (by rw [e, ← List.append_assoc]; exact h')
        rw [e, ← List.append_assoc] at t
        exact t
theorem hb_ap99 {post : St2 → Prop} {cc bu kn : Int32} {bt bb : Int64} {a1 a2 a3 a4 a5 a6 a7 a8 a9 a16 a17 a18 a19 a20 a21 : Nat → Int32} {a15 : Nat → Int64} {a b c d : Int} (hR : hb_R a b c d)
    (hc : hb_cu8 a5 a6 a7 a8 a9) (h15 : ∀ j, j < 8 → a15 j = hb_l (hb_D a b c d j))
    (H : ∀ X Y Z W P X' Y' Z' W' P' : Nat → Int32, hb_rep (hb_M a b c d) X Y Z W P → post (cc, bu, nI (hb_M a b c d).length, nI (hb_M a b c d).length, kn, bt, bb, a1, a2, a3, a4, X, Y, Z, W, P, X', Y', Z', W', P', a15, a16, a17, a18, a19, a20, a21)) :
    ∀ (r k : Nat), k + r = 8 → ∀ X Y Z W P : Nat → Int32, hb_rep (hb_K a b c d 8 ++ hb_CC a b c d k) X Y Z W P →
      wX_applyPlane_99 post (nI 6) (r + 1) (nI k) cc bu (nI 8) (nI (hb_K a b c d 8 ++ hb_CC a b c d k).length) kn bt bb a1 a2 a3 a4 a5 a6 a7 a8 a9 X Y Z W P a15 a16 a17 a18 a19 a20 a21 := by
  intro r
  induction r with
  | zero =>
    intro k hk X Y Z W P h
    have e : k = 8 := by omega
    subst e
    have hM := hb_M_len a b c d
    exact pk_le 8 8 (fun _ => ⟨(hb_M a b c d).length + 1, hb_ap177 (m := (hb_M a b c d).length) (by omega) (fun X' Y' Z' W' P' h' => H X' Y' Z' W' P' X Y Z W P (fun j hj => (h' j hj).trans (h j hj))) (hb_M a b c d).length 0 (by omega) a5 a6 a7 a8 a9 (fun j hj => absurd hj (by omega))⟩) (fun z => absurd z (by omega))
  | succ r ih =>
    intro k hk X Y Z W P h
    refine pk_le 8 k (fun z => absurd z (by omega)) (fun _ => ⟨9, ?_⟩)
    have e0 : hb_K a b c d 8 ++ hb_CC a b c d k ++ hb_C a b c d k 0 = hb_K a b c d 8 ++ hb_CC a b c d k := List.append_nil _
    have t := hb_ap109 (post := post) (J := wX_applyPlane_99 post (nI 6) (r + 1)) (cc := cc) (bu := bu) (kn := kn) (bt := bt) (bb := bb) (a1 := a1) (a2 := a2) (a3 := a3) (a4 := a4) (a16 := a16) (a17 := a17) (a18 := a18) (a19 := a19) (a20 := a20) (a21 := a21) hR (show k < 8 by omega) hc h15 (fun X' Y' Z' W' P' h' => ?_) 8 0 (by omega) X Y Z W P (by rw [e0]; exact h)
    · rw [e0] at t
      exact t
    · have e8 : hb_K a b c d 8 ++ hb_CC a b c d k ++ hb_C a b c d k 8 = hb_K a b c d 8 ++ hb_CC a b c d (k + 1) := List.append_assoc _ _ _
      rw [e8] at h' ⊢
      exact ih (k + 1) (by omega) X' Y' Z' W' P' h'
theorem hb_ap7 {post : St2 → Prop} {cc bu kn : Int32} {bt bb : Int64} {a1 a2 a3 a4 a5 a6 a7 a8 a9 a16 a17 a18 a19 a20 a21 : Nat → Int32} {a b c d : Int} (hR : hb_R a b c d) (h6 : hb_on6 a b c d a1 a2 a3 a4)
    (hc : hb_cu8 a5 a6 a7 a8 a9)
    (H : ∀ (X Y Z W P X' Y' Z' W' P' : Nat → Int32) (I : Nat → Int64), hb_rep (hb_M a b c d) X Y Z W P → post (cc, bu, nI (hb_M a b c d).length, nI (hb_M a b c d).length, kn, bt, bb, a1, a2, a3, a4, X, Y, Z, W, P, X', Y', Z', W', P', I, a16, a17, a18, a19, a20, a21)) :
    ∀ (r k : Nat), k + r = 8 → ∀ (X Y Z W P : Nat → Int32) (I : Nat → Int64), hb_rep (hb_K a b c d k) X Y Z W P → (∀ j, j < k → I j = hb_l (hb_D a b c d j)) →
      wX_applyPlane_7 post (nI 6) (r + 1) (nI k) cc bu (nI 8) (nI (hb_K a b c d k).length) kn bt bb a1 a2 a3 a4 a5 a6 a7 a8 a9 X Y Z W P I a16 a17 a18 a19 a20 a21 := by
  intro r
  induction r with
  | zero =>
    intro k hk X Y Z W P I h h15
    have e : k = 8 := by omega
    subst e
    have e0 : hb_K a b c d 8 ++ hb_CC a b c d 0 = hb_K a b c d 8 := List.append_nil _
    refine pk_le 8 8 (fun _ => ⟨9, ?_⟩) (fun z => absurd z (by omega))
    have t := hb_ap99 (post := post) (cc := cc) (bu := bu) (kn := kn) (bt := bt) (bb := bb) (a1 := a1) (a2 := a2) (a3 := a3) (a4 := a4) (a16 := a16) (a17 := a17) (a18 := a18) (a19 := a19) (a20 := a20) (a21 := a21) hR hc h15 (fun X Y Z W P X' Y' Z' W' P' h' => H X Y Z W P X' Y' Z' W' P' I h') 8 0 (by omega) X Y Z W P (by rw [e0]; exact h)
    rw [e0] at t
    exact t
  | succ r ih =>
    intro k hk X Y Z W P I h h15
    have ik := pk_in (x := nI k) k 64 (by omega)
    have bk := hb_D_le hR k
    have lk := hb_K_len a b c d k
    refine pk_le 8 k (fun z => absurd z (by omega)) (fun _ => hb_dist hR h6 (by omega) (hc k (by omega)) ⟨ik, nm_e ⟨ik, ?_⟩⟩)
    have e15 : ∀ j, j < k + 1 → vp_updL I k (hb_l (hb_D a b c d k)) j = hb_l (hb_D a b c d j) := by
      intro j hj
      by_cases e : j = k
      · rw [e, pk_uLs]
      · rw [pk_uLn e]
        exact h15 j (by omega)
    rw [nI_clamp (show k < 2 ^ 31 by omega), pk_uLs]
    refine br_c (fun g => nm_r (nI_1 k) ?_) (fun g => ⟨ik, ik, ik, ik, ik, ik, ?_⟩)
    · rw [← hb_l0, hb_llt (by omega) (by omega) (by omega) (by omega)] at g
      have e : hb_K a b c d (k + 1) = hb_K a b c d k := by
        show hb_K a b c d k ++ _ = _
        rw [if_neg (by omega), List.append_nil]
      have t := ih (k + 1) (by omega) X Y Z W P (vp_updL I k (hb_l (hb_D a b c d k))) (by rw [e]; exact h) e15
      rw [e] at t
      exact t
    · rw [← hb_l0, hb_llt (by omega) (by omega) (by omega) (by omega)] at g
      have e : hb_K a b c d (k + 1) = hb_K a b c d k ++ [hb_kept a b c d k] := by
        show hb_K a b c d k ++ _ = _
        rw [if_pos (by omega)]
      have ck := hc k (by omega)
      have k5 : a5 k = hb_i (hb_X k) := congrArg (fun t => t.1) ck
      have k6 : a6 k = hb_i (hb_Y k) := congrArg (fun t => t.2.1) ck
      have k7 : a7 k = hb_i (hb_Z k) := congrArg (fun t => t.2.2.1) ck
      have k8 : a8 k = hb_i 1 := congrArg (fun t => t.2.2.2.1) ck
      have k9 : a9 k = hb_P k := congrArg (fun t => t.2.2.2.2) ck
      rw [k5, k6, k7, k8, k9, hb_shl6]
      have cond : hb_l (hb_D a b c d k) = 0 ↔ hb_D a b c d k = 0 := by
        rw [← hb_l0, hb_leq (by omega) (by omega) (by omega) (by omega)]
      refine hb_ite (fun z => wX_applyPlane_87 post (wX_applyPlane_7 post (nI 6) (r + 1)) (nI 6) (nI k) z (hb_P k) (hb_i 1) (hb_i (hb_Z k)) (hb_i (hb_Y k)) (hb_i (hb_X k)) cc bu (nI 8) (nI (hb_K a b c d k).length) kn bt bb a1 a2 a3 a4 a5 a6 a7 a8 a9 X Y Z W P (vp_updL I k (hb_l (hb_D a b c d k))) a16 a17 a18 a19 a20 a21) cond ?_
      refine hb_addMade h (by omega) (fun X' Y' Z' W' P' h' => nm_r (nI_1 k) ?_)
      have t := ih (k + 1) (by omega) X' Y' Z' W' P' (vp_updL I k (hb_l (hb_D a b c d k))) (by rw [e]; exact h') e15
      rw [e] at t
      exact t
theorem hb_apply {post : St2 → Prop} {cc bu mn kn : Int32} {bt bb : Int64} {a1 a2 a3 a4 a5 a6 a7 a8 a9 a10 a11 a12 a13 a14 a16 a17 a18 a19 a20 a21 : Nat → Int32} {a15 : Nat → Int64} {a b c d : Int} (hR : hb_R a b c d) (h6 : hb_on6 a b c d a1 a2 a3 a4) (hc : hb_cu8 a5 a6 a7 a8 a9)
    (H : ∀ (X Y Z W P X' Y' Z' W' P' : Nat → Int32) (I : Nat → Int64), hb_rep (hb_M a b c d) X Y Z W P → post (cc, bu, nI (hb_M a b c d).length, nI (hb_M a b c d).length, kn, bt, bb, a1, a2, a3, a4, X, Y, Z, W, P, X', Y', Z', W', P', I, a16, a17, a18, a19, a20, a21)) :
    wpX_applyPlane post (cc, bu, nI 8, mn, kn, bt, bb, a1, a2, a3, a4, a5, a6, a7, a8, a9, a10, a11, a12, a13, a14, a15, a16, a17, a18, a19, a20, a21) (nI 6) :=
  ⟨9, hb_ap7 hR h6 hc H 8 0 (by omega) a10 a11 a12 a13 a14 a15 (fun j hj => absurd hj (Nat.not_lt_zero j)) (fun j hj => absurd hj (Nat.not_lt_zero j))⟩
end
section
/-! buildWithout, build -/
theorem hb_rep_KC {X Y Z W P : Nat → Int32} (h : hb_cu8 X Y Z W P) : hb_rep hb_KC X Y Z W P := fun j hj => (h j hj).trans (hb_KCat j hj).symm
theorem hb_bwS {post : St2 → Prop} {cc bu cn mn kn : Int32} {bt bb : Int64} {a1 a2 a3 a4 a5 a6 a7 a8 a9 a10 a11 a12 a13 a14 a16 a17 a18 a19 a20 a21 : Nat → Int32} {a15 : Nat → Int64} {t : Nat} {x : Int32} (hcc : cc = nI t) (ht : t = 0 ∨ (t = 1 ∧ x = nI 6))
    (H : ∀ X Y Z W P : Nat → Int32, hb_srt hb_KC X Y Z W P → post (cc, bu, nI hb_KC.length, mn, kn, bt, bb, a1, a2, a3, a4, X, Y, Z, W, P, a10, a11, a12, a13, a14, a15, a16, a17, a18, a19, a20, a21)) : wpX_buildWithout post (cc, bu, cn, mn, kn, bt, bb, a1, a2, a3, a4, a5, a6, a7, a8, a9, a10, a11, a12, a13, a14, a15, a16, a17, a18, a19, a20, a21) x := by
  unfold wpX_buildWithout
  dsimp only
  refine hb_start (fun X Y Z W P h => ?_)
  rcases ht with rfl | ⟨rfl, rfl⟩
  · subst hcc
    exact ⟨1, pk_le 6 6 (fun _ => hb_sort (L := hb_KC) (by decide) (hb_rep_KC h) H) (fun z => absurd z (by omega)) (show (6 : Int32) + nI 0 = nI 6 from by decide)⟩
  · subst hcc
    exact ⟨2, pk_le 7 6 (fun z => absurd z (by omega)) (fun _ => br_t rfl (nm_r (e' := nI 7) (by decide) (pk_le 7 7 (fun _ => hb_sort (L := hb_KC) (by decide) (hb_rep_KC h) H) (fun z => absurd z (by omega)) (show (6 : Int32) + nI 1 = nI 7 from by decide)))) (show (6 : Int32) + nI 1 = nI 7 from by decide)⟩
theorem hb_bwC {post : St2 → Prop} {cc bu cn mn kn : Int32} {bt bb : Int64} {a1 a2 a3 a4 a5 a6 a7 a8 a9 a10 a11 a12 a13 a14 a16 a17 a18 a19 a20 a21 : Nat → Int32} {a15 : Nat → Int64} {a b c d : Int} (hR : hb_R a b c d) (h6 : hb_on6 a b c d a1 a2 a3 a4) (hcc : cc = nI 1)
    (H : ∀ (m : Int32) (X Y Z W P X' Y' Z' W' P' : Nat → Int32) (I : Nat → Int64), hb_srt (hb_M a b c d) X Y Z W P → post (cc, bu, nI (hb_M a b c d).length, m, kn, bt, bb, a1, a2, a3, a4, X, Y, Z, W, P, X', Y', Z', W', P', I, a16, a17, a18, a19, a20, a21)) : wpX_buildWithout post (cc, bu, cn, mn, kn, bt, bb, a1, a2, a3, a4, a5, a6, a7, a8, a9, a10, a11, a12, a13, a14, a15, a16, a17, a18, a19, a20, a21) (-1) := by
  unfold wpX_buildWithout
  dsimp only
  refine hb_start (fun X Y Z W P h => ?_)
  subst hcc
  have hM := hb_M_len a b c d
  refine ⟨2, pk_le 7 6 (fun z => absurd z (by omega)) (fun _ => br_f (by decide) ?_) (show (6 : Int32) + nI 1 = nI 7 from by decide)⟩
  refine hb_apply hR h6 h (fun X Y Z W P X' Y' Z' W' P' I h' => nm_r (e' := nI 7) (by decide) (pk_le 7 7 (fun _ => ?_) (fun z => absurd z (by omega)) (show (6 : Int32) + nI 1 = nI 7 from by decide)))
  exact hb_sort (by omega) h' (fun X Y Z W P hs => H _ X Y Z W P X' Y' Z' W' P' I hs)
/-! the state between the law's calls: t cuts; plane 6 holds a b c d; the corners, if they are built, are L's -/
def hb_L (t : Nat) (a b c d : Int) : List hb_Q := if t = 0 then hb_KC else hb_M a b c d
def hb_nA (p : Nat) : Int32 := if p = 0 then 1 else if p = 1 then -1 else 0
def hb_nB (p : Nat) : Int32 := if p = 2 then 1 else if p = 3 then -1 else 0
def hb_nC (p : Nat) : Int32 := if p = 4 then 1 else if p = 5 then -1 else 0
def hb_pl (a b c d : Int) (a1 a2 a3 a4 : Nat → Int32) : Prop := (∀ p, p < 6 → a1 p = hb_nA p ∧ a2 p = hb_nB p ∧ a3 p = hb_nC p) ∧ hb_on6 a b c d a1 a2 a3 a4
def hb_ok (t : Nat) (a b c d : Int) (u : St2) : Prop := match u with
  | (cc, bu, cn, mn, kn, bt, bb, a1, a2, a3, a4, a5, a6, a7, a8, a9, a10, a11, a12, a13, a14, a15, a16, a17, a18, a19, a20, a21) => cc = nI t ∧ hb_pl a b c d a1 a2 a3 a4 ∧ (bu = 0 ∨ (cn = nI (hb_L t a b c d).length ∧ hb_srt (hb_L t a b c d) a5 a6 a7 a8 a9))
def hb_bd (t : Nat) (a b c d : Int) (u : St2) : Prop := match u with
  | (cc, bu, cn, mn, kn, bt, bb, a1, a2, a3, a4, a5, a6, a7, a8, a9, a10, a11, a12, a13, a14, a15, a16, a17, a18, a19, a20, a21) => cc = nI t ∧ hb_pl a b c d a1 a2 a3 a4 ∧ cn = nI (hb_L t a b c d).length ∧ hb_srt (hb_L t a b c d) a5 a6 a7 a8 a9
theorem hb_build {post : St2 → Prop} {t : Nat} {a b c d : Int} {u : St2} (ht : t = 0 ∨ t = 1) (hR : hb_R a b c d) (hu : hb_ok t a b c d u) (H : ∀ u', hb_bd t a b c d u' → post u') : wpX_build post u := by
  obtain ⟨cc, bu, cn, mn, kn, bt, bb, a1, a2, a3, a4, a5, a6, a7, a8, a9, a10, a11, a12, a13, a14, a15, a16, a17, a18, a19, a20, a21⟩ := u
  obtain ⟨hcc, hpl, hb⟩ := hu
  refine br_c (fun h0 => ?_) (fun h0 => ?_)
  · rcases ht with rfl | rfl
    · exact hb_bwS hcc (Or.inl rfl) (fun X Y Z W P hs => H _ ⟨hcc, hpl, rfl, hs⟩)
    · exact hb_bwC hR hpl.2 hcc (fun m X Y Z W P X' Y' Z' W' P' I hs => H _ ⟨hcc, hpl, rfl, hs⟩)
  · rcases hb with hb | ⟨h1, h2⟩
    · exact absurd hb h0
    · exact H _ ⟨hcc, hpl, h1, h2⟩
theorem hb_ok_of {t : Nat} {a b c d : Int} {u : St2} (h : hb_bd t a b c d u) : hb_ok t a b c d u := by
  obtain ⟨cc, bu, cn, mn, kn, bt, bb, a1, a2, a3, a4, a5, a6, a7, a8, a9, a10, a11, a12, a13, a14, a15, a16, a17, a18, a19, a20, a21⟩ := u
  exact ⟨h.1, h.2.1, Or.inr h.2.2⟩
/-! corners -/
theorem hb_corners {post : Int32 → St2 → Prop} {t : Nat} {a b c d : Int} {u : St2} (ht : t = 0 ∨ t = 1) (hR : hb_R a b c d) (hu : hb_ok t a b c d u) (H : ∀ u', post (nI (hb_L t a b c d).length) u') : wpX_corners post u := by
  obtain ⟨cc, bu, cn, mn, kn, bt, bb, a1, a2, a3, a4, a5, a6, a7, a8, a9, a10, a11, a12, a13, a14, a15, a16, a17, a18, a19, a20, a21⟩ := u
  unfold wpX_corners
  dsimp only
  refine hb_build ht hR hu (fun u' h => ?_)
  obtain ⟨cc, bu, cn, mn, kn, bt, bb, a1, a2, a3, a4, a5, a6, a7, a8, a9, a10, a11, a12, a13, a14, a15, a16, a17, a18, a19, a20, a21⟩ := u'
  obtain ⟨_, _, hcn, _⟩ := h
  subst hcn
  exact H _
end
section
/-! nextPlane, areParallel, determinant, rankOf -/
theorem hb_np2 {post : Int32 → Prop} {cc bu cn mn kn : Int32} {bt bb : Int64} {a1 a2 a3 a4 a5 a6 a7 a8 a9 a10 a11 a12 a13 a14 a16 a17 a18 a19 a20 a21 : Nat → Int32} {a15 : Nat → Int64} {x : Int32} {q : Nat} (hq : q < 16) (hb : hb_b x q = true) (H : post (nI q)) :
    ∀ (r i : Nat), i + r = q → (∀ p, i ≤ p → p < q → hb_b x p = false) → wX_nextPlane_2 post x cc bu cn mn kn bt bb a1 a2 a3 a4 a5 a6 a7 a8 a9 a10 a11 a12 a13 a14 a15 a16 a17 a18 a19 a20 a21 (r + 1) (nI i) := by
  intro r
  induction r with
  | zero =>
    intro i hi h
    have e : i = q := by omega
    subst e
    refine pk_le 16 i (fun z => absurd z (by omega)) (fun _ => br_f (fun z => ?_) H)
    rw [(hb_bit (by omega)).mp z] at hb
    exact absurd hb (by decide)
  | succ r ih =>
    intro i hi h
    exact pk_le 16 i (fun z => absurd z (by omega)) (fun _ => br_t ((hb_bit (by omega)).mpr (h i (by omega) (by omega))) (nm_r (nI_1 i) (ih (i + 1) (by omega) (fun p h1 h2 => h p (by omega) h2))))
theorem hb_np {post : Int32 → Prop} {cc bu cn mn kn : Int32} {bt bb : Int64} {a1 a2 a3 a4 a5 a6 a7 a8 a9 a10 a11 a12 a13 a14 a16 a17 a18 a19 a20 a21 : Nat → Int32} {a15 : Nat → Int64} {x : Int32} (i q : Nat) (hi : i ≤ q) (hq : q < 16) (hb : hb_b x q = true) (hn : ∀ p, i ≤ p → p < q → hb_b x p = false) (H : post (nI q)) : wpX_nextPlane post (cc, bu, cn, mn, kn, bt, bb, a1, a2, a3, a4, a5, a6, a7, a8, a9, a10, a11, a12, a13, a14, a15, a16, a17, a18, a19, a20, a21) x (nI i) :=
  ⟨q - i + 1, hb_np2 hq hb H (q - i) i (by omega) hn⟩
theorem hb_npN2 {post : Int32 → Prop} {cc bu cn mn kn : Int32} {bt bb : Int64} {a1 a2 a3 a4 a5 a6 a7 a8 a9 a10 a11 a12 a13 a14 a16 a17 a18 a19 a20 a21 : Nat → Int32} {a15 : Nat → Int64} {x : Int32} (H : post (-1)) :
    ∀ (r i : Nat), i + r = 16 → (∀ p, i ≤ p → p < 16 → hb_b x p = false) → wX_nextPlane_2 post x cc bu cn mn kn bt bb a1 a2 a3 a4 a5 a6 a7 a8 a9 a10 a11 a12 a13 a14 a15 a16 a17 a18 a19 a20 a21 (r + 1) (nI i) := by
  intro r
  induction r with
  | zero =>
    intro i hi h
    exact pk_le 16 i (fun _ => H) (fun z => absurd z (by omega))
  | succ r ih =>
    intro i hi h
    exact pk_le 16 i (fun z => absurd z (by omega)) (fun _ => br_t ((hb_bit (by omega)).mpr (h i (by omega) (by omega))) (nm_r (nI_1 i) (ih (i + 1) (by omega) (fun p h1 h2 => h p (by omega) h2))))
theorem hb_npN {post : Int32 → Prop} {cc bu cn mn kn : Int32} {bt bb : Int64} {a1 a2 a3 a4 a5 a6 a7 a8 a9 a10 a11 a12 a13 a14 a16 a17 a18 a19 a20 a21 : Nat → Int32} {a15 : Nat → Int64} {x : Int32} (i : Nat) (hi : i ≤ 16) (hn : ∀ p, i ≤ p → p < 16 → hb_b x p = false) (H : post (-1)) : wpX_nextPlane post (cc, bu, cn, mn, kn, bt, bb, a1, a2, a3, a4, a5, a6, a7, a8, a9, a10, a11, a12, a13, a14, a15, a16, a17, a18, a19, a20, a21) x (nI i) :=
  ⟨16 - i + 1, hb_npN2 H (16 - i) i (by omega) hn⟩
def hb_isp (a1 a2 a3 : Nat → Int32) (p q : Nat) : Prop := (a2 p * a3 q) - (a3 p * a2 q) = 0 ∧ (a3 p * a1 q) - (a1 p * a3 q) = 0 ∧ (a1 p * a2 q) - (a2 p * a1 q) = 0
def hb_dt (a1 a2 a3 : Nat → Int32) (p q r : Nat) : Int32 := ((((a2 p * a3 q) - (a3 p * a2 q)) * a1 r) + (((a3 p * a1 q) - (a1 p * a3 q)) * a2 r)) + (((a1 p * a2 q) - (a2 p * a1 q)) * a3 r)
theorem hb_par {post : Int32 → Prop} {cc bu cn mn kn : Int32} {bt bb : Int64} {a1 a2 a3 a4 a5 a6 a7 a8 a9 a10 a11 a12 a13 a14 a16 a17 a18 a19 a20 a21 : Nat → Int32} {a15 : Nat → Int64} {p q : Nat} (hp : p < 16) (hq : q < 16) (H0 : ¬ hb_isp a1 a2 a3 p q → post 0) (H1 : hb_isp a1 a2 a3 p q → post 1) : wpX_areParallel post (cc, bu, cn, mn, kn, bt, bb, a1, a2, a3, a4, a5, a6, a7, a8, a9, a10, a11, a12, a13, a14, a15, a16, a17, a18, a19, a20, a21) (nI p) (nI q) := by
  unfold wpX_areParallel
  dsimp only
  rw [nI_clamp (show p < 2 ^ 31 by omega), nI_clamp (show q < 2 ^ 31 by omega)]
  have ip := pk_in (x := nI p) p 16 hp
  have iq := pk_in (x := nI q) q 16 hq
  exact ⟨ip, iq, ip, iq, nm_e ⟨ip, iq, ip, iq, nm_e ⟨ip, iq, ip, iq, nm_e (br_c (fun h1 => br_c (fun h2 => br_c (fun h3 => H1 ⟨h1, h2, h3⟩) (fun h3 => H0 (fun t => h3 t.2.2))) (fun h2 => H0 (fun t => h2 t.2.1))) (fun h1 => H0 (fun t => h1 t.1)))⟩⟩⟩
theorem hb_det {post : Int32 → Prop} {cc bu cn mn kn : Int32} {bt bb : Int64} {a1 a2 a3 a4 a5 a6 a7 a8 a9 a10 a11 a12 a13 a14 a16 a17 a18 a19 a20 a21 : Nat → Int32} {a15 : Nat → Int64} {p q r : Nat} (hp : p < 16) (hq : q < 16) (hr : r < 16) (H : post (hb_dt a1 a2 a3 p q r)) : wpX_determinant post (cc, bu, cn, mn, kn, bt, bb, a1, a2, a3, a4, a5, a6, a7, a8, a9, a10, a11, a12, a13, a14, a15, a16, a17, a18, a19, a20, a21) (nI p) (nI q) (nI r) := by
  unfold wpX_determinant
  dsimp only
  rw [nI_clamp (show p < 2 ^ 31 by omega), nI_clamp (show q < 2 ^ 31 by omega), nI_clamp (show r < 2 ^ 31 by omega)]
  have ip := pk_in (x := nI p) p 16 hp
  have iq := pk_in (x := nI q) q 16 hq
  have ir := pk_in (x := nI r) r 16 hr
  exact ⟨ip, iq, ip, iq, nm_e ⟨ip, iq, ip, iq, nm_e ⟨ip, iq, ip, iq, nm_e ⟨ir, ir, ir, H⟩⟩⟩⟩
theorem hb_off {x : Int32} {p : Nat} {A : Prop} (h : hb_b x p = true ↔ A) (hA : ¬ A) : hb_b x p = false := Bool.eq_false_iff.mpr (fun t => hA (h.mp t))
theorem hb_rk0 {post : Int32 → Prop} {cc bu cn mn kn : Int32} {bt bb : Int64} {a1 a2 a3 a4 a5 a6 a7 a8 a9 a10 a11 a12 a13 a14 a16 a17 a18 a19 a20 a21 : Nat → Int32} {a15 : Nat → Int64} {x : Int32} (h : ∀ p, p < 16 → hb_b x p = false) (H : post 0) : wpX_rankOf post (cc, bu, cn, mn, kn, bt, bb, a1, a2, a3, a4, a5, a6, a7, a8, a9, a10, a11, a12, a13, a14, a15, a16, a17, a18, a19, a20, a21) x := by
  exact hb_npN 0 (by omega) (fun p _ hp => h p hp) (br_f (by decide) H)
theorem hb_rk1 {post : Int32 → Prop} {cc bu cn mn kn : Int32} {bt bb : Int64} {a1 a2 a3 a4 a5 a6 a7 a8 a9 a10 a11 a12 a13 a14 a16 a17 a18 a19 a20 a21 : Nat → Int32} {a15 : Nat → Int64} {x : Int32} {f : Nat} (hf : f < 6) (h : ∀ p, p < 16 → (hb_b x p = true ↔ (p = f ∨ p = 6))) (hp : hb_isp a1 a2 a3 f 6) (H : post 1) : wpX_rankOf post (cc, bu, cn, mn, kn, bt, bb, a1, a2, a3, a4, a5, a6, a7, a8, a9, a10, a11, a12, a13, a14, a15, a16, a17, a18, a19, a20, a21) x := by
  refine hb_np 0 f (by omega) (by omega) ((h f (by omega)).mpr (Or.inl rfl)) (fun p h1 h2 => hb_off (h p (by omega)) (by omega)) (br_t (nI_pos' (by omega)) ?_)
  rw [nI_1]
  refine hb_np (f + 1) 6 (by omega) (by omega) ((h 6 (by omega)).mpr (Or.inr rfl)) (fun p h1 h2 => hb_off (h p (by omega)) (by omega)) ⟨2, ?_⟩
  refine pk_lt 6 0 (fun z => absurd z (by omega)) (fun _ => hb_par (by omega) (by omega) (fun z => absurd hp z) (fun _ => br_f (by decide) ?_))
  rw [nI_1]
  exact hb_npN 7 (by omega) (fun p h1 h2 => hb_off (h p h2) (by omega)) (br_t (by decide) (br_f (by decide) H))
theorem hb_rk2 {post : Int32 → Prop} {cc bu cn mn kn : Int32} {bt bb : Int64} {a1 a2 a3 a4 a5 a6 a7 a8 a9 a10 a11 a12 a13 a14 a16 a17 a18 a19 a20 a21 : Nat → Int32} {a15 : Nat → Int64} {x : Int32} {f s : Nat} (hf : f < s) (hs : s < 6) (h : ∀ p, p < 16 → (hb_b x p = true ↔ (p = f ∨ p = s ∨ p = 6))) (hp : ¬ hb_isp a1 a2 a3 f s) (hd : hb_dt a1 a2 a3 f s 6 = 0) (H : post 2) : wpX_rankOf post (cc, bu, cn, mn, kn, bt, bb, a1, a2, a3, a4, a5, a6, a7, a8, a9, a10, a11, a12, a13, a14, a15, a16, a17, a18, a19, a20, a21) x := by
  refine hb_np 0 f (by omega) (by omega) ((h f (by omega)).mpr (Or.inl rfl)) (fun p h1 h2 => hb_off (h p (by omega)) (by omega)) (br_t (nI_pos' (by omega)) ?_)
  rw [nI_1]
  refine hb_np (f + 1) s (by omega) (by omega) ((h s (by omega)).mpr (Or.inr (Or.inl rfl))) (fun p h1 h2 => hb_off (h p (by omega)) (by omega)) ⟨1, ?_⟩
  refine pk_lt s 0 (fun z => absurd z (by omega)) (fun _ => hb_par (by omega) (by omega) (fun _ => br_t rfl (br_t (nI_pos' (by omega)) ?_)) (fun z => absurd z hp))
  rw [nI_1]
  refine hb_np (s + 1) 6 (by omega) (by omega) ((h 6 (by omega)).mpr (Or.inr (Or.inr rfl))) (fun p h1 h2 => hb_off (h p (by omega)) (by omega)) ⟨2, ?_⟩
  refine pk_lt 6 0 (fun z => absurd z (by omega)) (fun _ => hb_det (by omega) (by omega) (by omega) (br_t hd ?_))
  rw [nI_1]
  exact hb_npN 7 (by omega) (fun p h1 h2 => hb_off (h p h2) (by omega)) (br_t (by decide) (br_f (by decide) H))
theorem hb_rk3 {post : Int32 → Prop} {cc bu cn mn kn : Int32} {bt bb : Int64} {a1 a2 a3 a4 a5 a6 a7 a8 a9 a10 a11 a12 a13 a14 a16 a17 a18 a19 a20 a21 : Nat → Int32} {a15 : Nat → Int64} {x : Int32} {f s t : Nat} (hf : f < s) (hs : s < t) (ht : t < 6) (h : ∀ p, p < 16 → (hb_b x p = true ↔ (p = f ∨ p = s ∨ p = t ∨ p = 6))) (hp : ¬ hb_isp a1 a2 a3 f s) (hd : ¬ hb_dt a1 a2 a3 f s t = 0) (H : post 3) : wpX_rankOf post (cc, bu, cn, mn, kn, bt, bb, a1, a2, a3, a4, a5, a6, a7, a8, a9, a10, a11, a12, a13, a14, a15, a16, a17, a18, a19, a20, a21) x := by
  refine hb_np 0 f (by omega) (by omega) ((h f (by omega)).mpr (Or.inl rfl)) (fun p h1 h2 => hb_off (h p (by omega)) (by omega)) (br_t (nI_pos' (by omega)) ?_)
  rw [nI_1]
  refine hb_np (f + 1) s (by omega) (by omega) ((h s (by omega)).mpr (Or.inr (Or.inl rfl))) (fun p h1 h2 => hb_off (h p (by omega)) (by omega)) ⟨1, ?_⟩
  refine pk_lt s 0 (fun z => absurd z (by omega)) (fun _ => hb_par (by omega) (by omega) (fun _ => br_t rfl (br_t (nI_pos' (by omega)) ?_)) (fun z => absurd z hp))
  rw [nI_1]
  refine hb_np (s + 1) t (by omega) (by omega) ((h t (by omega)).mpr (Or.inr (Or.inr (Or.inl rfl)))) (fun p h1 h2 => hb_off (h p (by omega)) (by omega)) ⟨1, ?_⟩
  exact pk_lt t 0 (fun z => absurd z (by omega)) (fun _ => hb_det (by omega) (by omega) (by omega) (br_f hd (br_t (nI_pos' (by omega)) H)))
/-! the ranks that the law asks for -/
theorem hb_rkOn {post : Int32 → Prop} {cc bu cn mn kn : Int32} {bt bb : Int64} {a1 a2 a3 a4 a5 a6 a7 a8 a9 a10 a11 a12 a13 a14 a16 a17 a18 a19 a20 a21 : Nat → Int32} {a15 : Nat → Int64} {a b c d : Int} (hpl : hb_pl a b c d a1 a2 a3 a4) (hz : ¬ (a = 0 ∧ b = 0 ∧ c = 0)) {x : Int32} (hx : ∀ p, p < 16 → (hb_b x p = true ↔ hb_on a b c p)) (H : post (nI (hb_to a b c))) : wpX_rankOf (fun r => post (3 - r)) (cc, bu, cn, mn, kn, bt, bb, a1, a2, a3, a4, a5, a6, a7, a8, a9, a10, a11, a12, a13, a14, a15, a16, a17, a18, a19, a20, a21) x := by
  obtain ⟨hn, e1, e2, e3, _⟩ := hpl
  have hpx : hb_px a < 2 := by unfold hb_px; split <;> omega
  have hpy : 2 ≤ hb_py b ∧ hb_py b < 4 := by unfold hb_py; split <;> omega
  have hpz : 4 ≤ hb_pz c ∧ hb_pz c < 6 := by unfold hb_pz; split <;> omega
  have X1 : (a1 (hb_px a) = 1 ∨ a1 (hb_px a) = -1) ∧ a2 (hb_px a) = 0 ∧ a3 (hb_px a) = 0 := by
    obtain ⟨t1, t2, t3⟩ := hn (hb_px a) (by omega)
    rw [t1, t2, t3]
    unfold hb_px
    split <;> decide
  have Y1 : (a2 (hb_py b) = 1 ∨ a2 (hb_py b) = -1) ∧ a1 (hb_py b) = 0 ∧ a3 (hb_py b) = 0 := by
    obtain ⟨t1, t2, t3⟩ := hn (hb_py b) (by omega)
    rw [t1, t2, t3]
    unfold hb_py
    split <;> decide
  have Z1 : (a3 (hb_pz c) = 1 ∨ a3 (hb_pz c) = -1) ∧ a1 (hb_pz c) = 0 ∧ a2 (hb_pz c) = 0 := by
    obtain ⟨t1, t2, t3⟩ := hn (hb_pz c) (by omega)
    rw [t1, t2, t3]
    unfold hb_pz
    split <;> decide
  obtain ⟨X1, X2, X3⟩ := X1
  obtain ⟨Y1, Y2, Y3⟩ := Y1
  obtain ⟨Z1, Z2, Z3⟩ := Z1
  have nXY : ¬ hb_isp a1 a2 a3 (hb_px a) (hb_py b) := by
    rintro ⟨_, _, t⟩
    rw [X2, Y2] at t
    rcases X1 with h | h <;> rcases Y1 with h' | h' <;> rw [h, h'] at t <;> exact absurd t (by decide)
  have nXZ : ¬ hb_isp a1 a2 a3 (hb_px a) (hb_pz c) := by
    rintro ⟨_, t, _⟩
    rw [X3, Z2] at t
    rcases X1 with h | h <;> rcases Z1 with h' | h' <;> rw [h, h'] at t <;> exact absurd t (by decide)
  have nYZ : ¬ hb_isp a1 a2 a3 (hb_py b) (hb_pz c) := by
    rintro ⟨t, _, _⟩
    rw [Y3, Z3] at t
    rcases Y1 with h | h <;> rcases Z1 with h' | h' <;> rw [h, h'] at t <;> exact absurd t (by decide)
  unfold hb_to at H
  by_cases ha : a = 0
  · rw [ha] at e1
    rw [if_pos ha] at H
    by_cases hb : b = 0
    · rw [hb] at e2
      rw [if_pos hb] at H
      by_cases hc : c = 0
      · exact absurd ⟨ha, hb, hc⟩ hz
      · rw [if_neg hc] at H
        refine hb_rk1 (f := hb_pz c) (by omega) (fun p hp => ?_) ?_ (ek_v (P := post) (by decide) H)
        · rw [hx p hp]; unfold hb_on; omega
        · unfold hb_isp
          rw [e1, e2, Z2, Z3, hb_i0]
          refine ⟨?_, ?_, ?_⟩ <;> grind
    · rw [if_neg hb] at H
      by_cases hc : c = 0
      · rw [hc] at e3
        rw [if_pos hc] at H
        refine hb_rk1 (f := hb_py b) (by omega) (fun p hp => ?_) ?_ (ek_v (P := post) (by decide) H)
        · rw [hx p hp]; unfold hb_on; omega
        · unfold hb_isp
          rw [e1, e3, Y2, Y3, hb_i0]
          refine ⟨?_, ?_, ?_⟩ <;> grind
      · rw [if_neg hc] at H
        refine hb_rk2 (f := hb_py b) (s := hb_pz c) (by omega) (by omega) (fun p hp => ?_) nYZ ?_ (ek_v (P := post) (by decide) H)
        · rw [hx p hp]; unfold hb_on; omega
        · unfold hb_dt
          rw [e1, Y2, Y3, Z2, Z3, hb_i0]
          grind
  · rw [if_neg ha] at H
    by_cases hb : b = 0
    · rw [hb] at e2
      rw [if_pos hb] at H
      by_cases hc : c = 0
      · rw [hc] at e3
        rw [if_pos hc] at H
        refine hb_rk1 (f := hb_px a) (by omega) (fun p hp => ?_) ?_ (ek_v (P := post) (by decide) H)
        · rw [hx p hp]; unfold hb_on; omega
        · unfold hb_isp
          rw [e2, e3, X2, X3, hb_i0]
          refine ⟨?_, ?_, ?_⟩ <;> grind
      · rw [if_neg hc] at H
        refine hb_rk2 (f := hb_px a) (s := hb_pz c) (by omega) (by omega) (fun p hp => ?_) nXZ ?_ (ek_v (P := post) (by decide) H)
        · rw [hx p hp]; unfold hb_on; omega
        · unfold hb_dt
          rw [e2, X2, X3, Z2, Z3, hb_i0]
          grind
    · rw [if_neg hb] at H
      by_cases hc : c = 0
      · rw [hc] at e3
        rw [if_pos hc] at H
        refine hb_rk2 (f := hb_px a) (s := hb_py b) (by omega) (by omega) (fun p hp => ?_) nXY ?_ (ek_v (P := post) (by decide) H)
        · rw [hx p hp]; unfold hb_on; omega
        · unfold hb_dt
          rw [e3, X2, X3, Y2, Y3, hb_i0]
          grind
      · rw [if_neg hc] at H
        refine hb_rk3 (f := hb_px a) (s := hb_py b) (t := hb_pz c) (by omega) (by omega) (by omega) (fun p hp => ?_) nXY ?_ (ek_v (P := post) (by decide) H)
        · rw [hx p hp]; unfold hb_on; omega
        · unfold hb_dt
          rw [X2, X3, Y2, Y3, Z2, Z3]
          rcases X1 with h | h <;> rcases Y1 with h' | h' <;> rcases Z1 with h'' | h'' <;> rw [h, h', h''] <;> decide
/-! dimensionNow, dimension -/
theorem hb_dn13 {post : Int32 → Prop} {cc bu mn kn : Int32} {bt bb : Int64} {a1 a2 a3 a4 a5 a6 a7 a8 a9 a10 a11 a12 a13 a14 a16 a17 a18 a19 a20 a21 : Nat → Int32} {a15 : Nat → Int64} {n : Nat} (hn : n ≤ 64) (H : ∀ x, (∀ p, p < 16 → (hb_b x p = true ↔ ∀ j, j < n → hb_b (a9 j) p = true)) → wpX_rankOf (fun r => post (3 - r)) (cc, bu, nI n, mn, kn, bt, bb, a1, a2, a3, a4, a5, a6, a7, a8, a9, a10, a11, a12, a13, a14, a15, a16, a17, a18, a19, a20, a21) x) :
    ∀ (r i : Nat), i + r = n → ∀ x, (∀ p, p < 16 → (hb_b x p = true ↔ ∀ j, j < i → hb_b (a9 j) p = true)) → wX_dimensionNow_13 post cc bu (nI n) mn kn bt bb a1 a2 a3 a4 a5 a6 a7 a8 a9 a10 a11 a12 a13 a14 a15 a16 a17 a18 a19 a20 a21 (r + 1) x (nI i) := by
  intro r
  induction r with
  | zero =>
    intro i hi x h
    have e : i = n := by omega
    subst e
    exact pk_le i i (fun _ => H x h) (fun z => absurd z (by omega))
  | succ r ih =>
    intro i hi x h
    refine pk_le n i (fun z => absurd z (by omega)) (fun _ => ⟨pk_in i 64 (by omega), nm_r (by rw [nI_clamp (show i < 2 ^ 31 by omega)]) (nm_r (nI_1 i) (ih (i + 1) (by omega) _ (fun p hp => ?_)))⟩)
    rw [hb_band, Bool.and_eq_true, h p hp]
    constructor
    · rintro ⟨t1, t2⟩ j hj
      by_cases e : j = i
      · rw [e]; exact t2
      · exact t1 j (by omega)
    · intro t
      exact ⟨fun j hj => t j (by omega), t i (by omega)⟩
theorem hb_dnL {post : Int32 → Prop} {cc bu cn mn kn : Int32} {bt bb : Int64} {a1 a2 a3 a4 a5 a6 a7 a8 a9 a10 a11 a12 a13 a14 a16 a17 a18 a19 a20 a21 : Nat → Int32} {a15 : Nat → Int64} {L : List hb_Q} (hL : L.length ≤ 64) (h0 : L ≠ []) (hcn : cn = nI L.length) (hs : hb_srt L a5 a6 a7 a8 a9)
    (H : ∀ x, (∀ p, p < 16 → (hb_b x p = true ↔ ∀ q, q ∈ L → hb_b q.2.2.2.2 p = true)) → wpX_rankOf (fun r => post (3 - r)) (cc, bu, cn, mn, kn, bt, bb, a1, a2, a3, a4, a5, a6, a7, a8, a9, a10, a11, a12, a13, a14, a15, a16, a17, a18, a19, a20, a21) x) : wpX_dimensionNow post (cc, bu, cn, mn, kn, bt, bb, a1, a2, a3, a4, a5, a6, a7, a8, a9, a10, a11, a12, a13, a14, a15, a16, a17, a18, a19, a20, a21) := by
  subst hcn
  have hl : L.length ≠ 0 := fun t => h0 (List.length_eq_zero_iff.mp t)
  refine pk_eq L.length 0 (fun z => absurd z hl) (fun _ => ⟨L.length + 1, hb_dn13 hL (fun x hx => H x (fun p hp => ?_)) L.length 0 (by omega) (-1) (fun p hp => ?_)⟩)
  · rw [hx p hp]
    constructor
    · intro t q hq
      obtain ⟨j, hj, e⟩ := hb_srt_ex hs hq
      rw [← e]
      exact t j hj
    · intro t j hj
      exact t _ (hb_srt_in hs hj)
  · rw [hb_bm1 p (by omega)]
    exact ⟨fun _ j hj => absurd hj (by omega), fun _ => rfl⟩
def hb_due (a b c d : Int) : Int32 := if -hb_far a b c < d then 3 else if d = -hb_far a b c then nI (hb_to a b c) else -1
theorem hb_dim1 {post : Int32 → Prop} {cc bu cn mn kn : Int32} {bt bb : Int64} {a1 a2 a3 a4 a5 a6 a7 a8 a9 a10 a11 a12 a13 a14 a16 a17 a18 a19 a20 a21 : Nat → Int32} {a15 : Nat → Int64} {a b c d : Int} (hR : hb_R a b c d) (hz : ¬ (a = 0 ∧ b = 0 ∧ c = 0)) (hpl : hb_pl a b c d a1 a2 a3 a4) (hcn : cn = nI (hb_M a b c d).length) (hs : hb_srt (hb_M a b c d) a5 a6 a7 a8 a9) (H : post (hb_due a b c d)) : wpX_dimensionNow post (cc, bu, cn, mn, kn, bt, bb, a1, a2, a3, a4, a5, a6, a7, a8, a9, a10, a11, a12, a13, a14, a15, a16, a17, a18, a19, a20, a21) := by
  have hM := hb_M_len a b c d
  unfold hb_due at H
  by_cases h1 : -hb_far a b c < d
  · rw [if_pos h1] at H
    refine hb_dnL (by omega) (fun t => ?_) hcn hs (fun x hx => hb_rk0 (fun p hp => ?_) (ek_v (P := post) (by decide) H))
    · obtain ⟨q, hq, _⟩ := hb_dim_hi h1 (show 0 < 16 by omega)
      rw [t] at hq
      exact absurd hq (by simp)
    · obtain ⟨q, hq, e⟩ := hb_dim_hi h1 hp
      refine hb_off (hx p hp) (fun t => ?_)
      rw [t q hq] at e
      exact absurd e (by decide)
  · rw [if_neg h1] at H
    by_cases h2 : d = -hb_far a b c
    · rw [if_pos h2] at H
      refine hb_dnL (by omega) (fun t => ?_) hcn hs (fun x hx => hb_rkOn hpl hz (fun p hp => (hx p hp).trans (hb_dim_eq hR h2 hp)) ?_)
      · have t' := hb_len_eq hR h2
        rw [t] at t'
        have := Nat.two_pow_pos (hb_to a b c)
        rw [List.length_nil] at t'
        omega
      · exact H
    · rw [if_neg h2] at H
      rw [hb_dim_lo (by omega)] at hcn
      subst hcn
      exact br_t rfl H
theorem hb_KCbit : ∀ p, p < 16 → (hb_b (hb_P 0) p = false ∨ hb_b (hb_P 7) p = false) := by decide +kernel
theorem hb_dim0 {post : Int32 → Prop} {cc bu cn mn kn : Int32} {bt bb : Int64} {a1 a2 a3 a4 a5 a6 a7 a8 a9 a10 a11 a12 a13 a14 a16 a17 a18 a19 a20 a21 : Nat → Int32} {a15 : Nat → Int64} (hcn : cn = nI hb_KC.length) (hs : hb_srt hb_KC a5 a6 a7 a8 a9) (H : post 3) : wpX_dimensionNow post (cc, bu, cn, mn, kn, bt, bb, a1, a2, a3, a4, a5, a6, a7, a8, a9, a10, a11, a12, a13, a14, a15, a16, a17, a18, a19, a20, a21) := by
  refine hb_dnL (by decide) (by unfold hb_KC; exact List.cons_ne_nil _ _) hcn hs (fun x hx => hb_rk0 (fun p hp => hb_off (hx p hp) (fun t => ?_)) (ek_v (P := post) (by decide) H))
  have t0 := t (hb_cube 0) (hb_at_mem (L := hb_KC) (j := 0) (by decide))
  have t7 := t (hb_cube 7) (hb_at_mem (L := hb_KC) (j := 7) (by decide))
  rcases hb_KCbit p hp with e | e
  · exact absurd (e.symm.trans t0) (by decide)
  · exact absurd (e.symm.trans t7) (by decide)
theorem hb_dimension1 {post : Int32 → St2 → Prop} {a b c d : Int} {u : St2} (hR : hb_R a b c d) (hz : ¬ (a = 0 ∧ b = 0 ∧ c = 0)) (hu : hb_ok 1 a b c d u) (H : ∀ u', hb_ok 1 a b c d u' → post (hb_due a b c d) u') : wpX_dimension post u := by
  obtain ⟨cc, bu, cn, mn, kn, bt, bb, a1, a2, a3, a4, a5, a6, a7, a8, a9, a10, a11, a12, a13, a14, a15, a16, a17, a18, a19, a20, a21⟩ := u
  unfold wpX_dimension
  dsimp only
  refine hb_build (Or.inr rfl) hR hu (fun u' h => ?_)
  obtain ⟨cc, bu, cn, mn, kn, bt, bb, a1, a2, a3, a4, a5, a6, a7, a8, a9, a10, a11, a12, a13, a14, a15, a16, a17, a18, a19, a20, a21⟩ := u'
  exact hb_dim1 hR hz h.2.1 h.2.2.1 h.2.2.2 (H _ (hb_ok_of h))
theorem hb_dimension0 {post : Int32 → St2 → Prop} {a b c d : Int} {u : St2} (hR : hb_R a b c d) (hu : hb_ok 0 a b c d u) (H : ∀ u', hb_ok 0 a b c d u' → post 3 u') : wpX_dimension post u := by
  obtain ⟨cc, bu, cn, mn, kn, bt, bb, a1, a2, a3, a4, a5, a6, a7, a8, a9, a10, a11, a12, a13, a14, a15, a16, a17, a18, a19, a20, a21⟩ := u
  unfold wpX_dimension
  dsimp only
  refine hb_build (Or.inl rfl) hR hu (fun u' h => ?_)
  obtain ⟨cc, bu, cn, mn, kn, bt, bb, a1, a2, a3, a4, a5, a6, a7, a8, a9, a10, a11, a12, a13, a14, a15, a16, a17, a18, a19, a20, a21⟩ := u'
  exact hb_dim0 h.2.2.1 h.2.2.2 (H _ (hb_ok_of h))
end
section
/-! keepCorners, needless -/
def hb_c4 (X Y Z W : Nat → Int32) (j : Nat) : Int32 × Int32 × Int32 × Int32 := (X j, Y j, Z j, W j)
theorem hb_fill4 {X Y Z W : Nat → Int32} {x y z w : Int32} {f : Nat → Int32 × Int32 × Int32 × Int32} {i k : Nat} (hk : k = i) (h : ∀ j, j < i → hb_c4 X Y Z W j = f j) (hq : (x, y, z, w) = f i) :
    ∀ j, j < i + 1 → hb_c4 (upd X k x) (upd Y k y) (upd Z k z) (upd W k w) j = f j := by
  intro j hj
  subst hk
  by_cases e : j = k
  · subst e
    unfold hb_c4
    rw [pk_us, pk_us, pk_us, pk_us]
    exact hq
  · unfold hb_c4
    rw [pk_un e, pk_un e, pk_un e, pk_un e]
    exact h j (by omega)
theorem hb_keep10 {post : St2 → Prop} {cc bu mn : Int32} {bt bb : Int64} {a1 a2 a3 a4 a5 a6 a7 a8 a9 a10 a11 a12 a13 a14 a20 a21 : Nat → Int32} {a15 : Nat → Int64} {n : Nat} (hn : n ≤ 64)
    (H : ∀ X Y Z W : Nat → Int32, (∀ j, j < n → hb_c4 X Y Z W j = hb_c4 a5 a6 a7 a8 j) → post (cc, bu, nI n, mn, nI n, bt, bb, a1, a2, a3, a4, a5, a6, a7, a8, a9, a10, a11, a12, a13, a14, a15, X, Y, Z, W, a20, a21)) :
    ∀ (r i : Nat), i + r = n → ∀ X Y Z W : Nat → Int32, (∀ j, j < i → hb_c4 X Y Z W j = hb_c4 a5 a6 a7 a8 j) →
      wX_keepCorners_10 post cc bu (nI n) mn (nI n) bt bb (r + 1) (nI i) a1 a2 a3 a4 a5 a6 a7 a8 a9 a10 a11 a12 a13 a14 a15 X Y Z W a20 a21 := by
  intro r
  induction r with
  | zero =>
    intro i hi X Y Z W h
    have e : i = n := by omega
    subst e
    exact pk_le i i (fun _ => H X Y Z W h) (fun z => absurd z (by omega))
  | succ r ih =>
    intro i hi X Y Z W h
    have ii := pk_in (x := nI i) i 64 (by omega)
    refine pk_le n i (fun z => absurd z (by omega)) (fun _ => ⟨ii, ii, nm_e ⟨ii, ii, nm_e ⟨ii, ii, nm_e ⟨ii, ii, nm_e (nm_r (nI_1 i) ?_)⟩⟩⟩⟩)
    refine ih (i + 1) (by omega) _ _ _ _ (hb_fill4 (nI_clamp (by omega)) h ?_)
    rw [nI_clamp (show i < 2 ^ 31 by omega)]
    rfl
theorem hb_keep {post : St2 → Prop} {cc bu mn kn : Int32} {bt bb : Int64} {a1 a2 a3 a4 a5 a6 a7 a8 a9 a10 a11 a12 a13 a14 a16 a17 a18 a19 a20 a21 : Nat → Int32} {a15 : Nat → Int64} {n : Nat} (hn : n ≤ 64)
    (H : ∀ X Y Z W : Nat → Int32, (∀ j, j < n → hb_c4 X Y Z W j = hb_c4 a5 a6 a7 a8 j) → post (cc, bu, nI n, mn, nI n, bt, bb, a1, a2, a3, a4, a5, a6, a7, a8, a9, a10, a11, a12, a13, a14, a15, X, Y, Z, W, a20, a21)) : wpX_keepCorners post (cc, bu, nI n, mn, kn, bt, bb, a1, a2, a3, a4, a5, a6, a7, a8, a9, a10, a11, a12, a13, a14, a15, a16, a17, a18, a19, a20, a21) :=
  ⟨n + 1, hb_keep10 hn H n 0 (by omega) a16 a17 a18 a19 (fun j hj => absurd hj (by omega))⟩
theorem hb_nd50 {post : Int32 → St2 → Prop} {cc bu cn mn : Int32} {bt bb : Int64} {a1 a2 a3 a4 a5 a6 a7 a8 a9 a10 a11 a12 a13 a14 a16 a17 a18 a19 a20 a21 : Nat → Int32} {a15 : Nat → Int64} {n : Nat} (hn : n ≤ 64)
    (H1 : (∀ j, j < n → hb_c4 a5 a6 a7 a8 j = hb_c4 a16 a17 a18 a19 j) → post 1 (cc, bu, cn, mn, nI n, bt, bb, a1, a2, a3, a4, a5, a6, a7, a8, a9, a10, a11, a12, a13, a14, a15, a16, a17, a18, a19, a20, a21))
    (H0 : (∃ j, j < n ∧ hb_c4 a5 a6 a7 a8 j ≠ hb_c4 a16 a17 a18 a19 j) → post 0 (cc, bu, cn, mn, nI n, bt, bb, a1, a2, a3, a4, a5, a6, a7, a8, a9, a10, a11, a12, a13, a14, a15, a16, a17, a18, a19, a20, a21)) :
    ∀ (r i : Nat), i + r = n → (∀ j, j < i → hb_c4 a5 a6 a7 a8 j = hb_c4 a16 a17 a18 a19 j) → wX_needless_50 post cc bu cn mn (nI n) bt bb a1 a2 a3 a4 a5 a6 a7 a8 a9 a10 a11 a12 a13 a14 a15 a16 a17 a18 a19 a20 a21 (r + 1) (nI i) := by
  intro r
  induction r with
  | zero =>
    intro i hi h
    have e : i = n := by omega
    subst e
    exact pk_le i i (fun _ => H1 h) (fun z => absurd z (by omega))
  | succ r ih =>
    intro i hi h
    have ii := pk_in (x := nI i) i 64 (by omega)
    have hi' : i < n := by omega
    refine pk_le n i (fun z => absurd z (by omega)) (fun _ => ?_)
    rw [nI_clamp (show i < 2 ^ 31 by omega)]
    refine ⟨ii, ii, br_c (fun g1 => ⟨ii, ii, br_c (fun g2 => ⟨ii, ii, br_c (fun g3 => ⟨ii, ii, br_c (fun g4 => br_f (by decide) (nm_r (nI_1 i) (ih (i + 1) (by omega) (fun j hj => ?_)))) (fun g4 => br_t rfl (H0 ⟨i, hi', fun t => g4 (congrArg (fun q => q.2.2.2) t)⟩))⟩) (fun g3 => br_t rfl (H0 ⟨i, hi', fun t => g3 (congrArg (fun q => q.2.2.1) t)⟩))⟩) (fun g2 => br_t rfl (H0 ⟨i, hi', fun t => g2 (congrArg (fun q => q.2.1) t)⟩))⟩) (fun g1 => br_t rfl (H0 ⟨i, hi', fun t => g1 (congrArg (fun q => q.1) t)⟩))⟩
    by_cases e : j = i
    · rw [e]
      unfold hb_c4
      rw [g1, g2, g3, g4]
    · exact h j (by omega)
def hb_nl (a b c d : Int) : Int32 := if hb_far a b c ≤ d then 1 else 0
theorem hb_KClen : hb_KC.length = 8 := rfl
theorem hb_needless1 {post : Int32 → St2 → Prop} {a b c d : Int} {u : St2} (hR : hb_R a b c d) (hu : hb_ok 1 a b c d u) (H : ∀ u', hb_ok 1 a b c d u' → post (hb_nl a b c d) u') : wpX_needless post u 0 := by
  obtain ⟨cc, bu, cn, mn, kn, bt, bb, a1, a2, a3, a4, a5, a6, a7, a8, a9, a10, a11, a12, a13, a14, a15, a16, a17, a18, a19, a20, a21⟩ := u
  have hcc0 := hu.1
  have hM := hb_M_len a b c d
  refine br_f (by decide) (br_t (by rw [hcc0]; decide) ?_)
  refine hb_build (Or.inr rfl) hR hu (fun u' h => ?_)
  obtain ⟨cc, bu, cn, mn, kn, bt, bb, a1, a2, a3, a4, a5, a6, a7, a8, a9, a10, a11, a12, a13, a14, a15, a16, a17, a18, a19, a20, a21⟩ := u'
  obtain ⟨hcc, hpl, hcn, hs⟩ := h
  have hcn' : cn = nI (hb_M a b c d).length := hcn
  have hs' : hb_srt (hb_M a b c d) a5 a6 a7 a8 a9 := hs
  subst hcn'
  refine hb_keep (by omega) (fun k1 k2 k3 k4 hk => ?_)
  refine hb_bwS hcc (Or.inr ⟨rfl, by decide⟩) (fun X Y Z W P hc => ?_)
  have ok : ∀ u', hb_ok 1 a b c d u' → post (hb_nl a b c d) u' := H
  unfold hb_nl at ok
  have le8 : hb_far a b c ≤ d → (hb_M a b c d).length = 8 := by
    intro hf
    have t := congrArg List.length (hb_same hf)
    rw [List.length_map, List.length_map] at t
    exact t
  refine pk_eq 8 (hb_M a b c d).length (fun e => ⟨8 + 1, ?_⟩) (fun ne => ?_)
  · rw [← e]
    refine hb_nd50 (by omega) (fun g => ?_) (fun g => ?_) 8 0 (by omega) (fun j hj => absurd hj (by omega))
    · have hf : hb_far a b c ≤ d := by
        rcases Int.lt_or_le d (hb_far a b c) with t | t
        · exfalso
          obtain ⟨r, hr, hq⟩ := hb_gone hR t
          obtain ⟨j, hj, ej⟩ := hb_srt_ex hc hr
          have hj8 : j < 8 := hj
          have e1 : hb_c4 X Y Z W j = hb_f4 r := congrArg hb_f4 ej
          have e2 : hb_c4 k1 k2 k3 k4 j = hb_f4 (hb_col a5 a6 a7 a8 a9 j) := hk j (by omega)
          exact hq _ (hb_srt_in hs' (show j < (hb_M a b c d).length by omega)) ((e2.symm.trans (g j hj8).symm).trans e1)
        · exact t
      rw [if_pos hf] at ok
      exact ok _ ⟨hcc, hpl, Or.inl rfl⟩
    · have hf : ¬ hb_far a b c ≤ d := by
        intro hf
        obtain ⟨j, hj, hne⟩ := g
        apply hne
        have e1 : hb_c4 X Y Z W j = hb_f4 (hb_at hb_KC (hb_sg hb_KC j)) := congrArg hb_f4 (hc j hj)
        have e2 : hb_c4 k1 k2 k3 k4 j = hb_f4 (hb_at (hb_M a b c d) (hb_sg (hb_M a b c d) j)) := (hk j (by omega)).trans (congrArg hb_f4 (hs' j (by omega)))
        rw [e1, e2, hb_f4at, hb_f4at, hb_same hf, hb_sg_eq (hb_same hf)]
      rw [if_neg hf] at ok
      exact ok _ ⟨hcc, hpl, Or.inl rfl⟩
  · rw [if_neg (fun hf => ne (le8 hf).symm)] at ok
    exact ok _ ⟨hcc, hpl, Or.inl rfl⟩
theorem hb_needless0 {post : Int32 → St2 → Prop} {a b c d : Int} {u : St2} (hu : hb_ok 0 a b c d u) (H : ∀ u', hb_ok 0 a b c d u' → post 0 u') : wpX_needless post u 0 := by
  obtain ⟨cc, bu, cn, mn, kn, bt, bb, a1, a2, a3, a4, a5, a6, a7, a8, a9, a10, a11, a12, a13, a14, a15, a16, a17, a18, a19, a20, a21⟩ := u
  have hcc0 := hu.1
  exact br_f (by decide) (br_f (by rw [hcc0]; decide) (H _ hu))
end
section
/-! findMost, mostTop, mostBottom -/
theorem hb_prod {a x : Int} (h : -4 ≤ a ∧ a ≤ 4) (hx : -4000 ≤ x ∧ x ≤ 4000) : -16000 ≤ a * x ∧ a * x ≤ 16000 := by
  have t : a = -4 ∨ a = -3 ∨ a = -2 ∨ a = -1 ∨ a = 0 ∨ a = 1 ∨ a = 2 ∨ a = 3 ∨ a = 4 := by omega
  rcases t with t | t | t | t | t | t | t | t | t <;> rw [t] <;> omega
theorem hb_pr2 {v w : Int} (hv : -48000 ≤ v ∧ v ≤ 48000) (h1 : 1 ≤ w) (h2 : w ≤ 4000) : -192000000 ≤ v * w ∧ v * w ≤ 192000000 := by
  have t1 : v * w ≤ 48000 * w := Int.mul_le_mul_of_nonneg_right hv.2 (by omega)
  have t2 : -48000 * w ≤ v * w := Int.mul_le_mul_of_nonneg_right hv.1 (by omega)
  omega
/-- what the loop keeps: the best so far is none, or lies under the target and reaches it behind the corner j0 -/
def hb_bst (g : Int) (j0 i : Nat) (x y : Int64) : Prop := (i = 0 ∧ y = hb_l 0) ∨ ∃ v w : Int, 0 < i ∧ x = hb_l v ∧ y = hb_l w ∧ (1 ≤ w ∧ w ≤ 4000) ∧ (-48000 ≤ v ∧ v ≤ 48000) ∧ v ≤ g * w ∧ (j0 < i → v = g * w)
theorem hb_keepB {g v w v' w' : Int} (h1 : 1 ≤ w) (h' : 1 ≤ w') (hv : v ≤ g * w) (hv' : v' = g * w') (hle : v' * w ≤ v * w') : v = g * w := by
  have t : (g * w) * w' ≤ v * w' := by
    rw [hv'] at hle
    have e : g * w' * w = g * w * w' := by grind
    rw [e] at hle
    exact hle
  have := Int.le_of_mul_le_mul_right t (by omega)
  omega
theorem hb_noB {g v w v' w' : Int} (h1 : 1 ≤ w) (h' : 1 ≤ w') (hv : v = g * w) (hv' : v' ≤ g * w') (hlt : v * w' < v' * w) : False := by
  have t : v' * w ≤ (g * w') * w := Int.mul_le_mul_of_nonneg_right hv' (by omega)
  rw [hv] at hlt
  have e : g * w' * w = g * w * w' := by grind
  omega
theorem hb_gcdw {g w : Int} (h : 1 ≤ w) : ((Int.gcd (g * w) w : Nat) : Int) = w := by
  have e : Int.gcd (g * w) w = w.natAbs := by
    rw [Int.gcd_eq_natAbs_gcd_natAbs, Int.natAbs_mul, Nat.gcd_mul_left_left]
  rw [e]
  omega
def hb_best (x y : Int) (u : St2) : Prop := match u with
  | (cc, bu, cn, mn, kn, bt, bb, a1, a2, a3, a4, a5, a6, a7, a8, a9, a10, a11, a12, a13, a14, a15, a16, a17, a18, a19, a20, a21) => bt = hb_l x ∧ bb = hb_l y
theorem hb_fm37 {post : Int32 → St2 → Prop} {cc bu mn kn : Int32} {a1 a2 a3 a4 a5 a6 a7 a8 a9 a10 a11 a12 a13 a14 a16 a17 a18 a19 a20 a21 : Nat → Int32} {a15 : Nat → Int64} {a b c g : Int} {j0 n : Nat} (hn : n ≤ 64) (ha : -4 ≤ a ∧ a ≤ 4) (hb : -4 ≤ b ∧ b ≤ 4) (hc : -4 ≤ c ∧ c ≤ 4) (hg : -96 ≤ g ∧ g ≤ 96) (hj : 0 < n → j0 < n)
    (hq : ∀ j, j < n → ∃ x y z w, hb_fit (hb_col a5 a6 a7 a8 a9 j) x y z w ∧ a * x + b * y + c * z ≤ g * w ∧ (j = j0 → a * x + b * y + c * z = g * w))
    (H0 : n = 0 → ∀ x y : Int64, post 0 (cc, bu, nI n, mn, kn, x, y, a1, a2, a3, a4, a5, a6, a7, a8, a9, a10, a11, a12, a13, a14, a15, a16, a17, a18, a19, a20, a21)) (H1 : 0 < n → post 1 (cc, bu, nI n, mn, kn, hb_l g, hb_l 1, a1, a2, a3, a4, a5, a6, a7, a8, a9, a10, a11, a12, a13, a14, a15, a16, a17, a18, a19, a20, a21)) :
    ∀ (r i : Nat), i + r = n → ∀ x y : Int64, hb_bst g j0 i x y → wX_findMost_37 post (hb_i a) (hb_i b) (hb_i c) cc bu (nI n) mn kn a1 a2 a3 a4 a5 a6 a7 a8 a9 a10 a11 a12 a13 a14 a15 a16 a17 a18 a19 a20 a21 (r + 1) (nI i) x y := by
  intro r
  induction r with
  | zero =>
    intro i hi x y h
    have e : i = n := by omega
    subst e
    refine pk_le i i (fun _ => ?_) (fun z => absurd z (by omega))
    rcases h with ⟨h0, hy⟩ | ⟨v, w, i0, hx, hy, hw, hv, hle, heq⟩
    · exact br_t hy (H0 h0 _ _)
    · have nz : ¬ y = 0 := by
        rw [hy, ← hb_l0, hb_leq (by omega) (by omega) (by omega) (by omega)]
        omega
      refine br_f nz ?_
      have ev := heq (hj i0)
      subst hx hy
      refine hb_cd (by omega) (by omega) (by omega) (by omega) ?_
      rw [ev, hb_gcdw hw.1]
      have hwne : w ≠ 0 := by omega
      refine ⟨nz, nm_r (e' := hb_l g) ?_ ⟨nz, nm_r (e' := hb_l 1) ?_ (H1 i0)⟩⟩
      · rw [hb_ldiv (by omega) (by omega) (by omega) (by omega), Int.mul_tdiv_cancel _ hwne]
      · rw [hb_ldiv (by omega) (by omega) (by omega) (by omega), Int.tdiv_self hwne]
  | succ r ih =>
    intro i hi x y h
    have ii := pk_in (x := nI i) i 64 (by omega)
    obtain ⟨X, Y, Z, W, ⟨⟨f1, f2, f3, f4⟩, bx, by', bz, w1, w2⟩, hle, heq⟩ := hq i (by omega)
    have f1' : a5 i = hb_i X := f1
    have f2' : a6 i = hb_i Y := f2
    have f3' : a7 i = hb_i Z := f3
    have f4' : a8 i = hb_i W := f4
    have pa := hb_prod ha bx
    have pb := hb_prod hb by'
    have pc := hb_prod hc bz
    refine pk_le n i (fun z => absurd z (by omega)) (fun _ => ?_)
    rw [nI_clamp (show i < 2 ^ 31 by omega), f1', f2', f3', f4', hb_wide (x := a) (by omega) (by omega), hb_wide (x := b) (by omega) (by omega), hb_wide (x := c) (by omega) (by omega), hb_wide (x := X) (by omega) (by omega), hb_wide (x := Y) (by omega) (by omega), hb_wide (x := Z) (by omega) (by omega), hb_wide (x := W) (by omega) (by omega)]
    generalize hV : a * X + b * Y + c * Z = V at hle heq
    have bV : -48000 ≤ V ∧ V ≤ 48000 := by omega
    have eV : hb_l a * hb_l X + hb_l b * hb_l Y + hb_l c * hb_l Z = hb_l V := by rw [hb_lmul, hb_lmul, hb_lmul, hb_ladd, hb_ladd, hV]
    have take : (j0 < i + 1 → V = g * W) → wX_findMost_120 post (wX_findMost_37 post (hb_i a) (hb_i b) (hb_i c) cc bu (nI n) mn kn a1 a2 a3 a4 a5 a6 a7 a8 a9 a10 a11 a12 a13 a14 a15 a16 a17 a18 a19 a20 a21 (r + 1)) (hb_i a) (hb_i b) (hb_i c) (nI i) (hb_l V) cc bu (nI n) mn kn x y a1 a2 a3 a4 a5 a6 a7 a8 a9 a10 a11 a12 a13 a14 a15 a16 a17 a18 a19 a20 a21 := by
      intro ht
      refine ⟨ii, nm_r (e' := hb_l W) (by rw [nI_clamp (show i < 2 ^ 31 by omega), f4']; exact hb_wide (by omega) (by omega)) (nm_r (nI_1 i) (ih (i + 1) (by omega) _ _ ?_))⟩
      exact Or.inr ⟨V, W, by omega, rfl, rfl, ⟨w1, w2⟩, bV, hle, ht⟩
    refine ⟨ii, ii, ii, nm_r eV ?_⟩
    rcases h with ⟨h0, hy⟩ | ⟨v, w, i0, hx, hy, hw, hv, hle', heq'⟩
    · exact br_t (by rw [hy]; decide) (take (fun t => heq (by omega)))
    · have pos : ¬ y ≤ 0 := by
        rw [hy, ← hb_l0, hb_lle (by omega) (by omega) (by omega) (by omega)]
        omega
      refine br_f pos ⟨ii, ?_⟩
      have p1 := hb_pr2 hv w1 w2
      have p2 := hb_pr2 bV hw.1 hw.2
      have cond : x * hb_l W < hb_l V * y ↔ v * W < V * w := by
        rw [hx, hy, hb_lmul, hb_lmul, hb_llt (by omega) (by omega) (by omega) (by omega)]
      refine ek_if cond (fun hlt => take (fun t => ?_)) (fun hge => nm_r (nI_1 i) (ih (i + 1) (by omega) x y (Or.inr ⟨v, w, by omega, hx, hy, hw, hv, hle', fun t => ?_⟩)))
      · by_cases e : i = j0
        · exact heq e
        · exact absurd (hb_noB hw.1 w1 (heq' (by omega)) hle hlt) id
      · by_cases e : i = j0
        · exact hb_keepB hw.1 w1 hle' (heq e) (by omega)
        · exact heq' (by omega)
theorem hb_dg1 {n : Nat} (h : n ≤ 728) : (nI n - nI n / 9 * 9) - 4 = hb_i (((n % 9 : Nat) : Int) - 4) := by
  have t : nI n - nI n / 9 * 9 = nI (n % 9) := pk_rem (d := 9) (by omega) (by omega) (by omega)
  rw [t, hb_in]
  exact hb_isub _ 4
theorem hb_dg2 {n : Nat} (h : n ≤ 728) : ((nI n / 9) - (nI n / 9) / 9 * 9) - 4 = hb_i (((n / 9 % 9 : Nat) : Int) - 4) := by
  have t0 : nI n / 9 = nI (n / 9) := pk_div (d := 9) (by omega) (by omega) (by omega)
  have t : nI (n / 9) - nI (n / 9) / 9 * 9 = nI (n / 9 % 9) := pk_rem (d := 9) (by omega) (by omega) (by omega)
  rw [t0, t, hb_in]
  exact hb_isub _ 4
theorem hb_dg3 {n : Nat} (h : n ≤ 728) : (nI n / 81) - 4 = hb_i (((n / 81 : Nat) : Int) - 4) := by
  have t0 : nI n / 81 = nI (n / 81) := pk_div (d := 81) (by omega) (by omega) (by omega)
  rw [t0, hb_in]
  exact hb_isub _ 4
def hb_dig (n : Nat) (a b c : Int) : Prop := n ≤ 728 ∧ a = ((n % 9 : Nat) : Int) - 4 ∧ b = ((n / 9 % 9 : Nat) : Int) - 4 ∧ c = ((n / 81 : Nat) : Int) - 4
theorem hb_most {post : Int32 → St2 → Prop} {a b c d : Int} {u : St2} {n : Nat} (hR : hb_R a b c d) (hd : hb_dig n a b c) (hu : hb_ok 1 a b c d u)
    (H0 : d < -hb_far a b c → ∀ u', hb_ok 1 a b c d u' → post 0 u') (H1 : -hb_far a b c ≤ d → ∀ u', hb_ok 1 a b c d u' → hb_best (hb_tg a b c d) 1 u' → post 1 u') : wpX_findMost post u (nI n) := by
  obtain ⟨cc, bu, cn, mn, kn, bt, bb, a1, a2, a3, a4, a5, a6, a7, a8, a9, a10, a11, a12, a13, a14, a15, a16, a17, a18, a19, a20, a21⟩ := u
  obtain ⟨hn, ea, eb, ec⟩ := hd
  unfold wpX_findMost
  dsimp only
  refine hb_build (Or.inr rfl) hR hu (fun u' h => ?_)
  obtain ⟨cc, bu, cn, mn, kn, bt, bb, a1, a2, a3, a4, a5, a6, a7, a8, a9, a10, a11, a12, a13, a14, a15, a16, a17, a18, a19, a20, a21⟩ := u'
  obtain ⟨hcc, hpl, hcn, hs⟩ := h
  have hcn' : cn = nI (hb_M a b c d).length := hcn
  have hs' : hb_srt (hb_M a b c d) a5 a6 a7 a8 a9 := hs
  subst hcn'
  have hM := hb_M_len a b c d
  have hf := hb_far_le hR
  have bg : -96 ≤ hb_tg a b c d ∧ hb_tg a b c d ≤ 96 := by
    have := hR.2.2.2
    unfold hb_tg
    split <;> omega
  refine ⟨by decide, nm_r (e' := hb_i a) (by rw [ea]; exact hb_dg1 hn) ⟨by decide, by decide, nm_r (e' := hb_i b) (by rw [eb]; exact hb_dg2 hn) ⟨by decide, nm_r (e' := hb_i c) (by rw [ec]; exact hb_dg3 hn) ⟨(hb_M a b c d).length + 1, ?_⟩⟩⟩⟩
  by_cases hd : -hb_far a b c ≤ d
  · obtain ⟨q, hq, x, y, z, w, hfit, he⟩ := hb_reach hR hd
    obtain ⟨j0, hj0, ej⟩ := hb_srt_ex hs' hq
    refine hb_fm37 (n := (hb_M a b c d).length) (j0 := j0) (g := hb_tg a b c d) (by omega) hR.1 hR.2.1 hR.2.2.1 bg (fun _ => hj0) (fun j hj => ?_) (fun t => absurd hj0 (by omega)) (fun _ => H1 hd _ ⟨hcc, hpl, Or.inr ⟨rfl, hs⟩⟩ ⟨rfl, rfl⟩) (hb_M a b c d).length 0 (by omega) _ _ (Or.inl ⟨rfl, rfl⟩)
    by_cases e : j = j0
    · refine ⟨x, y, z, w, ?_, by omega, fun _ => he⟩
      rw [e, ej]
      exact hfit
    · obtain ⟨x', y', z', w', h1, _, h3⟩ := hb_below hR (hb_srt_in hs' hj)
      exact ⟨x', y', z', w', h1, h3, fun t => absurd t e⟩
  · have hM0 : (hb_M a b c d).length = 0 := by rw [hb_dim_lo (by omega)]; rfl
    exact hb_fm37 (n := (hb_M a b c d).length) (j0 := 0) (g := hb_tg a b c d) (by omega) hR.1 hR.2.1 hR.2.2.1 bg (fun t => by omega) (fun j hj => absurd hj (by omega)) (fun _ x y => H0 (by omega) _ ⟨hcc, hpl, Or.inr ⟨rfl, hs⟩⟩) (fun t => absurd t (by omega)) (hb_M a b c d).length 0 (by omega) _ _ (Or.inl ⟨rfl, rfl⟩)
theorem hb_mTop {post : Int32 → St2 → Prop} {a b c d : Int} {u : St2} {n : Nat} (hR : hb_R a b c d) (hd : hb_dig n a b c) (hu : hb_ok 1 a b c d u)
    (H : ∀ u', hb_ok 1 a b c d u' → post (if d < -hb_far a b c then -1000002 else hb_i (hb_tg a b c d)) u') : wpX_mostTop post u (nI n) := by
  obtain ⟨cc, bu, cn, mn, kn, bt, bb, a1, a2, a3, a4, a5, a6, a7, a8, a9, a10, a11, a12, a13, a14, a15, a16, a17, a18, a19, a20, a21⟩ := u
  have hn := hd.1
  refine br_f (nI_pos (by omega)) (br_t (nI_le (b := 728) hn (by decide)) ?_)
  refine hb_most hR hd hu (fun hlo u' hu' => ?_) (fun hhi u' hu' hbest => ?_)
  · obtain ⟨cc, bu, cn, mn, kn, bt, bb, a1, a2, a3, a4, a5, a6, a7, a8, a9, a10, a11, a12, a13, a14, a15, a16, a17, a18, a19, a20, a21⟩ := u'
    have t := H _ hu'
    rw [if_pos hlo] at t
    exact br_t rfl t
  · obtain ⟨cc, bu, cn, mn, kn, bt, bb, a1, a2, a3, a4, a5, a6, a7, a8, a9, a10, a11, a12, a13, a14, a15, a16, a17, a18, a19, a20, a21⟩ := u'
    have t := H _ hu'
    obtain ⟨e1, _⟩ := hbest
    rw [if_neg (by omega), ← hb_thin, ← e1] at t
    exact br_f (by decide) t
theorem hb_mBot {post : Int32 → St2 → Prop} {a b c d : Int} {u : St2} {n : Nat} (hR : hb_R a b c d) (hd : hb_dig n a b c) (hu : hb_ok 1 a b c d u)
    (H : ∀ u', hb_ok 1 a b c d u' → post (if d < -hb_far a b c then -1000002 else hb_i 1) u') : wpX_mostBottom post u (nI n) := by
  obtain ⟨cc, bu, cn, mn, kn, bt, bb, a1, a2, a3, a4, a5, a6, a7, a8, a9, a10, a11, a12, a13, a14, a15, a16, a17, a18, a19, a20, a21⟩ := u
  have hn := hd.1
  refine br_f (nI_pos (by omega)) (br_t (nI_le (b := 728) hn (by decide)) ?_)
  refine hb_most hR hd hu (fun hlo u' hu' => ?_) (fun hhi u' hu' hbest => ?_)
  · obtain ⟨cc, bu, cn, mn, kn, bt, bb, a1, a2, a3, a4, a5, a6, a7, a8, a9, a10, a11, a12, a13, a14, a15, a16, a17, a18, a19, a20, a21⟩ := u'
    have t := H _ hu'
    rw [if_pos hlo] at t
    exact br_t rfl t
  · obtain ⟨cc, bu, cn, mn, kn, bt, bb, a1, a2, a3, a4, a5, a6, a7, a8, a9, a10, a11, a12, a13, a14, a15, a16, a17, a18, a19, a20, a21⟩ := u'
    have t := H _ hu'
    obtain ⟨_, e1⟩ := hbest
    rw [if_neg (by omega), ← hb_thin, ← e1] at t
    exact br_f (by decide) t
end
section
/-! the constructor -/
theorem hb_h1T : ∀ i, i < 6 → ((nI i &&& 1) = 0 ↔ i % 2 = 0) := by decide +kernel
theorem hb_h20T : ∀ i, i < 6 → (nI i / 2 = 0 ↔ i / 2 = 0) := by decide +kernel
theorem hb_h21T : ∀ i, i < 6 → (nI i / 2 = 1 ↔ i / 2 = 1) := by decide +kernel
theorem hb_h22T : ∀ i, i < 6 → (nI i / 2 = 2 ↔ i / 2 = 2) := by decide +kernel
def hb_sg1 (i : Nat) : Int32 := if i % 2 = 0 then 1 else -1
theorem hb_nT : ∀ i, i < 6 → ((if i / 2 = 0 then hb_sg1 i else 0).toInt8.toInt32 = hb_nA i ∧ (if i / 2 = 1 then hb_sg1 i else 0).toInt8.toInt32 = hb_nB i ∧ (if i / 2 = 2 then hb_sg1 i else 0).toInt8.toInt32 = hb_nC i) := by decide +kernel
def hb_n6 (i : Nat) (X Y Z W : Nat → Int32) : Prop := (∀ p, p < i → X p = hb_nA p ∧ Y p = hb_nB p ∧ Z p = hb_nC p) ∧ X 6 = 0 ∧ Y 6 = 0 ∧ Z 6 = 0 ∧ W 6 = 0
theorem hb_n6s {X Y Z W : Nat → Int32} {x y z w : Int32} {i k : Nat} (hi : i < 6) (hk : k = i) (h : hb_n6 i X Y Z W) (hx : x = hb_nA i ∧ y = hb_nB i ∧ z = hb_nC i) : hb_n6 (i + 1) (upd X k x) (upd Y k y) (upd Z k z) (upd W k w) := by
  subst hk
  obtain ⟨h0, h1, h2, h3, h4⟩ := h
  refine ⟨fun p hp => ?_, ?_, ?_, ?_, ?_⟩
  · by_cases e : p = k
    · rw [e, pk_us, pk_us, pk_us]
      exact hx
    · rw [pk_un e, pk_un e, pk_un e]
      exact h0 p (by omega)
  · rw [pk_un (by omega)]; exact h1
  · rw [pk_un (by omega)]; exact h2
  · rw [pk_un (by omega)]; exact h3
  · rw [pk_un (by omega)]; exact h4
theorem hb_init174 {post : St2 → Prop} {mc ms kc ks : Nat} {cc bu cn mn kn : Int32} {bt bb : Int64} {a5 a6 a7 a8 a9 a10 a11 a12 a13 a14 a16 a17 a18 a19 a20 a21 : Nat → Int32} {a15 : Nat → Int64} (H : ∀ X Y Z W : Nat → Int32, hb_n6 6 X Y Z W → post (cc, bu, cn, mn, kn, bt, bb, X, Y, Z, W, a5, a6, a7, a8, a9, a10, a11, a12, a13, a14, a15, a16, a17, a18, a19, a20, a21)) :
    ∀ (r i : Nat), i + r = 6 → ∀ X Y Z W : Nat → Int32, hb_n6 i X Y Z W → wX_init_174 post mc ms kc ks (r + 1) (nI i) cc bu cn mn kn bt bb X Y Z W a5 a6 a7 a8 a9 a10 a11 a12 a13 a14 a15 a16 a17 a18 a19 a20 a21 := by
  intro r
  induction r with
  | zero =>
    intro i hi X Y Z W h
    have e : i = 6 := by omega
    subst e
    exact pk_le 6 6 (fun _ => H X Y Z W h) (fun z => absurd z (by omega))
  | succ r ih =>
    intro i hi X Y Z W h
    have h6 : i < 6 := by omega
    have ii := pk_in (x := nI i) i 16 (by omega)
    refine pk_le 6 i (fun z => absurd z (by omega)) (fun _ => ?_)
    refine hb_ite (fun z => wX_init_191 post mc ms (wX_init_174 post mc ms kc ks (r + 1)) (nI i) z kc ks cc bu cn mn kn bt bb X Y Z W a5 a6 a7 a8 a9 a10 a11 a12 a13 a14 a15 a16 a17 a18 a19 a20 a21) (hb_h1T i h6) ?_
    show wX_init_191 post mc ms (wX_init_174 post mc ms kc ks (r + 1)) (nI i) (hb_sg1 i) kc ks cc bu cn mn kn bt bb X Y Z W a5 a6 a7 a8 a9 a10 a11 a12 a13 a14 a15 a16 a17 a18 a19 a20 a21
    refine ⟨by decide, ?_⟩
    refine hb_ite (fun z => wX_init_205 post mc ms (wX_init_174 post mc ms kc ks (r + 1)) (nI i) (hb_sg1 i) z (nI i) kc ks cc bu cn mn kn bt bb X Y Z W a5 a6 a7 a8 a9 a10 a11 a12 a13 a14 a15 a16 a17 a18 a19 a20 a21) (hb_h20T i h6) ?_
    refine ⟨by decide, ?_⟩
    refine hb_ite (fun z => wX_init_217 post mc ms (wX_init_174 post mc ms kc ks (r + 1)) (nI i) (hb_sg1 i) z (if i / 2 = 0 then hb_sg1 i else 0) (nI i) kc ks cc bu cn mn kn bt bb X Y Z W a5 a6 a7 a8 a9 a10 a11 a12 a13 a14 a15 a16 a17 a18 a19 a20 a21) (hb_h21T i h6) ?_
    refine ⟨by decide, ?_⟩
    refine hb_ite (fun z => wX_init_229 post mc ms (wX_init_174 post mc ms kc ks (r + 1)) (nI i) z (if i / 2 = 1 then hb_sg1 i else 0) (if i / 2 = 0 then hb_sg1 i else 0) (nI i) kc ks cc bu cn mn kn bt bb X Y Z W a5 a6 a7 a8 a9 a10 a11 a12 a13 a14 a15 a16 a17 a18 a19 a20 a21) (hb_h22T i h6) ?_
    refine ⟨ii, nm_e ⟨ii, nm_e ⟨ii, nm_e ⟨ii, nm_e (nm_r (nI_1 i) ?_)⟩⟩⟩⟩
    exact ih (i + 1) (by omega) _ _ _ _ (hb_n6s h6 (nI_clamp (by omega)) h (hb_nT i h6))
theorem hb_init {post : St2 → Prop} {mc ms : Nat} (h : 21 ≤ mc) (h' : 1152 ≤ ms) (H : ∀ u, hb_ok 0 0 0 0 0 u → post u) : wpX_init post mc ms (0, 0, 0, 0, 0, 0, 0) :=
  ⟨by omega, by omega, by omega, by omega, by omega, by omega, by omega, by omega, by omega, by omega, by omega, by omega, by omega, by omega, by omega, by omega, by omega, by omega, by omega, by omega, by omega, by omega, by omega, by omega, by omega, by omega, by omega, by omega, by omega, by omega, by omega, by omega, by omega, by omega, by omega, by omega, by omega, by omega, by omega, by omega, by omega, by omega, 7, hb_init174 (fun X Y Z W g => H _ ⟨rfl, ⟨g.1, g.2⟩, Or.inl rfl⟩) 6 0 (by omega) _ _ _ _ ⟨fun p hp => absurd hp (by omega), rfl, rfl, rfl, rfl⟩⟩
/-! cut -/
theorem hb_cutG {post : Int32 → St2 → Prop} {u : St2} {n : Nat} {a b c d : Int} (hu : hb_ok 0 0 0 0 0 u) (hd : hb_dig n a b c) (hR : hb_R a b c d) (hn : n ≠ 364) (H : ∀ u', hb_ok 1 a b c d u' → post 1 u') : wpX_cut post u (nI n) (hb_i d) := by
  obtain ⟨cc, bu, cn, mn, kn, bt, bb, a1, a2, a3, a4, a5, a6, a7, a8, a9, a10, a11, a12, a13, a14, a15, a16, a17, a18, a19, a20, a21⟩ := u
  obtain ⟨hcc, ⟨hp, _⟩, _⟩ := hu
  obtain ⟨h7, ea, eb, ec⟩ := hd
  obtain ⟨ra, rb, rc, rd⟩ := hR
  subst hcc
  have i6 := pk_in (x := nI 6) 6 16 (by omega)
  unfold wpX_cut
  dsimp only
  rw [hb_dg1 h7, hb_dg2 h7, hb_dg3 h7, ← ea, ← eb, ← ec]
  refine br_t (by decide) (br_f (nI_pos (by omega)) (br_f (nI_nlt (a := 728) (b := n) h7 (by decide)) (br_f ?_ (br_f ?_ (br_t ?_ (nm_r (e' := nI 6) (by decide) ⟨by decide, by decide, by decide, by decide, ?_⟩))))))
  · intro t
    exact hn ((nI_eq (b := 364) (by omega) (by decide)).mp t)
  · rw [show (-60 : Int32) = hb_i (-60) from by decide, hb_ilt (by omega) (by omega) (by omega) (by omega)]
    omega
  · rw [show (60 : Int32) = hb_i 60 from by decide, hb_ile (by omega) (by omega) (by omega) (by omega)]
    omega
  · refine ⟨i6, nm_e ⟨i6, nm_e ⟨i6, nm_e ⟨i6, nm_e (nm_r (e' := nI 1) (show nI 0 + 1 = nI 1 from by decide) (H _ ⟨rfl, ?_, Or.inl rfl⟩))⟩⟩⟩⟩
    rw [nI_clamp (show 6 < 2 ^ 31 by omega), hb_byte (x := a) (by omega) (by omega), hb_byte (x := b) (by omega) (by omega), hb_byte (x := c) (by omega) (by omega), hb_byte (x := d) (by omega) (by omega)]
    show hb_pl a b c d (upd a1 6 (hb_i a)) (upd a2 6 (hb_i b)) (upd a3 6 (hb_i c)) (upd a4 6 (hb_i d))
    refine ⟨fun p hp' => ?_, pk_us, pk_us, pk_us, pk_us⟩
    rw [pk_un (by omega), pk_un (by omega), pk_un (by omega)]
    exact hp p hp'
theorem hb_cutB {post : Int32 → St2 → Prop} {u : St2} {x y : Int32} (hu : hb_ok 0 0 0 0 0 u) (hbad : x < 0 ∨ 728 < x ∨ x = 364 ∨ y < (-60) ∨ 60 < y) (H : post (-1000000) u) : wpX_cut post u x y := by
  obtain ⟨cc, bu, cn, mn, kn, bt, bb, a1, a2, a3, a4, a5, a6, a7, a8, a9, a10, a11, a12, a13, a14, a15, a16, a17, a18, a19, a20, a21⟩ := u
  have hcc := hu.1
  refine br_t (by rw [hcc]; decide) (br_c (fun _ => H) (fun h1 => br_c (fun _ => H) (fun h2 => br_c (fun _ => H) (fun h3 => br_c (fun _ => H) (fun h4 => br_f (fun h5 => ?_) H)))))
  rcases hbad with t | t | t | t | t
  · exact h1 t
  · exact h2 t
  · exact h3 t
  · exact h4 t
  · exact absurd h5 (Int32.not_le.mpr t)
/-! the law over a script that is refused -/
theorem hb_b178 {post : Int32 → St0 → Prop} {mc ms : Nat} {x y x9 : Int32} (h : 22 ≤ mc) (h' : 1180 ≤ ms) (hbad : x < 0 ∨ 728 < x ∨ x = 364 ∨ y < (-60) ∨ 60 < y) (H : post 1 ()) : wL_lawOf_178 post mc ms x y 0 x9 3 0 0 := by
  have hR : hb_R 0 0 0 0 := ⟨by omega, by omega, by omega, by omega, by omega⟩
  refine ⟨by omega, by omega, 21, 1152, by omega, by omega, hb_init (by omega) (by omega) (fun u hu => ?_)⟩
  obtain ⟨cc, bu, cn, mn, kn, bt, bb, a1, a2, a3, a4, a5, a6, a7, a8, a9, a10, a11, a12, a13, a14, a15, a16, a17, a18, a19, a20, a21⟩ := u
  refine hb_cutB hu hbad (br_t rfl (br_t rfl ?_))
  refine hb_dimension0 hR hu (fun u hu => ?_)
  obtain ⟨cc, bu, cn, mn, kn, bt, bb, a1, a2, a3, a4, a5, a6, a7, a8, a9, a10, a11, a12, a13, a14, a15, a16, a17, a18, a19, a20, a21⟩ := u
  refine br_t rfl (hb_needless0 hu (fun u hu => ?_))
  obtain ⟨cc, bu, cn, mn, kn, bt, bb, a1, a2, a3, a4, a5, a6, a7, a8, a9, a10, a11, a12, a13, a14, a15, a16, a17, a18, a19, a20, a21⟩ := u
  exact br_t rfl (br_t rfl (br_t rfl (br_t rfl (br_t rfl H))))
theorem hb_bad {post : Int32 → St0 → Prop} {mc ms : Nat} {x y : Int32} (h : 22 ≤ mc) (h' : 1180 ≤ ms) (hbad : x < 0 ∨ 728 < x ∨ x = 364 ∨ y < (-60) ∨ 60 < y) (H : post 1 ()) : wL_lawOf_34 post mc ms x y 0 0 := by
  have h147 : ∀ x9 z0 z1 : Int32, wL_lawOf_147 post mc ms x y 0 x9 z0 z1 0 0 := fun x9 z0 z1 => nm_e (br_t rfl (hb_b178 h h' hbad H))
  have h136 : ∀ x5 x9 z0 z1 : Int32, wL_lawOf_136 post mc ms x y 0 x5 x9 z0 z1 0 0 := fun x5 x9 z0 z1 => br_c (fun _ => h147 _ _ _) (fun _ => h147 _ _ _)
  have h126 : ∀ x4 x5 x9 z0 : Int32, wL_lawOf_126 post mc ms x y 0 x4 x5 x9 z0 0 0 := fun x4 x5 x9 z0 => br_c (fun _ => h136 _ _ _ _) (fun _ => h136 _ _ _ _)
  have h102 : ∀ x3 x4 x5 x6 x7 z0 : Int32, wL_lawOf_102 post mc ms x y 0 x3 x4 x5 x6 x7 z0 0 0 := fun x3 x4 x5 x6 x7 z0 => nm_e (br_c (fun _ => h126 _ _ _ _) (fun _ => h126 _ _ _ _))
  have h87 : ∀ x3 x4 x5 x6 z0 : Int32, wL_lawOf_87 post mc ms x y 0 x3 x4 x5 x6 z0 0 0 := fun x3 x4 x5 x6 z0 => br_c (fun _ => h102 _ _ _ _ _ _) (fun _ => h102 _ _ _ _ _ _)
  have h72 : ∀ x3 x4 x5 z0 : Int32, wL_lawOf_72 post mc ms x y 0 x3 x4 x5 z0 0 0 := fun x3 x4 x5 z0 => br_c (fun _ => h87 _ _ _ _ _) (fun _ => h87 _ _ _ _ _)
  exact ⟨by decide, nm_e ⟨by decide, by decide, nm_e ⟨by decide, nm_e (br_c (fun _ => h72 _ _ _ _) (fun _ => h72 _ _ _ _))⟩⟩⟩
/-! the law over a script that is taken -/
theorem hb_toT : ∀ n, n < 4 → (1 : Int32) <<< (nI n &&& 31) = nI (2 ^ n) := by decide +kernel
theorem hb_to3 (a b c : Int) : hb_to a b c < 4 := by unfold hb_to; split <;> split <;> split <;> omega
theorem hb_due0 (a b c d : Int) : 0 ≤ hb_due a b c d ↔ -hb_far a b c ≤ d := by
  unfold hb_due
  split
  · exact ⟨fun _ => by omega, fun _ => by decide⟩
  · split
    · exact ⟨fun _ => by omega, fun _ => nI_pos' (by have := hb_to3 a b c; omega)⟩
    · exact ⟨fun t => absurd t (by decide), fun t => by omega⟩
theorem hb_312 {post : Int32 → St0 → Prop} {mc ms kc ks : Nat} {cc bu cn mn kn : Int32} {bt bb : Int64} {a1 a2 a3 a4 a5 a6 a7 a8 a9 a10 a11 a12 a13 a14 a16 a17 a18 a19 a20 a21 : Nat → Int32} {a15 : Nat → Int64} {a b c d : Int} (hR : hb_R a b c d) (hu : hb_ok 1 a b c d (cc, bu, cn, mn, kn, bt, bb, a1, a2, a3, a4, a5, a6, a7, a8, a9, a10, a11, a12, a13, a14, a15, a16, a17, a18, a19, a20, a21)) (H : post 1 ()) : wL_lawOf_312 post mc ms (hb_due a b c d) kc ks cc bu cn mn kn bt bb a1 a2 a3 a4 a5 a6 a7 a8 a9 a10 a11 a12 a13 a14 a15 a16 a17 a18 a19 a20 a21 := by
  refine br_c (fun _ => H) (fun h3 => hb_corners (Or.inr rfl) hR hu (fun u => ?_))
  obtain ⟨cc, bu, cn, mn, kn, bt, bb, a1, a2, a3, a4, a5, a6, a7, a8, a9, a10, a11, a12, a13, a14, a15, a16, a17, a18, a19, a20, a21⟩ := u
  have h1 : ¬ -hb_far a b c < d := fun t => h3 (if_pos t)
  refine ek_if (hb_due0 a b c d) (fun hd => br_t ?_ H) (fun hd => br_t ?_ H)
  · have e : d = -hb_far a b c := by omega
    have e' : hb_due a b c d = nI (hb_to a b c) := (if_neg h1).trans (if_pos e)
    rw [e', hb_toT _ (hb_to3 a b c), ← hb_len_eq hR e]
    rfl
  · show nI (hb_M a b c d).length = 0
    rw [hb_dim_lo (by omega)]
    rfl
theorem hb_286 {post : Int32 → St0 → Prop} {mc ms kc ks n : Nat} {cc bu cn mn kn : Int32} {bt bb : Int64} {a1 a2 a3 a4 a5 a6 a7 a8 a9 a10 a11 a12 a13 a14 a16 a17 a18 a19 a20 a21 : Nat → Int32} {a15 : Nat → Int64} {a b c d : Int} (hR : hb_R a b c d) (hd : hb_dig n a b c) (hu : hb_ok 1 a b c d (cc, bu, cn, mn, kn, bt, bb, a1, a2, a3, a4, a5, a6, a7, a8, a9, a10, a11, a12, a13, a14, a15, a16, a17, a18, a19, a20, a21)) (H : post 1 ()) : wL_lawOf_286 post mc ms (nI n) 1 (hb_due a b c d) kc ks cc bu cn mn kn bt bb a1 a2 a3 a4 a5 a6 a7 a8 a9 a10 a11 a12 a13 a14 a15 a16 a17 a18 a19 a20 a21 := by
  refine br_f (by decide) (hb_mBot hR hd hu (fun u hu => ?_))
  obtain ⟨cc, bu, cn, mn, kn, bt, bb, a1, a2, a3, a4, a5, a6, a7, a8, a9, a10, a11, a12, a13, a14, a15, a16, a17, a18, a19, a20, a21⟩ := u
  refine ek_if (hb_due0 a b c d) (fun h => br_t ?_ (hb_312 hR hu H)) (fun h => br_t ?_ (hb_312 hR hu H))
  · rw [if_neg (by omega)]
    rfl
  · rw [if_pos (by omega)]
theorem hb_244 {post : Int32 → St0 → Prop} {mc ms kc ks n : Nat} {cc bu cn mn kn : Int32} {bt bb : Int64} {a1 a2 a3 a4 a5 a6 a7 a8 a9 a10 a11 a12 a13 a14 a16 a17 a18 a19 a20 a21 : Nat → Int32} {a15 : Nat → Int64} {a b c d : Int} {z : Int32} (hR : hb_R a b c d) (hd : hb_dig n a b c) (hu : hb_ok 1 a b c d (cc, bu, cn, mn, kn, bt, bb, a1, a2, a3, a4, a5, a6, a7, a8, a9, a10, a11, a12, a13, a14, a15, a16, a17, a18, a19, a20, a21)) (H : post 1 ()) : wL_lawOf_244 post mc ms (nI n) (hb_i d) 1 (hb_i (hb_far a b c)) (hb_due a b c d) z z kc ks cc bu cn mn kn bt bb a1 a2 a3 a4 a5 a6 a7 a8 a9 a10 a11 a12 a13 a14 a15 a16 a17 a18 a19 a20 a21 := by
  have hf := hb_far_le hR
  have rd := hR.2.2.2
  refine br_t rfl (br_f (by decide) (hb_mTop hR hd hu (fun u hu => ?_)))
  obtain ⟨cc, bu, cn, mn, kn, bt, bb, a1, a2, a3, a4, a5, a6, a7, a8, a9, a10, a11, a12, a13, a14, a15, a16, a17, a18, a19, a20, a21⟩ := u
  refine ek_if (hb_due0 a b c d) (fun h => ek_if (hb_ile (by omega) (by omega) (by omega) (by omega)) (fun g => br_t ?_ (hb_286 hR hd hu H)) (fun g => br_t ?_ (hb_286 hR hd hu H))) (fun h => br_t ?_ (hb_286 hR hd hu H))
  · rw [if_neg (by omega)]
    unfold hb_tg
    rw [if_neg (by omega)]
  · rw [if_neg (by omega)]
    unfold hb_tg
    rw [if_pos (by omega)]
  · rw [if_pos (by omega)]
theorem hb_178 {post : Int32 → St0 → Prop} {mc ms n : Nat} {a b c d : Int} (h : 22 ≤ mc) (h' : 1180 ≤ ms) (hR : hb_R a b c d) (hd : hb_dig n a b c) (hn : n ≠ 364) (H : post 1 ()) : wL_lawOf_178 post mc ms (nI n) (hb_i d) 1 (hb_i (hb_far a b c)) (hb_due a b c d) 0 0 := by
  have hf := hb_far_le hR
  have rd := hR.2.2.2
  have hz : ¬ (a = 0 ∧ b = 0 ∧ c = 0) := by
    obtain ⟨h7, ea, eb, ec⟩ := hd
    omega
  refine ⟨by omega, by omega, 21, 1152, by omega, by omega, hb_init (by omega) (by omega) (fun u hu => ?_)⟩
  obtain ⟨cc, bu, cn, mn, kn, bt, bb, a1, a2, a3, a4, a5, a6, a7, a8, a9, a10, a11, a12, a13, a14, a15, a16, a17, a18, a19, a20, a21⟩ := u
  refine hb_cutG hu hd hR hn (fun u hu => ?_)
  obtain ⟨cc, bu, cn, mn, kn, bt, bb, a1, a2, a3, a4, a5, a6, a7, a8, a9, a10, a11, a12, a13, a14, a15, a16, a17, a18, a19, a20, a21⟩ := u
  refine br_f (by decide) (br_t rfl (hb_dimension1 hR hz hu (fun u hu => ?_)))
  obtain ⟨cc, bu, cn, mn, kn, bt, bb, a1, a2, a3, a4, a5, a6, a7, a8, a9, a10, a11, a12, a13, a14, a15, a16, a17, a18, a19, a20, a21⟩ := u
  refine br_t rfl (hb_needless1 hR hu (fun u hu => ?_))
  obtain ⟨cc, bu, cn, mn, kn, bt, bb, a1, a2, a3, a4, a5, a6, a7, a8, a9, a10, a11, a12, a13, a14, a15, a16, a17, a18, a19, a20, a21⟩ := u
  refine br_f (by decide) (ek_if (hb_ilt (by omega) (by omega) (by omega) (by omega)) (fun g => ?_) (fun g => ?_))
  · have e : hb_nl a b c d = 0 := if_neg (by omega)
    rw [e]
    exact hb_244 hR hd hu H
  · have e : hb_nl a b c d = 1 := if_pos (by omega)
    rw [e]
    exact hb_244 hR hd hu H
theorem hb_abI {x : Int} (h : -4 ≤ x ∧ x ≤ 4) : (if 0 ≤ x then hb_i x else -hb_i x) = hb_i (hb_ab x) := by
  rcases Int.lt_or_le x 0 with t | t
  · rw [if_neg (by omega), hb_ab_np (by omega), hb_ineg]
  · rw [if_pos t, hb_ab_nn t]
theorem hb_sgnI {x : Int} (h : -4 ≤ x ∧ x ≤ 4) : 0 ≤ hb_i x ↔ 0 ≤ x := by
  rw [← hb_i0, hb_ile (by omega) (by omega) (by omega) (by omega)]
theorem hb_zI {x : Int} (h : -4 ≤ x ∧ x ≤ 4) : hb_i x = 0 ↔ x = 0 := by
  rw [← hb_i0, hb_ieq (by omega) (by omega) (by omega) (by omega)]
theorem hb_good {post : Int32 → St0 → Prop} {mc ms n : Nat} {a b c d : Int} (h : 22 ≤ mc) (h' : 1180 ≤ ms) (hR : hb_R a b c d) (hd : hb_dig n a b c) (hn : n ≠ 364) (H : post 1 ()) : wL_lawOf_35 post mc ms (nI n) (hb_i d) 1 0 0 := by
  have hf := hb_far_le hR
  have L := hb_178 h h' hR hd hn H
  obtain ⟨h7, ea, eb, ec⟩ := hd
  obtain ⟨ra, rb, rc, rd⟩ := hR
  refine ⟨by decide, nm_r (e' := hb_i a) (by rw [ea]; exact hb_dg1 h7) ⟨by decide, by decide, nm_r (e' := hb_i b) (by rw [eb]; exact hb_dg2 h7) ⟨by decide, nm_r (e' := hb_i c) (by rw [ec]; exact hb_dg3 h7) ?_⟩⟩⟩
  refine hb_ite (fun z => wL_lawOf_72 post mc ms (nI n) (hb_i d) 1 (hb_i a) (hb_i b) (hb_i c) z 0 0) (hb_sgnI ra) ?_
  rw [hb_abI ra]
  refine hb_ite (fun z => wL_lawOf_87 post mc ms (nI n) (hb_i d) 1 (hb_i a) (hb_i b) (hb_i c) (hb_i (hb_ab a)) z 0 0) (hb_sgnI rb) ?_
  rw [hb_abI rb]
  refine hb_ite (fun z => wL_lawOf_102 post mc ms (nI n) (hb_i d) 1 (hb_i a) (hb_i b) (hb_i c) (hb_i (hb_ab a)) (hb_i (hb_ab b)) z 0 0) (hb_sgnI rc) ?_
  rw [hb_abI rc]
  refine nm_r (e' := hb_i (hb_far a b c)) (by rw [hb_iadd, hb_iadd]; exact hb_imul 8 _) ?_
  have L147 : ∀ z0 z1 : Int32, z1 + z0 = nI (hb_to a b c) → wL_lawOf_147 post mc ms (nI n) (hb_i d) 1 (hb_i (hb_far a b c)) z0 z1 0 0 := by
    intro z0 z1 e
    refine nm_r e (br_f (by decide) ?_)
    unfold hb_due at L
    have c1 : hb_i d ≤ -hb_i (hb_far a b c) ↔ d ≤ -hb_far a b c := by rw [hb_ineg, hb_ile (by omega) (by omega) (by omega) (by omega)]
    have c2 : hb_i d = -hb_i (hb_far a b c) ↔ d = -hb_far a b c := by rw [hb_ineg, hb_ieq (by omega) (by omega) (by omega) (by omega)]
    refine ek_if c1 (fun g => ek_if c2 (fun g2 => ?_) (fun g2 => ?_)) (fun g => ?_)
    · rw [if_neg (by omega), if_pos g2] at L
      exact L
    · rw [if_neg (by omega), if_neg g2] at L
      exact L
    · rw [if_pos (by omega)] at L
      exact L
  have two : ∀ x : Int, ((if x = 0 then (1 : Int32) else 0) = nI (if x = 0 then 1 else 0)) := fun x => by split <;> rfl
  refine hb_ite (fun z => wL_lawOf_126 post mc ms (nI n) (hb_i d) 1 (hb_i b) (hb_i c) (hb_i (hb_far a b c)) z 0 0) (hb_zI ra) ?_
  refine hb_ite (fun z => wL_lawOf_136 post mc ms (nI n) (hb_i d) 1 (hb_i c) (hb_i (hb_far a b c)) z (if a = 0 then 1 else 0) 0 0) (hb_zI rb) ?_
  refine hb_ite (fun z => wL_lawOf_147 post mc ms (nI n) (hb_i d) 1 (hb_i (hb_far a b c)) z ((if a = 0 then 1 else 0) + (if b = 0 then 1 else 0)) 0 0) (hb_zI rc) ?_
  refine L147 _ _ ?_
  rw [two a, two b, two c, nI_add, nI_add]
  rfl
theorem hb_lawOf {post : Int32 → St0 → Prop} {mc ms : Nat} {x y : Int32} (h : 22 ≤ mc) (h' : 1180 ≤ ms) (H : post 1 ()) : wpL_lawOf post mc ms () x y := by
  refine br_c (fun g => hb_bad h h' (Or.inl g) H) (fun g1 => br_c (fun g => hb_bad h h' (Or.inr (Or.inl g)) H) (fun g2 => br_c (fun g => hb_bad h h' (Or.inr (Or.inr (Or.inl g))) H) (fun g3 => br_c (fun g => hb_bad h h' (Or.inr (Or.inr (Or.inr (Or.inl g)))) H) (fun g4 => br_c (fun g => hb_bad h h' (Or.inr (Or.inr (Or.inr (Or.inr g)))) H) (fun g5 => ?_)))))
  obtain ⟨n, hn, e⟩ := nI_of2 (M := 728) (n := 728) (by decide) g1 (Int32.not_lt.mp g2)
  subst e
  have e : y = hb_i y.toInt := (Int32.ofInt_toInt y).symm
  rw [Int32.lt_iff_toInt_lt, show (-60 : Int32).toInt = -60 from by decide] at g4
  rw [Int32.lt_iff_toInt_lt, show (60 : Int32).toInt = 60 from by decide] at g5
  rw [e]
  exact hb_good h h' (a := ((n % 9 : Nat) : Int) - 4) (b := ((n / 9 % 9 : Nat) : Int) - 4) (c := ((n / 81 : Nat) : Int) - 4) ⟨by omega, by omega, by omega, by omega, by omega⟩ ⟨hn, rfl, rfl, rfl⟩ (fun t => g3 (by rw [t]; rfl)) H
theorem hb_cell {post : Int32 → Prop} {L : Nat} {xs : Nat → Int32} {i : Nat} (hL : L ≤ 2) (hi : i ≤ 1) (H : ∀ v, post v) : wpL_cellAt post L xs () (nI i) :=
  pk_le L i (fun _ => H 0) (fun h => ⟨pk_in i L h, H _⟩)
end
section
theorem i_vc (xs : Nat → Int32) (L : Nat) (hL : L ≤ 2) : wpL_law (fun r => r = 1) L xs :=
  hb_cell (i := 0) hL (by omega) (fun x => hb_cell (i := 1) hL (by omega) (fun y => ⟨596, 9520, by omega, by omega, hb_lawOf (by omega) (by omega) rfl⟩))
end
