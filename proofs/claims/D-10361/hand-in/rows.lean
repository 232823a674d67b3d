section
/-! ints by their bits (the first rows turned from the kit's rows on bits) -/
def rt_tb (x : Int32) (i : Nat) : Bool := x.toBitVec.getLsbD i
theorem rt_ext {x y : Int32} (h : ∀ i, i < 32 → rt_tb x i = rt_tb y i) : x = y := Int32.toBitVec_inj.mp (BitVec.eq_of_getLsbD_eq (fun i hi => h i hi))
theorem rt_or (x y : Int32) (i : Nat) : rt_tb (x ||| y) i = (rt_tb x i || rt_tb y i) := by unfold rt_tb; rw [Int32.toBitVec_or, BitVec.getLsbD_or]
theorem rt_and (x y : Int32) (i : Nat) : rt_tb (x &&& y) i = (rt_tb x i && rt_tb y i) := by unfold rt_tb; rw [Int32.toBitVec_and, BitVec.getLsbD_and]
theorem rt_xor (x y : Int32) (i : Nat) : rt_tb (x ^^^ y) i = (rt_tb x i ^^ rt_tb y i) := by unfold rt_tb; rw [Int32.toBitVec_xor, BitVec.getLsbD_xor]
theorem rt_b0 (i : Nat) : rt_tb 0 i = false := BitVec.getLsbD_zero
theorem rt_bm1 : ∀ i, i < 32 → rt_tb (-1) i = true := by decide +kernel
theorem rt_b1 : ∀ i, i < 32 → rt_tb 1 i = decide (i = 0) := by decide +kernel
theorem rt_sl : ∀ n, n < 32 → ((nI n &&& 31).toBitVec.smod 32).toNat = n := by decide +kernel
theorem rt_sshr0 (n : Nat) (hn : n < 32) (x : Int32) : rt_tb (x >>> (nI n &&& 31)) 0 = rt_tb x n := by
  unfold rt_tb
  rw [Int32.toBitVec_shiftRight]
  show (x.toBitVec.sshiftRight ((nI n &&& 31).toBitVec.smod 32).toNat).getLsbD 0 = _
  rw [rt_sl n hn, BitVec.getLsbD_sshiftRight]
  simp [hn]
theorem rt_set : ∀ l, l < 32 → ∀ i, i < 32 → rt_tb ((1 : Int32) <<< (nI l &&& 31)) i = decide (i = l) := by decide +kernel
/-- a truth value as the int that the code answers -/
def rt_i (b : Bool) : Int32 := match b with
  | true => 1
  | false => 0
theorem rt_one (x : Int32) (i : Nat) (hi : i < 32) : (x >>> (nI i &&& 31)) &&& 1 = rt_i (rt_tb x i) := by
  apply rt_ext
  intro j hj
  rw [rt_and, rt_b1 j hj]
  by_cases e : j = 0
  · subst e
    rw [rt_sshr0 i hi]
    generalize rt_tb x i = b
    cases b
    · decide +kernel
    · decide +kernel
  · rw [decide_eq_false e, Bool.and_false]
    generalize rt_tb x i = b
    cases b
    · exact (rt_b0 j).symm
    · show false = rt_tb 1 j
      rw [rt_b1 j hj, decide_eq_false e]
/-! codes: a beginning of n bits of the address a has the code 2^n - 1 + a / 2^(8-n); 511 codes -/
def rt_lv (c : Nat) : Nat := if c < 1 then 0 else if c < 3 then 1 else if c < 7 then 2 else if c < 15 then 3 else if c < 31 then 4 else if c < 63 then 5 else if c < 127 then 6 else if c < 255 then 7 else 8
def rt_cd (a n : Nat) : Nat := 2 ^ n - 1 + a / 2 ^ (8 - n)
/-- places in a low node, by the address's low four bits; in the top node, by its high three -/
def rt_q (o l : Nat) : Nat := 2 ^ l - 1 + o / 2 ^ (4 - l)
def rt_p (o l : Nat) : Nat := 2 ^ l - 1 + o / 2 ^ (3 - l)
def rt_pl (a n : Nat) : Nat := if n < 4 then rt_cd a n else rt_q (a % 16) (n - 4)
/-- a code's low node, its place there, its first address -/
def rt_nd (c : Nat) : Nat := (c + 1 - 2 ^ rt_lv c) / 2 ^ (rt_lv c - 4)
def rt_pc (c : Nat) : Nat := 2 ^ (rt_lv c - 4) - 1 + (c + 1 - 2 ^ rt_lv c) % 2 ^ (rt_lv c - 4)
def rt_ad (c : Nat) : Nat := (c + 1 - 2 ^ rt_lv c) * 2 ^ (8 - rt_lv c)
/-- the code at a place of a low node, and at a cell of the goals -/
def rt_iv (d p : Nat) : Nat := 2 ^ (rt_lv p + 4) - 1 + (d * 2 ^ rt_lv p + (p + 1 - 2 ^ rt_lv p))
theorem rt_t1 : ∀ a, a < 256 → ∀ n, n < 9 → rt_lv (rt_cd a n) = n := by decide +kernel
theorem rt_t2 : ∀ a, a < 256 → ∀ n, n < 9 → rt_cd a n < 511 := by decide +kernel
theorem rt_t3 : ∀ a, a < 256 → ∀ n, n < 4 → rt_cd a n < 15 := by decide +kernel
theorem rt_t4 : ∀ a, a < 256 → ∀ n, n < 9 → 4 ≤ n → 15 ≤ rt_cd a n := by decide +kernel
theorem rt_t5 : ∀ a, a < 256 → ∀ n, n < 9 → 4 ≤ n → rt_nd (rt_cd a n) = a / 16 := by decide +kernel
theorem rt_t6 : ∀ a, a < 256 → ∀ n, n < 9 → 4 ≤ n → rt_pc (rt_cd a n) = rt_q (a % 16) (n - 4) := by decide +kernel
theorem rt_t7 : ∀ o, o < 16 → ∀ l, l < 5 → rt_q o l < 31 := by decide +kernel
theorem rt_t8 : ∀ o, o < 16 → ∀ l, l < 5 → rt_lv (rt_q o l) = l := by decide +kernel
theorem rt_t9 : ∀ o, o < 8 → ∀ l, l < 4 → rt_p o l < 15 := by decide +kernel
theorem rt_t10 : ∀ o, o < 8 → ∀ l, l < 4 → rt_lv (rt_p o l) = l := by decide +kernel
theorem rt_t11 : ∀ a, a < 256 → ∀ n, n < 4 → rt_cd a n = rt_p (a / 32) n := by decide +kernel
theorem rt_t12 : ∀ i, i < 31 → ∀ j, j < 31 → i ≤ j → rt_lv i ≤ rt_lv j := by decide +kernel
theorem rt_t13 : ∀ c, c < 511 → 15 ≤ c → rt_iv (rt_nd c) (rt_pc c) = c := by decide +kernel
theorem rt_t14 : ∀ c, c < 511 → 15 ≤ c → rt_pc c < 31 := by decide +kernel
theorem rt_t15 : ∀ c, c < 511 → 15 ≤ c → rt_nd c < 16 := by decide +kernel
theorem rt_t16 : ∀ c, c < 511 → rt_lv c < 9 := by decide +kernel
theorem rt_t17 : ∀ c, c < 511 → rt_ad c + 2 ^ (8 - rt_lv c) ≤ 256 := by decide +kernel
theorem rt_t18 : ∀ c, c < 511 → rt_cd (rt_ad c) (rt_lv c) = c := by decide +kernel
theorem rt_t19 : ∀ c, c < 511 → rt_ad c % 2 ^ (8 - rt_lv c) = 0 := by decide +kernel
theorem rt_t20 : ∀ c, c < 511 → 2 ^ rt_lv c ≤ c + 1 := by decide +kernel
theorem rt_t21 : ∀ p, p < 31 → rt_lv p < 5 := by decide +kernel
theorem rt_t22 : ∀ p, p < 31 → ∀ k, k < 5 → (p < 2 ^ (k + 1) - 1 ↔ rt_lv p ≤ k) := by decide +kernel
theorem rt_t23 : ∀ c, c < 511 → ∀ k, k < 8 → (c < 2 ^ (k + 1) - 1 ↔ rt_lv c ≤ k) := by decide +kernel
theorem rt_t24 : ∀ a, a < 256 → ∀ n, n < 9 → rt_cd (a / 2 ^ (8 - n) * 2 ^ (8 - n)) n = rt_cd a n := by decide +kernel
/-! the same in ints -/
theorem rt_e1 : ∀ a, a < 256 → ∀ n, n < 4 → (((1 : Int32) <<< (nI n &&& 31)) - 1) + (nI a >>> ((8 - nI n) &&& 31)) = nI (rt_cd a n) := by decide +kernel
theorem rt_e2 : ∀ o, o < 16 → ∀ l, l < 5 → (((1 : Int32) <<< (nI l &&& 31)) - 1) + (nI o >>> ((4 - nI l) &&& 31)) = nI (rt_q o l) := by decide +kernel
theorem rt_e3 : ∀ a, a < 256 → nI a >>> ((4 : Int32) &&& 31) = nI (a / 16) := by decide +kernel
theorem rt_e4 : ∀ a, a < 256 → ∀ n, n < 9 → a % 2 ^ (8 - n) = 0 → nI a &&& ((255 : Int32) >>> (nI n &&& 31)) = 0 := by decide +kernel
theorem rt_e5 : ∀ a, a < 256 → ∀ n, n < 9 → a % 2 ^ (8 - n) = 0 → nI a ||| ((255 : Int32) >>> (nI n &&& 31)) = nI (a + 2 ^ (8 - n) - 1) := by decide +kernel
theorem rt_e6 : ∀ a, a < 256 → ∀ n, n < 9 → nI a &&& ((65280 : Int32) >>> (nI n &&& 31)) = nI (a / 2 ^ (8 - n) * 2 ^ (8 - n)) := by decide +kernel
theorem rt_e7 : ∀ c, c < 511 → ((nI c - ((1 : Int32) <<< (nI (rt_lv c) &&& 31))) + 1) <<< ((8 - nI (rt_lv c)) &&& 31) = nI (rt_ad c) := by decide +kernel
theorem rt_e8 : ∀ k, k < 31 → ((1 : Int32) <<< (nI k &&& 31)) - 1 = nI (2 ^ k - 1) := by decide +kernel
theorem rt_e9 : ∀ a, a < 256 → nI a >>> ((7 : Int32) &&& 31) = nI (a / 32 / 4) := by decide +kernel
theorem rt_e10 : ∀ a, a < 256 → nI a >>> ((6 : Int32) &&& 31) = nI (a / 32 / 2) := by decide +kernel
theorem rt_e11 : ∀ a, a < 256 → nI a >>> ((5 : Int32) &&& 31) = nI (a / 32) := by decide +kernel
theorem rt_e12 : ∀ a, a < 256 → nI a &&& 15 = nI (a % 16) := by decide +kernel
theorem rt_e13 : ∀ o, o < 16 → nI o >>> ((3 : Int32) &&& 31) = nI (o / 8) := by decide +kernel
theorem rt_e14 : ∀ o, o < 16 → nI o >>> ((2 : Int32) &&& 31) = nI (o / 4) := by decide +kernel
theorem rt_e15 : ∀ o, o < 16 → nI o >>> ((1 : Int32) &&& 31) = nI (o / 2) := by decide +kernel
theorem rt_e16 : ∀ g, g < 100 → nI g &&& 3 = nI (g % 4) := by decide +kernel
theorem rt_e17 : ∀ v, v < 4 → (nI v).toInt8.toInt32 = nI v := by decide +kernel
/-! the places of an address's beginnings, as sets of bits -/
def rt_tv (o : Nat) : Int32 := ((1 ||| ((2 : Int32) <<< (nI (o / 4) &&& 31))) ||| ((8 : Int32) <<< (nI (o / 2) &&& 31))) ||| ((128 : Int32) <<< (nI o &&& 31))
def rt_lw (o : Nat) : Int32 := (((1 ||| ((2 : Int32) <<< (nI (o / 8) &&& 31))) ||| ((8 : Int32) <<< (nI (o / 4) &&& 31))) ||| ((128 : Int32) <<< (nI (o / 2) &&& 31))) ||| ((1 : Int32) <<< ((15 + nI o) &&& 31))
theorem rt_v1 : ∀ o, o < 8 → ∀ i, i < 32 → rt_tb (rt_tv o) i = true → rt_lv i < 4 := by decide +kernel
theorem rt_v2 : ∀ o, o < 8 → ∀ i, i < 32 → rt_tb (rt_tv o) i = true → i = rt_p o (rt_lv i) := by decide +kernel
theorem rt_v3 : ∀ o, o < 8 → ∀ l, l < 4 → rt_tb (rt_tv o) (rt_p o l) = true := by decide +kernel
theorem rt_v4 : ∀ o, o < 16 → ∀ i, i < 32 → rt_tb (rt_lw o) i = true → rt_lv i < 5 := by decide +kernel
theorem rt_v5 : ∀ o, o < 16 → ∀ i, i < 32 → rt_tb (rt_lw o) i = true → i = rt_q o (rt_lv i) := by decide +kernel
theorem rt_v6 : ∀ o, o < 16 → ∀ l, l < 5 → rt_tb (rt_lw o) (rt_q o l) = true := by decide +kernel
theorem rt_v7 : ∀ o, o < 8 → rt_tb (rt_tv o) 31 = false := by decide +kernel
theorem rt_v8 : ∀ o, o < 16 → rt_tb (rt_lw o) 31 = false := by decide +kernel
theorem rt_v9 : ∀ i, i < 15 → rt_tb 32767 i = true := by decide +kernel
theorem rt_v10 : ∀ i, i < 31 → rt_tb 2147483647 i = true := by decide +kernel
end
section
/-! how many of the first k -/
def rt_n (p : Nat → Bool) : Nat → Nat
  | 0 => 0
  | k + 1 => rt_n p k + (p k).toNat
theorem rt_n_le (p : Nat → Bool) : ∀ k, rt_n p k ≤ k
  | 0 => Nat.le_refl 0
  | k + 1 => by
    have h := rt_n_le p k
    have h2 := Bool.toNat_le (p k)
    show rt_n p k + (p k).toNat ≤ k + 1
    omega
theorem rt_n_cong {p p' : Nat → Bool} : ∀ {k : Nat}, (∀ i, i < k → p i = p' i) → rt_n p k = rt_n p' k
  | 0, _ => rfl
  | k + 1, h => by
    show rt_n p k + (p k).toNat = rt_n p' k + (p' k).toNat
    rw [rt_n_cong (fun i hi => h i (by omega)), h k (by omega)]
theorem rt_n_0 {p : Nat → Bool} : ∀ {k : Nat}, (∀ i, i < k → p i = false) → rt_n p k = 0
  | 0, _ => rfl
  | k + 1, h => by
    show rt_n p k + (p k).toNat = 0
    rw [rt_n_0 (fun i hi => h i (by omega)), h k (by omega)]
    rfl
theorem rt_n_z {p : Nat → Bool} : ∀ {k : Nat}, rt_n p k = 0 → ∀ i, i < k → p i = false
  | 0, _ => fun i hi => absurd hi (by omega)
  | k + 1, h => by
    have h' : rt_n p k + (p k).toNat = 0 := h
    intro i hi
    by_cases e : i = k
    · subst e
      cases hp : p i
      · rfl
      · rw [hp] at h'
        have : (true).toNat = 1 := rfl
        omega
    · exact rt_n_z (k := k) (by omega) i (by omega)
theorem rt_n_add (p : Nat → Bool) (i : Nat) : ∀ j, rt_n p (i + j) = rt_n p i + rt_n (fun t => p (i + t)) j
  | 0 => rfl
  | j + 1 => by
    show rt_n p (i + j) + (p (i + j)).toNat = rt_n p i + (rt_n (fun t => p (i + t)) j + (p (i + j)).toNat)
    rw [rt_n_add p i j, Nat.add_assoc]
theorem rt_n_mono (p : Nat → Bool) {i j : Nat} (h : i ≤ j) : rt_n p i ≤ rt_n p j := by
  obtain ⟨d, rfl⟩ := Nat.le.dest h
  rw [rt_n_add]
  omega
theorem rt_n_t {p : Nat → Bool} {i : Nat} (e : p i = true) : rt_n p (i + 1) = rt_n p i + 1 := by
  show rt_n p i + (p i).toNat = _
  rw [e]
  rfl
theorem rt_n_f {p : Nat → Bool} {i : Nat} (e : p i = false) : rt_n p (i + 1) = rt_n p i := by
  show rt_n p i + (p i).toNat = _
  rw [e]
  rfl
theorem rt_n_ti {p : Nat → Bool} {i : Nat} (e : p i = true) : nI (rt_n p i) + 1 = nI (rt_n p (i + 1)) := by rw [rt_n_t e, nI_1]
theorem rt_n_fi {p : Nat → Bool} {i : Nat} (e : p i = false) : nI (rt_n p i) + 0 = nI (rt_n p (i + 1)) := by rw [rt_n_f e, Int32.add_zero]
theorem rt_n_set {p p' : Nat → Bool} {c : Nat} : ∀ {N : Nat}, c < N → (∀ k, k < N → p' k = (decide (k = c) || p k)) → rt_n p' N = rt_n p N + (!p c).toNat
  | 0, hc, _ => absurd hc (by omega)
  | N + 1, hc, h => by
    show rt_n p' N + (p' N).toNat = rt_n p N + (p N).toNat + (!p c).toNat
    by_cases e : c = N
    · subst e
      have h1 : rt_n p' c = rt_n p c := rt_n_cong (fun i hi => by rw [h i (by omega), decide_eq_false (by omega), Bool.false_or])
      rw [h1, h c (by omega), decide_eq_true rfl, Bool.true_or]
      cases p c <;> rfl
    · rw [rt_n_set (by omega) (fun k hk => h k (by omega)), h N (by omega), decide_eq_false (by omega), Bool.false_or]
      omega
theorem rt_n_clr {p p' : Nat → Bool} {c : Nat} (hp : p c = true) : ∀ {N : Nat}, c < N → (∀ k, k < N → p' k = (!decide (k = c) && p k)) → rt_n p' N + 1 = rt_n p N
  | 0, hc, _ => absurd hc (by omega)
  | N + 1, hc, h => by
    show rt_n p' N + (p' N).toNat + 1 = rt_n p N + (p N).toNat
    by_cases e : c = N
    · subst e
      have h1 : rt_n p' c = rt_n p c := rt_n_cong (fun i hi => by rw [h i (by omega), decide_eq_false (by omega), Bool.not_false, Bool.true_and])
      rw [h1, h c (by omega), decide_eq_true rfl, Bool.not_true, Bool.false_and, hp]
      rfl
    · have h2 := rt_n_clr hp (N := N) (by omega) (fun k hk => h k (by omega))
      rw [h N (by omega), decide_eq_false (by omega), Bool.not_false, Bool.true_and]
      omega
/-! sums, and one double counting -/
def rt_sm (f : Nat → Nat) : Nat → Nat
  | 0 => 0
  | k + 1 => rt_sm f k + f k
theorem rt_sm_add (f g : Nat → Nat) : ∀ N, rt_sm (fun k => f k + g k) N = rt_sm f N + rt_sm g N
  | 0 => rfl
  | N + 1 => by
    show rt_sm (fun k => f k + g k) N + (f N + g N) = rt_sm f N + f N + (rt_sm g N + g N)
    rw [rt_sm_add f g N]
    omega
theorem rt_sm_0 : ∀ N, rt_sm (fun _ => 0) N = 0
  | 0 => rfl
  | N + 1 => by
    show rt_sm (fun _ => 0) N + 0 = 0
    rw [rt_sm_0 N]
theorem rt_sm_one (v : Nat) : ∀ N, rt_sm (fun k => (decide (v = k + 1)).toNat) N = (decide (0 < v ∧ v ≤ N)).toNat
  | 0 => by
    rw [decide_eq_false (by omega)]
    rfl
  | N + 1 => by
    show rt_sm (fun k => (decide (v = k + 1)).toNat) N + (decide (v = N + 1)).toNat = _
    rw [rt_sm_one v N]
    by_cases e : v = N + 1
    · rw [decide_eq_true e, decide_eq_false (by omega), decide_eq_true (show 0 < v ∧ v ≤ N + 1 by omega)]
      rfl
    · rw [decide_eq_false e]
      by_cases e2 : 0 < v ∧ v ≤ N
      · rw [decide_eq_true e2, decide_eq_true (show 0 < v ∧ v ≤ N + 1 by omega)]
        rfl
      · rw [decide_eq_false e2, decide_eq_false (by omega)]
        rfl
theorem rt_dc (w : Nat → Nat) (N : Nat) : ∀ M, (∀ x, x < M → w x ≤ N) → rt_sm (fun k => rt_n (fun x => decide (w x = k + 1)) M) N + rt_n (fun x => decide (w x = 0)) M = M
  | 0, _ => by
    show rt_sm (fun _ => 0) N + 0 = 0
    rw [rt_sm_0]
  | M + 1, h => by
    show rt_sm (fun k => rt_n (fun x => decide (w x = k + 1)) M + (decide (w M = k + 1)).toNat) N + (rt_n (fun x => decide (w x = 0)) M + (decide (w M = 0)).toNat) = M + 1
    rw [rt_sm_add (fun k => rt_n (fun x => decide (w x = k + 1)) M) (fun k => (decide (w M = k + 1)).toNat), rt_sm_one]
    have h1 := rt_dc w N M (fun x hx => h x (by omega))
    have h2 := h M (by omega)
    by_cases e : w M = 0
    · rw [decide_eq_true e, decide_eq_false (show ¬ (0 < w M ∧ w M ≤ N) by omega)]
      have a : (true).toNat = 1 := rfl
      have b : (false).toNat = 0 := rfl
      omega
    · rw [decide_eq_false e, decide_eq_true (show 0 < w M ∧ w M ≤ N by omega)]
      have a : (true).toNat = 1 := rfl
      have b : (false).toNat = 0 := rfl
      omega
/-! the longest of k lengths that holds, plus one; 0 for none -/
def rt_bs (p : Nat → Bool) : Nat → Nat
  | 0 => 0
  | k + 1 => if p k then k + 1 else rt_bs p k
theorem rt_bs_t {p : Nat → Bool} {k : Nat} (e : p k = true) : rt_bs p (k + 1) = k + 1 := by
  show (if p k then k + 1 else rt_bs p k) = _
  rw [e]
  rfl
theorem rt_bs_f {p : Nat → Bool} {k : Nat} (e : p k = false) : rt_bs p (k + 1) = rt_bs p k := by
  show (if p k then k + 1 else rt_bs p k) = _
  rw [e]
  rfl
theorem rt_bs_le (p : Nat → Bool) : ∀ k, rt_bs p k ≤ k
  | 0 => Nat.le_refl 0
  | k + 1 => by
    have h := rt_bs_le p k
    cases e : p k
    · rw [rt_bs_f e]; omega
    · rw [rt_bs_t e]; omega
theorem rt_bs_0 {p : Nat → Bool} : ∀ {k : Nat}, (∀ j, j < k → p j = false) → rt_bs p k = 0
  | 0, _ => rfl
  | k + 1, h => by
    rw [rt_bs_f (h k (by omega))]
    exact rt_bs_0 (fun j hj => h j (by omega))
theorem rt_bs_s {p : Nat → Bool} {j : Nat} : ∀ {k : Nat}, j < k → p j = true → (∀ i, j < i → i < k → p i = false) → rt_bs p k = j + 1
  | 0, h, _, _ => absurd h (by omega)
  | k + 1, h, hp, hn => by
    by_cases e : j = k
    · subst e
      exact rt_bs_t hp
    · rw [rt_bs_f (hn k (by omega) (by omega))]
      exact rt_bs_s (by omega) hp (fun i h1 h2 => hn i h1 (by omega))
theorem rt_bs_hit {p : Nat → Bool} {j : Nat} : ∀ {k : Nat}, rt_bs p k = j + 1 → p j = true
  | 0, h => absurd (show 0 = j + 1 from h) (by omega)
  | k + 1, h => by
    cases e : p k
    · rw [rt_bs_f e] at h
      exact rt_bs_hit h
    · rw [rt_bs_t e] at h
      have : k = j := by omega
      rw [← this]
      exact e
theorem rt_bs_no {p : Nat → Bool} : ∀ {k : Nat}, rt_bs p k = 0 → ∀ j, j < k → p j = false
  | 0, _ => fun j hj => absurd hj (by omega)
  | k + 1, h => by
    cases e : p k
    · rw [rt_bs_f e] at h
      intro j hj
      by_cases e2 : j = k
      · rw [e2]; exact e
      · exact rt_bs_no h j (by omega)
    · rw [rt_bs_t e] at h
      omega
/-! the picture: which codes have a route (h), which goals (g) -/
def rt_b (h : Nat → Bool) (a : Nat) : Nat := rt_bs (fun n => h (rt_cd a n)) 9
def rt_w (h : Nat → Bool) (a : Nat) : Nat := if rt_b h a = 0 then 0 else rt_cd a (rt_b h a - 1) + 1
def rt_g (h : Nat → Bool) (g : Nat → Int32) (a : Nat) : Int32 := if rt_b h a = 0 then -1 else g (rt_cd a (rt_b h a - 1))
/-- k - 1 as an int -/
def rt_m (k : Nat) : Int32 := nI k + (-1)
theorem rt_m_s (k : Nat) : rt_m (k + 1) = nI k := pk_m1 k
theorem rt_m_0 : rt_m 0 = -1 := by decide
theorem rt_m_eq : ∀ b, b < 10 → ∀ n, n < 9 → (rt_m b = nI n ↔ b = n + 1) := by decide +kernel
theorem rt_nn {n : Nat} (h : n < 2 ^ 31) : ¬ nI n = -1 := by
  intro e
  have h1 := nI_pos h
  rw [e] at h1
  exact h1 (by decide)
theorem rt_nn2 {n : Nat} (h : n < 2 ^ 31) : ¬ nI n = -2 := by
  intro e
  have h1 := nI_pos h
  rw [e] at h1
  exact h1 (by decide)
theorem rt_b_le (h : Nat → Bool) (a : Nat) : rt_b h a ≤ 9 := rt_bs_le _ 9
theorem rt_b_hit {h : Nat → Bool} {a n : Nat} (e : rt_b h a = n + 1) : h (rt_cd a n) = true := rt_bs_hit (p := fun n => h (rt_cd a n)) e
theorem rt_g_0 {h : Nat → Bool} {g : Nat → Int32} {a : Nat} (e : rt_b h a = 0) : rt_g h g a = -1 := if_pos e
theorem rt_g_s {h : Nat → Bool} {g : Nat → Int32} {a n : Nat} (e : rt_b h a = n + 1) : rt_g h g a = g (rt_cd a n) := by
  unfold rt_g
  rw [if_neg (by omega), e]
  rfl
theorem rt_w_iff {h : Nat → Bool} {x c : Nat} (hx : x < 256) : rt_w h x = c + 1 ↔ rt_b h x = rt_lv c + 1 ∧ rt_cd x (rt_lv c) = c := by
  unfold rt_w
  by_cases e : rt_b h x = 0
  · rw [if_pos e]
    constructor
    · intro z; omega
    · intro z; omega
  · obtain ⟨n, hn⟩ : ∃ n, rt_b h x = n + 1 := ⟨rt_b h x - 1, by omega⟩
    have hn9 : n < 9 := by have := rt_b_le h x; omega
    rw [if_neg e, hn, Nat.add_sub_cancel]
    constructor
    · intro z
      have z2 : rt_cd x n = c := by omega
      have z3 : rt_lv c = n := by rw [← z2]; exact rt_t1 x hx n hn9
      rw [z3]
      exact ⟨rfl, z2⟩
    · intro z
      have z3 : n = rt_lv c := by omega
      rw [z3, z.2]
theorem rt_w_0 {h : Nat → Bool} {x : Nat} : rt_w h x = 0 ↔ rt_b h x = 0 := by
  unfold rt_w
  by_cases e : rt_b h x = 0
  · rw [if_pos e]
    exact ⟨fun _ => e, fun _ => rfl⟩
  · rw [if_neg e]
    exact ⟨fun z => absurd z (by omega), fun z => absurd z e⟩
theorem rt_w_le {h : Nat → Bool} {x : Nat} (hx : x < 256) : rt_w h x ≤ 511 := by
  unfold rt_w
  by_cases e : rt_b h x = 0
  · rw [if_pos e]; omega
  · rw [if_neg e]
    have h1 := rt_b_le h x
    have := rt_t2 x hx (rt_b h x - 1) (by omega)
    omega
/-- which addresses a code's beginning takes in -/
theorem rt_aux {x c P K : Nat} (hp : 0 < P) (hk : 0 < K) (h20 : P ≤ c + 1) : P - 1 + x / K = c ↔ (c + 1 - P) * K ≤ x ∧ x < (c + 1 - P) * K + K := by
  have e1 : (c + 1 - P) * K ≤ x ↔ c + 1 - P ≤ x / K := (Nat.le_div_iff_mul_le hk).symm
  have e2 : x < (c + 1 - P) * K + K ↔ x / K < c + 1 - P + 1 := by
    rw [← Nat.succ_mul]
    exact (Nat.div_lt_iff_lt_mul hk).symm
  rw [e1, e2]
  generalize x / K = D
  omega
theorem rt_cd_in {x c : Nat} (hc : c < 511) : rt_cd x (rt_lv c) = c ↔ rt_ad c ≤ x ∧ x < rt_ad c + 2 ^ (8 - rt_lv c) :=
  rt_aux (Nat.two_pow_pos _) (Nat.two_pow_pos _) (rt_t20 c hc)
/-- how many addresses go by the code c -/
def rt_ld (h : Nat → Bool) (c : Nat) : Nat := rt_n (fun x => decide (rt_w h x = c + 1)) 256
theorem rt_ld_eq {h : Nat → Bool} {c : Nat} (hc : c < 511) : rt_n (fun i => decide (rt_b h (rt_ad c + i) = rt_lv c + 1)) (2 ^ (8 - rt_lv c)) = rt_ld h c := by
  have h17 := rt_t17 c hc
  have hp : 0 < 2 ^ (8 - rt_lv c) := Nat.two_pow_pos _
  unfold rt_ld
  obtain ⟨r, hr⟩ := Nat.le.dest h17
  rw [← hr, rt_n_add, rt_n_add]
  have a1 : rt_n (fun x => decide (rt_w h x = c + 1)) (rt_ad c) = 0 := rt_n_0 (fun i hi => decide_eq_false (fun z => by
    have z1 := ((rt_w_iff (by omega)).mp z).2
    have z2 := (rt_cd_in hc).mp z1
    omega))
  have a3 : rt_n (fun t => decide (rt_w h (rt_ad c + 2 ^ (8 - rt_lv c) + t) = c + 1)) r = 0 := rt_n_0 (fun i hi => decide_eq_false (fun z => by
    have z1 := ((rt_w_iff (by omega)).mp z).2
    have z2 := (rt_cd_in hc).mp z1
    omega))
  rw [a1, a3, Nat.zero_add, Nat.add_zero]
  refine rt_n_cong (fun i hi => decide_eq_decide.mpr ?_)
  rw [rt_w_iff (by omega)]
  exact ⟨fun z => ⟨z, (rt_cd_in hc).mpr ⟨by omega, by omega⟩⟩, fun z => z.1⟩
theorem rt_ld_0 {h : Nat → Bool} {c : Nat} (e : h c = false) : rt_ld h c = 0 :=
  rt_n_0 (fun x hx => decide_eq_false (fun z => by
    have z1 := (rt_w_iff hx).mp z
    have z2 := rt_b_hit z1.1
    rw [z1.2, e] at z2
    exact absurd z2 (by decide)))
theorem rt_ld_le (h : Nat → Bool) (c : Nat) : rt_ld h c ≤ 256 := rt_n_le _ 256
theorem rt_ld_sum (h : Nat → Bool) : rt_sm (rt_ld h) 511 + rt_n (fun x => decide (rt_w h x = 0)) 256 = 256 := rt_dc (rt_w h) 511 256 (fun x hx => rt_w_le hx)
/-! sets of bits that pick places -/
def rt_sel (x y : Int32) (q : Nat → Nat) (N : Nat) : Prop :=
  rt_tb x 31 = false ∧ (∀ i, i < 31 → rt_tb x i = true → rt_tb y i = true ∧ rt_lv i < N ∧ i = q (rt_lv i)) ∧ (∀ l, l < N → q l < 31 ∧ rt_lv (q l) = l ∧ rt_tb x (q l) = rt_tb y (q l))
theorem rt_sel_no {x y : Int32} {q : Nat → Nat} {N : Nat} (h : rt_sel x y q N) (hx : ∀ i, i < 31 → rt_tb x i = false) : ∀ l, l < N → rt_tb y (q l) = false := by
  intro l hl
  obtain ⟨h1, _, h3⟩ := h.2.2 l hl
  rw [← h3]
  exact hx _ h1
theorem rt_sel_none {x y : Int32} {q : Nat → Nat} {N : Nat} (h : rt_sel x y q N) (hy : ∀ l, l < N → rt_tb y (q l) = false) : ∀ i, i < 31 → rt_tb x i = false := by
  intro i hi
  cases e : rt_tb x i
  · rfl
  · obtain ⟨h1, h2, h3⟩ := h.2.1 i hi e
    have h4 := hy _ h2
    rw [← h3, h1] at h4
    exact absurd h4 (by decide)
theorem rt_sel_hi {x y : Int32} {q : Nat → Nat} {N p : Nat} (h : rt_sel x y q N) (hx : ¬ x = 0) (hp : p ≤ 30) (h1 : p = 0 ∨ rt_tb x p = true) (h2 : ∀ j, p < j → j ≤ 30 → rt_tb x j = false) :
    rt_lv p < N ∧ rt_tb y (q (rt_lv p)) = true ∧ ∀ j, rt_lv p < j → j < N → rt_tb y (q j) = false := by
  have hb : rt_tb x p = true := by
    rcases h1 with h1 | h1
    · cases e : rt_tb x p
      · refine absurd (rt_ext (fun i hi => ?_)) hx
        rw [rt_b0]
        by_cases e1 : i = 31
        · rw [e1]; exact h.1
        · by_cases e2 : i = p
          · rw [e2]; exact e
          · exact h2 i (by omega) (by omega)
      · rfl
    · exact h1
  obtain ⟨a1, a2, a3⟩ := h.2.1 p (by omega) hb
  refine ⟨a2, by rw [← a3]; exact a1, fun j hj hN => ?_⟩
  obtain ⟨b1, b2, b3⟩ := h.2.2 j hN
  rw [← b3]
  refine h2 _ ?_ (by omega)
  rcases Nat.lt_or_ge p (q j) with z | z
  · exact z
  · have := rt_t12 (q j) b1 p (by omega) z
    omega
theorem rt_sel_low (y : Int32) {o : Nat} (ho : o < 16) : rt_sel (y &&& rt_lw o) y (rt_q o) 5 := by
  refine ⟨?_, fun i hi e => ?_, fun l hl => ⟨rt_t7 o ho l hl, rt_t8 o ho l hl, ?_⟩⟩
  · rw [rt_and, rt_v8 o ho, Bool.and_false]
  · rw [rt_and, Bool.and_eq_true] at e
    exact ⟨e.1, rt_v4 o ho i (by omega) e.2, rt_v5 o ho i (by omega) e.2⟩
  · rw [rt_and, rt_v6 o ho l hl, Bool.and_true]
theorem rt_sel_low2 (y : Int32) {o : Nat} (ho : o < 16) : rt_sel ((y &&& rt_lw o) &&& 2147483647) y (rt_q o) 5 := by
  obtain ⟨h1, h2, h3⟩ := rt_sel_low y ho
  refine ⟨?_, fun i hi e => ?_, fun l hl => ⟨(h3 l hl).1, (h3 l hl).2.1, ?_⟩⟩
  · rw [rt_and, h1, Bool.false_and]
  · rw [rt_and, Bool.and_eq_true] at e
    exact h2 i hi e.1
  · rw [rt_and, (h3 l hl).2.2, rt_v10 _ (h3 l hl).1, Bool.and_true]
theorem rt_sel_top (y : Int32) {o : Nat} (ho : o < 8) : rt_sel (y &&& rt_tv o) y (rt_p o) 4 := by
  refine ⟨?_, fun i hi e => ?_, fun l hl => ⟨?_, rt_t10 o ho l hl, ?_⟩⟩
  · rw [rt_and, rt_v7 o ho, Bool.and_false]
  · rw [rt_and, Bool.and_eq_true] at e
    exact ⟨e.1, rt_v1 o ho i (by omega) e.2, rt_v2 o ho i (by omega) e.2⟩
  · have := rt_t9 o ho l hl
    omega
  · rw [rt_and, rt_v3 o ho l hl, Bool.and_true]
theorem rt_sel_top2 (y : Int32) {o : Nat} (ho : o < 8) : rt_sel ((y &&& rt_tv o) &&& 32767) y (rt_p o) 4 := by
  obtain ⟨h1, h2, h3⟩ := rt_sel_top y ho
  refine ⟨?_, fun i hi e => ?_, fun l hl => ⟨(h3 l hl).1, (h3 l hl).2.1, ?_⟩⟩
  · rw [rt_and, h1, Bool.false_and]
  · rw [rt_and, Bool.and_eq_true] at e
    exact h2 i hi e.1
  · rw [rt_and, (h3 l hl).2.2, rt_v9 _ (rt_t9 o ho l hl), Bool.and_true]
/-! the state's picture -/
def rt_H (T : Int32) (A : Nat → Int32) (c : Nat) : Bool := if c < 15 then rt_tb T c else rt_tb (A (rt_nd c)) (rt_pc c)
def rt_G (A1 A3 : Nat → Int32) (c : Nat) : Int32 := if c < 15 then A1 c else A3 (rt_nd c * 31 + rt_pc c)
theorem rt_H_top {T : Int32} {A : Nat → Int32} {a n : Nat} (ha : a < 256) (hn : n < 4) : rt_H T A (rt_cd a n) = rt_tb T (rt_cd a n) := if_pos (rt_t3 a ha n hn)
theorem rt_H_low {T : Int32} {A : Nat → Int32} {a n : Nat} (ha : a < 256) (hn : n < 9) (h4 : 4 ≤ n) : rt_H T A (rt_cd a n) = rt_tb (A (a / 16)) (rt_q (a % 16) (n - 4)) := by
  unfold rt_H
  have := rt_t4 a ha n hn h4
  rw [if_neg (by omega), rt_t5 a ha n hn h4, rt_t6 a ha n hn h4]
theorem rt_G_top {A1 A3 : Nat → Int32} {a n : Nat} (ha : a < 256) (hn : n < 4) : rt_G A1 A3 (rt_cd a n) = A1 (rt_cd a n) := if_pos (rt_t3 a ha n hn)
theorem rt_G_low {A1 A3 : Nat → Int32} {a n : Nat} (ha : a < 256) (hn : n < 9) (h4 : 4 ≤ n) : rt_G A1 A3 (rt_cd a n) = A3 (a / 16 * 31 + rt_q (a % 16) (n - 4)) := by
  unfold rt_G
  have := rt_t4 a ha n hn h4
  rw [if_neg (by omega), rt_t5 a ha n hn h4, rt_t6 a ha n hn h4]
/-- where spans start -/
def rt_st (v : Nat → Int32) (a : Nat) : Bool := match a with
  | 0 => true
  | a + 1 => decide (¬ v (a + 1) = v a)
/-- the first address from i on -/
def rt_nx (P : Nat → Prop) (i : Nat) (r : Int32) : Prop := (∃ x, i ≤ x ∧ x < 256 ∧ P x ∧ (∀ y, i ≤ y → y < x → ¬ P y) ∧ r = nI x) ∨ ((∀ x, i ≤ x → x < 256 → ¬ P x) ∧ r = -1)
theorem rt_nx_end {P : Nat → Prop} {r : Int32} (h : rt_nx P 256 r) : r = -1 := by
  rcases h with ⟨x, h1, h2, _⟩ | h
  · omega
  · exact h.2
theorem rt_nx_hit {P : Nat → Prop} {i : Nat} {r : Int32} (hi : i < 256) (hP : P i) (h : rt_nx P i r) : r = nI i := by
  rcases h with ⟨x, h1, h2, h3, h4, h5⟩ | h
  · by_cases e : x = i
    · rw [h5, e]
    · exact absurd hP (h4 i (by omega) (by omega))
  · exact absurd hP (h.1 i (by omega) hi)
theorem rt_nx_skip {P : Nat → Prop} {i : Nat} {r : Int32} (hP : ¬ P i) (h : rt_nx P i r) : rt_nx P (i + 1) r := by
  rcases h with ⟨x, h1, h2, h3, h4, h5⟩ | h
  · by_cases e : x = i
    · rw [e] at h3
      exact absurd h3 hP
    · exact Or.inl ⟨x, by omega, h2, h3, fun y hy => h4 y (by omega), h5⟩
  · exact Or.inr ⟨fun x hx => h.1 x (by omega), h.2⟩
theorem rt_nx_0 (P : Nat → Prop) : rt_nx P 256 (-1) := Or.inr ⟨fun x h1 h2 => absurd h1 (by omega), rfl⟩
theorem rt_nx_t {P : Nat → Prop} {i : Nat} (hi : i < 256) (hP : P i) : rt_nx P i (nI i) := Or.inl ⟨i, Nat.le_refl i, hi, hP, fun y h1 h2 => absurd h1 (by omega), rfl⟩
theorem rt_nx_f {P : Nat → Prop} {i : Nat} {r : Int32} (hP : ¬ P i) (h : rt_nx P (i + 1) r) : rt_nx P i r := by
  rcases h with ⟨x, h1, h2, h3, h4, h5⟩ | h
  · refine Or.inl ⟨x, by omega, h2, h3, fun y hy hx => ?_, h5⟩
    by_cases e : y = i
    · rw [e]; exact hP
    · exact h4 y (by omega) hx
  · refine Or.inr ⟨fun x hx h2 => ?_, h.2⟩
    by_cases e : x = i
    · rw [e]; exact hP
    · exact h.1 x (by omega) h2
theorem rt_nx_from {Q : Nat → Prop} {f : Nat} {r : Int32} (h : rt_nx (fun x => f ≤ x ∧ Q x) 0 r) : rt_nx Q f r := by
  rcases h with ⟨x, h1, h2, h3, h4, h5⟩ | h
  · exact Or.inl ⟨x, h3.1, h2, h3.2, fun y hy hx z => h4 y (Nat.zero_le y) hx ⟨hy, z⟩, h5⟩
  · exact Or.inr ⟨fun x hx h2 z => h.1 x (Nat.zero_le x) h2 ⟨hx, z⟩, h.2⟩
end
section
section
variable {post : Int32 → Prop} {T c : Int32} {A1 A2 A3 : Nat → Int32}
theorem rt_x_addr {a : Nat} (ha : a < 256) (h : post 1) : wpX_isAddress post () (nI a) :=
  br_f (nI_pos (by omega)) (pk_le 256 a (fun z => absurd z (by omega)) (fun _ => h))
theorem rt_x_beg {a n : Nat} (ha : a < 256) (hn : n < 9) (hal : a % 2 ^ (8 - n) = 0) (h : post 1) : wpX_isBeginning post () (nI a) (nI n) :=
  br_f (nI_pos (by omega)) (pk_lt 8 n (fun z => absurd z (by omega)) (fun _ => rt_x_addr ha (br_f (by decide) (br_t (rt_e4 a ha n hn hal) h))))
theorem rt_pl_t {a n : Nat} (hn : n < 4) : rt_pl a n = rt_cd a n := if_pos hn
theorem rt_pl_f {a n : Nat} (hn : 4 ≤ n) : rt_pl a n = rt_q (a % 16) (n - 4) := if_neg (by omega)
theorem rt_pl_31 {a n : Nat} (ha : a < 256) (hn : n < 9) : rt_pl a n < 31 := by
  rcases Nat.lt_or_ge n 4 with z | z
  · rw [rt_pl_t z]
    have := rt_t3 a ha n z
    omega
  · rw [rt_pl_f z]
    exact rt_t7 _ (by omega) _ (by omega)
theorem rt_x_place {a n : Nat} (ha : a < 256) (hn : n < 9) (h : post (nI (rt_pl a n))) : wpX_place post () (nI a) (nI n) := by
  unfold wpX_place
  refine pk_le 4 n (fun z => ?_) (fun z => ?_)
  · rw [rt_pl_f z] at h
    refine nm_r (pk_sub (a := n) (b := 4) z) ?_
    rw [rt_e12 a ha, rt_e2 _ (by omega) _ (by omega)]
    exact h
  · rw [rt_pl_t z] at h
    rw [rt_e1 a ha n z]
    exact h
theorem rt_x_26 {x : Int32} {p : Nat} (hp : p < 31) (h : post (rt_i (rt_tb x p))) : wX_has_26 post (nI p) x T c A1 A2 A3 := by
  unfold wX_has_26
  rw [rt_one x p (by omega)]
  cases e : rt_tb x p
  · rw [e] at h
    exact br_t rfl h
  · rw [e] at h
    exact br_f (by decide) h
theorem rt_x_has {a n : Nat} (ha : a < 256) (hn : n < 9) (h : post (rt_i (rt_H T A2 (rt_cd a n)))) : wpX_has post (T, c, A1, A2, A3) (nI a) (nI n) := by
  unfold wpX_has
  refine rt_x_place ha hn (pk_le 4 n (fun z => ⟨?_, ?_⟩) (fun z => ?_))
  · rw [rt_e3 a ha]
    exact vp_in_nI (by omega) (by omega)
  · rw [rt_e3 a ha, nI_clamp (by omega)]
    refine rt_x_26 (rt_pl_31 ha hn) ?_
    rw [rt_pl_f z, ← rt_H_low (T := T) ha hn z]
    exact h
  · refine rt_x_26 (rt_pl_31 ha hn) ?_
    rw [rt_pl_t z, ← rt_H_top (A := A2) ha z]
    exact h
theorem rt_ix {a n : Nat} (ha : a < 256) : (nI a >>> ((4 : Int32) &&& 31)) * 31 + nI (rt_pl a n) = nI (a / 16 * 31 + rt_pl a n) := by
  rw [rt_e3 a ha, show (31 : Int32) = nI 31 from rfl, pk_mul, nI_add]
theorem rt_x_goalOf {a n : Nat} (ha : a < 256) (hn : n < 9) (h : post (rt_G A1 A3 (rt_cd a n))) : wpX_goalOf post (T, c, A1, A2, A3) (nI a) (nI n) := by
  unfold wpX_goalOf
  have h31 := rt_pl_31 ha hn
  refine rt_x_place ha hn (pk_le 4 n (fun z => ⟨?_, ?_⟩) (fun z => ⟨?_, ?_⟩))
  · rw [rt_ix ha]
    exact vp_in_nI (by omega) (by omega)
  · rw [rt_ix ha, nI_clamp (by omega), rt_pl_f z, ← rt_G_low (A1 := A1) (A3 := A3) ha hn z]
    exact h
  · rw [rt_pl_t z]
    exact vp_in_nI (rt_t3 a ha n z) (by omega)
  · rw [nI_clamp (by omega), rt_pl_t z, ← rt_G_top (A1 := A1) (A3 := A3) ha z]
    exact h
theorem rt_x_top {a : Nat} (ha : a < 256) (h : post (rt_tv (a / 32))) : wpX_topPlaces post () (nI a) := by
  unfold wpX_topPlaces
  rw [rt_e9 a ha, rt_e10 a ha, rt_e11 a ha]
  exact h
theorem rt_x_low {a : Nat} (ha : a < 256) (h : post (rt_lw (a % 16))) : wpX_lowPlaces post () (nI a) := by
  unfold wpX_lowPlaces
  refine nm_r (rt_e12 a ha) ?_
  have ho : a % 16 < 16 := by omega
  rw [rt_e13 _ ho, rt_e14 _ ho, rt_e15 _ ho]
  exact h
theorem rt_x_highest {x : Int32} (H : ∀ p, p ≤ 30 → (p = 0 ∨ rt_tb x p = true) → (∀ j, p < j → j ≤ 30 → rt_tb x j = false) → post (nI p)) : wpX_highest post () x := by
  refine ⟨31, pk_loopD (σ := Unit) (fun n i _ => wX_highest_3 post x n (nI i)) (fun i _ => i ≤ 30 ∧ ∀ j, i < j → j ≤ 30 → rt_tb x j = false) ?_ ?_ 30 () ⟨Nat.le_refl 30, fun j h1 h2 => absurd h1 (by omega)⟩⟩
  · intro n _ hI
    exact br_t (show nI 0 ≤ 0 by decide) (H 0 (by omega) (Or.inl rfl) hI.2)
  · intro n i _ hI ih
    obtain ⟨hI1, hI2⟩ := hI
    refine br_f (nI_nle (by omega) (by omega)) ?_
    rw [rt_one x (i + 1) (by omega)]
    cases e : rt_tb x (i + 1)
    · refine br_t rfl (nm_r (pk_m1 i) (ih () ⟨by omega, fun j h1 h2 => ?_⟩))
      by_cases e2 : j = i + 1
      · rw [e2]; exact e
      · exact hI2 j (by omega) h2
    · exact br_f (by decide) (H (i + 1) hI1 (Or.inr e) hI2)
theorem rt_x_bitsAt {p : Nat} (hp : p ≤ 30) (h : post (nI (rt_lv p))) : wpX_bitsAt post () (nI p) := by
  have h5 := rt_t21 p (by omega)
  refine pk_loop (σ := Unit) (fun n i _ => wX_bitsAt_2 post (nI p) n (nI i)) (fun _ _ => True) (rt_lv p) 0 () (Nat.zero_le _) trivial ?_ ?_
  · intro n _ _
    have e : ((1 : Int32) <<< ((nI (rt_lv p) + 1) &&& 31)) - 1 = nI (2 ^ (rt_lv p + 1) - 1) := by rw [nI_1]; exact rt_e8 _ (by omega)
    refine br_t ?_ h
    rw [e]
    exact nI_lt ((rt_t22 p (by omega) (rt_lv p) h5).mpr (Nat.le_refl _)) (by
      have : 2 ^ (rt_lv p + 1) ≤ 2 ^ 5 := Nat.pow_le_pow_right (by omega) (by omega)
      omega)
  · intro n i _ hi _ hw
    have e : ((1 : Int32) <<< ((nI i + 1) &&& 31)) - 1 = nI (2 ^ (i + 1) - 1) := by rw [nI_1]; exact rt_e8 _ (by omega)
    refine br_f ?_ (nm_r (nI_1 i) (hw () trivial))
    rw [e]
    refine nI_nlt ?_ (by omega)
    have := rt_t22 p (by omega) i (by omega)
    omega
theorem rt_x_hb {x : Int32} (H : ∀ p, p ≤ 30 → (p = 0 ∨ rt_tb x p = true) → (∀ j, p < j → j ≤ 30 → rt_tb x j = false) → post (nI (rt_lv p))) : wpX_highest (fun r => wpX_bitsAt (fun r' => post r') () r) () x :=
  rt_x_highest (fun p hp h1 h2 => rt_x_bitsAt hp (H p hp h1 h2))
/-- how many bits the longest beginning of an address has -/
theorem rt_x_bb {a : Nat} (ha : a < 256) (h : post (rt_m (rt_b (rt_H T A2) a))) : wpX_bitsBelow post (T, c, A1, A2, A3) (nI a) 9 := by
  have ho : a % 16 < 16 := by omega
  have ho2 : a / 32 < 8 := by omega
  have sl := rt_sel_low2 (A2 (a / 16)) ho
  have st := rt_sel_top2 T ho2
  unfold wpX_bitsBelow
  refine br_f (by decide) ⟨?_, rt_x_low ha ?_⟩
  · rw [rt_e3 a ha]
    exact vp_in_nI (by omega) (by omega)
  · rw [rt_e3 a ha, nI_clamp (by omega), show (((1 : Int32) <<< ((((1 : Int32) <<< (((9 : Int32) - 4) &&& 31)) - 1) &&& 31)) - 1) = 2147483647 from by decide]
    unfold wX_bitsBelow_34
    refine br_c (fun z => rt_x_top ha (nm_e (br_t (by decide) (nm_e (br_c (fun z2 => ?_) (fun z2 => rt_x_hb (fun p hp h1 h2 => ?_))))))) (fun z => rt_x_hb (fun p hp h1 h2 => ?_))
    · have hl := rt_sel_no sl (fun i hi => by rw [z]; exact rt_b0 i)
      have ht := rt_sel_no st (fun i hi => by rw [z2]; exact rt_b0 i)
      have e : rt_b (rt_H T A2) a = 0 := rt_bs_0 (fun n hn => by
        show rt_H T A2 (rt_cd a n) = false
        rcases Nat.lt_or_ge n 4 with g | g
        · rw [rt_H_top ha g, rt_t11 a ha n g]
          exact ht n g
        · rw [rt_H_low ha hn g]
          exact hl (n - 4) (by omega))
      rw [e] at h
      exact h
    · have hl := rt_sel_no sl (fun i hi => by rw [z]; exact rt_b0 i)
      obtain ⟨k1, k2, k3⟩ := rt_sel_hi st z2 hp h1 h2
      have e : rt_b (rt_H T A2) a = rt_lv p + 1 := rt_bs_s (by omega) (by
        show rt_H T A2 (rt_cd a (rt_lv p)) = true
        rw [rt_H_top ha k1, rt_t11 a ha _ k1]
        exact k2) (fun n h1 hn => by
        show rt_H T A2 (rt_cd a n) = false
        rcases Nat.lt_or_ge n 4 with g | g
        · rw [rt_H_top ha g, rt_t11 a ha n g]
          exact k3 n h1 g
        · rw [rt_H_low ha hn g]
          exact hl (n - 4) (by omega))
      rw [e, rt_m_s] at h
      exact h
    · obtain ⟨k1, k2, k3⟩ := rt_sel_hi sl z hp h1 h2
      have e : rt_b (rt_H T A2) a = 4 + rt_lv p + 1 := rt_bs_s (by omega) (by
        show rt_H T A2 (rt_cd a (4 + rt_lv p)) = true
        rw [rt_H_low ha (by omega) (by omega), Nat.add_sub_cancel_left]
        exact k2) (fun n h1 hn => by
        show rt_H T A2 (rt_cd a n) = false
        rw [rt_H_low ha hn (by omega)]
        exact k3 (n - 4) (by omega) (by omega))
      rw [e, rt_m_s, ← nI_add] at h
      exact h
/-- the same below any limit: some number of bits, or none -/
theorem rt_x_bw {a m : Nat} (ha : a < 256) (hm : m < 2 ^ 31) (H : ∀ b, b ≤ 9 → post (rt_m b)) : wpX_bitsBelow post (T, c, A1, A2, A3) (nI a) (nI m) := by
  have h0 := H 0 (by omega)
  rw [rt_m_0] at h0
  have w86 : ∀ z0 z1 : Int32, wX_bitsBelow_86 post z0 z1 T c A1 A2 A3 := fun z0 z1 => nm_e (br_c (fun _ => h0) (fun _ => rt_x_hb (fun p hp _ _ => by
    have h := H (rt_lv p + 1) (by have := rt_t21 p (by omega); omega)
    rw [rt_m_s] at h
    exact h)))
  have w34 : ∀ z0 : Int32, wX_bitsBelow_34 post (nI a) (nI m) z0 T c A1 A2 A3 := fun z0 => br_c (fun _ => rt_x_top ha (nm_e (br_c (fun _ => w86 _ _) (fun _ => w86 _ _)))) (fun _ => rt_x_hb (post := fun r => post (4 + r)) (fun p hp _ _ => by
    have h := H (4 + rt_lv p + 1) (by have := rt_t21 p (by omega); omega)
    rw [rt_m_s, ← nI_add] at h
    exact h))
  unfold wpX_bitsBelow
  refine br_c (fun _ => w34 _) (fun _ => ⟨?_, rt_x_low ha (w34 _)⟩)
  rw [rt_e3 a ha]
  exact vp_in_nI (by omega) (by omega)
theorem rt_x_gb {a : Nat} (ha : a < 256) (h : post (rt_g (rt_H T A2) (rt_G A1 A3) a)) : wpX_goalBelow post (T, c, A1, A2, A3) (nI a) 9 := by
  unfold wpX_goalBelow
  refine rt_x_bb ha ?_
  have h9 := rt_b_le (rt_H T A2) a
  cases e : rt_b (rt_H T A2) a with
  | zero =>
    rw [rt_g_0 e] at h
    exact br_f (by decide) h
  | succ n =>
    rw [rt_g_s e] at h
    rw [rt_m_s]
    exact br_t (nI_pos' (by omega)) (rt_x_goalOf ha (by omega) h)
theorem rt_x_gw {a m : Nat} (ha : a < 256) (hm : m < 2 ^ 31) (H : ∀ r, post r) : wpX_goalBelow post (T, c, A1, A2, A3) (nI a) (nI m) := by
  unfold wpX_goalBelow
  refine rt_x_bw ha hm (fun b hb => ?_)
  cases b with
  | zero => exact br_f (by decide) (H _)
  | succ n =>
    rw [rt_m_s]
    exact br_t (nI_pos' (by omega)) (rt_x_goalOf ha (by omega) (H _))
theorem rt_st_f {v : Nat → Int32} {a : Nat} (e : v (a + 1) = v a) : rt_st v (a + 1) = false := decide_eq_false (fun k => k e)
theorem rt_st_t {v : Nat → Int32} {a : Nat} (e : ¬ v (a + 1) = v a) : rt_st v (a + 1) = true := decide_eq_true e
theorem rt_x_ss {a : Nat} (ha : a < 256) (h : post (rt_i (rt_st (rt_g (rt_H T A2) (rt_G A1 A3)) a))) : wpX_startsSpan post (T, c, A1, A2, A3) (nI a) := by
  unfold wpX_startsSpan
  cases a with
  | zero => exact br_t rfl h
  | succ a =>
    refine br_f (nI_ne0 (by omega) (by omega)) (rt_x_gb ha ?_)
    rw [nI_pred]
    refine rt_x_gb (by omega) ?_
    by_cases e : rt_g (rt_H T A2) (rt_G A1 A3) (a + 1) = rt_g (rt_H T A2) (rt_G A1 A3) a
    · rw [rt_st_f e] at h
      exact br_t e h
    · rw [rt_st_t e] at h
      exact br_f e h
theorem rt_x_spans (h : post (nI (rt_n (rt_st (rt_g (rt_H T A2) (rt_G A1 A3))) 256))) : wpX_spans post (T, c, A1, A2, A3) := by
  unfold wpX_spans
  refine pk_loop (σ := Unit) (fun n i _ => wX_spans_4 post T c A1 A2 A3 n (nI (rt_n (rt_st (rt_g (rt_H T A2) (rt_G A1 A3))) i)) (nI i)) (fun _ _ => True) 256 0 () (by omega) trivial
    (fun n _ _ => pk_le 256 256 (fun _ => h) (fun z => absurd z (by omega)))
    (fun n i _ hi _ hw => pk_le 256 i (fun z => absurd z (by omega)) (fun _ => rt_x_ss hi ?_))
  cases e : rt_st (rt_g (rt_H T A2) (rt_G A1 A3)) i
  · exact br_t rfl (nm_r (rt_n_fi e) (nm_r (nI_1 i) (hw () trivial)))
  · exact br_f (by decide) (nm_r (rt_n_ti e) (nm_r (nI_1 i) (hw () trivial)))
theorem rt_x_at {j i : Nat} (hj : j < 256) (hs : rt_st (rt_g (rt_H T A2) (rt_G A1 A3)) j = true) (hc : rt_n (rt_st (rt_g (rt_H T A2) (rt_G A1 A3))) j = i) (h : post (nI j)) : wpX_spanStart post (T, c, A1, A2, A3) (nI i) := by
  have hj2 := rt_n_le (rt_st (rt_g (rt_H T A2) (rt_G A1 A3))) j
  unfold wpX_spanStart
  refine pk_loop (σ := Unit) (fun n k _ => wX_spanStart_4 post (nI i) T c A1 A2 A3 n (nI (rt_n (rt_st (rt_g (rt_H T A2) (rt_G A1 A3))) k)) (nI k)) (fun _ _ => True) j 0 () (Nat.zero_le j) trivial
    (fun n _ _ => pk_le 256 j (fun z => absurd z (by omega)) (fun _ => rt_x_ss hj ?_))
    (fun n k _ hk _ hw => pk_le 256 k (fun z => absurd z (by omega)) (fun _ => rt_x_ss (by omega) ?_))
  · rw [hs]
    exact br_f (by decide) (br_t (by rw [hc]) h)
  · cases e : rt_st (rt_g (rt_H T A2) (rt_G A1 A3)) k
    · have t := hw () trivial
      try dsimp only at t
      rw [rt_n_f e] at t
      exact br_t rfl (nm_r (nI_1 k) t)
    · have m1 := rt_n_mono (rt_st (rt_g (rt_H T A2) (rt_G A1 A3))) (show k + 1 ≤ j by omega)
      rw [rt_n_t e] at m1
      exact br_f (by decide) (pk_eq (rt_n (rt_st (rt_g (rt_H T A2) (rt_G A1 A3))) k) i (fun z => absurd z (by omega)) (fun _ => nm_r (rt_n_ti e) (nm_r (nI_1 k) (hw () trivial))))
theorem rt_x_no {i : Nat} (hc : rt_n (rt_st (rt_g (rt_H T A2) (rt_G A1 A3))) 256 ≤ i) (hi : i < 2 ^ 31) (h : post (-1)) : wpX_spanStart post (T, c, A1, A2, A3) (nI i) := by
  unfold wpX_spanStart
  refine pk_loop (σ := Unit) (fun n k _ => wX_spanStart_4 post (nI i) T c A1 A2 A3 n (nI (rt_n (rt_st (rt_g (rt_H T A2) (rt_G A1 A3))) k)) (nI k)) (fun _ _ => True) 256 0 () (by omega) trivial
    (fun n _ _ => pk_le 256 256 (fun _ => h) (fun z => absurd z (by omega)))
    (fun n k _ hk _ hw => pk_le 256 k (fun z => absurd z (by omega)) (fun _ => rt_x_ss hk ?_))
  cases e : rt_st (rt_g (rt_H T A2) (rt_G A1 A3)) k
  · have t := hw () trivial
    try dsimp only at t
    rw [rt_n_f e] at t
    exact br_t rfl (nm_r (nI_1 k) t)
  · have m1 := rt_n_mono (rt_st (rt_g (rt_H T A2) (rt_G A1 A3))) (show k + 1 ≤ 256 by omega)
    rw [rt_n_t e] at m1
    exact br_f (by decide) (pk_eq (rt_n (rt_st (rt_g (rt_H T A2) (rt_G A1 A3))) k) i (fun z => absurd z (by omega)) (fun _ => nm_r (rt_n_ti e) (nm_r (nI_1 k) (hw () trivial))))
theorem rt_x_goal {a : Nat} (ha : a < 256) (h : post (rt_g (rt_H T A2) (rt_G A1 A3) a)) : wpX_goal post (T, c, A1, A2, A3) (nI a) := by
  unfold wpX_goal
  exact rt_x_addr ha (br_f (by decide) (rt_x_gb ha h))
theorem rt_x_bits {a : Nat} (ha : a < 256) (h : post (rt_m (rt_b (rt_H T A2) a))) : wpX_bits post (T, c, A1, A2, A3) (nI a) := by
  unfold wpX_bits
  exact rt_x_addr ha (br_f (by decide) (rt_x_bb ha h))
theorem rt_x_ones {x : Int32} (h : post (nI (rt_n (rt_tb x) 31))) : wpX_ones post () x := by
  unfold wpX_ones
  refine pk_loop (σ := Unit) (fun n i _ => wX_ones_4 post x n (nI (rt_n (rt_tb x) i)) (nI i)) (fun _ _ => True) 31 0 () (by omega) trivial
    (fun n _ _ => pk_le 31 31 (fun _ => h) (fun z => absurd z (by omega)))
    (fun n i _ hi _ hw => pk_le 31 i (fun z => absurd z (by omega)) (fun _ => nm_r ?_ (nm_r (nI_1 i) (hw () trivial))))
  rw [rt_one x i (by omega)]
  cases e : rt_tb x i
  · exact rt_n_fi e
  · exact rt_n_ti e
theorem rt_x_match {a : Nat} (ha : a < 256) (H : ∀ m, m < 2 ^ 31 → (m = 0 ↔ rt_b (rt_H T A2) a = 0) → post (nI m)) : wpX_matching post (T, c, A1, A2, A3) (nI a) := by
  have ho : a % 16 < 16 := by omega
  have ho2 : a / 32 < 8 := by omega
  have sl := rt_sel_low (A2 (a / 16)) ho
  have st := rt_sel_top T ho2
  unfold wpX_matching
  refine rt_x_addr ha (br_f (by decide) (rt_x_top ha (nm_e ⟨?_, rt_x_low ha (nm_e (rt_x_ones (rt_x_ones ?_)))⟩)))
  · rw [rt_e3 a ha]
    exact vp_in_nI (by omega) (by omega)
  · rw [rt_e3 a ha, nI_clamp (by omega), nI_add]
    have l1 := rt_n_le (rt_tb (T &&& rt_tv (a / 32))) 31
    have l2 := rt_n_le (rt_tb (A2 (a / 16) &&& rt_lw (a % 16))) 31
    refine H _ (by omega) ⟨fun z => ?_, fun z => ?_⟩
    · have ht := rt_sel_no st (rt_n_z (p := rt_tb (T &&& rt_tv (a / 32))) (k := 31) (by omega))
      have hl := rt_sel_no sl (rt_n_z (p := rt_tb (A2 (a / 16) &&& rt_lw (a % 16))) (k := 31) (by omega))
      refine rt_bs_0 (fun n hn => ?_)
      show rt_H T A2 (rt_cd a n) = false
      rcases Nat.lt_or_ge n 4 with g | g
      · rw [rt_H_top ha g, rt_t11 a ha n g]
        exact ht n g
      · rw [rt_H_low ha hn g]
        exact hl (n - 4) (by omega)
    · have hb := rt_bs_no z
      have ht : ∀ l, l < 4 → rt_tb T (rt_p (a / 32) l) = false := fun l hl => by
        rw [← rt_t11 a ha l hl, ← rt_H_top (A := A2) ha hl]
        exact hb l (by omega)
      have hl : ∀ l, l < 5 → rt_tb (A2 (a / 16)) (rt_q (a % 16) l) = false := fun l hl => by
        have k := rt_H_low (T := T) (A := A2) ha (show 4 + l < 9 by omega) (by omega)
        rw [Nat.add_sub_cancel_left] at k
        rw [← k]
        exact hb (4 + l) (by omega)
      have q1 := rt_n_0 (rt_sel_none st ht)
      have q2 := rt_n_0 (rt_sel_none sl hl)
      omega
end
end
section
section
variable {post : Int32 → Prop} {T c : Int32} {A1 A2 A3 : Nat → Int32}
theorem rt_ad_lt {k : Nat} (hk : k < 511) : rt_ad k < 256 := by
  have h1 := rt_t17 k hk
  have h2 : 0 < 2 ^ (8 - rt_lv k) := Nat.two_pow_pos _
  omega
theorem rt_x_load {k : Nat} (hk : k < 511) (h0 : rt_H T A2 k = false → post (-1)) (h1 : rt_H T A2 k = true → post (nI (rt_ld (rt_H T A2) k))) : wpX_load post (T, c, A1, A2, A3) (nI (rt_ad k)) (nI (rt_lv k)) := by
  have ha := rt_ad_lt hk
  have hn := rt_t16 k hk
  unfold wpX_load
  refine rt_x_beg ha hn (rt_t19 k hk) (br_f (by decide) (rt_x_has ha hn ?_))
  rw [rt_t18 k hk]
  cases e : rt_H T A2 k
  · exact br_t rfl (h0 e)
  · refine br_f (by decide) (nm_r (rt_e5 _ ha _ hn (rt_t19 k hk)) ?_)
    have h2 := h1 e
    rw [← rt_ld_eq hk] at h2
    have h17 := rt_t17 k hk
    have hp : 0 < 2 ^ (8 - rt_lv k) := Nat.two_pow_pos _
    refine pk_loop (σ := Unit) (fun n i _ => wX_load_33 post (nI (rt_lv k)) (nI (rt_ad k + 2 ^ (8 - rt_lv k) - 1)) T c A1 A2 A3 n (nI (rt_n (fun i => decide (rt_b (rt_H T A2) (rt_ad k + i) = rt_lv k + 1)) i)) (nI (rt_ad k + i))) (fun _ _ => True) (2 ^ (8 - rt_lv k)) 0 () (Nat.zero_le _) trivial
      (fun n _ _ => pk_lt (rt_ad k + 2 ^ (8 - rt_lv k) - 1) (rt_ad k + 2 ^ (8 - rt_lv k)) (fun _ => h2) (fun z => absurd z (by omega)))
      (fun n i _ hi _ hw => pk_lt (rt_ad k + 2 ^ (8 - rt_lv k) - 1) (rt_ad k + i) (fun z => absurd z (by omega)) (fun _ => rt_x_bb (by omega) ?_))
    have h9 := rt_b_le (rt_H T A2) (rt_ad k + i)
    by_cases e2 : rt_b (rt_H T A2) (rt_ad k + i) = rt_lv k + 1
    · exact br_t ((rt_m_eq _ (by omega) _ hn).mpr e2) (nm_r (rt_n_ti (p := fun i => decide (rt_b (rt_H T A2) (rt_ad k + i) = rt_lv k + 1)) (decide_eq_true e2)) (nm_r (nI_1 (rt_ad k + i)) (hw () trivial)))
    · exact br_f (fun z => e2 ((rt_m_eq _ (by omega) _ hn).mp z)) (nm_r (rt_n_fi (p := fun i => decide (rt_b (rt_H T A2) (rt_ad k + i) = rt_lv k + 1)) (decide_eq_false e2)) (nm_r (nI_1 (rt_ad k + i)) (hw () trivial)))
theorem rt_x_exact {a n : Nat} (ha : a < 256) (hn : n < 9) (hal : a % 2 ^ (8 - n) = 0) (h0 : rt_H T A2 (rt_cd a n) = false → post (-1)) (h1 : rt_H T A2 (rt_cd a n) = true → post (rt_G A1 A3 (rt_cd a n))) : wpX_exact post (T, c, A1, A2, A3) (nI a) (nI n) := by
  unfold wpX_exact
  refine rt_x_beg ha hn hal (br_f (by decide) (rt_x_has ha hn ?_))
  cases e : rt_H T A2 (rt_cd a n)
  · exact br_t rfl (h0 e)
  · exact br_f (by decide) (rt_x_goalOf ha hn (h1 e))
theorem rt_x_idle {k : Nat} (hk : k < 511) (e : rt_H T A2 k = true) (h0 : rt_ld (rt_H T A2) k = 0) (h : post 1) : wpX_idle post (T, c, A1, A2, A3) (nI (rt_ad k)) (nI (rt_lv k)) := by
  have ha := rt_ad_lt hk
  have hn := rt_t16 k hk
  unfold wpX_idle
  refine rt_x_beg ha hn (rt_t19 k hk) (br_f (by decide) (rt_x_has ha hn ?_))
  rw [rt_t18 k hk, e]
  refine br_f (by decide) (rt_x_gw ha (by omega) (fun r => rt_x_goalOf ha hn (br_c (fun _ => h) (fun _ => rt_x_load hk (fun z => absurd (e.symm.trans z) (by decide)) (fun _ => br_t ?_ h)))))
  rw [h0]
  rfl
theorem rt_x_sent {y : Int32} (h : post (nI (rt_n (fun x => decide (rt_g (rt_H T A2) (rt_G A1 A3) x = y)) 256))) : wpX_sent post (T, c, A1, A2, A3) y := by
  unfold wpX_sent
  refine pk_loop (σ := Unit) (fun n i _ => wX_sent_4 post y T c A1 A2 A3 n (nI (rt_n (fun x => decide (rt_g (rt_H T A2) (rt_G A1 A3) x = y)) i)) (nI i)) (fun _ _ => True) 256 0 () (by omega) trivial
    (fun n _ _ => pk_le 256 256 (fun _ => h) (fun z => absurd z (by omega)))
    (fun n i _ hi _ hw => pk_le 256 i (fun z => absurd z (by omega)) (fun _ => rt_x_gb hi ?_))
  by_cases e : rt_g (rt_H T A2) (rt_G A1 A3) i = y
  · exact br_t e (nm_r (rt_n_ti (p := fun x => decide (rt_g (rt_H T A2) (rt_G A1 A3) x = y)) (decide_eq_true e)) (nm_r (nI_1 i) (hw () trivial)))
  · exact br_f e (nm_r (rt_n_fi (p := fun x => decide (rt_g (rt_H T A2) (rt_G A1 A3) x = y)) (decide_eq_false e)) (nm_r (nI_1 i) (hw () trivial)))
theorem rt_x_next {f : Nat} {y r : Int32} (hf : f ≤ 256) (hy : ¬ y < 0) (hr : rt_nx (fun x => rt_g (rt_H T A2) (rt_G A1 A3) x = y) f r) (h : post r) : wpX_next post (T, c, A1, A2, A3) (nI f) y := by
  unfold wpX_next
  refine br_t (nI_pos' (by omega)) ?_
  refine pk_loop (σ := Unit) (fun n i _ => wX_next_10 post y T c A1 A2 A3 n (nI i)) (fun i _ => rt_nx (fun x => rt_g (rt_H T A2) (rt_G A1 A3) x = y) i r) 256 f () hf hr
    (fun n _ hx => pk_le 256 256 (fun _ => ?_) (fun z => absurd z (by omega)))
    (fun n i _ hi hx hw => pk_le 256 i (fun z => absurd z (by omega)) (fun _ => br_f hy (rt_x_gb hi (br_c (fun e => ?_) (fun e => nm_r (nI_1 i) (hw () (rt_nx_skip e hx)))))))
  · rw [rt_nx_end hx] at h
    exact h
  · rw [rt_nx_hit hi e hx] at h
    exact h
end
/-! the stores -/
theorem rt_inj {k m : Nat} (hk : k < 511) (hk2 : 15 ≤ k) (hm : m < 511) (hm2 : 15 ≤ m) (h1 : rt_nd k = rt_nd m) (h2 : rt_pc k = rt_pc m) : k = m := by
  rw [← rt_t13 k hk hk2, ← rt_t13 m hm hm2, h1, h2]
theorem rt_u_top {T : Int32} {A : Nat → Int32} {m : Nat} (hm : m < 15) : ∀ k, k < 511 → rt_H (T ||| ((1 : Int32) <<< (nI m &&& 31))) A k = (decide (k = m) || rt_H T A k) := by
  intro k hk
  unfold rt_H
  by_cases z : k < 15
  · rw [if_pos z, if_pos z, rt_or, rt_set m (by omega) k (by omega), Bool.or_comm]
  · rw [if_neg z, if_neg z, decide_eq_false (by omega), Bool.false_or]
theorem rt_u_low {T : Int32} {A : Nat → Int32} {m : Nat} (hm : m < 511) (h15 : 15 ≤ m) : ∀ k, k < 511 → rt_H T (upd A (rt_nd m) (A (rt_nd m) ||| ((1 : Int32) <<< (nI (rt_pc m) &&& 31)))) k = (decide (k = m) || rt_H T A k) := by
  intro k hk
  have pm := rt_t14 m hm h15
  unfold rt_H
  by_cases z : k < 15
  · rw [if_pos z, if_pos z, decide_eq_false (by omega), Bool.false_or]
  · have pk := rt_t14 k hk (by omega)
    rw [if_neg z, if_neg z]
    by_cases e : rt_nd k = rt_nd m
    · rw [e, pk_us, rt_or, rt_set _ (by omega) _ (by omega), Bool.or_comm]
      rw [show decide (rt_pc k = rt_pc m) = decide (k = m) from decide_eq_decide.mpr ⟨fun g => rt_inj hk (by omega) hm h15 e g, fun g => by rw [g]⟩]
    · rw [pk_un e, decide_eq_false (fun g => e (by rw [g])), Bool.false_or]
theorem rt_nset {l i : Nat} (hl : l < 32) (hi : i < 32) : rt_tb (((1 : Int32) <<< (nI l &&& 31)) ^^^ (-1)) i = !decide (i = l) := by
  rw [rt_xor, rt_set l hl i hi, rt_bm1 i hi]
  cases decide (i = l) <;> rfl
theorem rt_d_top {T : Int32} {A : Nat → Int32} {m : Nat} (hm : m < 15) : ∀ k, k < 511 → rt_H (T &&& (((1 : Int32) <<< (nI m &&& 31)) ^^^ (-1))) A k = (!decide (k = m) && rt_H T A k) := by
  intro k hk
  unfold rt_H
  by_cases z : k < 15
  · rw [if_pos z, if_pos z, rt_and, rt_nset (by omega) (by omega), Bool.and_comm]
  · rw [if_neg z, if_neg z, decide_eq_false (by omega), Bool.not_false, Bool.true_and]
theorem rt_d_low {T : Int32} {A : Nat → Int32} {m : Nat} (hm : m < 511) (h15 : 15 ≤ m) : ∀ k, k < 511 → rt_H T (upd A (rt_nd m) (A (rt_nd m) &&& (((1 : Int32) <<< (nI (rt_pc m) &&& 31)) ^^^ (-1)))) k = (!decide (k = m) && rt_H T A k) := by
  intro k hk
  have pm := rt_t14 m hm h15
  unfold rt_H
  by_cases z : k < 15
  · rw [if_pos z, if_pos z, decide_eq_false (by omega), Bool.not_false, Bool.true_and]
  · have pk := rt_t14 k hk (by omega)
    rw [if_neg z, if_neg z]
    by_cases e : rt_nd k = rt_nd m
    · rw [e, pk_us, rt_and, rt_nset (by omega) (by omega), Bool.and_comm]
      rw [show decide (rt_pc k = rt_pc m) = decide (k = m) from decide_eq_decide.mpr ⟨fun g => rt_inj hk (by omega) hm h15 e g, fun g => by rw [g]⟩]
    · rw [pk_un e, decide_eq_false (fun g => e (by rw [g])), Bool.not_false, Bool.true_and]
theorem rt_ug_top {A1 A3 : Nat → Int32} {m : Nat} {y : Int32} (hm : m < 15) : ∀ k, k < 511 → rt_G (upd A1 m y) A3 k = if k = m then y else rt_G A1 A3 k := by
  intro k hk
  unfold rt_G
  by_cases z : k < 15
  · rw [if_pos z, if_pos z]
    rfl
  · rw [if_neg z, if_neg z, if_neg (by omega)]
theorem rt_ug_low {A1 A3 : Nat → Int32} {m : Nat} {y : Int32} (hm : m < 511) (h15 : 15 ≤ m) : ∀ k, k < 511 → rt_G A1 (upd A3 (rt_nd m * 31 + rt_pc m) y) k = if k = m then y else rt_G A1 A3 k := by
  intro k hk
  have pm := rt_t14 m hm h15
  unfold rt_G
  by_cases z : k < 15
  · rw [if_pos z, if_pos z, if_neg (by omega)]
  · have pk := rt_t14 k hk (by omega)
    rw [if_neg z, if_neg z]
    by_cases e : k = m
    · rw [if_pos e, e, pk_us]
    · rw [if_neg e, pk_un]
      intro g
      exact e (rt_inj hk (by omega) hm h15 (by omega) (by omega))
theorem rt_x_put {post : Int32 → St1 → Prop} {T c : Int32} {A1 A2 A3 : Nat → Int32} {a n v : Nat} (ha : a < 256) (hn : n < 9) (hal : a % 2 ^ (8 - n) = 0) (hv : v < 4)
    (H : ∀ (T' : Int32) (A1' A2' A3' : Nat → Int32), (∀ k, k < 511 → rt_H T' A2' k = (decide (k = rt_cd a n) || rt_H T A2 k)) → (∀ k, k < 511 → rt_G A1' A3' k = if k = rt_cd a n then nI v else rt_G A1 A3 k) → post 1 (T', c + nI (!rt_H T A2 (rt_cd a n)).toNat, A1', A2', A3')) :
    wpX_put post (T, c, A1, A2, A3) (nI a) (nI n) (nI v) := by
  have h31 := rt_pl_31 ha hn
  have w : wX_put_39 post (nI a) (nI n) (nI v) (nI (!rt_H T A2 (rt_cd a n)).toNat) c T c A1 A2 A3 := by
    unfold wX_put_39
    refine nm_e (rt_x_place ha hn (pk_le 4 n (fun z => ?_) (fun z => ?_)))
    · have i1 : vp_in (nI (a / 16)) 16 := vp_in_nI (by omega) (by omega)
      have e5 := rt_t5 a ha n hn z
      have e6 := rt_t6 a ha n hn z
      have c2 := rt_t2 a ha n hn
      have c4 := rt_t4 a ha n hn z
      have ei : nI (a / 16) * 31 + nI (rt_pl a n) = nI (a / 16 * 31 + rt_pl a n) := by rw [← rt_e3 a ha, rt_ix ha]
      refine nm_r (rt_e3 a ha) ⟨i1, i1, nm_e ⟨?_, nm_e ?_⟩⟩
      · rw [ei]
        exact vp_in_nI (by omega) (by omega)
      · rw [ei, nI_clamp (by omega), nI_clamp (by omega), rt_e17 v hv]
        rw [rt_pl_f z, ← e5, ← e6]
        exact H _ _ _ _ (rt_u_low c2 c4) (rt_ug_low c2 c4)
    · have c3 := rt_t3 a ha n z
      refine nm_e ⟨?_, nm_e ?_⟩
      · rw [rt_pl_t z]
        exact vp_in_nI c3 (by omega)
      · rw [nI_clamp (by omega), rt_e17 v hv, rt_pl_t z]
        exact H _ _ _ _ (rt_u_top c3) (rt_ug_top c3)
  unfold wpX_put
  refine rt_x_beg ha hn hal (br_f (by decide) (br_f (nI_pos (by omega)) (pk_le v 99 (fun _ => rt_x_has ha hn ?_) (fun z => absurd z (by omega)))))
  cases e : rt_H T A2 (rt_cd a n)
  · rw [e] at w
    exact br_t rfl w
  · rw [e] at w
    exact br_f (by decide) w
theorem rt_x_drop {post : Int32 → St1 → Prop} {T c : Int32} {A1 A2 A3 : Nat → Int32} {a n : Nat} (ha : a < 256) (hn : n < 9) (hal : a % 2 ^ (8 - n) = 0)
    (H0 : post 0 (T, c, A1, A2, A3))
    (H1 : rt_H T A2 (rt_cd a n) = true → ∀ (T' : Int32) (A2' : Nat → Int32), (∀ k, k < 511 → rt_H T' A2' k = (!decide (k = rt_cd a n) && rt_H T A2 k)) → post 1 (T', c - 1, A1, A2', A3)) :
    wpX_drop post (T, c, A1, A2, A3) (nI a) (nI n) := by
  have h31 := rt_pl_31 ha hn
  unfold wpX_drop
  refine rt_x_beg ha hn hal (br_f (by decide) (rt_x_has ha hn ?_))
  cases e : rt_H T A2 (rt_cd a n)
  · exact br_t rfl H0
  · refine br_f (by decide) (rt_x_place ha hn (pk_le 4 n (fun z => ?_) (fun z => ?_)))
    · have i1 : vp_in (nI (a / 16)) 16 := vp_in_nI (by omega) (by omega)
      have e5 := rt_t5 a ha n hn z
      have e6 := rt_t6 a ha n hn z
      have c2 := rt_t2 a ha n hn
      have c4 := rt_t4 a ha n hn z
      rw [rt_e3 a ha]
      refine ⟨i1, i1, nm_e ?_⟩
      rw [nI_clamp (by omega), rt_pl_f z, ← e5, ← e6]
      exact nm_e (H1 e _ _ (rt_d_low c2 c4))
    · have c3 := rt_t3 a ha n z
      refine nm_e ?_
      rw [rt_pl_t z]
      exact nm_e (H1 e _ _ (rt_d_top c3))
theorem rt_x_clear {post : St1 → Prop} {T c : Int32} {A1 A2 A3 : Nat → Int32} (H : ∀ A2' : Nat → Int32, (∀ j, j < 16 → A2' j = 0) → post (0, 0, A1, A2', A3)) : wpX_clear post (T, c, A1, A2, A3) := by
  unfold wpX_clear
  refine pk_loop (fun n i s => wX_clear_7 post 0 c n (nI i) A1 s A3) (fun i s => ∀ j, j < i → s j = 0) 16 0 A2 (by omega) (fun j hj => absurd hj (by omega))
    (fun n s hs => pk_le 16 16 (fun _ => H s hs) (fun z => absurd z (by omega)))
    (fun n i s hi hs hw => pk_le 16 i (fun z => absurd z (by omega)) (fun _ => ⟨vp_in_nI hi (by omega), nm_e (nm_r (nI_1 i) (hw _ (fun j hj => ?_)))⟩))
  rw [nI_clamp (by omega)]
  by_cases e : j = i
  · rw [e, pk_us]
  · rw [pk_un e]
    exact hs j (by omega)
end
section
/-- what the law's loop keeps -/
def rt_I (T c : Int32) (A1 A2 A3 : Nat → Int32) : Prop := c = nI (rt_n (rt_H T A2) 511) ∧ ∀ k, k < 511 → ∃ v, v < 4 ∧ rt_G A1 A3 k = nI v
/-- the goal before -/
def rt_bf (v : Nat → Int32) (i : Nat) : Int32 := match i with
  | 0 => -2
  | i + 1 => v i
theorem rt_bf_f {v : Nat → Int32} {i : Nat} (h0 : ¬ v 0 = -2) (e : v i = rt_bf v i) : rt_st v i = false := by
  cases i with
  | zero => exact absurd e h0
  | succ i => exact rt_st_f e
theorem rt_bf_t {v : Nat → Int32} {i : Nat} (e : ¬ v i = rt_bf v i) : rt_st v i = true := by
  cases i with
  | zero => rfl
  | succ i => exact rt_st_t e
section
variable {post : Int32 → Prop} {T c : Int32} {A1 A2 A3 : Nat → Int32}
theorem rt_g_val {a : Nat} (hG : ∀ k, k < 511 → ∃ v, v < 4 ∧ rt_G A1 A3 k = nI v) (ha : a < 256) : (rt_b (rt_H T A2) a = 0 ∧ rt_g (rt_H T A2) (rt_G A1 A3) a = -1) ∨ (¬ rt_b (rt_H T A2) a = 0 ∧ ∃ v, v < 4 ∧ rt_g (rt_H T A2) (rt_G A1 A3) a = nI v) := by
  have h9 := rt_b_le (rt_H T A2) a
  cases e : rt_b (rt_H T A2) a with
  | zero => exact Or.inl ⟨rfl, rt_g_0 e⟩
  | succ n =>
    refine Or.inr ⟨by omega, ?_⟩
    rw [rt_g_s e]
    exact hG _ (rt_t2 a ha n (by omega))
theorem rt_l_spanned (hG : ∀ k, k < 511 → ∃ v, v < 4 ∧ rt_G A1 A3 k = nI v) (h : post 1) : wpL_spanned post (T, c, A1, A2, A3) := by
  have h0 : ¬ rt_g (rt_H T A2) (rt_G A1 A3) 0 = -2 := by
    rcases rt_g_val (T := T) (A2 := A2) hG (show 0 < 256 by omega) with e | ⟨_, v, hv, e⟩
    · rw [e.2]; decide
    · rw [e]; exact rt_nn2 (by omega)
  have hst0 : rt_st (rt_g (rt_H T A2) (rt_G A1 A3)) 0 = true := rfl
  have hle := rt_n_le (rt_st (rt_g (rt_H T A2) (rt_G A1 A3))) 256
  have hge : 1 ≤ rt_n (rt_st (rt_g (rt_H T A2) (rt_G A1 A3))) 256 := rt_n_mono (rt_st (rt_g (rt_H T A2) (rt_G A1 A3))) (i := 1) (by omega)
  unfold wpL_spanned
  refine pk_loop (σ := Unit) (fun n i _ => wL_spanned_7 post T c A1 A2 A3 n (nI (rt_n (rt_st (rt_g (rt_H T A2) (rt_G A1 A3))) i)) (rt_bf (rt_g (rt_H T A2) (rt_G A1 A3)) i) (nI i)) (fun _ _ => True) 256 0 () (by omega) trivial
    (fun n _ _ => pk_le 256 256 (fun _ => rt_x_spans (br_t rfl (pk_lt (rt_n (rt_st (rt_g (rt_H T A2) (rt_G A1 A3))) 256) 1 (fun z => absurd z (by omega)) (fun _ => pk_lt 256 (rt_n (rt_st (rt_g (rt_H T A2) (rt_G A1 A3))) 256) (fun z => absurd z (by omega)) (fun _ => rt_x_no (Nat.le_refl _) (by omega) (br_t rfl (rt_x_at (j := 0) (i := 0) (by omega) hst0 rfl (br_t rfl h)))))))) (fun z => absurd z (by omega)))
    (fun n i _ hi _ hw => pk_le 256 i (fun z => absurd z (by omega)) (fun _ => rt_x_goal hi (br_c (fun e => ?_) (fun e => rt_x_at hi (rt_bf_t e) rfl (br_t rfl (nm_r (rt_n_ti (rt_bf_t e)) (nm_r (nI_1 i) (hw () trivial))))))))
  have t := hw () trivial
  try dsimp only at t
  rw [rt_n_f (rt_bf_f h0 e)] at t
  exact nm_r (nI_1 i) t
theorem rt_l_142 {J : Int32 → Int32 → Int32 → Prop} {x1 x2 x3 x6 x7 y1 y2 y3 : Int32} (b : Bool) (h7 : x7 = rt_i b) (h1 : x1 + rt_i b = y1) (h2 : (match b with | true => x2 + x6 | false => x2 + 0) = y2) (h3 : x3 + 1 = y3) (hJ : J y1 y2 y3) : wL_loads_131 post J x1 x2 x3 x6 x7 T c A1 A2 A3 := by
  subst h7
  cases b
  · exact br_t rfl (nm_r h1 (br_t rfl (nm_r h2 (nm_r h3 hJ))))
  · exact br_f (show ¬ rt_i true = 0 by decide) (nm_r h1 (br_f (show ¬ rt_i true = 0 by decide) (nm_r h2 (nm_r h3 hJ))))
theorem rt_l_19 {J : Int32 → Int32 → Int32 → Prop} {k : Nat} (hk : k < 511) (hG : ∀ k, k < 511 → ∃ v, v < 4 ∧ rt_G A1 A3 k = nI v)
    (hJ : J (nI (rt_n (rt_H T A2) (k + 1))) (nI (rt_sm (rt_ld (rt_H T A2)) (k + 1))) (nI (k + 1))) :
    ∃ fu, wL_loads_19 post J (nI (rt_n (rt_H T A2) k)) (nI (rt_sm (rt_ld (rt_H T A2)) k)) (nI k) T c A1 A2 A3 fu 0 1 := by
  have ha := rt_ad_lt hk
  have hn := rt_t16 k hk
  have hld := rt_ld_le (rt_H T A2) k
  suffices hm : ∃ fu, wL_loads_19 post J (nI (rt_n (rt_H T A2) k)) (nI (rt_sm (rt_ld (rt_H T A2)) k)) (nI k) T c A1 A2 A3 fu (nI (min (rt_lv k) 0)) (nI (0 + 1)) by
    rw [Nat.min_zero] at hm
    exact hm
  refine pk_loop (σ := Unit) (fun n i _ => wL_loads_19 post J (nI (rt_n (rt_H T A2) k)) (nI (rt_sm (rt_ld (rt_H T A2)) k)) (nI k) T c A1 A2 A3 n (nI (min (rt_lv k) i)) (nI (i + 1))) (fun _ _ => True) 8 0 () (by omega) trivial ?_ ?_
  · intro n _ _
    show wL_loads_19 post J (nI (rt_n (rt_H T A2) k)) (nI (rt_sm (rt_ld (rt_H T A2)) k)) (nI k) T c A1 A2 A3 (n + 1) (nI (min (rt_lv k) 8)) (nI 9)
    rw [Nat.min_eq_left (show rt_lv k ≤ 8 by omega)]
    refine pk_lt 8 9 (fun _ => nm_r (rt_e7 k hk) (rt_x_load hk (fun e => rt_x_exact ha hn (rt_t19 k hk) (fun e2 => ?_) (fun e2 => ?_)) (fun e => rt_x_exact ha hn (rt_t19 k hk) (fun e2 => ?_) (fun e2 => ?_)))) (fun z => absurd z (by omega))
    · refine br_t rfl (br_t rfl (br_t rfl (br_f (by decide) (rt_l_142 false rfl (rt_n_fi e) ?_ (nI_1 k) hJ))))
      show nI (rt_sm (rt_ld (rt_H T A2)) k) + 0 = nI (rt_sm (rt_ld (rt_H T A2)) k + rt_ld (rt_H T A2) k)
      rw [rt_ld_0 e, Int32.add_zero, Nat.add_zero]
    · rw [rt_t18 k hk, e] at e2
      exact absurd e2 (by decide)
    · rw [rt_t18 k hk, e] at e2
      exact absurd e2 (by decide)
    · obtain ⟨v, hv, ev⟩ := hG k hk
      have t : wL_loads_131 post J (nI (rt_n (rt_H T A2) k)) (nI (rt_sm (rt_ld (rt_H T A2)) k)) (nI k) (nI (rt_ld (rt_H T A2) k)) 1 T c A1 A2 A3 := rt_l_142 true rfl (rt_n_ti e) (nI_add _ _) (nI_1 k) hJ
      rw [rt_t18 k hk, ev]
      exact br_f (rt_nn (by omega)) (br_f (rt_nn (by omega)) (br_t rfl (pk_eq (rt_ld (rt_H T A2) k) 0 (fun z => rt_x_idle hk e z (br_f (by decide) t)) (fun _ => t))))
  · intro n i _ hi _ hw
    have e : ((1 : Int32) <<< (nI (i + 1) &&& 31)) - 1 = nI (2 ^ (i + 1) - 1) := rt_e8 _ (by omega)
    have hp : 2 ^ (i + 1) ≤ 2 ^ 8 := Nat.pow_le_pow_right (by omega) (by omega)
    have h23 := rt_t23 k hk i hi
    have t := hw () trivial
    try dsimp only at t
    refine pk_lt 8 (i + 1) (fun z => absurd z (by omega)) (fun _ => ?_)
    rw [e]
    refine pk_lt k (2 ^ (i + 1) - 1) (fun z => ?_) (fun z => ?_)
    · rw [show min (rt_lv k) (i + 1) = min (rt_lv k) i by omega] at t
      exact nm_r (Int32.add_zero _) (nm_r (nI_1 (i + 1)) t)
    · rw [show min (rt_lv k) (i + 1) = min (rt_lv k) i + 1 by omega] at t
      exact nm_r (nI_1 _) (nm_r (nI_1 (i + 1)) t)
theorem rt_l_loads (hI : rt_I T c A1 A2 A3) (h : post 1) : wpL_loads post (T, c, A1, A2, A3) := by
  unfold wpL_loads
  refine pk_loop (σ := Unit) (fun n i _ => wL_loads_6 post T c A1 A2 A3 n (nI (rt_n (rt_H T A2) i)) (nI (rt_sm (rt_ld (rt_H T A2)) i)) (nI i)) (fun _ _ => True) 511 0 () (by omega) trivial
    (fun n _ _ => pk_le 511 511 (fun _ => br_t hI.1 (rt_x_sent (br_t ?_ h))) (fun z => absurd z (by omega)))
    (fun n i _ hi _ hw => pk_le 511 i (fun z => absurd z (by omega)) (fun _ => rt_l_19 hi hI.2 (hw () trivial)))
  have e1 : rt_n (fun x => decide (rt_g (rt_H T A2) (rt_G A1 A3) x = -1)) 256 = rt_n (fun x => decide (rt_w (rt_H T A2) x = 0)) 256 := rt_n_cong (fun x hx => decide_eq_decide.mpr (by
    rw [rt_w_0]
    rcases rt_g_val (T := T) (A2 := A2) hI.2 hx with z | ⟨z, v, hv, ev⟩
    · exact ⟨fun _ => z.1, fun _ => z.2⟩
    · rw [ev]
      exact ⟨fun g => absurd g (rt_nn (by omega)), fun g => absurd g z⟩))
  rw [e1, nI_add, rt_ld_sum]
  rfl
theorem rt_l_103 {J : Int32 → Int32 → Prop} {f i : Nat} {y z s : Int32} (hf : f < 256) (hi : i < 256) (h1 : f ≤ i ∧ z = y → J (nI i) (rt_m i)) (h2 : ¬ (f ≤ i ∧ z = y) → J s (rt_m i)) : wL_sentBy_103 post J (nI f) y s (nI i) z T c A1 A2 A3 :=
  pk_lt i f (fun k => nm_e (h2 (fun g => absurd g.1 (by omega)))) (fun k => br_c (fun e => nm_e (h1 ⟨k, e⟩)) (fun e => nm_e (h2 (fun g => e g.2))))
theorem rt_l_turn {f g n i : Nat} {s : Int32} (hf : f < 256) (hi : i < 256) (hG : ∀ k, k < 511 → ∃ v, v < 4 ∧ rt_G A1 A3 k = nI v)
    (hs : rt_nx (fun x => f ≤ x ∧ rt_g (rt_H T A2) (rt_G A1 A3) x = nI g) (i + 1) s)
    (ih : ∀ s', rt_nx (fun x => f ≤ x ∧ rt_g (rt_H T A2) (rt_G A1 A3) x = nI g) i s' → wL_sentBy_7 post (nI f) (nI g) T c A1 A2 A3 n s' (rt_m i)) :
    wL_sentBy_7 post (nI f) (nI g) T c A1 A2 A3 (n + 1) s (rt_m (i + 1)) := by
  have t : wL_sentBy_103 post (wL_sentBy_7 post (nI f) (nI g) T c A1 A2 A3 n) (nI f) (nI g) s (nI i) (rt_g (rt_H T A2) (rt_G A1 A3) i) T c A1 A2 A3 :=
    rt_l_103 hf hi (fun e => ih _ (rt_nx_t hi e)) (fun e => ih _ (rt_nx_f e hs))
  rw [rt_m_s]
  refine br_f (nI_pos (by omega)) (rt_x_bits hi (rt_x_goal hi ?_))
  have h9 := rt_b_le (rt_H T A2) i
  rcases rt_g_val (T := T) (A2 := A2) hG hi with z | ⟨z, v, hv, ev⟩
  · rw [z.2] at t
    rw [z.1, z.2]
    refine br_t rt_m_0 (rt_x_match hi (fun m hm hm0 => br_t ?_ (br_t rfl (br_t rt_m_0 (br_t rfl (br_t rt_m_0 t))))))
    rw [hm0.mpr z.1]
    rfl
  · obtain ⟨n', en⟩ : ∃ n', rt_b (rt_H T A2) i = n' + 1 := ⟨rt_b (rt_H T A2) i - 1, by omega⟩
    have hn9 : n' < 9 := by omega
    rw [ev] at t
    rw [en, ev, rt_m_s]
    have ne : ¬ nI n' = -1 := rt_nn (by omega)
    refine br_f ne (rt_x_match hi (fun m hm hm0 => br_f ?_ (br_t rfl (br_f ne (br_f ne (br_f (rt_nn (by omega)) ?_))))))
    · exact nI_ne0 (by omega) hm
    · rw [rt_e6 i hi n' hn9]
      have hcd := rt_t24 i hi n' hn9
      have hH := rt_b_hit en
      have hgG := rt_g_s (g := rt_G A1 A3) en
      refine rt_x_exact (Nat.lt_of_le_of_lt (Nat.div_mul_le_self _ _) hi) hn9 (Nat.mul_mod_left _ _) (fun e => ?_) (fun e => br_t ?_ t)
      · rw [hcd, hH] at e
        exact absurd e (by decide)
      · rw [hcd, ← hgG, ev]
theorem rt_l_sentBy {f g : Nat} (hf : f < 256) (hg : g < 4) (hG : ∀ k, k < 511 → ∃ v, v < 4 ∧ rt_G A1 A3 k = nI v) (h : post 1) : wpL_sentBy post (T, c, A1, A2, A3) (nI f) (nI g) := by
  have main : wL_sentBy_7 post (nI f) (nI g) T c A1 A2 A3 257 (-1) (rt_m 256) := by
    refine pk_loopD (fun n i s => wL_sentBy_7 post (nI f) (nI g) T c A1 A2 A3 n s (rt_m i)) (fun i s => i ≤ 256 ∧ rt_nx (fun x => f ≤ x ∧ rt_g (rt_H T A2) (rt_G A1 A3) x = nI g) i s) ?_ ?_ 256 (-1) ⟨Nat.le_refl _, rt_nx_0 _⟩
    · intro n s hs
      exact br_t (show rt_m 0 < 0 by decide) (rt_x_next (by omega) (nI_pos (by omega)) (rt_nx_from hs.2) (br_t rfl h))
    · intro n i s hs ih
      obtain ⟨h1, h2⟩ := hs
      exact rt_l_turn hf (by omega) hG h2 (fun s' h' => ih s' ⟨by omega, h'⟩)
  rw [show rt_m 256 = 255 from by decide] at main
  exact ⟨257, main⟩
end
end
section
theorem rt_x_pick {post : Int32 → Prop} {L : Nat} {xs : Nat → Int32} {x y : Int32} (i d : Nat) (hL : L < 2 ^ 31) (hi : i < 2 ^ 31) (h0 : 0 < d) (hd : d < 2 ^ 31) (hx : x = nI i) (hy : y = nI d) (H : ∀ v, v < d → post (nI v)) : wpL_pick post L xs () x y := by
  subst hx hy
  have hne : ¬ nI d = 0 := nI_ne0 h0 hd
  refine pk_le L i (fun z => ⟨hne, ?_⟩) (fun z => ⟨vp_in_nI z hL, nm_e ⟨hne, ?_⟩⟩)
  · rw [show (0 : Int32) &&& 2147483647 = nI 0 from by decide, pk_rem (by omega) h0 hd]
    exact H _ (Nat.mod_lt _ h0)
  · obtain ⟨j, hj, ej⟩ := pk_andE (xs (nI i).toNatClampNeg) (m := 2147483647) 31 (by decide)
    rw [ej, pk_rem hj h0 hd]
    exact H _ (Nat.mod_lt _ h0)
theorem rt_l_113 {L : Nat} {xs : Nat → Int32} {J : Int32 → Int32 → Int32 → (Nat → Int32) → (Nat → Int32) → (Nat → Int32) → Prop} {i a g kc ks : Nat} {T c : Int32} {A1 A2 A3 : Nat → Int32} (hI : rt_I T c A1 A2 A3) (ha : a < 256) (hg : g < 100) (hJ : J (nI (i + 4)) T c A1 A2 A3) :
    wL_law_113 (fun r => r = 1) L xs J (nI i) (nI a) (nI g) kc ks T c A1 A2 A3 := by
  unfold wL_law_113
  rw [rt_e16 g hg]
  exact rt_l_loads hI (br_f (by decide) (rt_l_sentBy ha (Nat.mod_lt _ (by omega)) hI.2 (br_f (by decide) (nm_r (nI_add i 4) hJ))))
theorem rt_I_put {T c T' : Int32} {A1 A2 A3 A1' A2' A3' : Nat → Int32} {m v : Nat} (hm : m < 511) (hv : v < 4) (hI : rt_I T c A1 A2 A3) (h1 : ∀ k, k < 511 → rt_H T' A2' k = (decide (k = m) || rt_H T A2 k)) (h2 : ∀ k, k < 511 → rt_G A1' A3' k = if k = m then nI v else rt_G A1 A3 k) : rt_I T' (c + nI (!rt_H T A2 m).toNat) A1' A2' A3' := by
  refine ⟨?_, fun k hk => ?_⟩
  · rw [rt_n_set hm h1, ← nI_add, ← hI.1]
  · rw [h2 k hk]
    by_cases e : k = m
    · rw [if_pos e]
      exact ⟨v, hv, rfl⟩
    · rw [if_neg e]
      exact hI.2 k hk
theorem rt_I_drop {T c T' : Int32} {A1 A2 A3 A2' : Nat → Int32} {m : Nat} (hm : m < 511) (hI : rt_I T c A1 A2 A3) (he : rt_H T A2 m = true) (h1 : ∀ k, k < 511 → rt_H T' A2' k = (!decide (k = m) && rt_H T A2 k)) : rt_I T' (c - 1) A1 A2' A3 := by
  refine ⟨?_, hI.2⟩
  rw [hI.1, ← rt_n_clr he hm h1, nI_pred]
theorem rt_I_zero {A1 A2 A3 : Nat → Int32} (hG : ∀ k, k < 511 → ∃ v, v < 4 ∧ rt_G A1 A3 k = nI v) (h : ∀ j, j < 16 → A2 j = 0) : rt_I 0 0 A1 A2 A3 := by
  refine ⟨?_, hG⟩
  rw [rt_n_0 (p := rt_H 0 A2) (fun k hk => ?_)]
  · rfl
  · unfold rt_H
    by_cases z : k < 15
    · rw [if_pos z]
      exact rt_b0 k
    · rw [if_neg z, h _ (rt_t15 k hk (by omega))]
      exact rt_b0 _
theorem rt_l_10 {L : Nat} {xs : Nat → Int32} {kc ks : Nat} (hL : L ≤ 260) : ∀ (n i : Nat) (T c : Int32) (A1 A2 A3 : Nat → Int32), L - i < n → i ≤ 264 → rt_I T c A1 A2 A3 → wL_law_10 (fun r => r = 1) L xs kc ks n (nI i) T c A1 A2 A3 := by
  intro n
  induction n with
  | zero => intro i T c A1 A2 A3 h; exact absurd h (by omega)
  | succ n ih =>
    intro i T c A1 A2 A3 h hi hI
    refine pk_le L i (fun z => rt_l_spanned hI.2 rfl) (fun z => rt_x_pick i 16 (by omega) (by omega) (by omega) (by omega) rfl rfl (fun op hop => rt_x_pick (i + 1) 9 (by omega) (by omega) (by omega) (by omega) (nI_1 i) rfl (fun m hm => rt_x_pick (i + 2) 256 (by omega) (by omega) (by omega) (by omega) (nI_add i 2) rfl (fun a ha => nm_r (rt_e6 a ha m hm) (rt_x_pick (i + 3) 100 (by omega) (by omega) (by omega) (by omega) (nI_add i 3) rfl (fun g hg => ?_))))))
    have hb : a / 2 ^ (8 - m) * 2 ^ (8 - m) < 256 := Nat.lt_of_le_of_lt (Nat.div_mul_le_self _ _) ha
    have hal : (a / 2 ^ (8 - m) * 2 ^ (8 - m)) % 2 ^ (8 - m) = 0 := Nat.mul_mod_left _ _
    have hcd := rt_t2 _ hb m hm
    have go : ∀ (T' c' : Int32) (B1 B2 B3 : Nat → Int32), rt_I T' c' B1 B2 B3 → wL_law_113 (fun r => r = 1) L xs (wL_law_10 (fun r => r = 1) L xs kc ks n) (nI i) (nI (a / 2 ^ (8 - m) * 2 ^ (8 - m))) (nI g) kc ks T' c' B1 B2 B3 :=
      fun T' c' B1 B2 B3 hI' => rt_l_113 hI' hb hg (ih (i + 4) T' c' B1 B2 B3 (by omega) (by omega) hI')
    refine pk_lt 11 op (fun _ => pk_lt 14 op (fun _ => pk_eq g 0 (fun _ => rt_x_clear (fun A2' hA => go _ _ _ _ _ (rt_I_zero hI.2 hA))) (fun _ => go _ _ _ _ _ hI)) (fun _ => rt_x_drop hb hm hal (go _ _ _ _ _ hI) (fun e T' A2' h1 => go _ _ _ _ _ (rt_I_drop hcd hI e h1)))) (fun _ => ?_)
    rw [rt_e16 g hg]
    exact rt_x_put hb hm hal (Nat.mod_lt _ (by omega)) (fun T' A1' A2' A3' h1 h2 => go _ _ _ _ _ (rt_I_put hcd (Nat.mod_lt _ (by omega)) hI h1 h2))
theorem i_vc (xs : Nat → Int32) (L : Nat) (hL : L ≤ 260) : wpL_law (fun r => r = 1) L xs := by
  refine ⟨3, 527, by omega, by omega, by omega, by omega, by omega, by omega, by omega, by omega, L + 1, ?_⟩
  have h := rt_l_10 (xs := xs) (kc := 1 + 3) (ks := 5 + 527) hL (L + 1) 0 0 0 (fun _ => 0) (fun _ => 0) (fun _ => 0) (by omega) (by omega) (rt_I_zero (fun k hk => ⟨0, by omega, ?_⟩) (fun j hj => rfl))
  · exact h
  · unfold rt_G
    by_cases z : k < 15
    · rw [if_pos z]; rfl
    · rw [if_neg z]; rfl
end
