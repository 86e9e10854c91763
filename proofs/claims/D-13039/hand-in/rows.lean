section
/-! bits of ints and longs (the first rows are kit/laws/BITS.to-paste's, renamed) -/
def vq_t (x : Int32) (i : Nat) : Bool := x.toBitVec.getLsbD i
def vq_T (x : Int64) (i : Nat) : Bool := x.toBitVec.getLsbD i
def vq_I (b : Bool) : Int32 := match b with
  | true => 1
  | false => 0
theorem vq_I0 (b : Bool) : vq_I b = 0 ↔ b = false := by cases b <;> decide
theorem vq_text {x y : Int32} (h : ∀ i, i < 32 → vq_t x i = vq_t y i) : x = y := Int32.toBitVec_inj.mp (BitVec.eq_of_getLsbD_eq (fun i hi => h i hi))
theorem vq_t_or (x y : Int32) (i : Nat) : vq_t (x ||| y) i = (vq_t x i || vq_t y i) := by unfold vq_t; rw [Int32.toBitVec_or, BitVec.getLsbD_or]
theorem vq_t_and (x y : Int32) (i : Nat) : vq_t (x &&& y) i = (vq_t x i && vq_t y i) := by unfold vq_t; rw [Int32.toBitVec_and, BitVec.getLsbD_and]
theorem vq_t_xor (x y : Int32) (i : Nat) : vq_t (x ^^^ y) i = (vq_t x i ^^ vq_t y i) := by unfold vq_t; rw [Int32.toBitVec_xor, BitVec.getLsbD_xor]
theorem vq_t_m1 : ∀ i, i < 32 → vq_t (-1) i = true := by decide +kernel
theorem vq_t_7 : ∀ i, i < 32 → vq_t 7 i = decide (i < 3) := by decide +kernel
theorem vq_t_63 : ∀ i, i < 6 → vq_t 63 i = true := by decide +kernel
theorem vq_t_255 : ∀ i, i < 8 → vq_t 255 i = true := by decide +kernel
theorem vq_t_0 (i : Nat) : vq_t 0 i = false := BitVec.getLsbD_zero
theorem vq_t_small : ∀ j, j < 8 → ∀ i, i < 32 → 3 ≤ i → vq_t (nI j) i = false := by decide +kernel
theorem vq_sl : ∀ n, n < 32 → ((nI n &&& 31).toBitVec.smod 32).toNat = n := by decide +kernel
theorem vq_su' : ∀ n, n < 32 → (((nI n).toUInt32 &&& Int32.toUInt32 31).toBitVec % 32).toNat = n := by decide +kernel
theorem vq_t_shl (n : Nat) (hn : n < 32) (x : Int32) {i : Nat} (hi : i < 32) : vq_t (x <<< (nI n &&& 31)) i = (decide (n ≤ i) && vq_t x (i - n)) := by
  unfold vq_t
  rw [Int32.toBitVec_shiftLeft]
  show (x.toBitVec <<< ((nI n &&& 31).toBitVec.smod 32).toNat).getLsbD i = _
  rw [vq_sl n hn, BitVec.getLsbD_shiftLeft]
  rcases Nat.lt_or_ge i n with h | h
  · simp [h, Nat.not_le.mpr h]
  · simp [hi, h, Nat.not_lt.mpr h]
theorem vq_t_ushr (n : Nat) (hn : n < 32) (x : Int32) (i : Nat) : vq_t ((x.toUInt32 >>> ((nI n).toUInt32 &&& Int32.toUInt32 31)).toInt32) i = vq_t x (n + i) := by
  show (x.toUInt32 >>> ((nI n).toUInt32 &&& Int32.toUInt32 31)).toBitVec.getLsbD i = x.toUInt32.toBitVec.getLsbD (n + i)
  rw [UInt32.toBitVec_shiftRight]
  show (x.toUInt32.toBitVec >>> (((nI n).toUInt32 &&& Int32.toUInt32 31).toBitVec % 32).toNat).getLsbD i = _
  rw [vq_su' n hn, BitVec.getLsbD_ushiftRight]
theorem vq_t_sshr (n : Nat) (hn : n < 32) (x : Int32) {i : Nat} (hi : i < 32) : vq_t (x >>> (nI n &&& 31)) i = if n + i < 32 then vq_t x (n + i) else vq_t x 31 := by
  unfold vq_t
  rw [Int32.toBitVec_shiftRight]
  show (x.toBitVec.sshiftRight ((nI n &&& 31).toBitVec.smod 32).toNat).getLsbD i = _
  rw [vq_sl n hn, BitVec.getLsbD_sshiftRight, BitVec.msb_eq_getLsbD_last]
  simp [hi]
theorem vq_and1 (x : Int32) : x &&& 1 = vq_I (vq_t x 0) := by
  have e : vq_t x 0 = decide (x.toBitVec.toNat % 2 = 1) := Nat.testBit_zero _
  rw [pk_and x 1 (m := 1) (by decide), e]
  rcases Nat.mod_two_eq_zero_or_one x.toBitVec.toNat with h | h
  · rw [show x.toBitVec.toNat % 2 ^ 1 = 0 from h]; rfl
  · rw [show x.toBitVec.toNat % 2 ^ 1 = 1 from h]; rfl
/-- the component's bit test -/
theorem vq_ub (x : Int32) (v : Nat) (hv : v < 32) : ((x.toUInt32 >>> ((nI v).toUInt32 &&& Int32.toUInt32 31)).toInt32) &&& 1 = vq_I (vq_t x v) := by
  rw [vq_and1, vq_t_ushr v hv, Nat.add_zero]
/-- the law's bit test -/
theorem vq_sb (x : Int32) (v : Nat) (hv : v < 32) : (x >>> (nI v &&& 31)) &&& 1 = vq_I (vq_t x v) := by
  rw [vq_and1, vq_t_sshr v hv x (by omega), if_pos (by omega), Nat.add_zero]
/-- longs -/
theorem vq_sL : ∀ q, q < 64 → (((nI q).toInt64 &&& 63).toBitVec.smod 64).toNat = q := by decide +kernel
theorem vq_T_shr (q : Nat) (hq : q < 64) (x : Int64) {i : Nat} (hi : i < 64) : vq_T (x >>> ((nI q).toInt64 &&& 63)) i = if q + i < 64 then vq_T x (q + i) else vq_T x 63 := by
  unfold vq_T
  rw [Int64.toBitVec_shiftRight]
  show (x.toBitVec.sshiftRight (((nI q).toInt64 &&& 63).toBitVec.smod 64).toNat).getLsbD i = _
  rw [vq_sL q hq, BitVec.getLsbD_sshiftRight, BitVec.msb_eq_getLsbD_last]
  simp [hi]
theorem vq_And1 (x : Int64) : (x &&& 1) = 0 ↔ vq_T x 0 = false := by
  rw [← Int64.toBitVec_inj, Int64.toBitVec_and]
  show (x.toBitVec &&& 1#64) = 0#64 ↔ x.toBitVec.getLsbD 0 = false
  rw [BitVec.and_one_eq_setWidth_ofBool_getLsbD]
  cases x.toBitVec.getLsbD 0
  · exact ⟨fun _ => rfl, fun _ => by decide⟩
  · exact ⟨fun z => absurd z (by decide), fun z => absurd z (by decide)⟩
theorem vq_Lb (x : Int64) (q : Nat) (hq : q < 64) : ((x >>> ((nI q).toInt64 &&& 63)) &&& 1) = 0 ↔ vq_T x q = false := by
  rw [vq_And1, vq_T_shr q hq x (by omega), if_pos (by omega), Nat.add_zero]
theorem vq_one64 : ∀ q, q < 64 → ((1 : Int64) <<< ((nI q).toInt64 &&& 63)).toBitVec = BitVec.twoPow 64 q := by decide +kernel
theorem vq_T_set (x : Int64) (q : Nat) (hq : q < 64) (r : Nat) : vq_T (x ||| ((1 : Int64) <<< ((nI q).toInt64 &&& 63))) r = (vq_T x r || decide (r = q)) := by
  unfold vq_T
  rw [Int64.toBitVec_or, BitVec.getLsbD_or, vq_one64 q hq, BitVec.getLsbD_twoPow]
  have e : decide (q = r) = decide (r = q) := by rw [decide_eq_decide]; exact eq_comm
  simp only [hq, decide_true, Bool.true_and, e]
theorem vq_one32 : ∀ q, q < 32 → ((1 : Int32) <<< (nI q &&& 31)).toBitVec = BitVec.twoPow 32 q := by decide +kernel
theorem vq_t_set (x : Int32) (q : Nat) (hq : q < 32) (r : Nat) : vq_t (x ||| ((1 : Int32) <<< (nI q &&& 31))) r = (vq_t x r || decide (r = q)) := by
  unfold vq_t
  rw [Int32.toBitVec_or, BitVec.getLsbD_or, vq_one32 q hq, BitVec.getLsbD_twoPow]
  have e : decide (q = r) = decide (r = q) := by rw [decide_eq_decide]; exact eq_comm
  simp only [hq, decide_true, Bool.true_and, e]
theorem vq_t_long (x : Int64) {i : Nat} (hi : i < 32) : vq_t x.toInt32 i = vq_T x i := by
  unfold vq_t vq_T
  rw [Int64.toBitVec_toInt32, BitVec.getLsbD_signExtend]
  simp [hi, show i < 64 by omega]
theorem vq_6 (v : Nat) : (6 : Int32) * nI v = nI (6 * v) := pk_mul 6 v
theorem vq_3 (v : Nat) : (3 : Int32) * nI v = nI (3 * v) := pk_mul 3 v
theorem vq_4 (v : Nat) : (4 : Int32) * nI v = nI (4 * v) := pk_mul 4 v
/-- the law's 'mine' and its bits -/
theorem vq_mine (x : Int64) (v p : Nat) (hv : v < 8) (hp : p < 6) : ((((x >>> ((6 * nI v).toInt64 &&& 63)).toInt32) &&& 63) >>> (nI p &&& 31)) &&& 1 = vq_I (vq_T x (6 * v + p)) := by
  rw [vq_sb _ p (by omega), vq_t_and, vq_t_63 p hp, vq_t_long _ (by omega), vq_6, vq_T_shr (6 * v) (by omega) x (by omega), if_pos (by omega), Bool.and_true]
/-- the stake of a validator in the law's 'stakes' -/
def vq_K (x : Int32) (v : Nat) : Int32 := (x >>> ((3 * nI v) &&& 31)) &&& 7
theorem vq_K_lt (x : Int32) (v : Nat) : ∃ j, j < 8 ∧ vq_K x v = nI j := pk_andE _ 3 (by decide)
theorem vq_K_bit (x : Int32) (v i : Nat) (hv : v < 8) (hi : i < 32) : vq_t (vq_K x v) i = (vq_t x (3 * v + i) && decide (i < 3)) := by
  unfold vq_K
  rw [vq_t_and, vq_t_7 i hi, vq_3, vq_t_sshr (3 * v) (by omega) x hi]
  by_cases h : i < 3
  · rw [if_pos (by omega)]
  · rw [decide_eq_false h, Bool.and_false, Bool.and_false]
theorem vq_K_set (x n : Int32) (v w j : Nat) (hv : v < 8) (hw : w < 8) (hj : j < 8) (hn : n = nI j) :
    vq_K ((x &&& (((7 : Int32) <<< ((3 * nI v) &&& 31)) ^^^ (-1))) ||| (n <<< ((3 * nI v) &&& 31))) w = if w = v then n else vq_K x w := by
  apply vq_text
  intro i hi
  rw [vq_K_bit _ w i hw hi]
  by_cases h : i < 3
  · have hb : 3 * w + i < 32 := by omega
    rw [vq_t_or, vq_t_and, vq_t_xor, vq_t_m1 _ hb, vq_3, vq_t_shl (3 * v) (by omega) _ hb, vq_t_shl (3 * v) (by omega) _ hb, vq_t_7 _ (by omega)]
    by_cases e : w = v
    · rw [if_pos e, e, decide_eq_true (show 3 * v ≤ 3 * v + i by omega), show 3 * v + i - 3 * v = i by omega, decide_eq_true h]
      simp
    · rw [if_neg e, vq_K_bit _ w i hw hi, decide_eq_true h]
      by_cases g : 3 * v ≤ 3 * w + i
      · rw [decide_eq_true g, decide_eq_false (show ¬ 3 * w + i - 3 * v < 3 by omega), hn, vq_t_small j hj _ (by omega) (by omega)]
        simp
      · rw [decide_eq_false g]
        simp
  · rw [decide_eq_false h, Bool.and_false]
    by_cases e : w = v
    · rw [if_pos e, hn, vq_t_small j hj i hi (by omega)]
    · rw [if_neg e, vq_K_bit _ w i hw hi, decide_eq_false h, Bool.and_false]
theorem vq_K_0 : ∀ v, v < 8 → vq_K 2396745 v = 1 := by decide +kernel
theorem vq_T_0 (q : Nat) : vq_T 0 q = false := BitVec.getLsbD_zero
end
section
/-! the pure picture -/
def vq_sm (f : Nat → Int32) : Nat → Int32
  | 0 => 0
  | n + 1 => vq_sm f n + f n
theorem vq_sm_eq {f g : Nat → Int32} (n : Nat) (h : ∀ v, v < n → f v = g v) : vq_sm f n = vq_sm g n := by
  induction n with
  | zero => rfl
  | succ n ih =>
    show vq_sm f n + f n = vq_sm g n + g n
    rw [ih (fun v hv => h v (by omega)), h n (by omega)]
theorem vq_sm_nI {K : Nat → Int32} (n : Nat) (h : ∀ v, v < n → ∃ j, j < 8 ∧ K v = nI j) : ∃ m, m ≤ 7 * n ∧ vq_sm K n = nI m := by
  induction n with
  | zero => exact ⟨0, by omega, rfl⟩
  | succ n ih =>
    obtain ⟨m, hm, e⟩ := ih (fun v hv => h v (by omega))
    obtain ⟨j, hj, e2⟩ := h n (by omega)
    refine ⟨m + j, by omega, ?_⟩
    show vq_sm K n + K n = _
    rw [e, e2, nI_add]
/-- how many bits are set below k -/
def vq_c (B : Nat → Bool) : Nat → Nat
  | 0 => 0
  | k + 1 => vq_c B k + (if B k = true then 1 else 0)
theorem vq_c_le (B : Nat → Bool) (k : Nat) : vq_c B k ≤ k := by
  induction k with
  | zero => exact Nat.le_refl 0
  | succ k ih =>
    show vq_c B k + (if B k = true then 1 else 0) ≤ k + 1
    split <;> omega
theorem vq_c_set {B B' : Nat → Bool} {q : Nat} (hq : B q = false) (k : Nat) (h : ∀ r, r < k → B' r = (B r || decide (r = q))) : vq_c B' k = vq_c B k + (if q < k then 1 else 0) := by
  induction k with
  | zero => rfl
  | succ k ih =>
    have i := ih (fun r hr => h r (by omega))
    have hk := h k (by omega)
    show vq_c B' k + (if B' k = true then 1 else 0) = vq_c B k + (if B k = true then 1 else 0) + (if q < k + 1 then 1 else 0)
    rw [i, hk]
    by_cases e : k = q
    · subst e
      rw [hq]
      simp
    · rw [decide_eq_false e, Bool.or_false]
      by_cases g : q < k
      · rw [if_pos g, if_pos (show q < k + 1 by omega)]
        omega
      · rw [if_neg g, if_neg (show ¬ q < k + 1 by omega)]
        omega
theorem vq_c_0 (k : Nat) {B : Nat → Bool} (h : ∀ q, q < k → B q = false) : vq_c B k = 0 := by
  induction k with
  | zero => rfl
  | succ k ih =>
    show vq_c B k + (if B k = true then 1 else 0) = 0
    rw [ih (fun q hq => h q (by omega)), h k (by omega)]
    rfl
/-- the law's place -/
def vq_pl (s t : Nat) : Nat := if s = 0 then t - 1 else if s = 1 then t + 1 else 5
theorem vq_pl_d : ∀ s, s < 3 → ∀ t, t < 4 → s < t → vq_pl s t < 6 := by decide +kernel
theorem vq_pl_i : ∀ s, s < 3 → ∀ t, t < 4 → ∀ s', s' < 3 → ∀ t', t' < 4 → s < t → s' < t' → vq_pl s t = vq_pl s' t' → s = s' ∧ t = t' := by
  intro s hs t ht s' hs' t' ht' h1 h2 h
  unfold vq_pl at h
  rcases (by omega : s = 0 ∨ s = 1 ∨ s = 2) with e | e | e <;> rcases (by omega : s' = 0 ∨ s' = 1 ∨ s' = 2) with e' | e' | e' <;> subst e <;> subst e' <;> simp at h <;> omega
theorem vq_pl_lt {s t : Nat} (h : s < t) (h3 : t ≤ 3) : vq_pl s t < 6 := vq_pl_d s (by omega) t (by omega) h
/-- has validator v voted for s → t -/
def vq_b (B : Nat → Bool) (v s t : Nat) : Bool := B (6 * v + vq_pl s t)
theorem vq_b_set {B B' : Nat → Bool} {v s t v' s' t' : Nat} (hB : ∀ q, q < 48 → B' q = (B q || decide (q = 6 * v + vq_pl s t))) (hv : v < 8) (hst : s < t) (ht : t ≤ 3) (hv' : v' < 8) (hst' : s' < t') (ht' : t' ≤ 3) :
    vq_b B' v' s' t' = (vq_b B v' s' t' || decide (v' = v ∧ s' = s ∧ t' = t)) := by
  have h1 := vq_pl_lt hst ht
  have h2 := vq_pl_lt hst' ht'
  unfold vq_b
  rw [hB _ (by omega)]
  have e : decide (6 * v' + vq_pl s' t' = 6 * v + vq_pl s t) = decide (v' = v ∧ s' = s ∧ t' = t) := by
    rw [decide_eq_decide]
    constructor
    · intro z
      have z1 : v' = v := by omega
      have z2 : vq_pl s' t' = vq_pl s t := by omega
      exact ⟨z1, vq_pl_i s' (by omega) t' (by omega) s (by omega) t (by omega) hst' hst z2⟩
    · intro z
      rw [z.1, z.2.1, z.2.2]
  rw [e]
theorem vq_b_iff {B B' : Nat → Bool} {v s t v' s' t' : Nat} (hB : ∀ q, q < 48 → B' q = (B q || decide (q = 6 * v + vq_pl s t))) (hv : v < 8) (hst : s < t) (ht : t ≤ 3) (hv' : v' < 8) (hst' : s' < t') (ht' : t' ≤ 3) :
    vq_b B' v' s' t' = true ↔ (vq_b B v' s' t' = true ∨ (v' = v ∧ s' = s ∧ t' = t)) := by
  rw [vq_b_set hB hv hst ht hv' hst' ht', Bool.or_eq_true, decide_eq_true_iff]
/-! offences -/
def vq_G (a2 a3 a4 : Nat → Int32) (h : Nat) (B : Nat → Bool) : Prop :=
  (∀ v t, v < 8 → t ≤ 3 → ∃ c, c ≤ h ∧ a4 (32 * v + t) = nI c ∧ (0 < c ↔ ∃ s, s < t ∧ vq_b B v s t = true)) ∧
  (∀ v e t, v < 8 → e ≤ 3 → t ≤ 3 → (a2 (32 * v + e) < nI t ↔ ∃ u x, e < u ∧ u < x ∧ x < t ∧ vq_b B v u x = true)) ∧
  (∀ v e t, v < 8 → e ≤ 3 → t ≤ 3 → (nI t < a3 (32 * v + e) ↔ ∃ u x, u < e ∧ u < x ∧ x ≤ 3 ∧ t < x ∧ vq_b B v u x = true))
theorem vq_min_lt {a b c : Int32} : (if a ≤ b then a else b) < c ↔ a < c ∨ b < c := by
  split
  · rename_i h
    rw [Int32.le_iff_toInt_le] at h
    rw [Int32.lt_iff_toInt_lt, Int32.lt_iff_toInt_lt]
    omega
  · rename_i h
    rw [Int32.le_iff_toInt_le] at h
    rw [Int32.lt_iff_toInt_lt, Int32.lt_iff_toInt_lt]
    omega
theorem vq_max_lt {a b c : Int32} : c < (if b ≤ a then a else b) ↔ c < a ∨ c < b := by
  split
  · rename_i h
    rw [Int32.le_iff_toInt_le] at h
    rw [Int32.lt_iff_toInt_lt, Int32.lt_iff_toInt_lt]
    omega
  · rename_i h
    rw [Int32.le_iff_toInt_le] at h
    rw [Int32.lt_iff_toInt_lt, Int32.lt_iff_toInt_lt]
    omega
theorem vq_G_set {a2 a3 a4 a2' a3' a4' : Nat → Int32} {h v s t : Nat} {B B' : Nat → Bool} (g : vq_G a2 a3 a4 h B)
    (hB : ∀ q, q < 48 → B' q = (B q || decide (q = 6 * v + vq_pl s t))) (hv : v < 8) (hst : s < t) (ht : t ≤ 3)
    (h4 : ∀ j, a4' j = if j = 32 * v + t then a4 j + 1 else a4 j)
    (h2 : ∀ j, a2' j = if 32 * v ≤ j ∧ j < 32 * v + s then (if a2 j ≤ nI t then a2 j else nI t) else a2 j)
    (h3 : ∀ j, a3' j = if 32 * v + s + 1 ≤ j ∧ j < 32 * v + 32 then (if nI t ≤ a3 j then a3 j else nI t) else a3 j) :
    vq_G a2' a3' a4' (h + 1) B' := by
  obtain ⟨g4, g2, g3⟩ := g
  refine ⟨?_, ?_, ?_⟩
  · intro v' t' hv' ht'
    obtain ⟨c, hc, e, he⟩ := g4 v' t' hv' ht'
    by_cases z : v' = v ∧ t' = t
    · obtain ⟨z1, z2⟩ := z
      subst z1 z2
      refine ⟨c + 1, by omega, ?_, ?_⟩
      · rw [h4, if_pos rfl, e, nI_1]
      · exact ⟨fun _ => ⟨s, hst, (vq_b_iff hB hv hst ht hv hst ht).mpr (Or.inr ⟨rfl, rfl, rfl⟩)⟩, fun _ => by omega⟩
    · refine ⟨c, by omega, ?_, he.trans ⟨?_, ?_⟩⟩
      · rw [h4, if_neg (by omega), e]
      · rintro ⟨s', hs', hb⟩
        exact ⟨s', hs', (vq_b_iff hB hv hst ht hv' hs' ht').mpr (Or.inl hb)⟩
      · rintro ⟨s', hs', hb⟩
        rcases (vq_b_iff hB hv hst ht hv' hs' ht').mp hb with y | ⟨y1, y2, y3⟩
        · exact ⟨s', hs', y⟩
        · exact absurd ⟨y1, y3⟩ z
  · intro v' e t' hv' he ht'
    rw [h2]
    by_cases z : 32 * v ≤ 32 * v' + e ∧ 32 * v' + e < 32 * v + s
    · have z1 : v' = v := by omega
      subst z1
      rw [if_pos z, vq_min_lt, g2 v' e t' hv' he ht', nI_ltI (by omega) (by omega)]
      constructor
      · rintro (⟨u, x, y1, y2, y3, hb⟩ | y)
        · exact ⟨u, x, y1, y2, y3, (vq_b_iff hB hv hst ht hv' y2 (by omega)).mpr (Or.inl hb)⟩
        · exact ⟨s, t, by omega, hst, y, (vq_b_iff hB hv hst ht hv' hst ht).mpr (Or.inr ⟨rfl, rfl, rfl⟩)⟩
      · rintro ⟨u, x, y1, y2, y3, hb⟩
        rcases (vq_b_iff hB hv hst ht hv' y2 (by omega)).mp hb with y | ⟨_, y5, y6⟩
        · exact Or.inl ⟨u, x, y1, y2, y3, y⟩
        · exact Or.inr (by omega)
    · rw [if_neg z, g2 v' e t' hv' he ht']
      constructor
      · rintro ⟨u, x, y1, y2, y3, hb⟩
        exact ⟨u, x, y1, y2, y3, (vq_b_iff hB hv hst ht hv' y2 (by omega)).mpr (Or.inl hb)⟩
      · rintro ⟨u, x, y1, y2, y3, hb⟩
        rcases (vq_b_iff hB hv hst ht hv' y2 (by omega)).mp hb with y | ⟨y4, y5, y6⟩
        · exact ⟨u, x, y1, y2, y3, y⟩
        · exact absurd (show 32 * v ≤ 32 * v' + e ∧ 32 * v' + e < 32 * v + s by omega) z
  · intro v' e t' hv' he ht'
    rw [h3]
    by_cases z : 32 * v + s + 1 ≤ 32 * v' + e ∧ 32 * v' + e < 32 * v + 32
    · have z1 : v' = v := by omega
      subst z1
      rw [if_pos z, vq_max_lt, g3 v' e t' hv' he ht', nI_ltI (by omega) (by omega)]
      constructor
      · rintro (⟨u, x, y1, y2, y3, y4, hb⟩ | y)
        · exact ⟨u, x, y1, y2, y3, y4, (vq_b_iff hB hv hst ht hv' y2 y3).mpr (Or.inl hb)⟩
        · exact ⟨s, t, by omega, hst, ht, y, (vq_b_iff hB hv hst ht hv' hst ht).mpr (Or.inr ⟨rfl, rfl, rfl⟩)⟩
      · rintro ⟨u, x, y1, y2, y3, y4, hb⟩
        rcases (vq_b_iff hB hv hst ht hv' y2 y3).mp hb with y | ⟨_, y5, y6⟩
        · exact Or.inl ⟨u, x, y1, y2, y3, y4, y⟩
        · exact Or.inr (by omega)
    · rw [if_neg z, g3 v' e t' hv' he ht']
      constructor
      · rintro ⟨u, x, y1, y2, y3, y4, hb⟩
        exact ⟨u, x, y1, y2, y3, y4, (vq_b_iff hB hv hst ht hv' y2 y3).mpr (Or.inl hb)⟩
      · rintro ⟨u, x, y1, y2, y3, y4, hb⟩
        rcases (vq_b_iff hB hv hst ht hv' y2 y3).mp hb with y | ⟨y7, y5, y6⟩
        · exact ⟨u, x, y1, y2, y3, y4, y⟩
        · exact absurd (show 32 * v + s + 1 ≤ 32 * v' + e ∧ 32 * v' + e < 32 * v + 32 by omega) z
theorem vq_G_0 {a2 a3 a4 : Nat → Int32} {B : Nat → Bool} (hB : ∀ q, q < 48 → B q = false) (h4 : ∀ j, j < 256 → a4 j = 0) (h2 : ∀ j, j < 256 → a2 j = 32) (h3 : ∀ j, j < 256 → a3 j = -1) : vq_G a2 a3 a4 0 B := by
  have hb : ∀ v s t, v < 8 → s < t → t ≤ 3 → ¬ vq_b B v s t = true := by
    intro v s t hv hst ht
    have := vq_pl_lt hst ht
    unfold vq_b
    rw [hB _ (by omega)]
    decide
  refine ⟨?_, ?_, ?_⟩
  · intro v t hv ht
    refine ⟨0, by omega, h4 _ (by omega), ⟨fun z => absurd z (by omega), ?_⟩⟩
    rintro ⟨s, hs, z⟩
    exact absurd z (hb v s t hv hs ht)
  · intro v e t hv he ht
    rw [h2 _ (by omega)]
    constructor
    · intro z
      exact absurd z (nI_nlt (a := 32) (by omega) (by omega))
    · rintro ⟨u, x, _, y2, y3, z⟩
      exact absurd z (hb v u x hv y2 (by omega))
  · intro v e t hv he ht
    rw [h3 _ (by omega)]
    constructor
    · intro z
      rw [Int32.lt_iff_toInt_lt, nI_toInt (by omega), show (-1 : Int32).toInt = -1 from by decide] at z
      omega
    · rintro ⟨u, x, _, y2, y3, _, z⟩
      exact absurd z (hb v u x hv y2 (by omega))
/-- the three kinds of offence, over the six votes of a validator -/
def vq_q1 (f : Nat → Nat → Bool) (t : Nat) : Bool := (decide (t = 1) && f 0 1) || (decide (t = 2) && (f 0 2 || f 1 2)) || (decide (t = 3) && (f 0 3 || f 1 3 || f 2 3))
def vq_q2 (f : Nat → Nat → Bool) (s t : Nat) : Bool := decide (s = 0 ∧ t = 3) && f 1 2
def vq_q4 (f : Nat → Nat → Bool) (s t : Nat) : Bool := decide (s = 1 ∧ t = 2) && f 0 3
theorem vq_q1_iff (f : Nat → Nat → Bool) (t : Nat) (ht : t ≤ 3) : vq_q1 f t = true ↔ ∃ u, u < t ∧ f u t = true := by
  rcases (by omega : t = 0 ∨ t = 1 ∨ t = 2 ∨ t = 3) with e | e | e | e
  · subst e
    exact ⟨fun z => absurd z (by simp [vq_q1]), fun ⟨u, hu, _⟩ => absurd hu (by omega)⟩
  · subst e
    have e : vq_q1 f 1 = f 0 1 := by simp [vq_q1]
    rw [e]
    refine ⟨fun z => ⟨0, by omega, z⟩, fun ⟨u, hu, z⟩ => ?_⟩
    have : u = 0 := by omega
    subst this
    exact z
  · subst e
    have e : vq_q1 f 2 = (f 0 2 || f 1 2) := by simp [vq_q1]
    rw [e, Bool.or_eq_true]
    refine ⟨fun z => z.elim (fun z => ⟨0, by omega, z⟩) (fun z => ⟨1, by omega, z⟩), fun ⟨u, hu, z⟩ => ?_⟩
    rcases (by omega : u = 0 ∨ u = 1) with e | e
    · subst e
      exact Or.inl z
    · subst e
      exact Or.inr z
  · subst e
    have e : vq_q1 f 3 = (f 0 3 || f 1 3 || f 2 3) := by simp [vq_q1]
    rw [e, Bool.or_eq_true, Bool.or_eq_true]
    refine ⟨fun z => z.elim (fun z => z.elim (fun z => ⟨0, by omega, z⟩) (fun z => ⟨1, by omega, z⟩)) (fun z => ⟨2, by omega, z⟩), fun ⟨u, hu, z⟩ => ?_⟩
    rcases (by omega : u = 0 ∨ u = 1 ∨ u = 2) with e | e | e
    · subst e
      exact Or.inl (Or.inl z)
    · subst e
      exact Or.inl (Or.inr z)
    · subst e
      exact Or.inr z
theorem vq_q2_iff (f : Nat → Nat → Bool) (s t : Nat) (ht : t ≤ 3) : vq_q2 f s t = true ↔ ∃ u x, s < u ∧ u < x ∧ x < t ∧ f u x = true := by
  unfold vq_q2
  rw [Bool.and_eq_true, decide_eq_true_iff]
  constructor
  · rintro ⟨⟨e1, e2⟩, z⟩
    exact ⟨1, 2, by omega, by omega, by omega, z⟩
  · rintro ⟨u, x, h1, h2, h3, z⟩
    have e1 : u = 1 := by omega
    have e2 : x = 2 := by omega
    subst e1 e2
    exact ⟨by omega, z⟩
theorem vq_q4_iff (f : Nat → Nat → Bool) (s t : Nat) (hst : s < t) : vq_q4 f s t = true ↔ ∃ u x, u < s ∧ u < x ∧ x ≤ 3 ∧ t < x ∧ f u x = true := by
  unfold vq_q4
  rw [Bool.and_eq_true, decide_eq_true_iff]
  constructor
  · rintro ⟨⟨e1, e2⟩, z⟩
    exact ⟨0, 3, by omega, by omega, by omega, by omega, z⟩
  · rintro ⟨u, x, h1, h2, h3, h4, z⟩
    have e1 : u = 0 := by omega
    have e2 : x = 3 := by omega
    subst e1 e2
    exact ⟨by omega, z⟩
def vq_jv (q1 q2 q4 : Bool) : Int32 := (vq_I q1 + (if q2 = true then 2 else 0)) + (if q4 = true then 4 else 0)
theorem vq_jv_pos : ∀ q1 q2 q4 : Bool, vq_jv q1 q2 q4 ≤ 0 ↔ vq_jv q1 q2 q4 = 0 := by decide +kernel
/-- the law's offence, a turn of its inner loop -/
def vq_o1 (t x : Nat) (r : Int32) : Int32 := if x = t then r ||| 1 else r
def vq_o2 (s t u x : Nat) (r : Int32) : Int32 := if s < u ∧ x < t then r ||| 2 else r
def vq_o4 (s t u x : Nat) (r : Int32) : Int32 := if u < s ∧ t < x then r ||| 4 else r
def vq_os (b : Bool) (s t u x : Nat) (r : Int32) : Int32 := if b = true then vq_o4 s t u x (vq_o2 s t u x (vq_o1 t x r)) else r
def vq_offb (b01 b02 b03 b12 b13 b23 : Bool) (s t : Nat) : Int32 :=
  vq_os b23 s t 2 3 (vq_os b13 s t 1 3 (vq_os b12 s t 1 2 (vq_os b03 s t 0 3 (vq_os b02 s t 0 2 (vq_os b01 s t 0 1 0)))))
def vq_off (f : Nat → Nat → Bool) (s t : Nat) : Int32 := vq_offb (f 0 1) (f 0 2) (f 0 3) (f 1 2) (f 1 3) (f 2 3) s t
theorem vq_offb_eq : ∀ b01 b02 b03 b12 b13 b23 : Bool, ∀ s, s < 3 → ∀ t, t < 4 → s < t → vq_offb b01 b02 b03 b12 b13 b23 s t =
    vq_jv ((decide (t = 1) && b01) || (decide (t = 2) && (b02 || b12)) || (decide (t = 3) && (b03 || b13 || b23))) (decide (s = 0 ∧ t = 3) && b12) (decide (s = 1 ∧ t = 2) && b03) := by decide +kernel
theorem vq_off_eq (f : Nat → Nat → Bool) (s t : Nat) (hst : s < t) (ht : t ≤ 3) : vq_off f s t = vq_jv (vq_q1 f t) (vq_q2 f s t) (vq_q4 f s t) :=
  vq_offb_eq (f 0 1) (f 0 2) (f 0 3) (f 1 2) (f 1 3) (f 2 3) s (by omega) t (by omega) hst
end
section
/-! the links' picture: ls, lt are the epochs of a link's source and target -/
def vq_L (n : Nat) (ls lt : Nat → Nat) (a6 a7 a8 : Nat → Int32) (B : Nat → Bool) : Prop :=
  (∀ k, k < n → ls k < lt k ∧ lt k ≤ 3 ∧ a6 k = nI (4 * ls k) ∧ a7 k = nI (4 * lt k)) ∧
  (∀ k v, k < n → v < 8 → vq_t (a8 k) v = vq_b B v (ls k) (lt k)) ∧
  (∀ j k, j < n → k < n → ls j = ls k → lt j = lt k → j = k) ∧
  (∀ j k, j < k → k < n → lt j ≤ lt k) ∧
  (∀ s t v, s < t → t ≤ 3 → v < 8 → vq_b B v s t = true → ∃ k, k < n ∧ ls k = s ∧ lt k = t)
theorem vq_L_0 {ls lt : Nat → Nat} {a6 a7 a8 : Nat → Int32} {B : Nat → Bool} (hB : ∀ q, q < 48 → B q = false) : vq_L 0 ls lt a6 a7 a8 B := by
  refine ⟨fun k h => absurd h (by omega), fun k v h => absurd h (by omega), fun j k h => absurd h (by omega), fun j k h1 h => absurd h (by omega), ?_⟩
  intro s t v hst ht hv hb
  have := vq_pl_lt hst ht
  unfold vq_b at hb
  rw [hB _ (by omega)] at hb
  exact absurd hb (by decide)
/-- a vote for a link that is there -/
theorem vq_L_vote {n : Nat} {ls lt : Nat → Nat} {a6 a7 a8 : Nat → Int32} {B B' : Nat → Bool} {v s t k : Nat} (g : vq_L n ls lt a6 a7 a8 B)
    (hB : ∀ q, q < 48 → B' q = (B q || decide (q = 6 * v + vq_pl s t))) (hv : v < 8) (hst : s < t) (ht : t ≤ 3) (hk : k < n) (es : ls k = s) (et : lt k = t) :
    vq_L n ls lt a6 a7 (upd a8 k (a8 k ||| ((1 : Int32) <<< (nI v &&& 31)))) B' := by
  obtain ⟨g1, g2, g3, g4, g5⟩ := g
  refine ⟨g1, ?_, g3, g4, ?_⟩
  · intro j w hj hw
    have q := g1 j hj
    rw [vq_b_set hB hv hst ht hw q.1 q.2.1]
    by_cases e : j = k
    · subst e
      rw [pk_us, vq_t_set _ v (by omega), g2 j w hj hw]
      congr 1
      rw [decide_eq_decide]
      exact ⟨fun z => ⟨z, es, et⟩, fun z => z.1⟩
    · rw [pk_un e, g2 j w hj hw]
      have : ¬ (w = v ∧ ls j = s ∧ lt j = t) := by
        rintro ⟨_, z2, z3⟩
        exact e (g3 j k hj hk (by rw [z2, es]) (by rw [z3, et]))
      rw [decide_eq_false this, Bool.or_false]
  · intro s' t' w hst' ht' hw hb
    rcases (vq_b_iff hB hv hst ht hw hst' ht').mp hb with y | ⟨y1, y2, y3⟩
    · exact g5 s' t' w hst' ht' hw y
    · exact ⟨k, hk, by rw [es, y2], by rw [et, y3]⟩
/-- putting x at place p, what stood there and behind it one place on -/
def vq_sh {α : Type} (f : Nat → α) (p : Nat) (x : α) : Nat → α := fun j => if j < p then f j else if j = p then x else f (j - 1)
theorem vq_sh_lt {α : Type} {f : Nat → α} {p j : Nat} {x : α} (h : j < p) : vq_sh f p x j = f j := if_pos h
theorem vq_sh_eq {α : Type} {f : Nat → α} {p : Nat} {x : α} : vq_sh f p x p = x := by
  unfold vq_sh
  rw [if_neg (Nat.lt_irrefl p), if_pos rfl]
theorem vq_sh_gt {α : Type} {f : Nat → α} {p j : Nat} {x : α} (h : p < j) : vq_sh f p x j = f (j - 1) := by
  unfold vq_sh
  rw [if_neg (by omega), if_neg (by omega)]
theorem vq_L_open {n : Nat} {ls lt : Nat → Nat} {a6 a7 a8 a6' a7' a8' : Nat → Int32} {B : Nat → Bool} {s t p : Nat} (g : vq_L n ls lt a6 a7 a8 B)
    (hst : s < t) (ht : t ≤ 3) (hno : ∀ k, k < n → ¬ (ls k = s ∧ lt k = t)) (hp : p ≤ n) (hlo : ∀ j, j < p → lt j ≤ t) (hhi : ∀ j, p ≤ j → j < n → t ≤ lt j)
    (e6 : ∀ j, j ≤ n → a6' j = vq_sh a6 p (nI (4 * s)) j) (e7 : ∀ j, j ≤ n → a7' j = vq_sh a7 p (nI (4 * t)) j) (e8 : ∀ j, j ≤ n → a8' j = vq_sh a8 p 0 j) :
    vq_L (n + 1) (vq_sh ls p s) (vq_sh lt p t) a6' a7' a8' B := by
  obtain ⟨g1, g2, g3, g4, g5⟩ := g
  refine ⟨?_, ?_, ?_, ?_, ?_⟩
  · intro k hk
    rw [e6 k (by omega), e7 k (by omega)]
    rcases Nat.lt_trichotomy k p with h | h | h
    · rw [vq_sh_lt h, vq_sh_lt h, vq_sh_lt h, vq_sh_lt h]
      exact g1 k (by omega)
    · subst h
      rw [vq_sh_eq, vq_sh_eq, vq_sh_eq, vq_sh_eq]
      exact ⟨hst, ht, rfl, rfl⟩
    · rw [vq_sh_gt h, vq_sh_gt h, vq_sh_gt h, vq_sh_gt h]
      exact g1 (k - 1) (by omega)
  · intro k v hk hv
    rw [e8 k (by omega)]
    rcases Nat.lt_trichotomy k p with h | h | h
    · rw [vq_sh_lt h, vq_sh_lt h, vq_sh_lt h]
      exact g2 k v (by omega) hv
    · subst h
      rw [vq_sh_eq, vq_sh_eq, vq_sh_eq, vq_t_0]
      cases hb : vq_b B v s t
      · rfl
      · obtain ⟨j, hj, ej⟩ := g5 s t v hst ht hv hb
        exact absurd ej (hno j hj)
    · rw [vq_sh_gt h, vq_sh_gt h, vq_sh_gt h]
      exact g2 (k - 1) v (by omega) hv
  · intro j k hj hk
    rcases Nat.lt_trichotomy j p with h | h | h
    · rcases Nat.lt_trichotomy k p with h' | h' | h'
      · rw [vq_sh_lt h, vq_sh_lt h', vq_sh_lt h, vq_sh_lt h']
        exact g3 j k (by omega) (by omega)
      · rw [h', vq_sh_lt h, vq_sh_eq, vq_sh_lt h, vq_sh_eq]
        exact fun z1 z2 => absurd ⟨z1, z2⟩ (hno j (by omega))
      · rw [vq_sh_lt h, vq_sh_gt h', vq_sh_lt h, vq_sh_gt h']
        intro z1 z2
        have := g3 j (k - 1) (by omega) (by omega) z1 z2
        omega
    · rcases Nat.lt_trichotomy k p with h' | h' | h'
      · rw [h, vq_sh_lt h', vq_sh_eq, vq_sh_lt h', vq_sh_eq]
        exact fun z1 z2 => absurd ⟨z1.symm, z2.symm⟩ (hno k (by omega))
      · intro _ _
        omega
      · rw [h, vq_sh_gt h', vq_sh_eq, vq_sh_gt h', vq_sh_eq]
        exact fun z1 z2 => absurd ⟨z1.symm, z2.symm⟩ (hno (k - 1) (by omega))
    · rcases Nat.lt_trichotomy k p with h' | h' | h'
      · rw [vq_sh_gt h, vq_sh_lt h', vq_sh_gt h, vq_sh_lt h']
        intro z1 z2
        have := g3 (j - 1) k (by omega) (by omega) z1 z2
        omega
      · rw [h', vq_sh_gt h, vq_sh_eq, vq_sh_gt h, vq_sh_eq]
        exact fun z1 z2 => absurd ⟨z1, z2⟩ (hno (j - 1) (by omega))
      · rw [vq_sh_gt h, vq_sh_gt h', vq_sh_gt h, vq_sh_gt h']
        intro z1 z2
        have := g3 (j - 1) (k - 1) (by omega) (by omega) z1 z2
        omega
  · intro j k hjk hk
    rcases Nat.lt_trichotomy j p with h | h | h
    · rcases Nat.lt_trichotomy k p with h' | h' | h'
      · rw [vq_sh_lt h, vq_sh_lt h']
        exact g4 j k hjk (by omega)
      · rw [h', vq_sh_lt h, vq_sh_eq]
        exact hlo j h
      · rw [vq_sh_lt h, vq_sh_gt h']
        rcases (by omega : j = k - 1 ∨ j < k - 1) with e | e
        · rw [e]
          exact Nat.le_refl _
        · exact g4 j (k - 1) e (by omega)
    · rw [h, vq_sh_eq, vq_sh_gt (by omega)]
      exact hhi (k - 1) (by omega) (by omega)
    · rw [vq_sh_gt h, vq_sh_gt (by omega)]
      exact g4 (j - 1) (k - 1) (by omega) (by omega)
  · intro s' t' v hst' ht' hv hb
    obtain ⟨k, hk, e1, e2⟩ := g5 s' t' v hst' ht' hv hb
    by_cases h : k < p
    · exact ⟨k, by omega, by rw [vq_sh_lt h, e1], by rw [vq_sh_lt h, e2]⟩
    · refine ⟨k + 1, by omega, ?_, ?_⟩
      · rw [vq_sh_gt (by omega), Nat.add_sub_cancel, e1]
      · rw [vq_sh_gt (by omega), Nat.add_sub_cancel, e2]
/-! support, justification -/
def vq_su (B : Nat → Bool) (K : Nat → Int32) (s t : Nat) : Int32 := vq_sm (fun v => if vq_b B v s t = true then K v else 0) 8
def vq_S (B : Nat → Bool) (K : Nat → Int32) (s t : Nat) : Bool := !decide (3 * vq_su B K s t ≤ 2 * vq_sm K 8)
theorem vq_S_link {n : Nat} {ls lt : Nat → Nat} {a6 a7 a8 : Nat → Int32} {B : Nat → Bool} {K : Nat → Int32} {s t : Nat} (g : vq_L n ls lt a6 a7 a8 B)
    (hK : ∀ v, v < 8 → ∃ j, j < 8 ∧ K v = nI j) (hst : s < t) (ht : t ≤ 3) (h : vq_S B K s t = true) : ∃ k, k < n ∧ ls k = s ∧ lt k = t := by
  by_cases z : ∃ v, v < 8 ∧ vq_b B v s t = true
  · obtain ⟨v, hv, hb⟩ := z
    exact g.2.2.2.2 s t v hst ht hv hb
  · exfalso
    have e : vq_su B K s t = 0 := by
      have e1 : vq_su B K s t = vq_sm (fun _ => 0) 8 := by
        refine vq_sm_eq 8 (fun v hv => ?_)
        exact if_neg (fun y => z ⟨v, hv, y⟩)
      rw [e1]
      decide
    obtain ⟨m, hm, em⟩ := vq_sm_nI 8 hK
    unfold vq_S at h
    rw [e, em, show (2 : Int32) * nI m = nI (2 * m) from pk_mul 2 m, show (3 : Int32) * 0 = nI 0 from by decide, decide_eq_true (nI_le (by omega) (by omega))] at h
    exact absurd h (by decide)
def vq_jj (S : Nat → Nat → Bool) (e : Nat) : Bool := match e with
  | 0 => true
  | 1 => S 0 1
  | 2 => S 0 2 || (S 0 1 && S 1 2)
  | 3 => S 0 3 || (S 0 1 && S 1 3) || ((S 0 2 || (S 0 1 && S 1 2)) && S 2 3)
  | _ => false
def vq_ff (S : Nat → Nat → Bool) (e : Nat) : Bool := match e with
  | 0 => S 0 1
  | 1 => S 0 1 && S 1 2
  | 2 => (S 0 2 || (S 0 1 && S 1 2)) && S 2 3
  | _ => false
theorem vq_ff_eq (S : Nat → Nat → Bool) (e : Nat) (he : e ≤ 3) : vq_ff S e = (vq_jj S e && (decide (e < 3) && S e (e + 1))) := by
  rcases (by omega : e = 0 ∨ e = 1 ∨ e = 2 ∨ e = 3) with h | h | h | h <;> subst h <;> simp [vq_ff, vq_jj]
theorem vq_jj_iff (S : Nat → Nat → Bool) (e : Nat) (he : e ≤ 3) : vq_jj S e = true ↔ (e = 0 ∨ ∃ u, u < e ∧ vq_jj S u = true ∧ S u e = true) := by
  have j0 : vq_jj S 0 = true := rfl
  have j1 : vq_jj S 1 = (vq_jj S 0 && S 0 1) := by simp [vq_jj]
  have j2 : vq_jj S 2 = ((vq_jj S 0 && S 0 2) || (vq_jj S 1 && S 1 2)) := by simp [vq_jj]
  have j3 : vq_jj S 3 = ((vq_jj S 0 && S 0 3) || (vq_jj S 1 && S 1 3) || (vq_jj S 2 && S 2 3)) := by simp [vq_jj]
  rcases (by omega : e = 0 ∨ e = 1 ∨ e = 2 ∨ e = 3) with h | h | h | h
  · subst h
    exact ⟨fun _ => Or.inl rfl, fun _ => rfl⟩
  · subst h
    rw [j1, Bool.and_eq_true]
    constructor
    · intro z
      exact Or.inr ⟨0, by omega, z⟩
    · rintro (z | ⟨u, hu, z⟩)
      · omega
      · have : u = 0 := by omega
        subst this
        exact z
  · subst h
    rw [j2, Bool.or_eq_true, Bool.and_eq_true, Bool.and_eq_true]
    constructor
    · rintro (z | z)
      · exact Or.inr ⟨0, by omega, z⟩
      · exact Or.inr ⟨1, by omega, z⟩
    · rintro (z | ⟨u, hu, z⟩)
      · omega
      · rcases (by omega : u = 0 ∨ u = 1) with h | h
        · subst h
          exact Or.inl z
        · subst h
          exact Or.inr z
  · subst h
    rw [j3, Bool.or_eq_true, Bool.or_eq_true, Bool.and_eq_true, Bool.and_eq_true, Bool.and_eq_true]
    constructor
    · rintro ((z | z) | z)
      · exact Or.inr ⟨0, by omega, z⟩
      · exact Or.inr ⟨1, by omega, z⟩
      · exact Or.inr ⟨2, by omega, z⟩
    · rintro (z | ⟨u, hu, z⟩)
      · omega
      · rcases (by omega : u = 0 ∨ u = 1 ∨ u = 2) with h | h | h
        · subst h
          exact Or.inl (Or.inl z)
        · subst h
          exact Or.inl (Or.inr z)
        · subst h
          exact Or.inr z
/-- the array of justified checkpoints -/
def vq_JP (S : Nat → Nat → Bool) (a9 : Nat → Int32) : Prop := ∀ c, c < 128 → (¬ a9 c = 0 ↔ ∃ e, e ≤ 3 ∧ c = 4 * e ∧ vq_jj S e = true)
/-- .. behind the first i links -/
def vq_JI (S : Nat → Nat → Bool) (ls lt : Nat → Nat) (i : Nat) (a9 : Nat → Int32) : Prop := ∀ c, c < 128 → (¬ a9 c = 0 ↔ (c = 0 ∨ ∃ j, j < i ∧ c = 4 * lt j ∧ vq_jj S (ls j) = true ∧ S (ls j) (lt j) = true))
theorem vq_JI_src {n : Nat} {ls lt : Nat → Nat} {a6 a7 a8 a9 : Nat → Int32} {B : Nat → Bool} {K : Nat → Int32} {i : Nat} (g : vq_L n ls lt a6 a7 a8 B)
    (hK : ∀ v, v < 8 → ∃ j, j < 8 ∧ K v = nI j) (hi : i < n) (hJ : vq_JI (vq_S B K) ls lt i a9) : ¬ a9 (4 * ls i) = 0 ↔ vq_jj (vq_S B K) (ls i) = true := by
  have q := g.1 i hi
  rw [hJ (4 * ls i) (by omega), vq_jj_iff _ _ (by omega)]
  constructor
  · rintro (z | ⟨j, hj, e, z1, z2⟩)
    · exact Or.inl (by omega)
    · have qj := g.1 j (by omega)
      have e' : ls i = lt j := by omega
      rw [e']
      exact Or.inr ⟨ls j, qj.1, z1, z2⟩
  · rintro (z | ⟨u, hu, z1, z2⟩)
    · exact Or.inl (by omega)
    · obtain ⟨k, hk, e1, e2⟩ := vq_S_link g hK hu (by omega) z2
      have hki : k < i := by
        rcases Nat.lt_trichotomy k i with y | y | y
        · exact y
        · subst y
          omega
        · have := g.2.2.2.1 i k y hk
          omega
      refine Or.inr ⟨k, hki, by omega, ?_, ?_⟩
      · rw [e1]
        exact z1
      · rw [e1, e2]
        exact z2
theorem vq_JI_end {n : Nat} {ls lt : Nat → Nat} {a6 a7 a8 a9 : Nat → Int32} {B : Nat → Bool} {K : Nat → Int32} (g : vq_L n ls lt a6 a7 a8 B)
    (hK : ∀ v, v < 8 → ∃ j, j < 8 ∧ K v = nI j) (hJ : vq_JI (vq_S B K) ls lt n a9) : vq_JP (vq_S B K) a9 := by
  intro c hc
  rw [hJ c hc]
  constructor
  · rintro (z | ⟨j, hj, e, z1, z2⟩)
    · exact ⟨0, by omega, by omega, rfl⟩
    · have qj := g.1 j hj
      exact ⟨lt j, qj.2.1, e, (vq_jj_iff _ _ qj.2.1).mpr (Or.inr ⟨ls j, qj.1, z1, z2⟩)⟩
  · rintro ⟨e, he, ec, z⟩
    rcases (vq_jj_iff _ _ he).mp z with y | ⟨u, hu, z1, z2⟩
    · exact Or.inl (by omega)
    · obtain ⟨k, hk, e1, e2⟩ := vq_S_link g hK hu he z2
      refine Or.inr ⟨k, hk, by omega, ?_, ?_⟩
      · rw [e1]
        exact z1
      · rw [e1, e2]
        exact z2
theorem vq_JI_skip {S : Nat → Nat → Bool} {ls lt : Nat → Nat} {i : Nat} {a9 : Nat → Int32} (hJ : vq_JI S ls lt i a9) (h : ¬ (vq_jj S (ls i) = true ∧ S (ls i) (lt i) = true)) : vq_JI S ls lt (i + 1) a9 := by
  intro c hc
  rw [hJ c hc]
  constructor
  · rintro (z | ⟨j, hj, z⟩)
    · exact Or.inl z
    · exact Or.inr ⟨j, by omega, z⟩
  · rintro (z | ⟨j, hj, e, z1, z2⟩)
    · exact Or.inl z
    · rcases (by omega : j < i ∨ j = i) with y | y
      · exact Or.inr ⟨j, y, e, z1, z2⟩
      · subst y
        exact absurd ⟨z1, z2⟩ h
theorem vq_JI_put {S : Nat → Nat → Bool} {ls lt : Nat → Nat} {i : Nat} {a9 : Nat → Int32} (hJ : vq_JI S ls lt i a9) (h1 : vq_jj S (ls i) = true) (h2 : S (ls i) (lt i) = true) : vq_JI S ls lt (i + 1) (upd a9 (4 * lt i) 1) := by
  intro c hc
  by_cases e : c = 4 * lt i
  · rw [e, pk_us]
    exact ⟨fun _ => Or.inr ⟨i, by omega, rfl, h1, h2⟩, fun _ => by decide⟩
  · rw [pk_un e, hJ c hc]
    constructor
    · rintro (z | ⟨j, hj, z⟩)
      · exact Or.inl z
      · exact Or.inr ⟨j, by omega, z⟩
    · rintro (z | ⟨j, hj, e', z1, z2⟩)
      · exact Or.inl z
      · rcases (by omega : j < i ∨ j = i) with y | y
        · exact Or.inr ⟨j, y, e', z1, z2⟩
        · subst y
          exact absurd e' e
/-- the whole state -/
def vq_R (B : Nat → Bool) (K : Nat → Int32) (h n : Nat) (kn : Int32) (a1 a2 a3 a4 a6 a7 a8 a9 : Nat → Int32) : Prop :=
  (n ≤ h ∧ h = vq_c B 48) ∧ (∀ v, v < 8 → ∃ j, j < 8 ∧ K v = nI j) ∧ (∀ v, v < 8 → a1 v = K v) ∧ vq_G a2 a3 a4 h B ∧ (∃ ls lt, vq_L n ls lt a6 a7 a8 B) ∧ (kn = 0 ∨ (kn = 1 ∧ vq_JP (vq_S B K) a9))
end
section
/-! the component's questions -/
theorem vq_ite_t {α : Type} {b : Bool} {x y : α} (h : b = true) : (if b = true then x else y) = x := if_pos h
theorem vq_ite_f {α : Type} {b : Bool} {x y : α} (h : b = false) : (if b = true then x else y) = y := if_neg (by rw [h]; decide)
section
variable {o hd lk kn : Int32} {a1 a2 a3 a4 a5 a6 a7 a8 a9 : Nat → Int32}
theorem vq_stakes {post : Int32 → Prop} {x : Int32} (H : post (vq_sm (fun v => if vq_t x v = true then a1 v else 0) 8)) : wpX_stakes post (o, hd, lk, kn, a1, a2, a3, a4, a5, a6, a7, a8, a9) x := by
  refine pk_loop (fun n i s => wX_stakes_4 post x o hd lk kn a1 a2 a3 a4 a5 a6 a7 a8 a9 n s (nI i)) (fun i s => s = vq_sm (fun v => if vq_t x v = true then a1 v else 0) i) 8 0 0 (by omega) rfl ?_ ?_
  · intro n s h
    subst h
    exact pk_le 8 8 (fun _ => H) (fun z => absurd z (by omega))
  · intro n i s hi h hw
    subst h
    have hw' := hw _ rfl
    have eb := vq_ub x i (by omega)
    refine pk_le 8 i (fun z => absurd z (by omega)) (fun _ => ?_)
    cases hb : vq_t x i
    · rw [hb] at eb
      exact br_t (by rw [eb]; rfl) (nm_r (congrArg (vq_sm (fun v => if vq_t x v = true then a1 v else 0) i + ·) (vq_ite_f hb).symm) (nm_r (nI_1 i) hw'))
    · rw [hb] at eb
      refine br_f (by rw [eb]; decide) ⟨pk_in i 8 hi, nm_r ?_ (nm_r (nI_1 i) hw')⟩
      rw [nI_clamp (by omega)]
      exact congrArg (vq_sm (fun v => if vq_t x v = true then a1 v else 0) i + ·) (vq_ite_t hb).symm
theorem vq_offended {post : Int32 → Prop} (H : post (vq_sm (fun v => if vq_t o v = true then a1 v else 0) 8)) : wpX_offended post (o, hd, lk, kn, a1, a2, a3, a4, a5, a6, a7, a8, a9) := by
  unfold wpX_offended
  exact vq_stakes H
theorem vq_isSup {post : Int32 → Prop} {B : Nat → Bool} {K : Nat → Int32} {s t k : Nat} (h1 : ∀ v, v < 8 → a1 v = K v) (hk : k < 64) (h8 : ∀ v, v < 8 → vq_t (a8 k) v = vq_b B v s t) (H : post (vq_I (vq_S B K s t))) :
    wpX_isSupported post (o, hd, lk, kn, a1, a2, a3, a4, a5, a6, a7, a8, a9) (nI k) := by
  have e1 : vq_sm (fun v => if vq_t 255 v = true then a1 v else 0) 8 = vq_sm K 8 := vq_sm_eq 8 (fun v hv => by rw [if_pos (vq_t_255 v hv), h1 v hv])
  have e2 : vq_sm (fun v => if vq_t (a8 k) v = true then a1 v else 0) 8 = vq_su B K s t := vq_sm_eq 8 (fun v hv => by rw [h8 v hv, h1 v hv])
  unfold wpX_isSupported
  refine vq_stakes ⟨pk_in k 64 hk, ?_⟩
  rw [nI_clamp (by omega)]
  refine vq_stakes ?_
  rw [e1, e2]
  by_cases z : 3 * vq_su B K s t ≤ 2 * vq_sm K 8
  · refine br_t z ?_
    have e : vq_S B K s t = false := by
      unfold vq_S
      rw [decide_eq_true z]
      rfl
    rw [e] at H
    exact H
  · refine br_f z ?_
    have e : vq_S B K s t = true := by
      unfold vq_S
      rw [decide_eq_false z]
      rfl
    rw [e] at H
    exact H
theorem vq_linkOf {post : Int32 → Prop} {B : Nat → Bool} {n s t : Nat} {ls lt : Nat → Nat} (g : vq_L n ls lt a6 a7 a8 B) (hn : n ≤ 64) (hs : s ≤ 3) (ht : t ≤ 3)
    (Hh : ∀ k, k < n → ls k = s → lt k = t → post (nI k)) (Hm : (∀ k, k < n → ¬ (ls k = s ∧ lt k = t)) → post (-1)) :
    wpX_linkOf post (o, hd, nI n, kn, a1, a2, a3, a4, a5, a6, a7, a8, a9) (nI (4 * s)) (nI (4 * t)) := by
  refine pk_loop (σ := Unit) (fun f i _ => wX_linkOf_2 post (nI (4 * s)) (nI (4 * t)) o hd (nI n) kn a1 a2 a3 a4 a5 a6 a7 a8 a9 f (nI i)) (fun i _ => ∀ k, k < i → ¬ (ls k = s ∧ lt k = t)) n 0 () (by omega) (fun k h => absurd h (by omega)) ?_ ?_
  · intro f _ h
    exact pk_le n n (fun _ => Hm h) (fun z => absurd z (by omega))
  · intro f i _ hi h hw
    have q := g.1 i hi
    have e6 : a6 (nI i).toNatClampNeg = nI (4 * ls i) := by rw [nI_clamp (by omega)]; exact q.2.2.1
    have e7 : a7 (nI i).toNatClampNeg = nI (4 * lt i) := by rw [nI_clamp (by omega)]; exact q.2.2.2
    have hw' : ¬ (ls i = s ∧ lt i = t) → wX_linkOf_2 post (nI (4 * s)) (nI (4 * t)) o hd (nI n) kn a1 a2 a3 a4 a5 a6 a7 a8 a9 f (nI (i + 1)) := by
      intro z
      refine hw () (fun k hk => ?_)
      rcases (by omega : k < i ∨ k = i) with y | y
      · exact h k y
      · rw [y]
        exact z
    refine pk_le n i (fun z => absurd z (by omega)) (fun _ => ⟨pk_in i 64 (by omega), ?_⟩)
    refine pk_eq (4 * ls i) (4 * s) (fun z => ⟨pk_in i 64 (by omega), ?_⟩) (fun z => nm_r (nI_1 i) (hw' (by omega))) e6
    exact pk_eq (4 * lt i) (4 * t) (fun z' => Hh i hi (by omega) (by omega)) (fun z' => nm_r (nI_1 i) (hw' (by omega))) e7
theorem vq_support {post : Int32 → Prop} {B : Nat → Bool} {K : Nat → Int32} {n s t : Nat} {ls lt : Nat → Nat} (g : vq_L n ls lt a6 a7 a8 B) (hn : n ≤ 64) (h1 : ∀ v, v < 8 → a1 v = K v) (hst : s < t) (ht : t ≤ 3)
    (H : post (vq_su B K s t)) : wpX_support post (o, hd, nI n, kn, a1, a2, a3, a4, a5, a6, a7, a8, a9) (nI (4 * s)) (nI (4 * t)) := by
  unfold wpX_support
  refine vq_linkOf g hn (by omega) ht (fun k hk es et => ?_) (fun hno => ?_)
  · refine br_t (nI_pos' (by omega)) ⟨pk_in k 64 (by omega), ?_⟩
    rw [nI_clamp (by omega)]
    refine vq_stakes ?_
    have e2 : vq_sm (fun v => if vq_t (a8 k) v = true then a1 v else 0) 8 = vq_su B K s t := vq_sm_eq 8 (fun v hv => by rw [g.2.1 k v hk hv, es, et, h1 v hv])
    rw [e2]
    exact H
  · refine br_f (by decide) ?_
    have e : vq_su B K s t = 0 := by
      have e1 : vq_su B K s t = vq_sm (fun _ => 0) 8 := by
        refine vq_sm_eq 8 (fun v hv => ?_)
        refine if_neg (fun y => ?_)
        obtain ⟨k, hk, z⟩ := g.2.2.2.2 s t v hst ht hv y
        exact hno k hk z
      rw [e1]
      decide
    rw [e] at H
    exact H
theorem vq_isVal {post : Int32 → Prop} {v : Nat} (hv : v < 8) (H : post 1) : wpX_isValidator post () (nI v) :=
  br_f (nI_pos (by omega)) (br_f (nI_nlt (a := 7) (by omega) (by omega)) H)
theorem vq_isChk {post : Int32 → Prop} {e : Nat} (he : e ≤ 3) (H : post 1) : wpX_isCheckpoint post () (nI (4 * e)) :=
  br_f (nI_pos (by omega)) (br_f (nI_nlt (a := 126) (by omega) (by omega)) (br_f (by rw [pk_andN (by omega) 2 (by decide), show 4 * e % 2 ^ 2 = 0 by omega]; decide) H))
theorem vq_offender {post : Int32 → Prop} {v : Nat} (hv : v < 8) (H : post (vq_I (vq_t o v))) : wpX_offender post (o, hd, lk, kn, a1, a2, a3, a4, a5, a6, a7, a8, a9) (nI v) := by
  unfold wpX_offender
  refine vq_isVal hv (br_f (by decide) ?_)
  rw [vq_ub o v (by omega)]
  exact H
end
end
section
/-! justification -/
theorem vq_JP_at {S : Nat → Nat → Bool} {a9 : Nat → Int32} (J : vq_JP S a9) {e : Nat} (he : e ≤ 3) : ¬ a9 (4 * e) = 0 ↔ vq_jj S e = true := by
  rw [J (4 * e) (by omega)]
  constructor
  · rintro ⟨e', _, h, z⟩
    have : e' = e := by omega
    rw [← this]
    exact z
  · exact fun z => ⟨e, he, rfl, z⟩
theorem vq_JP_no {S : Nat → Nat → Bool} {a9 : Nat → Int32} (J : vq_JP S a9) {c : Nat} (hc : c < 128) (h : c % 4 ≠ 0) : a9 c = 0 := by
  by_cases z : a9 c = 0
  · exact z
  · obtain ⟨e, _, y, _⟩ := (J c hc).mp z
    omega
section
variable {o hd kn : Int32} {a1 a2 a3 a4 a5 a6 a7 a8 a9 : Nat → Int32} {B : Nat → Bool} {K : Nat → Int32} {h n : Nat}
theorem vq_R_lt (R : vq_R B K h n kn a1 a2 a3 a4 a6 a7 a8 a9) : n ≤ 48 := by
  have z := vq_c_le B 48
  have y := R.1
  omega
theorem vq_R_know {a9' : Nat → Int32} (R : vq_R B K h n kn a1 a2 a3 a4 a6 a7 a8 a9) (J : vq_JP (vq_S B K) a9') : vq_R B K h n 1 a1 a2 a3 a4 a6 a7 a8 a9' :=
  ⟨R.1, R.2.1, R.2.2.1, R.2.2.2.1, R.2.2.2.2.1, Or.inr ⟨rfl, J⟩⟩
theorem vq_just45 {post : St1 → Prop} {ls lt : Nat → Nat} (g : vq_L n ls lt a6 a7 a8 B) (hn : n ≤ 48) (hK : ∀ v, v < 8 → ∃ j, j < 8 ∧ K v = nI j) (h1 : ∀ v, v < 8 → a1 v = K v)
    (h9 : ∀ c, c < 128 → (¬ a9 c = 0 ↔ c = 0)) (H : ∀ a9', vq_JP (vq_S B K) a9' → post (o, hd, nI n, kn, a1, a2, a3, a4, a5, a6, a7, a8, a9')) :
    ∃ f, wX_justifyAll_45 post o hd (nI n) kn f 0 a1 a2 a3 a4 a5 a6 a7 a8 a9 := by
  refine pk_loop (fun f i s => wX_justifyAll_45 post o hd (nI n) kn f (nI i) a1 a2 a3 a4 a5 a6 a7 a8 s) (fun i s => vq_JI (vq_S B K) ls lt i s) n 0 a9 (by omega) ?_ ?_ ?_
  · intro c hc
    rw [h9 c hc]
    exact ⟨fun z => Or.inl z, fun z => z.elim id (fun ⟨j, hj, _⟩ => absurd hj (by omega))⟩
  · intro f s hJ
    exact pk_le n n (fun _ => H s (vq_JI_end g hK hJ)) (fun z => absurd z (by omega))
  · intro f i s hi hJ hw
    have q := g.1 i hi
    have e6 : a6 (nI i).toNatClampNeg = nI (4 * ls i) := by rw [nI_clamp (by omega)]; exact q.2.2.1
    have e7 : a7 (nI i).toNatClampNeg = nI (4 * lt i) := by rw [nI_clamp (by omega)]; exact q.2.2.2
    have e6' : (a6 (nI i).toNatClampNeg).toNatClampNeg = 4 * ls i := by rw [e6]; exact nI_clamp (by omega)
    have e7' : (a7 (nI i).toNatClampNeg).toNatClampNeg = 4 * lt i := by rw [e7]; exact nI_clamp (by omega)
    have src := vq_JI_src g hK hi hJ
    refine pk_le n i (fun z => absurd z (by omega)) (fun _ => ⟨pk_in i 64 (by omega), pk_in (4 * ls i) 128 (by omega) e6, ?_⟩)
    by_cases z : s (4 * ls i) = 0
    · exact br_t (by rw [e6']; exact z) (nm_r (nI_1 i) (hw s (vq_JI_skip hJ (fun y => absurd z (src.mpr y.1)))))
    · refine br_f (by rw [e6']; exact z) (vq_isSup h1 (by omega) (fun v hv => g.2.1 i v hi hv) ?_)
      cases hS : vq_S B K (ls i) (lt i)
      · exact br_t rfl (nm_r (nI_1 i) (hw s (vq_JI_skip hJ (fun y => by rw [hS] at y; exact absurd y.2 (by decide)))))
      · exact br_f (by decide) ⟨pk_in i 64 (by omega), pk_in (4 * lt i) 128 (by omega) e7, nm_r (by rw [e7']) (nm_r (nI_1 i) (hw _ (vq_JI_put hJ (src.mp z) hS)))⟩
theorem vq_justifyAll {post : St1 → Prop} (R : vq_R B K h n kn a1 a2 a3 a4 a6 a7 a8 a9)
    (H : ∀ a9', vq_R B K h n 1 a1 a2 a3 a4 a6 a7 a8 a9' → vq_JP (vq_S B K) a9' → post (o, hd, nI n, 1, a1, a2, a3, a4, a5, a6, a7, a8, a9')) :
    wpX_justifyAll post (o, hd, nI n, kn, a1, a2, a3, a4, a5, a6, a7, a8, a9) := by
  have hn := vq_R_lt R
  have R' := R
  obtain ⟨_, hK, h1, _, ⟨ls, lt, g⟩, hk⟩ := R
  rcases hk with hk | ⟨hk, J⟩
  · subst hk
    refine br_t rfl ?_
    refine pk_loop (fun f i s => wX_justifyAll_15 post o hd (nI n) 1 f (nI i) a1 a2 a3 a4 a5 a6 a7 a8 s) (fun i s => ∀ c, c < i → (¬ s c = 0 ↔ c = 0)) 128 0 a9 (by omega) (fun c hc => absurd hc (by omega)) ?_ ?_
    · intro f s hs
      exact pk_le 128 128 (fun _ => vq_just45 g hn hK h1 hs (fun a9' J => H a9' (vq_R_know R' J) J)) (fun z => absurd z (by omega))
    · intro f i s hi hs hw
      refine pk_le 128 i (fun z => absurd z (by omega)) (fun _ => ?_)
      have fin : ∀ x : Int32, (¬ x = 0 ↔ i = 0) → ∀ c, c < i + 1 → (¬ upd s i x c = 0 ↔ c = 0) := by
        intro x hx c hc
        by_cases e : c = i
        · rw [e, pk_us]
          exact hx
        · rw [pk_un e]
          exact hs c (by omega)
      refine pk_eq i 0 (fun z => ⟨pk_in i 128 hi, ?_⟩) (fun z => ⟨pk_in i 128 hi, ?_⟩)
      · exact nm_r (by rw [nI_clamp (by omega)]) (nm_r (nI_1 i) (hw (upd s i 1) (fin 1 ⟨fun _ => z, fun _ => by decide⟩)))
      · exact nm_r (by rw [nI_clamp (by omega)]) (nm_r (nI_1 i) (hw (upd s i 0) (fin 0 ⟨fun y => absurd rfl y, fun y => absurd y z⟩)))
  · subst hk
    exact br_f (by decide) (H a9 R' J)
theorem vq_justified {post : Int32 → St1 → Prop} {e : Nat} (R : vq_R B K h n kn a1 a2 a3 a4 a6 a7 a8 a9) (he : e ≤ 3)
    (H : ∀ a9', vq_R B K h n 1 a1 a2 a3 a4 a6 a7 a8 a9' → post (vq_I (vq_jj (vq_S B K) e)) (o, hd, nI n, 1, a1, a2, a3, a4, a5, a6, a7, a8, a9')) :
    wpX_justified post (o, hd, nI n, kn, a1, a2, a3, a4, a5, a6, a7, a8, a9) (nI (4 * e)) := by
  unfold wpX_justified
  refine vq_isChk he (br_f (by decide) (vq_justifyAll R (fun a9' R' J => ⟨pk_in (4 * e) 128 (by omega), ?_⟩)))
  have H' := H a9' R'
  have q := vq_JP_at J he
  rw [nI_clamp (by omega)]
  cases hj : vq_jj (vq_S B K) e
  · rw [hj] at H' q
    by_cases z : a9' (4 * e) = 0
    · exact br_t z H'
    · exact absurd (q.mp z) (by decide)
  · rw [hj] at H' q
    exact br_f (q.mpr rfl) H'
theorem vq_isFinal {post : Int32 → St1 → Prop} {e : Nat} (R : vq_R B K h n kn a1 a2 a3 a4 a6 a7 a8 a9) (he : e ≤ 3)
    (H : ∀ a9', vq_R B K h n 1 a1 a2 a3 a4 a6 a7 a8 a9' → post (vq_I (vq_ff (vq_S B K) e)) (o, hd, nI n, 1, a1, a2, a3, a4, a5, a6, a7, a8, a9')) :
    wpX_isFinal post (o, hd, nI n, kn, a1, a2, a3, a4, a5, a6, a7, a8, a9) (nI (4 * e)) := by
  have hn := vq_R_lt R
  unfold wpX_isFinal
  refine vq_isChk he (br_f (by decide) (vq_justifyAll R (fun a9' R' J => ⟨pk_in (4 * e) 128 (by omega), ?_⟩)))
  have H' := H a9' R'
  have q := vq_JP_at J he
  rw [vq_ff_eq _ _ he] at H'
  rw [nI_clamp (by omega)]
  cases hj : vq_jj (vq_S B K) e
  · rw [hj] at H' q
    by_cases z : a9' (4 * e) = 0
    · exact br_t z H'
    · exact absurd (q.mp z) (by decide)
  · rw [hj, Bool.true_and] at H'
    rw [hj] at q
    refine br_f (q.mpr rfl) ?_
    obtain ⟨_, hK, h1, _, ⟨ls, lt, g⟩, _⟩ := R
    refine pk_loop (σ := Unit) (fun f i _ => wX_isFinal_26 post (nI (4 * e)) o hd (nI n) 1 a1 a2 a3 a4 a5 a6 a7 a8 a9' f (nI i)) (fun i _ => ∀ k, k < i → ¬ (ls k = e ∧ lt k = e + 1 ∧ vq_S B K e (e + 1) = true)) n 0 () (by omega) (fun k h => absurd h (by omega)) ?_ ?_
    · intro f _ hno
      refine pk_le n n (fun _ => ?_) (fun z => absurd z (by omega))
      have e0 : (decide (e < 3) && vq_S B K e (e + 1)) = false := by
        cases hS : vq_S B K e (e + 1)
        · rw [Bool.and_false]
        · rw [Bool.and_true]
          refine decide_eq_false (fun z => ?_)
          obtain ⟨k, hk, k1, k2⟩ := vq_S_link g hK (show e < e + 1 by omega) (by omega) hS
          exact hno k hk ⟨k1, k2, hS⟩
      rw [e0] at H'
      exact H'
    · intro f i _ hi hno hw
      have qi := g.1 i hi
      have e6 : a6 (nI i).toNatClampNeg = nI (4 * ls i) := by rw [nI_clamp (by omega)]; exact qi.2.2.1
      have e7 : a7 (nI i).toNatClampNeg >>> ((2 : Int32) &&& 31) = nI (lt i) := by
        rw [nI_clamp (by omega), qi.2.2.2, pk_shrN (by omega) _ 2 (by decide), show 4 * lt i / 2 ^ 2 = lt i by omega]
      have e5 : (nI (4 * e) >>> ((2 : Int32) &&& 31)) + 1 = nI (e + 1) := by
        rw [pk_shrN (by omega) _ 2 (by decide), show 4 * e / 2 ^ 2 = e by omega, nI_1]
      have hw' : ¬ (ls i = e ∧ lt i = e + 1 ∧ vq_S B K e (e + 1) = true) → wX_isFinal_26 post (nI (4 * e)) o hd (nI n) 1 a1 a2 a3 a4 a5 a6 a7 a8 a9' f (nI (i + 1)) := by
        intro z
        refine hw () (fun k hk => ?_)
        rcases (by omega : k < i ∨ k = i) with y | y
        · exact hno k y
        · rw [y]
          exact z
      refine pk_le n i (fun z => absurd z (by omega)) (fun _ => ⟨pk_in i 64 (by omega), ?_⟩)
      refine pk_eq (4 * ls i) (4 * e) (fun z => ⟨pk_in i 64 (by omega), ?_⟩) (fun z => br_t rfl (nm_r (nI_1 i) (hw' (fun y => z (by omega))))) e6
      refine pk_eq (lt i) (e + 1) (fun z' => ?_) (fun z' => br_t rfl (nm_r (nI_1 i) (hw' (fun y => z' y.2.1)))) e7 e5
      have i1 : ls i = e := by omega
      refine br_f (by decide) (vq_isSup (s := e) (t := e + 1) h1 (by omega) (fun v hv => by rw [g.2.1 i v hi hv, i1, z']) ?_)
      cases hS : vq_S B K e (e + 1)
      · exact br_t rfl (nm_r (nI_1 i) (hw' (fun y => by rw [hS] at y; exact absurd y.2.2 (by decide))))
      · refine br_f (by decide) ?_
        rw [hS, decide_eq_true (show e < 3 by omega)] at H'
        exact H'
theorem vq_justIn {post : Int32 → St1 → Prop} {e : Nat} (R : vq_R B K h n kn a1 a2 a3 a4 a6 a7 a8 a9) (he : e ≤ 3)
    (H : ∀ a9', vq_R B K h n 1 a1 a2 a3 a4 a6 a7 a8 a9' → post (vq_I (vq_jj (vq_S B K) e)) (o, hd, nI n, 1, a1, a2, a3, a4, a5, a6, a7, a8, a9')) :
    wpX_justifiedIn post (o, hd, nI n, kn, a1, a2, a3, a4, a5, a6, a7, a8, a9) (nI e) := by
  unfold wpX_justifiedIn
  refine br_f (nI_pos (by omega)) (br_t (nI_le (b := 31) (by omega) (by omega)) (vq_justifyAll R (fun a9' R' J => nm_r (vq_4 e) ?_)))
  have H' := H a9' R'
  have q := vq_JP_at J he
  have e3 : 4 * nI e + 3 = nI (4 * e + 3) := by rw [vq_4]; exact nI_add (4 * e) 3
  refine pk_loop (fun f i s => wX_justifiedIn_22 post (nI e) o hd (nI n) 1 a1 a2 a3 a4 a5 a6 a7 a8 a9' f s (nI i)) (fun i s => 4 * e ≤ i ∧ s = if 4 * e < i then vq_I (vq_jj (vq_S B K) e) else 0) (4 * e + 3) (4 * e) 0 (by omega) ⟨by omega, by rw [if_neg (by omega)]⟩ ?_ ?_
  · intro f s ⟨_, hs⟩
    rw [if_pos (by omega)] at hs
    subst hs
    exact pk_le (4 * e + 3) (4 * e + 3) (fun _ => H') (fun z => absurd z (by omega)) e3
  · intro f i s hi ⟨hi4, hs⟩ hw
    refine pk_le (4 * e + 3) i (fun z => absurd z (by omega)) (fun _ => ⟨pk_in i 128 (by omega), ?_⟩) e3
    rw [nI_clamp (by omega)]
    by_cases ei : i = 4 * e
    · subst ei
      rw [if_neg (by omega)] at hs
      subst hs
      cases hj : vq_jj (vq_S B K) e
      · rw [hj] at q
        by_cases z : a9' (4 * e) = 0
        · exact br_t z (nm_r (show (0 : Int32) + 0 = 0 from by decide) (nm_r (nI_1 _) (hw 0 ⟨by omega, by rw [if_pos (by omega), hj]; rfl⟩)))
        · exact absurd (q.mp z) (by decide)
      · rw [hj] at q
        exact br_f (q.mpr rfl) (nm_r (show (0 : Int32) + 1 = 1 from by decide) (nm_r (nI_1 _) (hw 1 ⟨by omega, by rw [if_pos (by omega), hj]; rfl⟩)))
    · have z := vq_JP_no J (c := i) (by omega) (by omega)
      exact br_t z (nm_r (Int32.add_zero s) (nm_r (nI_1 _) (hw s ⟨by omega, by rw [hs, if_pos (by omega), if_pos (by omega)]⟩)))
/-- the highest justified checkpoint among those below i -/
def vq_hi (S : Nat → Nat → Bool) (i : Nat) : Nat := if 12 < i ∧ vq_jj S 3 = true then 12 else if 8 < i ∧ vq_jj S 2 = true then 8 else if 4 < i ∧ vq_jj S 1 = true then 4 else 0
theorem vq_hi_no {S : Nat → Nat → Bool} {i : Nat} (h : ∀ e, e ≤ 3 → i = 4 * e → ¬ vq_jj S e = true) : vq_hi S (i + 1) = vq_hi S i := by
  have h1 := h 1 (by omega)
  have h2 := h 2 (by omega)
  have h3 := h 3 (by omega)
  have c3 : (12 < i + 1 ∧ vq_jj S 3 = true) ↔ (12 < i ∧ vq_jj S 3 = true) := ⟨fun z => ⟨by rcases (by omega : i = 12 ∨ 12 < i) with y | y; exact absurd z.2 (h3 y); exact y, z.2⟩, fun z => ⟨by omega, z.2⟩⟩
  have c2 : (8 < i + 1 ∧ vq_jj S 2 = true) ↔ (8 < i ∧ vq_jj S 2 = true) := ⟨fun z => ⟨by rcases (by omega : i = 8 ∨ 8 < i) with y | y; exact absurd z.2 (h2 y); exact y, z.2⟩, fun z => ⟨by omega, z.2⟩⟩
  have c1 : (4 < i + 1 ∧ vq_jj S 1 = true) ↔ (4 < i ∧ vq_jj S 1 = true) := ⟨fun z => ⟨by rcases (by omega : i = 4 ∨ 4 < i) with y | y; exact absurd z.2 (h1 y); exact y, z.2⟩, fun z => ⟨by omega, z.2⟩⟩
  unfold vq_hi
  simp only [c1, c2, c3]
theorem vq_hi_yes {S : Nat → Nat → Bool} {i e : Nat} (he : e ≤ 3) (hi : i = 4 * e) (h : vq_jj S e = true) : vq_hi S (i + 1) = i := by
  subst hi
  unfold vq_hi
  rcases (by omega : e = 0 ∨ e = 1 ∨ e = 2 ∨ e = 3) with y | y | y | y <;> subst y <;> simp [h]
theorem vq_highest {post : Int32 → St1 → Prop} (R : vq_R B K h n kn a1 a2 a3 a4 a6 a7 a8 a9)
    (H : ∀ a9', vq_R B K h n 1 a1 a2 a3 a4 a6 a7 a8 a9' → post (nI (vq_hi (vq_S B K) 128)) (o, hd, nI n, 1, a1, a2, a3, a4, a5, a6, a7, a8, a9')) :
    wpX_highest post (o, hd, nI n, kn, a1, a2, a3, a4, a5, a6, a7, a8, a9) := by
  unfold wpX_highest
  refine vq_justifyAll R (fun a9' R' J => ?_)
  have H' := H a9' R'
  refine pk_loop (fun f i s => wX_highest_8 post o hd (nI n) 1 a1 a2 a3 a4 a5 a6 a7 a8 a9' f s (nI i)) (fun i s => s = nI (vq_hi (vq_S B K) i)) 128 0 0 (by omega) rfl ?_ ?_
  · intro f s hs
    subst hs
    exact pk_le 128 128 (fun _ => H') (fun z => absurd z (by omega))
  · intro f i s hi hs hw
    refine pk_le 128 i (fun z => absurd z (by omega)) (fun _ => ⟨pk_in i 128 hi, ?_⟩)
    rw [nI_clamp (by omega)]
    by_cases z : a9' i = 0
    · refine br_t z (nm_r (nI_1 i) (hw s ?_))
      rw [hs, vq_hi_no (fun e he ei hj => (J i hi).mpr ⟨e, he, ei, hj⟩ z)]
    · obtain ⟨e, he, ei, hj⟩ := (J i hi).mp z
      refine br_f z (nm_r (nI_1 i) (hw (nI i) ?_))
      rw [vq_hi_yes he ei hj]
end
end
section
/-! votes -/
theorem vq_br {c A D : Prop} {b : Bool} (k : ¬ c ↔ b = true) (f : b = false → A) (g : b = true → D) : (c → A) ∧ (¬ c → D) := by
  constructor
  · intro z
    apply f
    cases b
    · rfl
    · exact absurd z (k.mpr rfl)
  · intro z
    exact g (k.mp z)
section
variable {o hd lk kn : Int32} {a1 a2 a3 a4 a5 a6 a7 a8 a9 : Nat → Int32} {B : Nat → Bool} {K : Nat → Int32} {h n v s t : Nat}
theorem vq_judge {post : Int32 → Prop} (g : vq_G a2 a3 a4 h B) (hh : h ≤ 48) (hv : v < 8) (hst : s < t) (ht : t ≤ 3) (H : post (vq_off (vq_b B v) s t)) :
    wpX_judge post (o, hd, lk, kn, a1, a2, a3, a4, a5, a6, a7, a8, a9) (nI v) (nI s) (nI t) := by
  rw [vq_off_eq _ _ _ hst ht] at H
  obtain ⟨g4, g2, g3⟩ := g
  have it : (nI (32 * v) + nI t).toNatClampNeg = 32 * v + t := by rw [nI_add]; exact nI_clamp (by omega)
  have is : (nI (32 * v) + nI s).toNatClampNeg = 32 * v + s := by rw [nI_add]; exact nI_clamp (by omega)
  have k4 : ¬ a3 (32 * v + s) ≤ nI t ↔ vq_q4 (vq_b B v) s t = true := by rw [Int32.not_le, g3 v s t hv (by omega) ht, vq_q4_iff _ _ _ hst]
  have k2 : ¬ nI t ≤ a2 (32 * v + s) ↔ vq_q2 (vq_b B v) s t = true := by rw [Int32.not_le, g2 v s t hv (by omega) ht, vq_q2_iff _ _ _ ht]
  have e45 : ∀ z0 z1 : Int32, post ((z0 + z1) + (if vq_q4 (vq_b B v) s t = true then 4 else 0)) → wX_judge_45 post (nI s) (nI t) (nI (32 * v)) z1 z0 o hd lk kn a1 a2 a3 a4 a5 a6 a7 a8 a9 := by
    intro z0 z1 Hz
    refine nm_e ⟨pk_in (32 * v + s) 256 (by omega) (nI_add _ _), ?_⟩
    rw [is]
    refine vq_br k4 (fun e => nm_e ?_) (fun e => nm_e ?_)
    · rw [vq_ite_f e] at Hz
      exact Hz
    · rw [vq_ite_t e] at Hz
      exact Hz
  have e23 : ∀ z0 : Int32, post ((z0 + (if vq_q2 (vq_b B v) s t = true then 2 else 0)) + (if vq_q4 (vq_b B v) s t = true then 4 else 0)) → wX_judge_23 post (nI s) (nI t) (nI (32 * v)) z0 o hd lk kn a1 a2 a3 a4 a5 a6 a7 a8 a9 := by
    intro z0 Hz
    refine ⟨pk_in (32 * v + s) 256 (by omega) (nI_add _ _), ?_⟩
    rw [is]
    refine vq_br k2 (fun e => e45 z0 0 ?_) (fun e => e45 z0 2 ?_)
    · rw [vq_ite_f e] at Hz
      exact Hz
    · rw [vq_ite_t e] at Hz
      exact Hz
  obtain ⟨c, hc, ec, hc'⟩ := g4 v t hv ht
  have k1 : ¬ a4 (32 * v + t) ≤ 0 ↔ vq_q1 (vq_b B v) t = true := by
    rw [vq_q1_iff _ _ ht, ← hc', ec, ← nI_0, nI_leI (by omega) (by omega)]
    omega
  unfold wpX_judge
  refine nm_r (show (32 : Int32) * nI v = nI (32 * v) from pk_mul 32 v) ⟨pk_in (32 * v + t) 256 (by omega) (nI_add _ _), ?_⟩
  rw [it]
  refine vq_br k1 (fun e => e23 0 ?_) (fun e => e23 1 ?_)
  · rw [e] at H
    exact H
  · rw [e] at H
    exact H
theorem vq_ent77 {post : St1 → Prop} (hv : v < 8) (hst : s < t) (ht : t ≤ 3)
    (H : ∀ a3', (∀ j, a3' j = if 32 * v + s + 1 ≤ j ∧ j < 32 * v + 32 then (if nI t ≤ a3 j then a3 j else nI t) else a3 j) → post (o, hd, lk, kn, a1, a2, a3', a4, a5, a6, a7, a8, a9)) :
    ∃ f, wX_enter_77 post (nI t) (nI (32 * v)) o hd lk kn f (nI (s + 1)) a1 a2 a3 a4 a5 a6 a7 a8 a9 := by
  refine pk_loop (fun f i u => wX_enter_77 post (nI t) (nI (32 * v)) o hd lk kn f (nI i) a1 a2 u a4 a5 a6 a7 a8 a9) (fun i u => s + 1 ≤ i ∧ ∀ j, u j = if 32 * v + s + 1 ≤ j ∧ j < 32 * v + i then (if nI t ≤ a3 j then a3 j else nI t) else a3 j) 32 (s + 1) a3 (by omega) ⟨by omega, fun j => by rw [if_neg (by omega)]⟩ ?_ ?_
  · intro f u ⟨_, hu⟩
    exact pk_le 32 32 (fun _ => H u hu) (fun z => absurd z (by omega))
  · intro f i u hi ⟨hs, hu⟩ hw
    have ii : (nI (32 * v) + nI i).toNatClampNeg = 32 * v + i := by rw [nI_add]; exact nI_clamp (by omega)
    have e0 : u (32 * v + i) = a3 (32 * v + i) := by rw [hu, if_neg (by omega)]
    have fin : ∀ x : Int32, x = (if nI t ≤ a3 (32 * v + i) then a3 (32 * v + i) else nI t) → wX_enter_77 post (nI t) (nI (32 * v)) o hd lk kn f (nI (i + 1)) a1 a2 (upd u (32 * v + i) x) a4 a5 a6 a7 a8 a9 := by
      intro x hx
      refine hw _ ⟨by omega, fun j => ?_⟩
      by_cases e : j = 32 * v + i
      · rw [e, pk_us, if_pos (by omega)]
        exact hx
      · rw [pk_un e, hu]
        by_cases c : 32 * v + s + 1 ≤ j ∧ j < 32 * v + i
        · rw [if_pos c, if_pos (show 32 * v + s + 1 ≤ j ∧ j < 32 * v + (i + 1) by omega)]
        · rw [if_neg c, if_neg (show ¬ (32 * v + s + 1 ≤ j ∧ j < 32 * v + (i + 1)) by omega)]
    refine pk_le 32 i (fun z => absurd z (by omega)) (fun _ => ⟨pk_in (32 * v + i) 256 (by omega) (nI_add _ _), ?_⟩)
    rw [ii]
    refine br_c (fun z => ⟨pk_in (32 * v + i) 256 (by omega) (nI_add _ _), pk_in (32 * v + i) 256 (by omega) (nI_add _ _), nm_e (nm_r (nI_1 i) (fin _ ?_))⟩) (fun z => ⟨pk_in (32 * v + i) 256 (by omega) (nI_add _ _), nm_e (nm_r (nI_1 i) (fin _ ?_))⟩)
    · rw [e0] at z
      rw [e0, if_pos z]
    · rw [e0] at z
      rw [if_neg z]
theorem vq_enter {post : St1 → Prop} (hv : v < 8) (hst : s < t) (ht : t ≤ 3)
    (H : ∀ a2' a3' a4', (∀ j, a4' j = if j = 32 * v + t then a4 j + 1 else a4 j) →
      (∀ j, a2' j = if 32 * v ≤ j ∧ j < 32 * v + s then (if a2 j ≤ nI t then a2 j else nI t) else a2 j) →
      (∀ j, a3' j = if 32 * v + s + 1 ≤ j ∧ j < 32 * v + 32 then (if nI t ≤ a3 j then a3 j else nI t) else a3 j) → post (o, hd, lk, kn, a1, a2', a3', a4', a5, a6, a7, a8, a9)) :
    wpX_enter post (o, hd, lk, kn, a1, a2, a3, a4, a5, a6, a7, a8, a9) (nI v) (nI s) (nI t) := by
  have it : (nI (32 * v) + nI t).toNatClampNeg = 32 * v + t := by rw [nI_add]; exact nI_clamp (by omega)
  have h4 : ∀ j, upd a4 (32 * v + t) (a4 (32 * v + t) + 1) j = if j = 32 * v + t then a4 j + 1 else a4 j := by
    intro j
    by_cases e : j = 32 * v + t
    · rw [e, pk_us, if_pos rfl]
    · rw [pk_un e, if_neg e]
  unfold wpX_enter
  refine nm_r (show (32 : Int32) * nI v = nI (32 * v) from pk_mul 32 v) ⟨pk_in (32 * v + t) 256 (by omega) (nI_add _ _), pk_in (32 * v + t) 256 (by omega) (nI_add _ _), nm_r (e' := upd a4 (32 * v + t) (a4 (32 * v + t) + 1)) (by rw [it]) ?_⟩
  refine pk_loop (fun f i u => wX_enter_22 post (nI s) (nI t) (nI (32 * v)) o hd lk kn f (nI i) a1 u a3 (upd a4 (32 * v + t) (a4 (32 * v + t) + 1)) a5 a6 a7 a8 a9) (fun i u => ∀ j, u j = if 32 * v ≤ j ∧ j < 32 * v + i then (if a2 j ≤ nI t then a2 j else nI t) else a2 j) s 0 a2 (by omega) (fun j => by rw [if_neg (by omega)]) ?_ ?_
  · intro f u hu
    exact pk_le s s (fun _ => nm_r (nI_1 s) (vq_ent77 hv hst ht (fun a3' h3 => H u a3' _ h4 hu h3))) (fun z => absurd z (by omega))
  · intro f i u hi hu hw
    have ii : (nI (32 * v) + nI i).toNatClampNeg = 32 * v + i := by rw [nI_add]; exact nI_clamp (by omega)
    have e0 : u (32 * v + i) = a2 (32 * v + i) := by rw [hu, if_neg (by omega)]
    have fin : ∀ x : Int32, x = (if a2 (32 * v + i) ≤ nI t then a2 (32 * v + i) else nI t) → wX_enter_22 post (nI s) (nI t) (nI (32 * v)) o hd lk kn f (nI (i + 1)) a1 (upd u (32 * v + i) x) a3 (upd a4 (32 * v + t) (a4 (32 * v + t) + 1)) a5 a6 a7 a8 a9 := by
      intro x hx
      refine hw _ (fun j => ?_)
      by_cases e : j = 32 * v + i
      · rw [e, pk_us, if_pos (by omega)]
        exact hx
      · rw [pk_un e, hu]
        by_cases c : 32 * v ≤ j ∧ j < 32 * v + i
        · rw [if_pos c, if_pos (show 32 * v ≤ j ∧ j < 32 * v + (i + 1) by omega)]
        · rw [if_neg c, if_neg (show ¬ (32 * v ≤ j ∧ j < 32 * v + (i + 1)) by omega)]
    refine pk_le s i (fun z => absurd z (by omega)) (fun _ => ⟨pk_in (32 * v + i) 256 (by omega) (nI_add _ _), ?_⟩)
    rw [ii]
    refine br_c (fun z => ⟨pk_in (32 * v + i) 256 (by omega) (nI_add _ _), pk_in (32 * v + i) 256 (by omega) (nI_add _ _), nm_e (nm_r (nI_1 i) (fin _ ?_))⟩) (fun z => ⟨pk_in (32 * v + i) 256 (by omega) (nI_add _ _), nm_e (nm_r (nI_1 i) (fin _ ?_))⟩)
    · rw [e0] at z
      rw [e0, if_pos z]
    · rw [e0] at z
      rw [if_neg z]
/-- arrays whose places above p, up to n, are moved on by one -/
def vq_sf (f : Nat → Int32) (p n : Nat) : Nat → Int32 := fun j => if p < j ∧ j ≤ n then f (j - 1) else f j
theorem vq_sf_n (f : Nat → Int32) (n j : Nat) : f j = vq_sf f n n j := by
  unfold vq_sf
  rw [if_neg (by omega)]
theorem vq_sf_lo {f : Nat → Int32} {p n j : Nat} (h : j ≤ p) : vq_sf f p n j = f j := by
  unfold vq_sf
  rw [if_neg (by omega)]
theorem vq_sf_step {f b : Nat → Int32} {k n : Nat} (hk : k + 1 ≤ n) (h : ∀ j, b j = vq_sf f (k + 1) n j) (j : Nat) : upd b (k + 1) (b k) j = vq_sf f k n j := by
  by_cases e : j = k + 1
  · rw [e, pk_us, h, vq_sf_lo (by omega)]
    unfold vq_sf
    rw [if_pos (by omega), Nat.add_sub_cancel]
  · rw [pk_un e, h]
    unfold vq_sf
    by_cases c : k + 1 < j ∧ j ≤ n
    · rw [if_pos c, if_pos (by omega)]
    · rw [if_neg c, if_neg (by omega)]
theorem vq_sf_end {f b : Nat → Int32} {p n : Nat} {x : Int32} (h : ∀ j, b j = vq_sf f p n j) (j : Nat) (hj : j ≤ n) : upd b p x j = vq_sh f p x j := by
  rcases Nat.lt_trichotomy j p with e | e | e
  · rw [pk_un (by omega), h, vq_sf_lo (by omega), vq_sh_lt e]
  · rw [e, pk_us, vq_sh_eq]
  · rw [pk_un (by omega), h, vq_sh_gt e]
    unfold vq_sf
    rw [if_pos (by omega)]
theorem vq_openLink {post : Int32 → St1 → Prop} {ls lt : Nat → Nat} (g : vq_L n ls lt a6 a7 a8 B) (hn : n < 64) (hst : s < t) (ht : t ≤ 3) (hno : ∀ k, k < n → ¬ (ls k = s ∧ lt k = t))
    (H : ∀ p ls' lt' a6' a7' a8', p < n + 1 → ls' p = s → lt' p = t → vq_L (n + 1) ls' lt' a6' a7' a8' B → post (nI p) (o, hd, nI (n + 1), kn, a1, a2, a3, a4, a5, a6', a7', a8', a9)) :
    wpX_openLink post (o, hd, nI n, kn, a1, a2, a3, a4, a5, a6, a7, a8, a9) (nI (4 * s)) (nI (4 * t)) := by
  refine ⟨n + 1, pk_loopD (σ := Nat × (Nat → Int32) × (Nat → Int32) × (Nat → Int32))
    (fun f k u => wX_openLink_11 post (nI (4 * s)) (nI (4 * t)) o hd (nI n) kn f (nI u.1) (nI k) a1 a2 a3 a4 a5 u.2.1 u.2.2.1 u.2.2.2 a9)
    (fun k u => k ≤ u.1 ∧ u.1 ≤ n ∧ (u.1 = k ∨ (0 < u.1 ∧ lt (u.1 - 1) ≤ t)) ∧ (∀ j, u.1 ≤ j → j < n → t < lt j) ∧ (∀ j, u.2.1 j = vq_sf a6 u.1 n j) ∧ (∀ j, u.2.2.1 j = vq_sf a7 u.1 n j) ∧ (∀ j, u.2.2.2 j = vq_sf a8 u.1 n j))
    ?_ ?_ n (n, a6, a7, a8) ⟨Nat.le_refl n, Nat.le_refl n, Or.inl rfl, fun j h1 h2 => absurd h1 (by omega), vq_sf_n a6 n, vq_sf_n a7 n, vq_sf_n a8 n⟩⟩
  · intro f u hu
    obtain ⟨p, b6, b7, b8⟩ := u
    obtain ⟨_, hp, hl, hhi, h6, h7, h8⟩ := hu
    dsimp only at hp hl hhi h6 h7 h8
    have hlo : ∀ j, j < p → lt j ≤ t := by
      intro j hj
      rcases hl with e | ⟨e1, e2⟩
      · omega
      · rcases (by omega : j = p - 1 ∨ j < p - 1) with y | y
        · rw [y]
          exact e2
        · exact Nat.le_trans (g.2.2.2.1 j (p - 1) y (by omega)) e2
    have ip : (nI p).toNatClampNeg = p := nI_clamp (by omega)
    refine pk_le 0 0 (fun _ => ⟨pk_in p 64 (by omega), nm_r (by rw [ip]) ⟨pk_in p 64 (by omega), nm_r (by rw [ip]) ⟨pk_in p 64 (by omega), nm_r (by rw [ip]) (nm_r (nI_1 n) ?_)⟩⟩⟩) (fun z => absurd z (by omega))
    exact H p (vq_sh ls p s) (vq_sh lt p t) _ _ _ (by omega) vq_sh_eq vq_sh_eq
      (vq_L_open g hst ht hno hp hlo (fun j y1 y2 => Nat.le_of_lt (hhi j y1 y2)) (vq_sf_end h6) (vq_sf_end h7) (vq_sf_end h8))
  · intro f k u hu hw
    obtain ⟨p, b6, b7, b8⟩ := u
    obtain ⟨hk, hp, hl, hhi, h6, h7, h8⟩ := hu
    dsimp only at hk hp hl hhi h6 h7 h8
    refine pk_le (k + 1) 0 (fun z => absurd z (by omega)) (fun _ => ?_)
    refine pk_eq p (k + 1) (fun z => ⟨pk_in k 64 (by omega) (nI_pred k), ?_⟩) (fun z => nm_r (pk_m1 k) (hw (p, b6, b7, b8) ⟨by dsimp only; omega, hp, Or.inr ?_, hhi, h6, h7, h8⟩))
    · subst z
      have ik : (nI (k + 1) - 1).toNatClampNeg = k := by rw [nI_pred]; exact nI_clamp (by omega)
      have iq : (nI (k + 1)).toNatClampNeg = k + 1 := nI_clamp (by omega)
      have q := g.1 k (by omega)
      have e7 : b7 k = nI (4 * lt k) := by rw [h7, vq_sf_lo (by omega)]; exact q.2.2.2
      dsimp only
      rw [ik, iq]
      refine pk_le (4 * lt k) (4 * t) (fun y => nm_r (pk_m1 k) (hw (k + 1, b6, b7, b8) ⟨by dsimp only; omega, hp, Or.inr ⟨by dsimp only; omega, ?_⟩, hhi, h6, h7, h8⟩)) (fun y => ?_) e7
      · show lt (k + 1 - 1) ≤ t
        rw [Nat.add_sub_cancel]
        omega
      · refine ⟨pk_in k 64 (by omega) (nI_pred k), pk_in (k + 1) 64 (by omega), nm_e ⟨pk_in k 64 (by omega) (nI_pred k), pk_in (k + 1) 64 (by omega), nm_e ⟨pk_in k 64 (by omega) (nI_pred k), pk_in (k + 1) 64 (by omega), nm_e (nm_r (nI_pred k) (nm_r (pk_m1 k) ?_))⟩⟩⟩
        refine hw (k, upd b6 (k + 1) (b6 k), upd b7 (k + 1) (b7 k), upd b8 (k + 1) (b8 k)) ⟨Nat.le_refl k, by dsimp only; omega, Or.inl rfl, ?_, vq_sf_step hp h6, vq_sf_step hp h7, vq_sf_step hp h8⟩
        intro j y1 y2
        dsimp only at y1
        rcases (by omega : j = k ∨ k + 1 ≤ j) with e | e
        · rw [e]
          omega
        · exact hhi j e y2
    · dsimp only
      rcases hl with e | e
      · exact absurd e z
      · exact e
theorem vq_v137 {post : Int32 → St1 → Prop} {k : Nat} {x6 : Int32} (hk : k < 64) (hv : v < 8) (H : ∀ a5', post x6 (o, nI (h + 1), lk, 0, a1, a2, a3, a4, a5', a6, a7, upd a8 k (a8 k ||| ((1 : Int32) <<< (nI v &&& 31))), a9)) :
    wX_vote_137 post (nI v) (nI k) x6 o (nI h) lk kn a1 a2 a3 a4 a5 a6 a7 a8 a9 :=
  ⟨pk_in k 64 hk, pk_in k 64 hk, nm_r (by rw [nI_clamp (by omega)]) (nm_r (nI_1 h) ⟨pk_in v 8 hv, pk_in v 8 hv, nm_e (H _)⟩)⟩
theorem vq_sh2 {e : Nat} (he : e ≤ 3) : nI (4 * e) >>> ((2 : Int32) &&& 31) = nI e := by
  rw [pk_shrN (by omega) _ 2 (by decide), show 4 * e / 2 ^ 2 = e by omega]
theorem vq_R_vote {B' : Nat → Bool} {n' k : Nat} {a2' a3' a4' a6' a7' a8' : Nat → Int32} {ls' lt' : Nat → Nat} (R : vq_R B K h n kn a1 a2 a3 a4 a6 a7 a8 a9)
    (hB : ∀ q, q < 48 → B' q = (B q || decide (q = 6 * v + vq_pl s t))) (hv : v < 8) (hst : s < t) (ht : t ≤ 3) (hb : vq_b B v s t = false) (hn' : n' ≤ n + 1)
    (h4 : ∀ j, a4' j = if j = 32 * v + t then a4 j + 1 else a4 j)
    (h2 : ∀ j, a2' j = if 32 * v ≤ j ∧ j < 32 * v + s then (if a2 j ≤ nI t then a2 j else nI t) else a2 j)
    (h3 : ∀ j, a3' j = if 32 * v + s + 1 ≤ j ∧ j < 32 * v + 32 then (if nI t ≤ a3 j then a3 j else nI t) else a3 j)
    (g : vq_L n' ls' lt' a6' a7' a8' B) (hk : k < n') (es : ls' k = s) (et : lt' k = t) :
    vq_R B' K (h + 1) n' 0 a1 a2' a3' a4' a6' a7' (upd a8' k (a8' k ||| ((1 : Int32) <<< (nI v &&& 31)))) a9 := by
  have hp := vq_pl_lt hst ht
  have hc := vq_c_set (B := B) (B' := B') (q := 6 * v + vq_pl s t) hb 48 hB
  rw [if_pos (by omega)] at hc
  have r1 := R.1
  exact ⟨⟨by omega, by omega⟩, R.2.1, R.2.2.1, vq_G_set R.2.2.2.1 hB hv hst ht h4 h2 h3, ⟨ls', lt', vq_L_vote g hB hv hst ht hk es et⟩, Or.inl rfl⟩
theorem vq_vote {post : Int32 → St1 → Prop} {B' : Nat → Bool} (R : vq_R B K h n kn a1 a2 a3 a4 a6 a7 a8 a9)
    (hB : ∀ q, q < 48 → B' q = (B q || decide (q = 6 * v + vq_pl s t))) (hv : v < 8) (hst : s < t) (ht : t ≤ 3)
    (Hr : vq_b B v s t = true → post (-2) (o, nI h, nI n, kn, a1, a2, a3, a4, a5, a6, a7, a8, a9))
    (Hn : vq_b B v s t = false → ∀ n' a2' a3' a4' a5' a6' a7' a8', vq_R B' K (h + 1) n' 0 a1 a2' a3' a4' a6' a7' a8' a9 →
      post (vq_off (vq_b B v) s t) (if vq_off (vq_b B v) s t = 0 then o else o ||| ((1 : Int32) <<< (nI v &&& 31)), nI (h + 1), nI n', 0, a1, a2', a3', a4', a5', a6', a7', a8', a9)) :
    wpX_vote post (o, nI h, nI n, kn, a1, a2, a3, a4, a5, a6, a7, a8, a9) (nI v) (nI (4 * s)) (nI (4 * t)) := by
  have hh : h ≤ 48 := by
    have z := vq_c_le B 48
    have y := R.1
    omega
  have hn := vq_R_lt R
  have es := vq_sh2 (e := s) (by omega)
  have et := vq_sh2 (e := t) ht
  have R' := R
  obtain ⟨_, hK, h1, gG, ⟨ls, lt, g⟩, _⟩ := R
  have e64 : ∀ x4 : Int32, (∀ o', o' = (if vq_off (vq_b B v) s t = 0 then o else o ||| ((1 : Int32) <<< (nI v &&& 31))) → wX_vote_113 post (nI v) (nI (4 * s)) (nI (4 * t)) x4 (vq_off (vq_b B v) s t) o' (nI h) (nI n) kn a1 a2 a3 a4 a5 a6 a7 a8 a9) →
      wX_vote_64 post (nI v) (nI (4 * s)) (nI (4 * t)) x4 0 o (nI h) (nI n) kn a1 a2 a3 a4 a5 a6 a7 a8 a9 := by
    intro x4 Hx
    refine br_t rfl (br_t (nI_lt (b := 64) (by omega) (by omega)) ?_)
    rw [es, et]
    refine vq_judge gG hh hv hst ht ?_
    by_cases z : vq_off (vq_b B v) s t = 0
    · exact br_t z (Hx o (by rw [if_pos z]))
    · exact br_f z (nm_e (Hx _ (by rw [if_neg z])))
  unfold wpX_vote
  refine vq_isVal hv (br_f (by decide) (vq_isChk (by omega) (br_f (by decide) (vq_isChk ht (br_f (by decide) ?_)))))
  rw [es, et]
  refine br_t (nI_lt hst (by omega)) (vq_linkOf g (by omega) (by omega) ht (fun k hk ks kt => ?_) (fun hno => ?_))
  · refine br_f (nI_pos (by omega)) ⟨pk_in k 64 (by omega), ?_⟩
    rw [nI_clamp (by omega), vq_ub _ v (by omega), g.2.1 k v hk hv, ks, kt]
    cases hb : vq_b B v s t
    · refine br_t rfl (e64 (nI k) (fun o' ho => ?_))
      unfold wX_vote_113
      rw [es, et]
      refine vq_enter hv hst ht (fun a2' a3' a4' h4 h2 h3 => br_t (nI_pos' (by omega)) (vq_v137 (by omega) hv (fun a5' => ?_)))
      rw [ho]
      exact Hn hb n a2' a3' a4' a5' a6 a7 _ (vq_R_vote R' hB hv hst ht hb (by omega) h4 h2 h3 g hk ks kt)
    · exact br_f (by decide) (br_f (by decide) (Hr hb))
  · have hb : vq_b B v s t = false := by
      cases hb : vq_b B v s t
      · rfl
      · obtain ⟨k, hk, z⟩ := g.2.2.2.2 s t v hst ht hv hb
        exact absurd z (hno k hk)
    refine br_t (by decide) (e64 (-1) (fun o' ho => ?_))
    unfold wX_vote_113
    rw [es, et]
    refine vq_enter hv hst ht (fun a2' a3' a4' h4 h2 h3 => br_f (by decide) (vq_openLink g (by omega) hst ht hno (fun p ls' lt' a6' a7' a8' hp ps pt g' => vq_v137 (by omega) hv (fun a5' => ?_))))
    rw [ho]
    exact Hn hb (n + 1) a2' a3' a4' a5' a6' a7' _ (vq_R_vote R' hB hv hst ht hb (by omega) h4 h2 h3 g' hp ps pt)
theorem vq_stake {post : Int32 → St1 → Prop} {K' : Nat → Int32} {j : Nat} (R : vq_R B K h n kn a1 a2 a3 a4 a6 a7 a8 a9) (hv : v < 8) (hj : j < 8) (hK' : ∀ w, w < 8 → K' w = if w = v then nI j else K w)
    (H : ∀ a1', vq_R B K' h n 0 a1' a2 a3 a4 a6 a7 a8 a9 → post (K v) (o, hd, lk, 0, a1', a2, a3, a4, a5, a6, a7, a8, a9)) :
    wpX_stake post (o, hd, lk, kn, a1, a2, a3, a4, a5, a6, a7, a8, a9) (nI v) (nI j) := by
  have iv : (nI v).toNatClampNeg = v := nI_clamp (by omega)
  unfold wpX_stake
  refine vq_isVal hv (br_f (by decide) ⟨pk_in v 8 hv, nm_r (by rw [iv, R.2.2.1 v hv]) (br_t (nI_pos' (by omega)) (br_t (nI_le (b := 100) (by omega) (by omega)) ⟨pk_in v 8 hv, nm_r (by rw [iv]) (H (upd a1 v (nI j)) ?_)⟩))⟩)
  refine ⟨R.1, ?_, ?_, R.2.2.2.1, R.2.2.2.2.1, Or.inl rfl⟩
  · intro w hw
    rw [hK' w hw]
    by_cases e : w = v
    · rw [if_pos e]
      exact ⟨j, hj, rfl⟩
    · rw [if_neg e]
      exact R.2.1 w hw
  · intro w hw
    rw [hK' w hw]
    by_cases e : w = v
    · rw [if_pos e, e, pk_us]
    · rw [if_neg e, pk_un e]
      exact R.2.2.1 w hw
end
end
section
/-! the law's own functions -/
theorem vq_place {post : Int32 → Prop} {s t : Nat} (hst : s < t) (ht : t ≤ 3) (H : post (nI (vq_pl s t))) : wpL_place post () (nI s) (nI t) := by
  unfold vq_pl at H
  refine pk_eq s 0 (fun z => ?_) (fun z => pk_eq s 1 (fun z1 => ?_) (fun z1 => ?_))
  · rw [if_pos z] at H
    rw [show nI t - 1 = nI (t - 1) from pk_sub (b := 1) (by omega)]
    exact H
  · rw [if_neg z, if_pos z1] at H
    rw [nI_1]
    exact H
  · rw [if_neg z, if_neg z1] at H
    exact H
theorem vq_Lsup {post : Int32 → Prop} {V : Int64} {x : Int32} {s t : Nat} (hst : s < t) (ht : t ≤ 3) (H : post (vq_su (vq_T V) (vq_K x) s t)) : wpL_support post () V x (nI s) (nI t) := by
  have hp := vq_pl_lt hst ht
  refine pk_loop (fun f i u => wL_support_6 post V x (nI s) (nI t) f u (nI i)) (fun i u => u = vq_sm (fun v => if vq_b (vq_T V) v s t = true then vq_K x v else 0) i) 8 0 0 (by omega) rfl ?_ ?_
  · intro f u hu
    subst hu
    exact pk_le 8 8 (fun _ => H) (fun z => absurd z (by omega))
  · intro f i u hi hu hw
    subst hu
    have hw' : wL_support_6 post V x (nI s) (nI t) f (vq_sm (fun v => if vq_b (vq_T V) v s t = true then vq_K x v else 0) (i + 1)) (nI (i + 1)) := hw _ rfl
    have e : 6 * nI i + nI (vq_pl s t) = nI (6 * i + vq_pl s t) := by rw [vq_6, nI_add]
    have k : ¬ ((V >>> ((nI (6 * i + vq_pl s t)).toInt64 &&& 63)) &&& 1) = 0 ↔ vq_b (vq_T V) i s t = true := by
      rw [vq_Lb V _ (by omega)]
      unfold vq_b
      cases vq_T V (6 * i + vq_pl s t) <;> decide
    refine pk_le 8 i (fun z => absurd z (by omega)) (fun _ => vq_place hst ht ?_)
    rw [e]
    refine vq_br k (fun z => nm_r (nI_1 i) ?_) (fun z => nm_r (congrArg (vq_sm (fun v => if vq_b (vq_T V) v s t = true then vq_K x v else 0) i + ·) (vq_ite_t z).symm) (nm_r (nI_1 i) hw'))
    have e2 : vq_sm (fun v => if vq_b (vq_T V) v s t = true then vq_K x v else 0) (i + 1) = vq_sm (fun v => if vq_b (vq_T V) v s t = true then vq_K x v else 0) i :=
      (congrArg (vq_sm (fun v => if vq_b (vq_T V) v s t = true then vq_K x v else 0) i + ·) (vq_ite_f z)).trans (Int32.add_zero _)
    rw [e2] at hw'
    exact hw'
theorem vq_o17 {post : Int32 → Prop} {J5 : Int32 → Int32 → Prop} {x0 r : Int32} {s t u x n : Nat} {b : Bool} (hst : s < t) (ht : t ≤ 3) (hux : u < x) (hx : x ≤ 3) (hb : (x0 >>> (nI (vq_pl u x) &&& 31)) &&& 1 = vq_I b)
    (H : wL_offence_17 post J5 x0 (nI s) (nI t) (nI u) n (vq_os b s t u x r) (nI (x + 1))) : wL_offence_17 post J5 x0 (nI s) (nI t) (nI u) (n + 1) r (nI x) := by
  refine pk_le 4 x (fun z => absurd z (by omega)) (fun _ => vq_place hux hx ?_)
  rw [hb]
  cases b
  · exact br_t rfl (nm_r (nI_1 x) H)
  · have H' : wL_offence_17 post J5 x0 (nI s) (nI t) (nI u) n (vq_o4 s t u x (vq_o2 s t u x (vq_o1 t x r))) (nI (x + 1)) := H
    have e63 : ∀ r', wL_offence_17 post J5 x0 (nI s) (nI t) (nI u) n (vq_o4 s t u x r') (nI (x + 1)) → wL_offence_63 post J5 (wL_offence_17 post J5 x0 (nI s) (nI t) (nI u) n) x0 (nI s) (nI t) r' (nI u) (nI x) := by
      intro r' h
      unfold vq_o4 at h
      refine pk_le s u (fun z => nm_r (nI_1 x) ?_) (fun z => pk_le x t (fun z' => nm_r (nI_1 x) ?_) (fun z' => nm_e (nm_r (nI_1 x) ?_)))
      · rw [if_neg (by omega)] at h
        exact h
      · rw [if_neg (by omega)] at h
        exact h
      · rw [if_pos ⟨z, z'⟩] at h
        exact h
    have e47 : ∀ r', wL_offence_17 post J5 x0 (nI s) (nI t) (nI u) n (vq_o4 s t u x (vq_o2 s t u x r')) (nI (x + 1)) → wL_offence_47 post J5 (wL_offence_17 post J5 x0 (nI s) (nI t) (nI u) n) x0 (nI s) (nI t) r' (nI u) (nI x) := by
      intro r' h
      unfold vq_o2 at h
      refine pk_le u s (fun z => e63 _ ?_) (fun z => pk_le t x (fun z' => e63 _ ?_) (fun z' => nm_e (e63 _ ?_)))
      · rw [if_neg (by omega)] at h
        exact h
      · rw [if_neg (by omega)] at h
        exact h
      · rw [if_pos ⟨z, z'⟩] at h
        exact h
    unfold vq_o1 at H'
    refine br_f (by decide) (pk_eq x t (fun z => nm_e (e47 _ ?_)) (fun z => e47 _ ?_))
    · rw [if_pos z] at H'
      exact H'
    · rw [if_neg z] at H'
      exact H'
theorem vq_offence {post : Int32 → Prop} {x0 : Int32} {s t : Nat} {f : Nat → Nat → Bool} (hst : s < t) (ht : t ≤ 3) (hf : ∀ u x, u < x → x ≤ 3 → (x0 >>> (nI (vq_pl u x) &&& 31)) &&& 1 = vq_I (f u x))
    (H : post (vq_off f s t)) : wpL_offence post () x0 (nI s) (nI t) := by
  have ex : ∀ (J5 : Int32 → Int32 → Prop) (n u : Nat) (r : Int32), u < 3 → J5 r (nI (u + 1)) → wL_offence_17 post J5 x0 (nI s) (nI t) (nI u) (n + 1) r (nI 4) :=
    fun J5 n u r hu h => pk_le 4 4 (fun _ => nm_r (nI_1 u) h) (fun z => absurd z (by omega))
  have s17 : ∀ (J5 : Int32 → Int32 → Prop) (n u x : Nat) (r : Int32), u < x → x ≤ 3 → wL_offence_17 post J5 x0 (nI s) (nI t) (nI u) n (vq_os (f u x) s t u x r) (nI (x + 1)) → wL_offence_17 post J5 x0 (nI s) (nI t) (nI u) (n + 1) r (nI x) :=
    fun J5 n u x r h1 h2 h => vq_o17 hst ht h1 h2 (hf u x h1 h2) h
  have s5 : ∀ (n u : Nat) (r : Int32), u < 3 → (∃ f', wL_offence_17 post (wL_offence_5 post x0 (nI s) (nI t) n) x0 (nI s) (nI t) (nI u) f' r (nI (u + 1))) → wL_offence_5 post x0 (nI s) (nI t) (n + 1) r (nI u) :=
    fun n u r hu h => pk_le 3 u (fun z => absurd z (by omega)) (fun _ => nm_r (nI_1 u) h)
  refine ⟨3 + 1, s5 3 0 0 (by omega) ⟨3 + 1, s17 _ 3 0 1 _ (by omega) (by omega) (s17 _ 2 0 2 _ (by omega) (by omega) (s17 _ 1 0 3 _ (by omega) (by omega) (ex _ 0 0 _ (by omega) ?_)))⟩⟩
  refine s5 2 1 _ (by omega) ⟨2 + 1, s17 _ 2 1 2 _ (by omega) (by omega) (s17 _ 1 1 3 _ (by omega) (by omega) (ex _ 0 1 _ (by omega) ?_))⟩
  refine s5 1 2 _ (by omega) ⟨1 + 1, s17 _ 1 2 3 _ (by omega) (by omega) (ex _ 0 2 _ (by omega) ?_)⟩
  exact pk_le 3 3 (fun _ => H) (fun z => absurd z (by omega))
/-! the law's masks of justified and final epochs -/
def vq_st (b : Bool) (s t : Nat) (p : Int32 × Int32) : Int32 × Int32 :=
  if (p.1 >>> (nI s &&& 31)) &&& 1 = 0 then p else if b = true then (p.1 ||| ((1 : Int32) <<< (nI t &&& 31)), if t = s + 1 then p.2 ||| ((1 : Int32) <<< (nI s &&& 31)) else p.2) else p
def vq_in (S : Nat → Nat → Bool) (t : Nat) (p : Int32 × Int32) : Nat → Int32 × Int32
  | 0 => p
  | s + 1 => vq_st (S s t) s t (vq_in S t p s)
def vq_mb (b01 b02 b12 b03 b13 b23 : Bool) : Int32 × Int32 := vq_st b23 2 3 (vq_st b13 1 3 (vq_st b03 0 3 (vq_st b12 1 2 (vq_st b02 0 2 (vq_st b01 0 1 (1, 0))))))
def vq_mk (S : Nat → Nat → Bool) : Int32 × Int32 := vq_in S 3 (vq_in S 2 (vq_in S 1 (1, 0) 1) 2) 3
theorem vq_mk_eq (S : Nat → Nat → Bool) : vq_mk S = vq_mb (S 0 1) (S 0 2) (S 1 2) (S 0 3) (S 1 3) (S 2 3) := rfl
theorem vq_mb_j : ∀ b01 b02 b12 b03 b13 b23 : Bool,
    ((vq_mb b01 b02 b12 b03 b13 b23).1 >>> (nI 0 &&& 31)) &&& 1 = vq_I true ∧
    ((vq_mb b01 b02 b12 b03 b13 b23).1 >>> (nI 1 &&& 31)) &&& 1 = vq_I b01 ∧
    ((vq_mb b01 b02 b12 b03 b13 b23).1 >>> (nI 2 &&& 31)) &&& 1 = vq_I (b02 || (b01 && b12)) ∧
    ((vq_mb b01 b02 b12 b03 b13 b23).1 >>> (nI 3 &&& 31)) &&& 1 = vq_I (b03 || (b01 && b13) || ((b02 || (b01 && b12)) && b23)) := by decide +kernel
theorem vq_mb_f : ∀ b01 b02 b12 b03 b13 b23 : Bool,
    ((vq_mb b01 b02 b12 b03 b13 b23).2 >>> (nI 0 &&& 31)) &&& 1 = vq_I b01 ∧
    ((vq_mb b01 b02 b12 b03 b13 b23).2 >>> (nI 1 &&& 31)) &&& 1 = vq_I (b01 && b12) ∧
    ((vq_mb b01 b02 b12 b03 b13 b23).2 >>> (nI 2 &&& 31)) &&& 1 = vq_I ((b02 || (b01 && b12)) && b23) ∧
    ((vq_mb b01 b02 b12 b03 b13 b23).2 >>> (nI 3 &&& 31)) &&& 1 = vq_I false := by decide +kernel
theorem vq_mb_h : ∀ b01 b02 b12 b03 b13 b23 : Bool,
    (¬ (vq_mb b01 b02 b12 b03 b13 b23).1 &&& 8 = 0 ↔ (b03 || (b01 && b13) || ((b02 || (b01 && b12)) && b23)) = true) ∧
    (¬ (vq_mb b01 b02 b12 b03 b13 b23).1 &&& 4 = 0 ↔ (b02 || (b01 && b12)) = true) ∧
    (¬ (vq_mb b01 b02 b12 b03 b13 b23).1 &&& 2 = 0 ↔ b01 = true) := by decide +kernel
theorem vq_mk_j (S : Nat → Nat → Bool) (e : Nat) (he : e ≤ 3) : ((vq_mk S).1 >>> (nI e &&& 31)) &&& 1 = vq_I (vq_jj S e) := by
  have z := vq_mb_j (S 0 1) (S 0 2) (S 1 2) (S 0 3) (S 1 3) (S 2 3)
  rw [vq_mk_eq]
  rcases (by omega : e = 0 ∨ e = 1 ∨ e = 2 ∨ e = 3) with h | h | h | h
  · subst h
    exact z.1
  · subst h
    exact z.2.1
  · subst h
    exact z.2.2.1
  · subst h
    exact z.2.2.2
theorem vq_mk_f (S : Nat → Nat → Bool) (e : Nat) (he : e ≤ 3) : ((vq_mk S).2 >>> (nI e &&& 31)) &&& 1 = vq_I (vq_ff S e) := by
  have z := vq_mb_f (S 0 1) (S 0 2) (S 1 2) (S 0 3) (S 1 3) (S 2 3)
  rw [vq_mk_eq]
  rcases (by omega : e = 0 ∨ e = 1 ∨ e = 2 ∨ e = 3) with h | h | h | h
  · subst h
    exact z.1
  · subst h
    exact z.2.1
  · subst h
    exact z.2.2.1
  · subst h
    exact z.2.2.2
theorem vq_hi128 (S : Nat → Nat → Bool) : vq_hi S 128 = if vq_jj S 3 = true then 12 else if vq_jj S 2 = true then 8 else if vq_jj S 1 = true then 4 else 0 := by simp [vq_hi]
section
variable {o hd kn x3 : Int32} {V : Int64} {a1 a2 a3 a4 a5 a6 a7 a8 a9 : Nat → Int32} {h n : Nat}
theorem vq_ag211 {post : Int32 → St1 → Prop} {B : Nat → Bool} {K : Nat → Int32} (R : vq_R B K h n kn a1 a2 a3 a4 a6 a7 a8 a9)
    (H : ∀ a9', vq_R B K h n 1 a1 a2 a3 a4 a6 a7 a8 a9' → post 1 (o, hd, nI n, 1, a1, a2, a3, a4, a5, a6, a7, a8, a9')) :
    ∃ f, wL_agrees_211 post (vq_sm (fun v => if vq_t o v = true then K v else 0) 8) (vq_mk (vq_S B K)).1 (vq_mk (vq_S B K)).2 f 0 o hd (nI n) kn a1 a2 a3 a4 a5 a6 a7 a8 a9 := by
  have e6 : vq_sm (fun v => if vq_t o v = true then a1 v else 0) 8 = vq_sm (fun v => if vq_t o v = true then K v else 0) 8 := vq_sm_eq 8 (fun v hv => by rw [R.2.2.1 v hv])
  have kh := vq_mb_h (vq_S B K 0 1) (vq_S B K 0 2) (vq_S B K 1 2) (vq_S B K 0 3) (vq_S B K 1 3) (vq_S B K 2 3)
  have k8 : ¬ (vq_mk (vq_S B K)).1 &&& 8 = 0 ↔ vq_jj (vq_S B K) 3 = true := kh.1
  have k4 : ¬ (vq_mk (vq_S B K)).1 &&& 4 = 0 ↔ vq_jj (vq_S B K) 2 = true := kh.2.1
  have k2 : ¬ (vq_mk (vq_S B K)).1 &&& 2 = 0 ↔ vq_jj (vq_S B K) 1 = true := kh.2.2
  refine pk_loop (σ := Int32 × (Nat → Int32)) (fun f i u => wL_agrees_211 post (vq_sm (fun v => if vq_t o v = true then K v else 0) 8) (vq_mk (vq_S B K)).1 (vq_mk (vq_S B K)).2 f (nI i) o hd (nI n) u.1 a1 a2 a3 a4 a5 a6 a7 a8 u.2) (fun i u => vq_R B K h n u.1 a1 a2 a3 a4 a6 a7 a8 u.2) 4 0 (kn, a9) (by omega) R ?_ ?_
  · intro f u R1
    refine pk_le 4 4 (fun _ => vq_offended (br_t e6 (vq_highest R1 (fun a9' R' => ?_)))) (fun z => absurd z (by omega))
    refine vq_br k8 (fun e3 => vq_br k4 (fun e2 => vq_br k2 (fun e1 => br_t ?_ (H a9' R')) (fun e1 => br_t ?_ (H a9' R'))) (fun e2 => br_t ?_ (H a9' R'))) (fun e3 => br_t ?_ (H a9' R'))
    · rw [vq_hi128, e3, e2, e1]
      rfl
    · rw [vq_hi128, e3, e2, e1]
      rfl
    · rw [vq_hi128, e3, e2]
      rfl
    · rw [vq_hi128, e3]
      rfl
  · intro f i u hi R1 hw
    refine pk_le 4 i (fun z => absurd z (by omega)) (fun _ => ?_)
    rw [vq_4]
    refine vq_justified R1 (by omega) (fun b9 R2 => br_t (vq_mk_j _ i (by omega)).symm ?_)
    refine vq_isFinal R2 (by omega) (fun c9 R3 => br_t (vq_mk_f _ i (by omega)).symm ?_)
    exact vq_justIn R3 (by omega) (fun d9 R4 => br_t (vq_mk_j _ i (by omega)).symm (nm_r (nI_1 i) (hw (1, d9) R4)))
theorem vq_ag94 {post : Int32 → St1 → Prop} {J85 : Int32 → Int32 → Int32 → Prop} {x6 : Int32} {s t f : Nat} {p : Int32 × Int32} (R : vq_R (vq_T V) (vq_K x3) h n kn a1 a2 a3 a4 a6 a7 a8 a9) (hst : s < t) (ht : t ≤ 3)
    (H : wL_agrees_94 post J85 V x3 (vq_sm (vq_K x3) 8) x6 (nI t) o hd (nI n) kn a1 a2 a3 a4 a5 a6 a7 a8 a9 f (vq_st (vq_S (vq_T V) (vq_K x3) s t) s t p).1 (vq_st (vq_S (vq_T V) (vq_K x3) s t) s t p).2 (nI (s + 1))) :
    wL_agrees_94 post J85 V x3 (vq_sm (vq_K x3) 8) x6 (nI t) o hd (nI n) kn a1 a2 a3 a4 a5 a6 a7 a8 a9 (f + 1) p.1 p.2 (nI s) := by
  have hn := vq_R_lt R
  obtain ⟨_, hK, h1, _, ⟨ls, lt, g⟩, _⟩ := R
  refine pk_le t s (fun z => absurd z (by omega)) (fun _ => vq_Lsup hst ht ?_)
  rw [vq_4, vq_4]
  refine vq_support g (by omega) h1 hst ht (br_t rfl ?_)
  by_cases z : (p.1 >>> (nI s &&& 31)) &&& 1 = 0
  · have e : vq_st (vq_S (vq_T V) (vq_K x3) s t) s t p = p := if_pos z
    rw [e] at H
    exact br_t z (br_t rfl (br_t rfl (nm_r (nI_1 s) H)))
  · refine br_f z ?_
    by_cases y : 3 * vq_su (vq_T V) (vq_K x3) s t ≤ 2 * vq_sm (vq_K x3) 8
    · have eS : vq_S (vq_T V) (vq_K x3) s t = false := by
        unfold vq_S
        rw [decide_eq_true y]
        rfl
      have e : vq_st (vq_S (vq_T V) (vq_K x3) s t) s t p = p := by
        rw [eS]
        unfold vq_st
        rw [if_neg z]
        rfl
      rw [e] at H
      exact br_t y (br_t rfl (br_t rfl (nm_r (nI_1 s) H)))
    · have eS : vq_S (vq_T V) (vq_K x3) s t = true := by
        unfold vq_S
        rw [decide_eq_false y]
        rfl
      have e : vq_st (vq_S (vq_T V) (vq_K x3) s t) s t p = (p.1 ||| ((1 : Int32) <<< (nI t &&& 31)), if t = s + 1 then p.2 ||| ((1 : Int32) <<< (nI s &&& 31)) else p.2) := by
        rw [eS]
        unfold vq_st
        rw [if_neg z, if_pos rfl]
      rw [e] at H
      refine br_f y (br_f (by decide) (nm_e (br_f (by decide) (pk_eq t (s + 1) (fun w => nm_e (nm_r (nI_1 s) ?_)) (fun w => nm_r (nI_1 s) ?_) rfl (nI_1 s)))))
      · rw [if_pos w] at H
        exact H
      · rw [if_neg w] at H
        exact H
theorem vq_ag85 {post : Int32 → St1 → Prop} {x6 : Int32} {t f : Nat} {p : Int32 × Int32} (R : vq_R (vq_T V) (vq_K x3) h n kn a1 a2 a3 a4 a6 a7 a8 a9) (ht : t ≤ 3)
    (H : wL_agrees_85 post V x3 (vq_sm (vq_K x3) 8) x6 o hd (nI n) kn a1 a2 a3 a4 a5 a6 a7 a8 a9 f (vq_in (vq_S (vq_T V) (vq_K x3)) t p t).1 (vq_in (vq_S (vq_T V) (vq_K x3)) t p t).2 (nI (t + 1))) :
    wL_agrees_85 post V x3 (vq_sm (vq_K x3) 8) x6 o hd (nI n) kn a1 a2 a3 a4 a5 a6 a7 a8 a9 (f + 1) p.1 p.2 (nI t) := by
  refine pk_le 4 t (fun z => absurd z (by omega)) (fun _ => ?_)
  refine pk_loop (σ := Int32 × Int32) (fun f' i u => wL_agrees_94 post (wL_agrees_85 post V x3 (vq_sm (vq_K x3) 8) x6 o hd (nI n) kn a1 a2 a3 a4 a5 a6 a7 a8 a9 f) V x3 (vq_sm (vq_K x3) 8) x6 (nI t) o hd (nI n) kn a1 a2 a3 a4 a5 a6 a7 a8 a9 f' u.1 u.2 (nI i)) (fun i u => u = vq_in (vq_S (vq_T V) (vq_K x3)) t p i) t 0 p (by omega) rfl ?_ ?_
  · intro f' u hu
    subst hu
    exact pk_le t t (fun _ => nm_r (nI_1 t) H) (fun z => absurd z (by omega))
  · intro f' i u hi hu hw
    subst hu
    exact vq_ag94 R hi ht (hw _ rfl)
theorem vq_agrees {post : Int32 → St1 → Prop} (R : vq_R (vq_T V) (vq_K x3) h n kn a1 a2 a3 a4 a6 a7 a8 a9)
    (H : ∀ a9', vq_R (vq_T V) (vq_K x3) h n 1 a1 a2 a3 a4 a6 a7 a8 a9' → post 1 (o, hd, nI n, 1, a1, a2, a3, a4, a5, a6, a7, a8, a9')) :
    wpL_agrees post (o, hd, nI n, kn, a1, a2, a3, a4, a5, a6, a7, a8, a9) V x3 o := by
  refine pk_loop (σ := Int32 × Int32) (fun f i u => wL_agrees_9 post V x3 o o hd (nI n) kn a1 a2 a3 a4 a5 a6 a7 a8 a9 f u.1 u.2 (nI i)) (fun i u => u = (vq_sm (vq_K x3) i, vq_sm (fun v => if vq_t o v = true then vq_K x3 v else 0) i)) 8 0 (0, 0) (by omega) rfl ?_ ?_
  · intro f u hu
    subst hu
    refine pk_le 8 8 (fun _ => ⟨3 + 1, ?_⟩) (fun z => absurd z (by omega))
    refine vq_ag85 (t := 1) (p := (1, 0)) R (by omega) (vq_ag85 (t := 2) R (by omega) (vq_ag85 (t := 3) R (by omega) ?_))
    exact pk_le 4 4 (fun _ => vq_ag211 R H) (fun z => absurd z (by omega))
  · intro f i u hi hu hw
    subst hu
    have hw' := hw _ rfl
    have eb := vq_sb o i (by omega)
    refine pk_le 8 i (fun z => absurd z (by omega)) (fun _ => nm_e (nm_r ?_ (vq_offender hi (br_t eb.symm (nm_r (nI_1 i) hw')))))
    rw [eb]
    show vq_sm (fun v => if vq_t o v = true then vq_K x3 v else 0) i + vq_I (vq_t o i) * vq_K x3 i = vq_sm (fun v => if vq_t o v = true then vq_K x3 v else 0) i + (if vq_t o i = true then vq_K x3 i else 0)
    cases vq_t o i
    · rw [show vq_I false = 0 from rfl, Int32.zero_mul]
      rfl
    · rw [show vq_I true = 1 from rfl, Int32.one_mul]
      rfl
end
end
section
/-! the law -/
theorem vq_T_same (V : Int64) (q : Nat) (hq : q < 64) (h : vq_T V q = true) : V ||| ((1 : Int64) <<< ((nI q).toInt64 &&& 63)) = V := by
  apply Int64.toBitVec_inj.mp
  apply BitVec.eq_of_getLsbD_eq
  intro r hr
  have z := vq_T_set V q hq r
  unfold vq_T at z h
  rw [z]
  by_cases e : r = q
  · rw [e, h]
    rfl
  · rw [decide_eq_false e, Bool.or_false]
theorem vq_in103 {post : St1 → Prop} {mc ms kc ks : Nat} {o hd lk kn : Int32} {b1 b2 b3 b4 b5 b6 b7 b8 b9 : Nat → Int32}
    (H : ∀ a2 a3, (∀ j, j < 256 → a2 j = 32) → (∀ j, j < 256 → a3 j = -1) → post (o, hd, lk, kn, b1, a2, a3, b4, b5, b6, b7, b8, b9)) :
    ∃ f, wX_init_103 post mc ms kc ks o hd lk kn f 0 b1 b2 b3 b4 b5 b6 b7 b8 b9 := by
  refine pk_loop (σ := (Nat → Int32) × (Nat → Int32)) (fun f i u => wX_init_103 post mc ms kc ks o hd lk kn f (nI i) b1 u.1 u.2 b4 b5 b6 b7 b8 b9) (fun i u => (∀ j, j < i → u.1 j = 32) ∧ (∀ j, j < i → u.2 j = -1)) 256 0 (b2, b3) (by omega) ⟨fun j hj => absurd hj (by omega), fun j hj => absurd hj (by omega)⟩ ?_ ?_
  · intro f u hu
    exact pk_le 256 256 (fun _ => H u.1 u.2 hu.1 hu.2) (fun z => absurd z (by omega))
  · intro f i u hi hu hw
    have ii : (nI i).toNatClampNeg = i := nI_clamp (by omega)
    refine pk_le 256 i (fun z => absurd z (by omega)) (fun _ => ⟨pk_in i 256 hi, nm_r (by rw [ii]) ⟨pk_in i 256 hi, nm_r (by rw [ii]) (nm_r (nI_1 i) (hw (upd u.1 i 32, upd u.2 i (-1)) ⟨?_, ?_⟩))⟩⟩)
    · intro j hj
      by_cases e : j = i
      · rw [e]
        exact pk_us
      · exact (pk_un e).trans (hu.1 j (by omega))
    · intro j hj
      by_cases e : j = i
      · rw [e]
        exact pk_us
      · exact (pk_un e).trans (hu.2 j (by omega))
theorem vq_init {post : St1 → Prop} {o hd lk kn : Int32}
    (H : ∀ a1 a2 a3, (∀ j, j < 8 → a1 j = 1) → (∀ j, j < 256 → a2 j = 32) → (∀ j, j < 256 → a3 j = -1) → post (o, hd, lk, kn, a1, a2, a3, (fun _ => 0), (fun _ => 0), (fun _ => 0), (fun _ => 0), (fun _ => 0), (fun _ => 0))) :
    wpX_init post 9 1104 (o, hd, lk, kn) := by
  refine ⟨by omega, by omega, by omega, by omega, by omega, by omega, by omega, by omega, by omega, by omega, by omega, by omega, by omega, by omega, by omega, by omega, by omega, by omega, ?_⟩
  refine pk_loop (fun f i u => wX_init_82 post 9 1104 9 1104 o hd lk kn f (nI i) u (fun _ => 0) (fun _ => 0) (fun _ => 0) (fun _ => 0) (fun _ => 0) (fun _ => 0) (fun _ => 0) (fun _ => 0)) (fun i u => ∀ j, j < i → u j = 1) 8 0 (fun _ => 0) (by omega) (fun j hj => absurd hj (by omega)) ?_ ?_
  · intro f u hu
    exact pk_le 8 8 (fun _ => vq_in103 (fun a2 a3 h2 h3 => H u a2 a3 hu h2 h3)) (fun z => absurd z (by omega))
  · intro f i u hi hu hw
    have ii : (nI i).toNatClampNeg = i := nI_clamp (by omega)
    refine pk_le 8 i (fun z => absurd z (by omega)) (fun _ => ⟨pk_in i 8 hi, nm_r (by rw [ii]) (nm_r (nI_1 i) (hw (upd u i 1) ?_))⟩)
    intro j hj
    by_cases e : j = i
    · rw [e]
      exact pk_us
    · exact (pk_un e).trans (hu j (by omega))
theorem vq_R_0 {a1 a2 a3 : Nat → Int32} (h1 : ∀ j, j < 8 → a1 j = 1) (h2 : ∀ j, j < 256 → a2 j = 32) (h3 : ∀ j, j < 256 → a3 j = -1) :
    vq_R (vq_T 0) (vq_K 2396745) 0 0 0 a1 a2 a3 (fun _ => 0) (fun _ => 0) (fun _ => 0) (fun _ => 0) (fun _ => 0) :=
  ⟨⟨Nat.le_refl 0, (vq_c_0 48 (fun q _ => vq_T_0 q)).symm⟩, fun v _ => vq_K_lt _ v, fun v hv => by rw [h1 v hv, vq_K_0 v hv], vq_G_0 (fun q _ => vq_T_0 q) (fun _ _ => rfl) h2 h3, ⟨fun _ => 0, fun _ => 0, vq_L_0 (fun q _ => vq_T_0 q)⟩, Or.inl rfl⟩
theorem vq_law20 {xs : Nat → Int32} {L kc ks : Nat} (hL : L ≤ 260) : ∀ (f i : Nat) (V : Int64) (x4 o : Int32) (h n : Nat) (kn : Int32) (a1 a2 a3 a4 a5 a6 a7 a8 a9 : Nat → Int32),
    vq_R (vq_T V) (vq_K x4) h n kn a1 a2 a3 a4 a6 a7 a8 a9 → i ≤ L → L < i + f →
    wL_law_20 (fun r => r = 1) L xs kc ks f V x4 o (nI i) o (nI h) (nI n) kn a1 a2 a3 a4 a5 a6 a7 a8 a9 := by
  intro f
  induction f with
  | zero => intro i V x4 o h n kn a1 a2 a3 a4 a5 a6 a7 a8 a9 R h1 h2; omega
  | succ f ih =>
    intro i V x4 o h n kn a1 a2 a3 a4 a5 a6 a7 a8 a9 R hi hf
    refine pk_lt L (i + 3) (fun _ => rfl) (fun z => ?_) rfl (nI_add i 3)
    have e269 : ∀ (V : Int64) (x4 o : Int32) (h n : Nat) (kn : Int32) (a1 a2 a3 a4 a5 a6 a7 a8 a9 : Nat → Int32), vq_R (vq_T V) (vq_K x4) h n kn a1 a2 a3 a4 a6 a7 a8 a9 →
        wL_law_269 (fun r => r = 1) L xs (wL_law_20 (fun r => r = 1) L xs kc ks f) V x4 o (nI i) kc ks o (nI h) (nI n) kn a1 a2 a3 a4 a5 a6 a7 a8 a9 := by
      intro V x4 o h n kn a1 a2 a3 a4 a5 a6 a7 a8 a9 R
      unfold wL_law_269
      exact vq_agrees R (fun a9' R' => br_f (by decide) (nm_r (nI_add i 3) (ih (i + 3) V x4 o h n 1 a1 a2 a3 a4 a5 a6 a7 a8 a9' R' (by omega) (by omega))))
    obtain ⟨k, hk, ek⟩ := pk_andE (xs (nI i).toNatClampNeg) (m := 7) 3 (by decide)
    obtain ⟨v, hv, ev⟩ := pk_andE (xs (nI i + 1).toNatClampNeg) (m := 7) 3 (by decide)
    obtain ⟨y, hy, ey⟩ := pk_andE (xs (nI i + 2).toNatClampNeg) (m := 255) 8 (by decide)
    obtain ⟨w, hw, ew⟩ := pk_andE (xs (nI i + 2).toNatClampNeg >>> ((8 : Int32) &&& 31)) (m := 255) 8 (by decide)
    obtain ⟨j, hj, ej⟩ := pk_andE (xs (nI i + 2).toNatClampNeg) (m := 7) 3 (by decide)
    have hs3 : y % 3 < 3 := Nat.mod_lt _ (by omega)
    generalize hs : y % 3 = s at hs3
    have ht3 : w % (3 - s) < 3 - s := Nat.mod_lt _ (by omega)
    generalize htt : w % (3 - s) = t' at ht3
    have e3s : (3 : Int32) - nI s = nI (3 - s) := pk_sub (a := 3) (by omega)
    have es : ((xs (nI i + 2).toNatClampNeg) &&& 255) - ((xs (nI i + 2).toNatClampNeg) &&& 255) / 3 * 3 = nI s := by
      rw [ey, ← hs]
      exact pk_rem (d := 3) (by omega) (by omega) (by omega)
    have et : (nI s + 1) + ((((xs (nI i + 2).toNatClampNeg) >>> ((8 : Int32) &&& 31)) &&& 255) - (((xs (nI i + 2).toNatClampNeg) >>> ((8 : Int32) &&& 31)) &&& 255) / (3 - nI s) * (3 - nI s)) = nI (s + 1 + t') := by
      rw [ew, e3s, pk_rem (by omega) (by omega) (by omega), htt, nI_1, nI_add]
    have hst : s < s + 1 + t' := by omega
    have ht : s + 1 + t' ≤ 3 := by omega
    generalize s + 1 + t' = t at et hst ht
    have hp := vq_pl_lt hst ht
    refine ⟨pk_in i L (by omega), nm_r ek ⟨pk_in (i + 1) L (by omega) (nI_1 i), nm_r ev ⟨pk_in (i + 2) L (by omega) (nI_add i 2), by decide, nm_r es ⟨pk_in (i + 2) L (by omega) (nI_add i 2), ?_, nm_r et ?_⟩⟩⟩⟩
    · rw [e3s]
      exact nI_ne0 (by omega) (by omega)
    refine pk_lt 5 k (fun z5 => ?_) (fun z5 => ?_)
    · refine pk_eq k 6 (fun z6 => ⟨pk_in (i + 2) L (by omega) (nI_add i 2), nm_r ej ?_⟩) (fun z6 => e269 V x4 o h n kn a1 a2 a3 a4 a5 a6 a7 a8 a9 R)
      exact vq_stake (K' := vq_K ((x4 &&& (((7 : Int32) <<< ((3 * nI v) &&& 31)) ^^^ (-1))) ||| (nI j <<< ((3 * nI v) &&& 31)))) R hv hj (fun w' hw' => vq_K_set x4 (nI j) v w' j hv hw' hj rfl)
        (fun a1' R' => br_t rfl (nm_e (e269 V _ o h n 0 a1' a2 a3 a4 a5 a6 a7 a8 a9 R')))
    · have eV : V ||| ((1 : Int64) <<< ((6 * nI v + nI (vq_pl s t)).toInt64 &&& 63)) = V ||| ((1 : Int64) <<< ((nI (6 * v + vq_pl s t)).toInt64 &&& 63)) := by rw [vq_6, nI_add]
      have hB : ∀ q, q < 48 → vq_T (V ||| ((1 : Int64) <<< ((nI (6 * v + vq_pl s t)).toInt64 &&& 63))) q = (vq_T V q || decide (q = 6 * v + vq_pl s t)) := fun q _ => vq_T_set V _ (by omega) q
      refine nm_e (vq_place hst ht ?_)
      rw [vq_mine V v _ hv hp]
      cases hb : vq_T V (6 * v + vq_pl s t)
      · refine br_t rfl (br_t rfl (vq_offence (f := vq_b (vq_T V) v) hst ht (fun u x hu hx => vq_mine V v _ hv (vq_pl_lt hu hx)) ?_))
        unfold wL_law_148
        rw [vq_4, vq_4]
        refine vq_vote R hB hv hst ht (fun c => absurd (hb.symm.trans c) (by decide)) (fun _ n' a2' a3' a4' a5' a6' a7' a8' R' => br_t rfl (vq_place hst ht (nm_r eV ?_)))
        have kp : vq_off (vq_b (vq_T V) v) s t ≤ 0 ↔ vq_off (vq_b (vq_T V) v) s t = 0 := by
          rw [vq_off_eq _ _ _ hst ht]
          exact vq_jv_pos _ _ _
        by_cases c : vq_off (vq_b (vq_T V) v) s t = 0
        · rw [if_pos c]
          exact br_t (kp.mpr c) (e269 _ x4 o _ n' 0 a1 a2' a3' a4' a5' a6' a7' a8' a9 R')
        · rw [if_neg c]
          exact br_f (fun y => c (kp.mp y)) (nm_e (e269 _ x4 _ _ n' 0 a1 a2' a3' a4' a5' a6' a7' a8' a9 R'))
      · refine br_f (by decide) (br_f (by decide) ?_)
        unfold wL_law_148
        rw [vq_4, vq_4]
        refine vq_vote R hB hv hst ht (fun _ => br_t rfl (vq_place hst ht (nm_r (eV.trans (vq_T_same V _ (by omega) hb)) (br_t (by decide) (e269 V x4 o h n kn a1 a2 a3 a4 a5 a6 a7 a8 a9 R))))) (fun c => absurd (hb.symm.trans c) (by decide))
theorem i_vc (xs : Nat → Int32) (L : Nat) (hL : L ≤ 260) : wpL_law (fun r => r = 1) L xs := by
  refine ⟨9, 1104, by omega, by omega, vq_init (fun a1 a2 a3 h1 h2 h3 => ⟨L + 1, ?_⟩)⟩
  exact vq_law20 hL (L + 1) 0 0 2396745 0 0 0 0 a1 a2 a3 _ _ _ _ _ _ (vq_R_0 h1 h2 h3) (by omega) (by omega)
end
