section
/-! ===== sums over an initial segment ===== -/
def cd_sm (f : Nat → Nat) : Nat → Nat
  | 0 => 0
  | n + 1 => cd_sm f n + f n
theorem cd_sm_congr {f g : Nat → Nat} {n : Nat} (h : ∀ i, i < n → f i = g i) : cd_sm f n = cd_sm g n := by
  induction n with
  | zero => rfl
  | succ n ih =>
    show cd_sm f n + f n = cd_sm g n + g n
    rw [ih (fun i hi => h i (by omega)), h n (by omega)]
theorem cd_sm_le {f g : Nat → Nat} {n : Nat} (h : ∀ i, i < n → f i ≤ g i) : cd_sm f n ≤ cd_sm g n := by
  induction n with
  | zero => exact Nat.le_refl _
  | succ n ih =>
    show cd_sm f n + f n ≤ cd_sm g n + g n
    have h1 := ih (fun i hi => h i (by omega))
    have h2 := h n (by omega)
    omega
theorem cd_sm_add (f g : Nat → Nat) (n : Nat) : cd_sm (fun i => f i + g i) n = cd_sm f n + cd_sm g n := by
  induction n with
  | zero => rfl
  | succ n ih =>
    show cd_sm (fun i => f i + g i) n + (f n + g n) = (cd_sm f n + f n) + (cd_sm g n + g n)
    rw [ih]; omega
theorem cd_sm_mul (k : Nat) (f : Nat → Nat) (n : Nat) : cd_sm (fun i => k * f i) n = k * cd_sm f n := by
  induction n with
  | zero => rfl
  | succ n ih =>
    show cd_sm (fun i => k * f i) n + k * f n = k * (cd_sm f n + f n)
    rw [ih, Nat.mul_add]
theorem cd_sm_mulr (k : Nat) (f : Nat → Nat) (n : Nat) : cd_sm (fun i => f i * k) n = cd_sm f n * k := by
  induction n with
  | zero => exact (Nat.zero_mul k).symm
  | succ n ih =>
    show cd_sm (fun i => f i * k) n + f n * k = (cd_sm f n + f n) * k
    rw [ih, Nat.add_mul]
theorem cd_sm_const (k n : Nat) : cd_sm (fun _ => k) n = n * k := by
  induction n with
  | zero => exact (Nat.zero_mul k).symm
  | succ n ih =>
    show cd_sm (fun _ => k) n + k = (n + 1) * k
    rw [ih, Nat.succ_mul]
theorem cd_sm_swap (f : Nat → Nat → Nat) (n m : Nat) : cd_sm (fun i => cd_sm (fun j => f i j) m) n = cd_sm (fun j => cd_sm (fun i => f i j) n) m := by
  induction n with
  | zero =>
    show 0 = cd_sm (fun _ => 0) m
    rw [cd_sm_const, Nat.mul_zero]
  | succ n ih =>
    show cd_sm (fun i => cd_sm (fun j => f i j) m) n + cd_sm (fun j => f n j) m = cd_sm (fun j => cd_sm (fun i => f i j) n + f n j) m
    rw [cd_sm_add, ih]
theorem cd_sm_mem {f : Nat → Nat} {n i : Nat} (h : i < n) : f i ≤ cd_sm f n := by
  induction n with
  | zero => omega
  | succ n ih =>
    show f i ≤ cd_sm f n + f n
    rcases Nat.lt_or_ge i n with z | z
    · have := ih z; omega
    · have : i = n := by omega
      rw [this]; omega
theorem cd_sm_two {f : Nat → Nat} {n i j : Nat} (hi : i < n) (hj : j < n) (hij : i ≠ j) : f i + f j ≤ cd_sm f n := by
  induction n with
  | zero => omega
  | succ n ih =>
    show f i + f j ≤ cd_sm f n + f n
    by_cases e1 : i = n
    · have h1 : j < n := by omega
      have h2 := cd_sm_mem (f := f) h1
      rw [e1]; omega
    · by_cases e2 : j = n
      · have h1 : i < n := by omega
        have h2 := cd_sm_mem (f := f) h1
        rw [e2]; omega
      · have h2 := ih (by omega) (by omega)
        omega
theorem cd_sm_zero {f : Nat → Nat} {n : Nat} : cd_sm f n = 0 ↔ ∀ i, i < n → f i = 0 := by
  constructor
  · intro h i hi
    have := cd_sm_mem (f := f) hi
    omega
  · intro h
    rw [cd_sm_congr (g := fun _ => 0) h, cd_sm_const, Nat.mul_zero]
theorem cd_sm_ex {f g : Nat → Nat} {n : Nat} (h : cd_sm f n < cd_sm g n) : ∃ i, i < n ∧ f i < g i := by
  induction n with
  | zero => exact absurd h (Nat.lt_irrefl _)
  | succ n ih =>
    have h' : cd_sm f n + f n < cd_sm g n + g n := h
    by_cases z : f n < g n
    · exact ⟨n, by omega, z⟩
    · obtain ⟨i, h1, h2⟩ := ih (by omega)
      exact ⟨i, by omega, h2⟩
theorem cd_sm_pre (f : Nat → Nat) {p n : Nat} (h : p ≤ n) : cd_sm (fun i => if i < p then f i else 0) n = cd_sm f p := by
  induction n with
  | zero =>
    have : p = 0 := by omega
    rw [this]; rfl
  | succ n ih =>
    show cd_sm (fun i => if i < p then f i else 0) n + (if n < p then f n else 0) = cd_sm f p
    rcases Nat.lt_or_ge n p with z | z
    · have e : p = n + 1 := by omega
      rw [if_pos z, e]
      show _ = cd_sm f n + f n
      rw [cd_sm_congr (g := f) (fun i hi => if_pos (by omega))]
    · rw [if_neg (by omega), ih z, Nat.add_zero]
theorem cd_sm_split (f : Nat → Nat) (a b : Nat) : cd_sm f (a + b) = cd_sm f a + cd_sm (fun i => f (a + i)) b := by
  induction b with
  | zero => rfl
  | succ b ih =>
    show cd_sm f (a + b) + f (a + b) = cd_sm f a + (cd_sm (fun i => f (a + i)) b + f (a + b))
    rw [ih]; omega
theorem cd_sm_one (a n : Nat) : cd_sm (fun c => if c = a then 1 else 0) n = if a < n then 1 else 0 := by
  induction n with
  | zero => rfl
  | succ n ih =>
    show cd_sm (fun c => if c = a then 1 else 0) n + (if n = a then 1 else 0) = _
    rw [ih]
    rcases Nat.lt_trichotomy a n with z | z | z
    · rw [if_pos z, if_neg (by omega), if_pos (by omega)]
    · rw [if_neg (by omega), if_pos z.symm, if_pos (by omega)]
    · rw [if_neg (by omega), if_neg (by omega), if_neg (by omega)]
theorem cd_sm_01 {f : Nat → Nat} {n : Nat} (h : ∀ i, i < n → f i ≤ 1) : cd_sm f n ≤ n := by
  have h1 := cd_sm_le (f := f) (g := fun _ => 1) h
  rw [cd_sm_const, Nat.mul_one] at h1
  exact h1
/-! ===== a reindexing of an initial segment ===== -/
def cd_rx (o : Nat → Nat) (n : Nat) : Prop := ∀ f : Nat → Nat, cd_sm (fun i => f (o i)) n = cd_sm f n
theorem cd_rx_lt {o : Nat → Nat} {n : Nat} (h : cd_rx o n) {i : Nat} (hi : i < n) : o i < n := by
  have h1 := h (fun c => if c < n then 0 else 1)
  have h2 : cd_sm (fun c => if c < n then 0 else 1) n = 0 := cd_sm_zero.mpr (fun c hc => if_pos hc)
  rw [h2] at h1
  have h3 := cd_sm_zero.mp h1 i hi
  by_cases z : o i < n
  · exact z
  · exact absurd ((if_neg z).symm.trans h3) (by omega)
theorem cd_rx_inj {o : Nat → Nat} {n : Nat} (h : cd_rx o n) {i j : Nat} (hi : i < n) (hj : j < n) (e : o i = o j) : i = j := by
  by_cases z : i = j
  · exact z
  · have h1 := h (fun c => if c = o i then 1 else 0)
    rw [cd_sm_one] at h1
    have h2 := cd_sm_two (f := fun k => if o k = o i then 1 else 0) hi hj z
    have h3 : (if o i = o i then 1 else 0) = 1 := if_pos rfl
    have h4 : (if o j = o i then 1 else 0) = 1 := if_pos e.symm
    have h5 : (if o i < n then 1 else 0) ≤ 1 := by split <;> omega
    have h6 : (if o i = o i then 1 else 0) + (if o j = o i then 1 else 0) ≤ cd_sm (fun k => if o k = o i then 1 else 0) n := h2
    rw [h3, h4] at h6
    have h7 : cd_sm (fun k => if o k = o i then 1 else 0) n = if o i < n then 1 else 0 := h1
    omega
theorem cd_rx_sur {o : Nat → Nat} {n : Nat} (h : cd_rx o n) {c : Nat} (hc : c < n) : ∃ i, i < n ∧ o i = c := by
  have h1 := h (fun x => if x = c then 1 else 0)
  rw [cd_sm_one, if_pos hc] at h1
  have h2 : cd_sm (fun _ => 0) n < cd_sm (fun i => if o i = c then 1 else 0) n := by
    rw [cd_sm_const, Nat.mul_zero]
    have h3 : cd_sm (fun i => if o i = c then 1 else 0) n = 1 := h1
    omega
  obtain ⟨i, hi, h4⟩ := cd_sm_ex h2
  refine ⟨i, hi, ?_⟩
  by_cases z : o i = c
  · exact z
  · have h5 : (0 : Nat) < if o i = c then 1 else 0 := h4
    rw [if_neg z] at h5
    omega
theorem cd_rx_0 (o : Nat → Nat) : cd_rx o 0 := fun _ => rfl
theorem cd_rx_congr {o o' : Nat → Nat} {n : Nat} (h : cd_rx o n) (e : ∀ i, i < n → o' i = o i) : cd_rx o' n := by
  intro f
  rw [← h f]
  exact cd_sm_congr (fun i hi => by rw [e i hi])
/-! ===== insertion ===== -/
def cd_ins (o : Nat → Nat) (k x : Nat) (j : Nat) : Nat := if j < k then o j else if j = k then x else o (j - 1)
theorem cd_ins_lt {o : Nat → Nat} {k x j : Nat} (h : j < k) : cd_ins o k x j = o j := if_pos h
theorem cd_ins_eq {o : Nat → Nat} {k x : Nat} : cd_ins o k x k = x := by
  unfold cd_ins
  rw [if_neg (Nat.lt_irrefl k), if_pos rfl]
theorem cd_ins_gt {o : Nat → Nat} {k x j : Nat} (h : k < j) : cd_ins o k x j = o (j - 1) := by
  unfold cd_ins
  rw [if_neg (by omega), if_neg (by omega)]
theorem cd_ins_sum (f : Nat → Nat) (o : Nat → Nat) (k x : Nat) : ∀ n, k ≤ n → cd_sm (fun j => f (cd_ins o k x j)) (n + 1) = cd_sm (fun j => f (o j)) n + f x := by
  intro n
  induction n with
  | zero =>
    intro h
    have e : k = 0 := by omega
    subst e
    show 0 + f (cd_ins o 0 x 0) = 0 + f x
    rw [cd_ins_eq]
  | succ n ih =>
    intro h
    show cd_sm (fun j => f (cd_ins o k x j)) (n + 1) + f (cd_ins o k x (n + 1)) = cd_sm (fun j => f (o j)) n + f (o n) + f x
    by_cases e : k = n + 1
    · subst e
      rw [cd_ins_eq, cd_sm_congr (g := fun j => f (o j)) (fun i hi => by rw [cd_ins_lt hi])]
      rfl
    · rw [ih (by omega), cd_ins_gt (by omega)]
      show _ + f (o n) = _
      omega
theorem cd_ins_rx {o : Nat → Nat} {k n : Nat} (h : cd_rx o n) (hk : k ≤ n) : cd_rx (cd_ins o k n) (n + 1) := by
  intro f
  rw [cd_ins_sum f o k n n hk, h f]
  rfl
/-- sorted: the greater first -/
def cd_so (D : Nat → Nat) (o : Nat → Nat) (n : Nat) : Prop := ∀ j k, j < k → k < n → D (o k) ≤ D (o j)
theorem cd_ins_so {D o : Nat → Nat} {k x n : Nat} (h : cd_so D o n) (hk : k ≤ n) (h1 : ∀ j, j < k → D x ≤ D (o j)) (h2 : ∀ j, k ≤ j → j < n → D (o j) ≤ D x) : cd_so D (cd_ins o k x) (n + 1) := by
  intro a b hab hb
  rcases Nat.lt_trichotomy b k with z | z | z
  · rw [cd_ins_lt z, cd_ins_lt (by omega)]
    exact h a b hab (by omega)
  · rw [z, cd_ins_eq, cd_ins_lt (by omega)]
    exact h1 a (by omega)
  · rw [cd_ins_gt z]
    rcases Nat.lt_trichotomy a k with y | y | y
    · rw [cd_ins_lt y]
      exact h a (b - 1) (by omega) (by omega)
    · rw [y, cd_ins_eq]
      exact h2 (b - 1) (by omega) (by omega)
    · rw [cd_ins_gt y]
      exact h (a - 1) (b - 1) (by omega) (by omega)
end
section
/-! ===== Int32 by its bits (the family of BITS.to-paste, renamed) ===== -/
def cb_bt (x : Int32) (i : Nat) : Bool := x.toBitVec.getLsbD i
theorem cb_ext {x y : Int32} (h : ∀ i, i < 32 → cb_bt x i = cb_bt y i) : x = y := Int32.toBitVec_inj.mp (BitVec.eq_of_getLsbD_eq (fun i hi => h i hi))
theorem cb_or (x y : Int32) (i : Nat) : cb_bt (x ||| y) i = (cb_bt x i || cb_bt y i) := by unfold cb_bt; rw [Int32.toBitVec_or, BitVec.getLsbD_or]
theorem cb_and (x y : Int32) (i : Nat) : cb_bt (x &&& y) i = (cb_bt x i && cb_bt y i) := by unfold cb_bt; rw [Int32.toBitVec_and, BitVec.getLsbD_and]
theorem cb_xor (x y : Int32) (i : Nat) : cb_bt (x ^^^ y) i = (cb_bt x i ^^ cb_bt y i) := by unfold cb_bt; rw [Int32.toBitVec_xor, BitVec.getLsbD_xor]
theorem cb_m1 : ∀ i, i < 32 → cb_bt (-1) i = true := by decide +kernel
theorem cb_0 (i : Nat) : cb_bt 0 i = false := BitVec.getLsbD_zero
theorem cb_1 : ∀ i, i < 32 → cb_bt 1 i = decide (i = 0) := by decide +kernel
theorem cb_sl : ∀ n, n < 32 → ((nI n &&& 31).toBitVec.smod 32).toNat = n := by decide +kernel
theorem cb_shl (n : Nat) (hn : n < 32) (x : Int32) {i : Nat} (hi : i < 32) : cb_bt (x <<< (nI n &&& 31)) i = (decide (n ≤ i) && cb_bt x (i - n)) := by
  unfold cb_bt
  rw [Int32.toBitVec_shiftLeft]
  show (x.toBitVec <<< ((nI n &&& 31).toBitVec.smod 32).toNat).getLsbD i = _
  rw [cb_sl n hn, BitVec.getLsbD_shiftLeft]
  rcases Nat.lt_or_ge i n with h | h
  · simp [h, Nat.not_le.mpr h]
  · simp [hi, h, Nat.not_lt.mpr h]
theorem cb_sshr (n : Nat) (hn : n < 32) (x : Int32) {i : Nat} (hi : i < 32) : cb_bt (x >>> (nI n &&& 31)) i = if n + i < 32 then cb_bt x (n + i) else cb_bt x 31 := by
  unfold cb_bt
  rw [Int32.toBitVec_shiftRight]
  show (x.toBitVec.sshiftRight ((nI n &&& 31).toBitVec.smod 32).toNat).getLsbD i = _
  rw [cb_sl n hn, BitVec.getLsbD_sshiftRight, BitVec.msb_eq_getLsbD_last]
  simp [hi]
/-- one bit, read as the code reads it -/
theorem cb_bit (x : Int32) {n : Nat} (hn : n < 32) : (x >>> (nI n &&& 31)) &&& 1 = nI (cb_bt x n).toNat := by
  apply cb_ext
  intro i hi
  rw [cb_and, cb_sshr n hn x hi, cb_1 i hi]
  by_cases z : i = 0
  · subst z
    rw [if_pos (by omega)]
    show (cb_bt x n && true) = _
    cases cb_bt x n <;> decide
  · rw [decide_eq_false z, Bool.and_false]
    cases cb_bt x n
    · exact (cb_0 i).symm
    · have := cb_1 i hi
      rw [decide_eq_false z] at this
      exact this.symm
theorem cb_one {n i : Nat} (hn : n < 32) (hi : i < 32) : cb_bt ((1 : Int32) <<< (nI n &&& 31)) i = decide (i = n) := by
  rw [cb_shl n hn 1 hi, cb_1 (i - n) (by omega)]
  by_cases z : i = n
  · subst z
    simp
  · by_cases y : n ≤ i
    · rw [decide_eq_false z, decide_eq_false (show ¬ i - n = 0 by omega), Bool.and_false]
    · rw [decide_eq_false z, decide_eq_false y, Bool.false_and]
theorem cb_msk : ∀ n, n < 9 → ∀ i, i < 32 → cb_bt (((1 : Int32) <<< (nI n &&& 31)) - 1) i = decide (i < n) := by decide +kernel
theorem cb_not (x : Int32) {i : Nat} (hi : i < 32) : cb_bt (x ^^^ (-1)) i = !cb_bt x i := by
  rw [cb_xor, cb_m1 i hi, Bool.xor_true]
theorem cb_z {x : Int32} : x = 0 ↔ ∀ i, i < 32 → cb_bt x i = false := by
  constructor
  · intro h i _
    rw [h]; exact cb_0 i
  · intro h
    exact cb_ext (fun i hi => by rw [h i hi, cb_0])
/-- everyThread -/
def cb_all (W H : Nat) : Int32 := (((1 : Int32) <<< (nI W &&& 31)) - 1) ||| ((((1 : Int32) <<< (nI H &&& 31)) - 1) <<< ((8 : Int32) &&& 31))
/-- a thread there is -/
def cd_v (W H : Nat) (t : Nat) : Bool := decide (t < W) || (decide (8 ≤ t) && decide (t < 8 + H))
theorem cb_all_bt {W H i : Nat} (hW : W ≤ 8) (hH : H ≤ 8) (hi : i < 32) : cb_bt (cb_all W H) i = cd_v W H i := by
  unfold cb_all cd_v
  rw [cb_or, cb_msk W (by omega) i hi]
  have e : cb_bt ((((1 : Int32) <<< (nI H &&& 31)) - 1) <<< ((8 : Int32) &&& 31)) i = (decide (8 ≤ i) && cb_bt (((1 : Int32) <<< (nI H &&& 31)) - 1) (i - 8)) := cb_shl 8 (by omega) _ hi
  rw [e, cb_msk H (by omega) (i - 8) (by omega)]
  by_cases z : 8 ≤ i
  · rw [show decide (i - 8 < H) = decide (i < 8 + H) from decide_eq_decide.mpr (by omega)]
  · rw [decide_eq_false z, Bool.false_and, Bool.false_and]
/-- the crossed threads of a warp, as the code makes them -/
theorem cb_hi_bt {W H i : Nat} (hW : W ≤ 8) (hH : H ≤ 8) (hi : i < 32) : cb_bt ((cb_all W H >>> ((8 : Int32) &&& 31)) <<< ((8 : Int32) &&& 31)) i = (decide (8 ≤ i) && decide (i < 8 + H)) := by
  have e : cb_bt ((cb_all W H >>> ((8 : Int32) &&& 31)) <<< ((8 : Int32) &&& 31)) i = (decide (8 ≤ i) && cb_bt (cb_all W H >>> ((8 : Int32) &&& 31)) (i - 8)) := cb_shl 8 (by omega) _ hi
  rw [e]
  by_cases z : 8 ≤ i
  · have e2 : cb_bt (cb_all W H >>> ((8 : Int32) &&& 31)) (i - 8) = if 8 + (i - 8) < 32 then cb_bt (cb_all W H) (8 + (i - 8)) else cb_bt (cb_all W H) 31 := cb_sshr 8 (by omega) _ (by omega)
    rw [e2, if_pos (by omega), show 8 + (i - 8) = i by omega, cb_all_bt hW hH hi]
    unfold cd_v
    rw [decide_eq_false (show ¬ i < W by omega), Bool.false_or, decide_eq_true z, Bool.true_and, Bool.true_and]
  · rw [decide_eq_false z, Bool.false_and, Bool.false_and]
theorem cb_nb : ∀ n, n < 128 → (nI n).toInt8.toInt32 = nI n := by decide +kernel
theorem cb_vb {n : Nat} (h : n < 128) : vp_nar .byte (nI n) = nI n := by
  rw [vp_nar_byte]; exact cb_nb n h
/-- the count of the low 16 bits -/
def cb_pc (x : Int32) : Nat := cd_sm (fun i => (cb_bt x i).toNat) 16
theorem cb_tn (b : Bool) : b.toNat ≤ 1 := by cases b <;> decide
theorem cb_pc_le (x : Int32) : cb_pc x ≤ 16 := cd_sm_01 (fun i _ => cb_tn _)
theorem cb_pc4 : ∀ n, n < 16 → cb_pc (nI n) + cb_pc (nI (15 - n)) = 4 := by decide +kernel
end
section
/-! ===== sets of threads that can be lifted off ===== -/
def cd_cl (W H : Nat) (up : Nat → Nat → Bool) (S : Nat → Bool) : Prop :=
  ∀ c r, c < W → r < H → (S c = true → S (8 + r) = false → up c r = true) ∧ (S (8 + r) = true → S c = false → up c r = false)
def cd_cw (W : Nat) (S : Nat → Bool) : Nat := cd_sm (fun c => (S c).toNat) W
def cd_cf (H : Nat) (S : Nat → Bool) : Nat := cd_sm (fun r => (S (8 + r)).toNat) H
def cd_Z (W H : Nat) (up : Nat → Nat → Bool) (p q : Nat) : Prop := ∃ S, cd_cl W H up S ∧ cd_cw W S = p ∧ cd_cf H S = q
theorem cd_cw_le (W : Nat) (S : Nat → Bool) : cd_cw W S ≤ W := cd_sm_01 (fun _ _ => cb_tn _)
theorem cd_cf_le (H : Nat) (S : Nat → Bool) : cd_cf H S ≤ H := cd_sm_01 (fun _ _ => cb_tn _)
theorem cd_Z_le {W H p q : Nat} {up : Nat → Nat → Bool} (h : cd_Z W H up p q) : p ≤ W ∧ q ≤ H := by
  obtain ⟨S, _, h1, h2⟩ := h
  rw [← h1, ← h2]
  exact ⟨cd_cw_le W S, cd_cf_le H S⟩
theorem cd_bl {a b : Bool} (h : a.toNat < b.toNat) : a = false ∧ b = true := by
  revert h; cases a <;> cases b <;> decide
/-- counts of closed sets are a chain -/
theorem cd_chain {W H p1 q1 p2 q2 : Nat} {up : Nat → Nat → Bool} (h1 : cd_Z W H up p1 q1) (h2 : cd_Z W H up p2 q2) (hp : p1 < p2) (hq : q2 < q1) : False := by
  obtain ⟨S, c1, rfl, rfl⟩ := h1
  obtain ⟨T, c2, rfl, rfl⟩ := h2
  obtain ⟨c, hc, e1⟩ := cd_sm_ex hp
  obtain ⟨r, hr, e2⟩ := cd_sm_ex hq
  have e1 := cd_bl e1
  have e2 := cd_bl e2
  have t1 := (c1 c r hc hr).2 e2.2 e1.1
  have t2 := (c2 c r hc hr).1 e1.2 e2.1
  rw [t1] at t2
  exact absurd t2 (by decide)
theorem cd_Z0 (W H : Nat) (up : Nat → Nat → Bool) : cd_Z W H up 0 0 := by
  refine ⟨fun _ => false, fun c r _ _ => ⟨fun z => Bool.noConfusion z, fun z => Bool.noConfusion z⟩, ?_, ?_⟩
  · exact cd_sm_zero.mpr (fun _ _ => rfl)
  · exact cd_sm_zero.mpr (fun _ _ => rfl)
theorem cd_ZW (W H : Nat) (up : Nat → Nat → Bool) : cd_Z W H up W H := by
  refine ⟨fun _ => true, fun c r _ _ => ⟨fun _ z => Bool.noConfusion z, fun _ z => Bool.noConfusion z⟩, ?_, ?_⟩
  · show cd_sm (fun _ => 1) W = W
    rw [cd_sm_const, Nat.mul_one]
  · show cd_sm (fun _ => 1) H = H
    rw [cd_sm_const, Nat.mul_one]
/-! the inverted cloth -/
def cd_fl (up : Nat → Nat → Bool) : Nat → Nat → Bool := fun c r => !up c r
theorem cd_fl_fl (up : Nat → Nat → Bool) : cd_fl (cd_fl up) = up := by
  funext c r
  show (!(!up c r)) = up c r
  exact Bool.not_not _
theorem cd_cl_fl {W H : Nat} {up : Nat → Nat → Bool} {S : Nat → Bool} (h : cd_cl W H up S) : cd_cl W H (cd_fl up) (fun t => !S t) := by
  intro c r hc hr
  have h' := h c r hc hr
  show ((!S c) = true → (!S (8 + r)) = false → (!up c r) = true) ∧ ((!S (8 + r)) = true → (!S c) = false → (!up c r) = false)
  revert h'
  cases S c <;> cases S (8 + r) <;> cases up c r <;> decide
theorem cd_sm_not (f : Nat → Bool) (n : Nat) : cd_sm (fun i => (!f i).toNat) n + cd_sm (fun i => (f i).toNat) n = n := by
  rw [← cd_sm_add, cd_sm_congr (g := fun _ => 1) (fun i _ => by cases f i <;> rfl), cd_sm_const, Nat.mul_one]
theorem cd_Z_fl {W H p q : Nat} {up : Nat → Nat → Bool} (h : cd_Z W H up p q) : cd_Z W H (cd_fl up) (W - p) (H - q) := by
  obtain ⟨S, h0, h1, h2⟩ := h
  refine ⟨fun t => !S t, cd_cl_fl h0, ?_, ?_⟩
  · have e := cd_sm_not S W
    have h1' : cd_sm (fun i => (S i).toNat) W = p := h1
    show cd_sm (fun i => (!S i).toNat) W = W - p
    omega
  · have e := cd_sm_not (fun r => S (8 + r)) H
    have h2' : cd_sm (fun i => (S (8 + i)).toNat) H = q := h2
    show cd_sm (fun i => (!S (8 + i)).toNat) H = H - q
    have e' : cd_sm (fun i => (!S (8 + i)).toNat) H + cd_sm (fun i => (S (8 + i)).toNat) H = H := e
    omega
theorem cd_cl_or {W H : Nat} {up : Nat → Nat → Bool} {S T : Nat → Bool} (h : cd_cl W H up S) (g : cd_cl W H up T) : cd_cl W H up (fun t => S t || T t) := by
  intro c r hc hr
  have h' := h c r hc hr
  have g' := g c r hc hr
  show ((S c || T c) = true → (S (8 + r) || T (8 + r)) = false → up c r = true) ∧ ((S (8 + r) || T (8 + r)) = true → (S c || T c) = false → up c r = false)
  revert h' g'
  cases S c <;> cases S (8 + r) <;> cases T c <;> cases T (8 + r) <;> cases up c r <;> decide
theorem cd_cl_and {W H : Nat} {up : Nat → Nat → Bool} {S T : Nat → Bool} (h : cd_cl W H up S) (g : cd_cl W H up T) : cd_cl W H up (fun t => S t && T t) := by
  intro c r hc hr
  have h' := h c r hc hr
  have g' := g c r hc hr
  show ((S c && T c) = true → (S (8 + r) && T (8 + r)) = false → up c r = true) ∧ ((S (8 + r) && T (8 + r)) = true → (S c && T c) = false → up c r = false)
  revert h' g'
  cases S c <;> cases S (8 + r) <;> cases T c <;> cases T (8 + r) <;> cases up c r <;> decide
/-- threads that no closed set parts -/
def cd_tg (W H : Nat) (up : Nat → Nat → Bool) (a b : Nat) : Prop := ∀ S, cd_cl W H up S → S a = S b
theorem cd_tg_fl1 {W H a b : Nat} {up : Nat → Nat → Bool} (h : cd_tg W H up a b) : cd_tg W H (cd_fl up) a b := by
  intro S hS
  have h1 := cd_cl_fl hS
  rw [cd_fl_fl] at h1
  have h2 : (!S a) = (!S b) := h _ h1
  revert h2
  cases S a <;> cases S b <;> decide
theorem cd_tg_fl {W H a b : Nat} {up : Nat → Nat → Bool} : cd_tg W H (cd_fl up) a b ↔ cd_tg W H up a b := by
  constructor
  · intro h
    have h1 := cd_tg_fl1 h
    rw [cd_fl_fl] at h1
    exact h1
  · exact cd_tg_fl1
/-! ===== double counting ===== -/
def cd_vi (M : Nat → Nat → Bool) (S : Nat → Bool) (i j : Nat) : Nat := if ((S i && !S (8 + j) && !M i j) || (S (8 + j) && !S i && M i j)) = true then 1 else 0
def cd_VI (W H : Nat) (M : Nat → Nat → Bool) (S : Nat → Bool) : Nat := cd_sm (fun i => cd_sm (fun j => cd_vi M S i j) H) W
def cd_dW (H : Nat) (M : Nat → Nat → Bool) (i : Nat) : Nat := cd_sm (fun j => (M i j).toNat) H
def cd_dF (W : Nat) (M : Nat → Nat → Bool) (j : Nat) : Nat := cd_sm (fun i => (!M i j).toNat) W
theorem cd_VI0 {W H : Nat} {M : Nat → Nat → Bool} {S : Nat → Bool} : cd_VI W H M S = 0 ↔ cd_cl W H M S := by
  unfold cd_VI
  rw [cd_sm_zero]
  constructor
  · intro h c r hc hr
    have h1 : cd_vi M S c r = 0 := cd_sm_zero.mp (h c hc) r hr
    unfold cd_vi at h1
    revert h1
    cases S c <;> cases S (8 + r) <;> cases M c r <;> decide
  · intro h c hc
    refine cd_sm_zero.mpr (fun r hr => ?_)
    have h1 := h c r hc hr
    show cd_vi M S c r = 0
    unfold cd_vi
    revert h1
    cases S c <;> cases S (8 + r) <;> cases M c r <;> decide
theorem cd_cell (s t m : Bool) : s.toNat * m.toNat + t.toNat * (!m).toNat + (if ((s && !t && !m) || (t && !s && m)) = true then 1 else 0) + s.toNat * t.toNat = s.toNat + t.toNat := by
  cases s <;> cases t <;> cases m <;> decide
theorem cd_dc (W H : Nat) (M : Nat → Nat → Bool) (S : Nat → Bool) :
    cd_sm (fun i => (S i).toNat * cd_dW H M i) W + cd_sm (fun j => (S (8 + j)).toNat * cd_dF W M j) H + cd_VI W H M S + cd_cw W S * cd_cf H S = cd_cw W S * H + cd_cf H S * W := by
  have e1 : cd_sm (fun i => (S i).toNat * cd_dW H M i) W = cd_sm (fun i => cd_sm (fun j => (S i).toNat * (M i j).toNat) H) W :=
    cd_sm_congr (fun i _ => (cd_sm_mul _ _ _).symm)
  have e2 : cd_sm (fun j => (S (8 + j)).toNat * cd_dF W M j) H = cd_sm (fun i => cd_sm (fun j => (S (8 + j)).toNat * (!M i j).toNat) H) W := by
    rw [cd_sm_swap]
    exact cd_sm_congr (fun i _ => (cd_sm_mul _ _ _).symm)
  have e3 : cd_cw W S * cd_cf H S = cd_sm (fun i => cd_sm (fun j => (S i).toNat * (S (8 + j)).toNat) H) W := by
    unfold cd_cw
    rw [← cd_sm_mulr]
    exact cd_sm_congr (fun i _ => (cd_sm_mul _ _ _).symm)
  have e4 : cd_cw W S * H = cd_sm (fun i => cd_sm (fun _ => (S i).toNat) H) W := by
    unfold cd_cw
    rw [← cd_sm_mulr]
    exact cd_sm_congr (fun i _ => by rw [cd_sm_const, Nat.mul_comm])
  have e5 : cd_cf H S * W = cd_sm (fun _ => cd_sm (fun j => (S (8 + j)).toNat) H) W := by
    rw [cd_sm_const, Nat.mul_comm]
    rfl
  rw [e1, e2, e3, e4, e5]
  unfold cd_VI
  rw [← cd_sm_add, ← cd_sm_add, ← cd_sm_add, ← cd_sm_add]
  refine cd_sm_congr (fun i _ => ?_)
  rw [← cd_sm_add, ← cd_sm_add, ← cd_sm_add, ← cd_sm_add]
  exact cd_sm_congr (fun j _ => cd_cell (S i) (S (8 + j)) (M i j))
/-- the first p of a sorted row are the greatest -/
theorem cd_max {d : Nat → Nat} {m : Nat → Bool} {n p : Nat} (hd : ∀ j k, j < k → k < n → d k ≤ d j) (hp : cd_sm (fun i => (m i).toNat) n = p) : cd_sm (fun i => (m i).toNat * d i) n ≤ cd_sm d p := by
  have hpn : p ≤ n := by rw [← hp]; exact cd_sm_01 (fun _ _ => cb_tn _)
  by_cases z : p = 0
  · have h0 : ∀ i, i < n → (m i).toNat = 0 := cd_sm_zero.mp (hp.trans z)
    rw [cd_sm_zero.mpr (fun i hi => by rw [h0 i hi, Nat.zero_mul])]
    exact Nat.zero_le _
  · have key : ∀ i, i < n → (m i).toNat * d i + (if i < p then d (p - 1) else 0) ≤ (if i < p then d i else 0) + (m i).toNat * d (p - 1) := by
      intro i hi
      rcases Nat.lt_or_ge i p with y | y
      · rw [if_pos y, if_pos y]
        have hh : d (p - 1) ≤ d i := by
          by_cases e : i = p - 1
          · rw [e]; exact Nat.le_refl _
          · exact hd i (p - 1) (by omega) (by omega)
        cases m i
        · show 0 * d i + d (p - 1) ≤ d i + 0 * d (p - 1)
          omega
        · show 1 * d i + d (p - 1) ≤ d i + 1 * d (p - 1)
          omega
      · rw [if_neg (by omega), if_neg (by omega)]
        have hh : d i ≤ d (p - 1) := hd (p - 1) i (by omega) hi
        cases m i
        · show 0 * d i + 0 ≤ 0 + 0 * d (p - 1)
          omega
        · show 1 * d i + 0 ≤ 0 + 1 * d (p - 1)
          omega
    have h1 := cd_sm_le key
    rw [cd_sm_add, cd_sm_add, cd_sm_pre (fun _ => d (p - 1)) hpn, cd_sm_pre d hpn, cd_sm_mulr, hp, cd_sm_const] at h1
    omega
/-! ===== the first p warps and the first q wefts ===== -/
def cd_pr (z : Nat × Nat) (t : Nat) : Bool := if t < 8 then decide (t < z.1) else decide (t < 8 + z.2)
theorem cd_pr_w {z : Nat × Nat} {t : Nat} (h : t < 8) : cd_pr z t = decide (t < z.1) := if_pos h
theorem cd_pr_f {z : Nat × Nat} {t : Nat} : cd_pr z (8 + t) = decide (t < z.2) := by
  unfold cd_pr
  rw [if_neg (by omega)]
  exact decide_eq_decide.mpr (by omega)
theorem cd_dn (p i : Nat) : (decide (i < p)).toNat = if i < p then 1 else 0 := by
  by_cases z : i < p
  · rw [decide_eq_true z, if_pos z]; rfl
  · rw [decide_eq_false z, if_neg z]; rfl
theorem cd_pr_cw {W p q : Nat} (hW : W ≤ 8) (hp : p ≤ W) : cd_cw W (cd_pr (p, q)) = p := by
  unfold cd_cw
  rw [cd_sm_congr (g := fun i => if i < p then (fun _ => 1) i else 0) (fun i hi => by rw [cd_pr_w (by omega)]; exact cd_dn p i), cd_sm_pre (fun _ => 1) hp, cd_sm_const, Nat.mul_one]
theorem cd_pr_cf {H p q : Nat} (hq : q ≤ H) : cd_cf H (cd_pr (p, q)) = q := by
  unfold cd_cf
  rw [cd_sm_congr (g := fun i => if i < q then (fun _ => 1) i else 0) (fun i hi => by rw [cd_pr_f]; exact cd_dn q i), cd_sm_pre (fun _ => 1) hq, cd_sm_const, Nat.mul_one]
theorem cd_pr_sw {W p q : Nat} (d : Nat → Nat) (hW : W ≤ 8) (hp : p ≤ W) : cd_sm (fun i => (cd_pr (p, q) i).toNat * d i) W = cd_sm d p := by
  rw [cd_sm_congr (g := fun i => if i < p then d i else 0) (fun i hi => ?_), cd_sm_pre d hp]
  rw [cd_pr_w (by omega), cd_dn]
  show (if i < p then 1 else 0) * d i = _
  by_cases z : i < p
  · rw [if_pos z, if_pos z, Nat.one_mul]
  · rw [if_neg z, if_neg z, Nat.zero_mul]
theorem cd_pr_sf {H p q : Nat} (d : Nat → Nat) (hq : q ≤ H) : cd_sm (fun i => (cd_pr (p, q) (8 + i)).toNat * d i) H = cd_sm d q := by
  rw [cd_sm_congr (g := fun i => if i < q then d i else 0) (fun i hi => ?_), cd_sm_pre d hq]
  rw [cd_pr_f, cd_dn]
  show (if i < q then 1 else 0) * d i = _
  by_cases z : i < q
  · rw [if_pos z, if_pos z, Nat.one_mul]
  · rw [if_neg z, if_neg z, Nat.zero_mul]
/-- what lacking counts -/
theorem cd_lack {W H p q : Nat} (M : Nat → Nat → Bool) (hW : W ≤ 8) (hp : p ≤ W) (hq : q ≤ H) :
    cd_sm (cd_dW H M) p + cd_sm (cd_dF W M) q + cd_VI W H M (cd_pr (p, q)) + p * q = p * H + q * W := by
  have h := cd_dc W H M (cd_pr (p, q))
  rw [cd_pr_cw hW hp, cd_pr_cf hq, cd_pr_sw _ hW hp, cd_pr_sf _ hq] at h
  exact h
/-- over a sorted cloth: where a closed set of p and q is, the first p and q are closed -/
theorem cd_first {W H : Nat} {M : Nat → Nat → Bool} {S : Nat → Bool} (hW : W ≤ 8) (hd : ∀ j k, j < k → k < W → cd_dW H M k ≤ cd_dW H M j) (he : ∀ j k, j < k → k < H → cd_dF W M k ≤ cd_dF W M j) (h : cd_cl W H M S) : cd_cl W H M (cd_pr (cd_cw W S, cd_cf H S)) := by
  rw [← cd_VI0]
  have h1 := cd_dc W H M S
  rw [cd_VI0.mpr h] at h1
  have h2 := cd_lack M hW (cd_cw_le W S) (cd_cf_le H S)
  have h3 := cd_max (m := S) hd rfl
  have h4 := cd_max (m := fun r => S (8 + r)) he rfl
  have h3' : cd_sm (fun i => (S i).toNat * cd_dW H M i) W ≤ cd_sm (cd_dW H M) (cd_cw W S) := h3
  have h4' : cd_sm (fun i => (S (8 + i)).toNat * cd_dF W M i) H ≤ cd_sm (cd_dF W M) (cd_cf H S) := h4
  omega
end
section
/-! ===== the chain of counts of closed sets, in the order in which the code meets them ===== -/
noncomputable def cd_zb (W H : Nat) (up : Nat → Nat → Bool) (p q : Nat) : Bool := @decide (cd_Z W H up p q) (Classical.propDecidable _)
theorem cd_zb_iff {W H p q : Nat} {up : Nat → Nat → Bool} : cd_zb W H up p q = true ↔ cd_Z W H up p q := by
  unfold cd_zb
  exact @decide_eq_true_iff _ (Classical.propDecidable _)
def cd_pt (W k : Nat) : Nat × Nat := (k % (W + 1), k / (W + 1) - k % (W + 1))
def cd_sz (z : Nat × Nat) : Nat := z.1 + z.2
noncomputable def cd_zk (W H : Nat) (up : Nat → Nat → Bool) (k : Nat) : Bool := decide (k % (W + 1) ≤ k / (W + 1)) && cd_zb W H up (cd_pt W k).1 (cd_pt W k).2
noncomputable def cd_Ch (W H : Nat) (up : Nat → Nat → Bool) : Nat → List (Nat × Nat)
  | 0 => []
  | k + 1 => if cd_zk W H up k = true then cd_Ch W H up k ++ [cd_pt W k] else cd_Ch W H up k
def cd_K (W H : Nat) : Nat := (W + H + 1) * (W + 1)
theorem cd_zk_iff {W H k : Nat} {up : Nat → Nat → Bool} : cd_zk W H up k = true ↔ k % (W + 1) ≤ k / (W + 1) ∧ cd_Z W H up (cd_pt W k).1 (cd_pt W k).2 := by
  unfold cd_zk
  rw [Bool.and_eq_true, decide_eq_true_iff, cd_zb_iff]
theorem cd_Ch_t {W H k : Nat} {up : Nat → Nat → Bool} (h : cd_zk W H up k = true) : cd_Ch W H up (k + 1) = cd_Ch W H up k ++ [cd_pt W k] := if_pos h
theorem cd_Ch_f {W H k : Nat} {up : Nat → Nat → Bool} (h : ¬ cd_zk W H up k = true) : cd_Ch W H up (k + 1) = cd_Ch W H up k := if_neg h
theorem cd_sz_pt {W k : Nat} (h : k % (W + 1) ≤ k / (W + 1)) : cd_sz (cd_pt W k) = k / (W + 1) := by
  show k % (W + 1) + (k / (W + 1) - k % (W + 1)) = _
  omega
theorem cd_mem {W H n : Nat} {up : Nat → Nat → Bool} {z : Nat × Nat} : z ∈ cd_Ch W H up n ↔ ∃ k, k < n ∧ cd_zk W H up k = true ∧ z = cd_pt W k := by
  induction n with
  | zero =>
    constructor
    · intro h
      exact absurd h List.not_mem_nil
    · rintro ⟨k, hk, _⟩
      omega
  | succ n ih =>
    by_cases h : cd_zk W H up n = true
    · rw [cd_Ch_t h, List.mem_append, ih, List.mem_singleton]
      constructor
      · rintro (⟨k, h1, h2⟩ | h1)
        · exact ⟨k, by omega, h2⟩
        · exact ⟨n, by omega, h, h1⟩
      · rintro ⟨k, h1, h2, h3⟩
        by_cases e : k = n
        · right; rw [h3, e]
        · left; exact ⟨k, by omega, h2, h3⟩
    · rw [cd_Ch_f h, ih]
      constructor
      · rintro ⟨k, h1, h2⟩
        exact ⟨k, by omega, h2⟩
      · rintro ⟨k, h1, h2, h3⟩
        by_cases e : k = n
        · rw [e] at h2
          exact absurd h2 h
        · exact ⟨k, by omega, h2, h3⟩
theorem cd_lt {W H m n : Nat} {up : Nat → Nat → Bool} (hmn : m < n) (hm : cd_zk W H up m = true) (hn : cd_zk W H up n = true) : cd_sz (cd_pt W m) < cd_sz (cd_pt W n) := by
  obtain ⟨m1, m2⟩ := cd_zk_iff.mp hm
  obtain ⟨n1, n2⟩ := cd_zk_iff.mp hn
  rw [cd_sz_pt m1, cd_sz_pt n1]
  have h1 : m / (W + 1) ≤ n / (W + 1) := Nat.div_le_div_right (by omega)
  rcases Nat.lt_or_ge (m / (W + 1)) (n / (W + 1)) with z | z
  · exact z
  · exfalso
    have e : m / (W + 1) = n / (W + 1) := by omega
    have em := Nat.div_add_mod m (W + 1)
    have en := Nat.div_add_mod n (W + 1)
    rw [e] at em m1
    have m2' : cd_Z W H up (m % (W + 1)) (m / (W + 1) - m % (W + 1)) := m2
    have n2' : cd_Z W H up (n % (W + 1)) (n / (W + 1) - n % (W + 1)) := n2
    rw [e] at m2'
    generalize (W + 1) * (n / (W + 1)) = x at em en
    rcases Nat.lt_trichotomy (m % (W + 1)) (n % (W + 1)) with y | y | y
    · exact cd_chain m2' n2' y (by omega)
    · omega
    · exact cd_chain n2' m2' y (by omega)
theorem cd_pw (W H : Nat) (up : Nat → Nat → Bool) (n : Nat) : (cd_Ch W H up n).Pairwise (fun a b => cd_sz a < cd_sz b) := by
  induction n with
  | zero => exact List.Pairwise.nil
  | succ n ih =>
    by_cases h : cd_zk W H up n = true
    · rw [cd_Ch_t h, List.pairwise_append]
      refine ⟨ih, List.pairwise_singleton _ _, ?_⟩
      intro a ha b hb
      rw [List.mem_singleton] at hb
      obtain ⟨k, h1, h2, h3⟩ := cd_mem.mp ha
      rw [hb, h3]
      exact cd_lt h1 h2 h
    · rw [cd_Ch_f h]
      exact ih
theorem cd_uniq : ∀ (l1 l2 : List (Nat × Nat)), l1.Pairwise (fun a b => cd_sz a < cd_sz b) → l2.Pairwise (fun a b => cd_sz a < cd_sz b) → (∀ z, z ∈ l1 ↔ z ∈ l2) → l1 = l2 := by
  intro l1
  induction l1 with
  | nil =>
    intro l2 _ _ h
    cases l2 with
    | nil => rfl
    | cons b t => exact absurd ((h b).mpr List.mem_cons_self) List.not_mem_nil
  | cons a s ih =>
    intro l2 h1 h2 h
    cases l2 with
    | nil => exact absurd ((h a).mp List.mem_cons_self) List.not_mem_nil
    | cons b t =>
      rw [List.pairwise_cons] at h1 h2
      have e : a = b := by
        rcases List.mem_cons.mp ((h a).mp List.mem_cons_self) with z | z
        · exact z
        · rcases List.mem_cons.mp ((h b).mpr List.mem_cons_self) with y | y
          · exact y.symm
          · have := h2.1 a z
            have := h1.1 b y
            omega
      subst e
      congr 1
      refine ih t h1.2 h2.2 (fun z => ?_)
      constructor
      · intro hz
        rcases List.mem_cons.mp ((h z).mp (List.mem_cons_of_mem _ hz)) with y | y
        · have := h1.1 z hz
          rw [y] at this
          omega
        · exact y
      · intro hz
        rcases List.mem_cons.mp ((h z).mpr (List.mem_cons_of_mem _ hz)) with y | y
        · have := h2.1 z hz
          rw [y] at this
          omega
        · exact y
theorem cd_idx {W H p q : Nat} {up : Nat → Nat → Bool} (h : cd_Z W H up p q) : ∃ k, k < cd_K W H ∧ cd_zk W H up k = true ∧ cd_pt W k = (p, q) := by
  obtain ⟨hp, hq⟩ := cd_Z_le h
  have e1 : ((p + q) * (W + 1) + p) % (W + 1) = p := by
    rw [Nat.add_comm, Nat.add_mul_mod_self_right, Nat.mod_eq_of_lt (by omega)]
  have e2 : ((p + q) * (W + 1) + p) / (W + 1) = p + q := by
    rw [Nat.add_comm, Nat.add_mul_div_right _ _ (by omega), Nat.div_eq_of_lt (by omega)]
    omega
  have e3 : cd_pt W ((p + q) * (W + 1) + p) = (p, q) := by
    unfold cd_pt
    rw [e1, e2]
    show (p, p + q - p) = (p, q)
    rw [Nat.add_sub_cancel_left]
  refine ⟨(p + q) * (W + 1) + p, ?_, ?_, e3⟩
  · have h1 : (p + q + 1) * (W + 1) ≤ cd_K W H := Nat.mul_le_mul_right (W + 1) (by omega)
    have h2 : (p + q + 1) * (W + 1) = (p + q) * (W + 1) + (W + 1) := Nat.succ_mul _ _
    omega
  · rw [cd_zk_iff, e1, e2, e3]
    exact ⟨by omega, h⟩
theorem cd_mem_Z {W H : Nat} {up : Nat → Nat → Bool} {z : Nat × Nat} : z ∈ cd_Ch W H up (cd_K W H) ↔ cd_Z W H up z.1 z.2 := by
  rw [cd_mem]
  constructor
  · rintro ⟨k, _, h2, h3⟩
    rw [h3]
    exact (cd_zk_iff.mp h2).2
  · intro h
    obtain ⟨k, h1, h2, h3⟩ := cd_idx h
    exact ⟨k, h1, h2, h3.symm⟩
theorem cd_ext {W H : Nat} {up : Nat → Nat → Bool} (n m : Nat) : ∃ r, cd_Ch W H up (n + m) = cd_Ch W H up n ++ r := by
  induction m with
  | zero => exact ⟨[], (List.append_nil _).symm⟩
  | succ m ih =>
    obtain ⟨r, hr⟩ := ih
    by_cases h : cd_zk W H up (n + m) = true
    · exact ⟨r ++ [cd_pt W (n + m)], by show cd_Ch W H up (n + m + 1) = _; rw [cd_Ch_t h, hr, List.append_assoc]⟩
    · exact ⟨r, by show cd_Ch W H up (n + m + 1) = _; rw [cd_Ch_f h, hr]⟩
/-! ===== the chain by places ===== -/
noncomputable def cd_L (W H : Nat) (up : Nat → Nat → Bool) (k : Nat) : Nat := (cd_Ch W H up k).length
noncomputable def cd_N (W H : Nat) (up : Nat → Nat → Bool) : Nat := cd_L W H up (cd_K W H) - 1
noncomputable def cd_C (W H : Nat) (up : Nat → Nat → Bool) (s : Nat) : Nat × Nat := (cd_Ch W H up (cd_K W H)).getD s (0, 0)
theorem cd_gd {l : List (Nat × Nat)} {s : Nat} (h : s < l.length) : l.getD s (0, 0) = l[s] := by
  rw [List.getD_eq_getElem?_getD, List.getElem?_eq_getElem h]
  rfl
theorem cd_L_t {W H k : Nat} {up : Nat → Nat → Bool} (h : cd_zk W H up k = true) : cd_L W H up (k + 1) = cd_L W H up k + 1 := by
  unfold cd_L
  rw [cd_Ch_t h, List.length_append]
  rfl
theorem cd_L_f {W H k : Nat} {up : Nat → Nat → Bool} (h : ¬ cd_zk W H up k = true) : cd_L W H up (k + 1) = cd_L W H up k := by
  unfold cd_L
  rw [cd_Ch_f h]
theorem cd_LK {W H : Nat} {up : Nat → Nat → Bool} : cd_N W H up + 1 = cd_L W H up (cd_K W H) := by
  have h : (0, 0) ∈ cd_Ch W H up (cd_K W H) := cd_mem_Z.mpr (cd_Z0 W H up)
  have h1 := List.length_pos_of_mem h
  unfold cd_N
  have h2 : 0 < cd_L W H up (cd_K W H) := h1
  omega
theorem cd_c_mem {W H s : Nat} {up : Nat → Nat → Bool} (h : s ≤ cd_N W H up) : cd_C W H up s ∈ cd_Ch W H up (cd_K W H) := by
  have h1 : s < (cd_Ch W H up (cd_K W H)).length := by
    have h2 : cd_N W H up + 1 = (cd_Ch W H up (cd_K W H)).length := cd_LK
    omega
  unfold cd_C
  rw [cd_gd h1]
  exact List.getElem_mem h1
theorem cd_c_Z {W H s : Nat} {up : Nat → Nat → Bool} (h : s ≤ cd_N W H up) : cd_Z W H up (cd_C W H up s).1 (cd_C W H up s).2 := cd_mem_Z.mp (cd_c_mem h)
theorem cd_c_le {W H s : Nat} {up : Nat → Nat → Bool} (h : s ≤ cd_N W H up) : (cd_C W H up s).1 ≤ W ∧ (cd_C W H up s).2 ≤ H := cd_Z_le (cd_c_Z h)
theorem cd_c_sur {W H p q : Nat} {up : Nat → Nat → Bool} (h : cd_Z W H up p q) : ∃ s, s ≤ cd_N W H up ∧ cd_C W H up s = (p, q) := by
  have h1 : (p, q) ∈ cd_Ch W H up (cd_K W H) := cd_mem_Z.mpr h
  obtain ⟨s, hs, e⟩ := List.mem_iff_getElem.mp h1
  have h2 : cd_N W H up + 1 = (cd_Ch W H up (cd_K W H)).length := cd_LK
  refine ⟨s, by omega, ?_⟩
  unfold cd_C
  rw [cd_gd hs]
  exact e
theorem cd_c_lt {W H s t : Nat} {up : Nat → Nat → Bool} (hst : s < t) (ht : t ≤ cd_N W H up) : cd_sz (cd_C W H up s) < cd_sz (cd_C W H up t) := by
  have h2 : cd_N W H up + 1 = (cd_Ch W H up (cd_K W H)).length := cd_LK
  have h3 := List.pairwise_iff_getElem.mp (cd_pw W H up (cd_K W H)) s t (by omega) (by omega) hst
  unfold cd_C
  rw [cd_gd (show s < _ by omega), cd_gd (show t < _ by omega)]
  exact h3
theorem cd_c_mono {W H s t : Nat} {up : Nat → Nat → Bool} (hst : s ≤ t) (ht : t ≤ cd_N W H up) : (cd_C W H up s).1 ≤ (cd_C W H up t).1 ∧ (cd_C W H up s).2 ≤ (cd_C W H up t).2 := by
  by_cases e : s = t
  · rw [e]; exact ⟨Nat.le_refl _, Nat.le_refl _⟩
  · have h1 := cd_c_lt (W := W) (H := H) (up := up) (show s < t by omega) ht
    have z1 := cd_c_Z (W := W) (H := H) (up := up) (show s ≤ _ by omega)
    have z2 := cd_c_Z (W := W) (H := H) (up := up) ht
    have h1' : (cd_C W H up s).1 + (cd_C W H up s).2 < (cd_C W H up t).1 + (cd_C W H up t).2 := h1
    constructor
    · rcases Nat.lt_or_ge (cd_C W H up t).1 (cd_C W H up s).1 with y | y
      · exact (cd_chain z2 z1 y (by omega)).elim
      · exact y
    · rcases Nat.lt_or_ge (cd_C W H up t).2 (cd_C W H up s).2 with y | y
      · exact (cd_chain z1 z2 (by omega) y).elim
      · exact y
theorem cd_c_ge {W H : Nat} {up : Nat → Nat → Bool} : ∀ s, s ≤ cd_N W H up → s ≤ cd_sz (cd_C W H up s) := by
  intro s
  induction s with
  | zero => intro _; exact Nat.zero_le _
  | succ s ih =>
    intro h
    have h1 := ih (by omega)
    have h2 := cd_c_lt (W := W) (H := H) (up := up) (show s < s + 1 by omega) h
    omega
theorem cd_c_0 {W H : Nat} {up : Nat → Nat → Bool} : cd_C W H up 0 = (0, 0) := by
  obtain ⟨s, hs, e⟩ := cd_c_sur (cd_Z0 W H up)
  by_cases z : s = 0
  · rw [z] at e; exact e
  · have h1 := cd_c_lt (W := W) (H := H) (up := up) (show 0 < s by omega) hs
    rw [e] at h1
    exact absurd h1 (Nat.not_lt_zero _)
theorem cd_c_N {W H : Nat} {up : Nat → Nat → Bool} : cd_C W H up (cd_N W H up) = (W, H) := by
  obtain ⟨s, hs, e⟩ := cd_c_sur (cd_ZW W H up)
  by_cases z : s = cd_N W H up
  · rw [z] at e; exact e
  · have h1 := cd_c_lt (W := W) (H := H) (up := up) (show s < cd_N W H up by omega) (Nat.le_refl _)
    have h2 := cd_c_le (W := W) (H := H) (up := up) (Nat.le_refl (cd_N W H up))
    rw [e] at h1
    have h3 : W + H < (cd_C W H up (cd_N W H up)).1 + (cd_C W H up (cd_N W H up)).2 := h1
    omega
theorem cd_N_pos {W H : Nat} {up : Nat → Nat → Bool} (hW : 1 ≤ W) : 1 ≤ cd_N W H up := by
  rcases Nat.lt_or_ge 0 (cd_N W H up) with z | z
  · exact z
  · have e : cd_N W H up = 0 := by omega
    have h1 := cd_c_N (W := W) (H := H) (up := up)
    rw [e, cd_c_0] at h1
    have h2 : 0 = W := congrArg Prod.fst h1
    omega
theorem cd_N_le {W H : Nat} {up : Nat → Nat → Bool} : cd_N W H up ≤ W + H := by
  have h1 := cd_c_ge (W := W) (H := H) (up := up) _ (Nat.le_refl _)
  rw [cd_c_N] at h1
  exact h1
/-! the steps of the code's loop -/
theorem cd_zk0 {W H : Nat} {up : Nat → Nat → Bool} : cd_zk W H up 0 = true := by
  rw [cd_zk_iff]
  have e1 : 0 % (W + 1) = 0 := Nat.zero_mod _
  have e2 : 0 / (W + 1) = 0 := Nat.zero_div _
  unfold cd_pt
  rw [e1, e2]
  exact ⟨Nat.le_refl _, cd_Z0 W H up⟩
theorem cd_L1 {W H : Nat} {up : Nat → Nat → Bool} : cd_L W H up 1 = 1 := by
  rw [cd_L_t (k := 0) cd_zk0]
  rfl
theorem cd_step {W H k : Nat} {up : Nat → Nat → Bool} (hk : k < cd_K W H) (h : cd_zk W H up k = true) : cd_L W H up k ≤ cd_N W H up ∧ cd_C W H up (cd_L W H up k) = cd_pt W k := by
  obtain ⟨r, hr⟩ := cd_ext (W := W) (H := H) (up := up) (k + 1) (cd_K W H - (k + 1))
  rw [show k + 1 + (cd_K W H - (k + 1)) = cd_K W H by omega, cd_Ch_t h, List.append_assoc] at hr
  have h2 : cd_N W H up + 1 = (cd_Ch W H up (cd_K W H)).length := cd_LK
  have h3 : (cd_Ch W H up (cd_K W H)).length = cd_L W H up k + (1 + r.length) := by
    rw [hr, List.length_append, List.length_append]
    rfl
  refine ⟨by omega, ?_⟩
  unfold cd_C
  rw [hr, List.getD_eq_getElem?_getD, List.getElem?_append_right (show (cd_Ch W H up k).length ≤ cd_L W H up k from Nat.le_refl _)]
  show (([cd_pt W k] ++ r)[cd_L W H up k - cd_L W H up k]?).getD (0, 0) = _
  rw [Nat.sub_self]
  rfl
theorem cd_L_pos {W H k : Nat} {up : Nat → Nat → Bool} (hk : 1 ≤ k) : 1 ≤ cd_L W H up k := by
  induction k with
  | zero => omega
  | succ k ih =>
    by_cases z : k = 0
    · subst z; rw [cd_L1]; exact Nat.le_refl _
    · have h1 := ih (by omega)
      by_cases h : cd_zk W H up k = true
      · rw [cd_L_t h]; omega
      · rw [cd_L_f h]; exact h1
/-- a point that the loop takes lies over the last one -/
theorem cd_over {W H k : Nat} {up : Nat → Nat → Bool} (h1 : 1 ≤ k) (hk : k < cd_K W H) (h : cd_zk W H up k = true) :
    (cd_C W H up (cd_L W H up k - 1)).1 ≤ (cd_pt W k).1 ∧ (cd_C W H up (cd_L W H up k - 1)).2 ≤ (cd_pt W k).2 ∧ cd_sz (cd_C W H up (cd_L W H up k - 1)) < cd_sz (cd_pt W k) := by
  obtain ⟨h2, h3⟩ := cd_step hk h
  have h4 := cd_L_pos (W := W) (H := H) (up := up) h1
  have h5 := cd_c_mono (W := W) (H := H) (up := up) (show cd_L W H up k - 1 ≤ cd_L W H up k by omega) h2
  have h6 := cd_c_lt (W := W) (H := H) (up := up) (show cd_L W H up k - 1 < cd_L W H up k by omega) h2
  rw [h3] at h5 h6
  exact ⟨h5.1, h5.2, h6⟩
/-! ===== the inverted cloth has the chain from behind ===== -/
def cd_cp (W H : Nat) (z : Nat × Nat) : Nat × Nat := (W - z.1, H - z.2)
theorem cd_Ch_fl (W H : Nat) (up : Nat → Nat → Bool) : cd_Ch W H (cd_fl up) (cd_K W H) = ((cd_Ch W H up (cd_K W H)).map (cd_cp W H)).reverse := by
  refine cd_uniq _ _ (cd_pw _ _ _ _) ?_ ?_
  · rw [List.pairwise_reverse, List.pairwise_map]
    refine (cd_pw W H up (cd_K W H)).imp_of_mem ?_
    intro a b ha hb hab
    have h1 := cd_Z_le (cd_mem_Z.mp ha)
    have h2 := cd_Z_le (cd_mem_Z.mp hb)
    have h3 : a.1 + a.2 < b.1 + b.2 := hab
    show (W - b.1) + (H - b.2) < (W - a.1) + (H - a.2)
    omega
  · intro z
    rw [cd_mem_Z, List.mem_reverse, List.mem_map]
    constructor
    · intro h
      have h1 := cd_Z_fl h
      rw [cd_fl_fl] at h1
      have h2 := cd_Z_le h
      refine ⟨(W - z.1, H - z.2), cd_mem_Z.mpr h1, ?_⟩
      show (W - (W - z.1), H - (H - z.2)) = z
      rw [show W - (W - z.1) = z.1 by omega, show H - (H - z.2) = z.2 by omega]
    · rintro ⟨a, ha, rfl⟩
      exact cd_Z_fl (cd_mem_Z.mp ha)
theorem cd_N_fl (W H : Nat) (up : Nat → Nat → Bool) : cd_N W H (cd_fl up) = cd_N W H up := by
  unfold cd_N cd_L
  rw [cd_Ch_fl, List.length_reverse, List.length_map]
theorem cd_C_fl {W H s : Nat} {up : Nat → Nat → Bool} (h : s ≤ cd_N W H up) : cd_C W H (cd_fl up) s = cd_cp W H (cd_C W H up (cd_N W H up - s)) := by
  have h2 : cd_N W H up + 1 = (cd_Ch W H up (cd_K W H)).length := cd_LK
  unfold cd_C
  rw [cd_Ch_fl, List.getD_eq_getElem?_getD, List.getElem?_reverse (by rw [List.length_map]; omega), List.length_map, List.getElem?_map, show (cd_Ch W H up (cd_K W H)).length - 1 - s = cd_N W H up - s by omega, cd_gd (show cd_N W H up - s < _ by omega), List.getElem?_eq_getElem (show cd_N W H up - s < _ by omega)]
  rfl
end
section
/-! ===== threads in order: a place and the thread at it ===== -/
def cd_od (o o2 : Nat → Nat) (t : Nat) : Nat := if t < 8 then o t else 8 + o2 (t - 8)
theorem cd_od_w {o o2 : Nat → Nat} {t : Nat} (h : t < 8) : cd_od o o2 t = o t := if_pos h
theorem cd_od_f {o o2 : Nat → Nat} {t : Nat} : cd_od o o2 (8 + t) = 8 + o2 t := by
  unfold cd_od
  rw [if_neg (by omega), Nat.add_sub_cancel_left]
def cd_pm (up : Nat → Nat → Bool) (o o2 : Nat → Nat) : Nat → Nat → Bool := fun i j => up (o i) (o2 j)
theorem cd_v_iff {W H t : Nat} : cd_v W H t = true ↔ t < W ∨ ∃ r, r < H ∧ t = 8 + r := by
  unfold cd_v
  rw [Bool.or_eq_true, Bool.and_eq_true, decide_eq_true_iff, decide_eq_true_iff, decide_eq_true_iff]
  constructor
  · rintro (h | h)
    · exact Or.inl h
    · exact Or.inr ⟨t - 8, by omega, by omega⟩
  · rintro (h | ⟨r, h1, h2⟩)
    · exact Or.inl h
    · exact Or.inr ⟨by omega, by omega⟩
theorem cd_v_w {W H t : Nat} (h : t < W) : cd_v W H t = true := cd_v_iff.mpr (Or.inl h)
theorem cd_v_f {W H r : Nat} (h : r < H) : cd_v W H (8 + r) = true := cd_v_iff.mpr (Or.inr ⟨r, h, rfl⟩)
theorem cd_v_lt {W H t : Nat} (hW : W ≤ 8) (hH : H ≤ 8) (h : cd_v W H t = true) : t < 16 := by
  rcases cd_v_iff.mp h with z | ⟨r, z, y⟩ <;> omega
theorem cd_od_v {W H t : Nat} {o o2 : Nat → Nat} (hW : W ≤ 8) (ho : cd_rx o W) (ho2 : cd_rx o2 H) (h : cd_v W H t = true) : cd_v W H (cd_od o o2 t) = true := by
  rcases cd_v_iff.mp h with z | ⟨r, z, rfl⟩
  · rw [cd_od_w (by omega)]
    exact cd_v_w (cd_rx_lt ho z)
  · rw [cd_od_f]
    exact cd_v_f (cd_rx_lt ho2 z)
theorem cd_od_sur {W H a : Nat} {o o2 : Nat → Nat} (hW : W ≤ 8) (ho : cd_rx o W) (ho2 : cd_rx o2 H) (h : cd_v W H a = true) : ∃ t, cd_v W H t = true ∧ cd_od o o2 t = a := by
  rcases cd_v_iff.mp h with z | ⟨r, z, rfl⟩
  · obtain ⟨i, hi, e⟩ := cd_rx_sur ho z
    exact ⟨i, cd_v_w hi, by rw [cd_od_w (by omega)]; exact e⟩
  · obtain ⟨i, hi, e⟩ := cd_rx_sur ho2 z
    exact ⟨8 + i, cd_v_f hi, by rw [cd_od_f, e]⟩
theorem cd_od_inj {W H s t : Nat} {o o2 : Nat → Nat} (hW : W ≤ 8) (ho : cd_rx o W) (ho2 : cd_rx o2 H) (hs : cd_v W H s = true) (ht : cd_v W H t = true) (e : cd_od o o2 s = cd_od o o2 t) : s = t := by
  rcases cd_v_iff.mp hs with z | ⟨r, z, rfl⟩
  · rw [cd_od_w (show s < 8 by omega)] at e
    have z' := cd_rx_lt ho z
    rcases cd_v_iff.mp ht with y | ⟨q, y, rfl⟩
    · rw [cd_od_w (show t < 8 by omega)] at e
      exact cd_rx_inj ho z y e
    · rw [cd_od_f] at e
      omega
  · rw [cd_od_f] at e
    rcases cd_v_iff.mp ht with y | ⟨q, y, rfl⟩
    · rw [cd_od_w (show t < 8 by omega)] at e
      have y' := cd_rx_lt ho y
      omega
    · rw [cd_od_f] at e
      rw [cd_rx_inj ho2 z y (by omega)]
theorem cd_push {W H : Nat} {up : Nat → Nat → Bool} {S : Nat → Bool} {o o2 : Nat → Nat} (hW : W ≤ 8) (ho : cd_rx o W) (ho2 : cd_rx o2 H) (h : cd_cl W H up S) : cd_cl W H (cd_pm up o o2) (fun t => S (cd_od o o2 t)) := by
  intro c r hc hr
  show (S (cd_od o o2 c) = true → S (cd_od o o2 (8 + r)) = false → up (o c) (o2 r) = true) ∧ (S (cd_od o o2 (8 + r)) = true → S (cd_od o o2 c) = false → up (o c) (o2 r) = false)
  rw [cd_od_w (show c < 8 by omega), cd_od_f]
  exact h (o c) (o2 r) (cd_rx_lt ho hc) (cd_rx_lt ho2 hr)
theorem cd_push_w {W : Nat} {S : Nat → Bool} {o o2 : Nat → Nat} (hW : W ≤ 8) (ho : cd_rx o W) : cd_cw W (fun t => S (cd_od o o2 t)) = cd_cw W S := by
  unfold cd_cw
  rw [← ho (fun c => (S c).toNat)]
  exact cd_sm_congr (fun i hi => by dsimp only; rw [cd_od_w (show i < 8 by omega)])
theorem cd_push_f {H : Nat} {S : Nat → Bool} {o o2 : Nat → Nat} (ho2 : cd_rx o2 H) : cd_cf H (fun t => S (cd_od o o2 t)) = cd_cf H S := by
  unfold cd_cf
  rw [← ho2 (fun r => (S (8 + r)).toNat)]
  exact cd_sm_congr (fun i hi => by dsimp only; rw [cd_od_f])
/-- a set of places as a set of threads -/
noncomputable def cd_pl (W H : Nat) (o o2 : Nat → Nat) (P : Nat → Bool) (a : Nat) : Bool := @decide (∃ t, cd_v W H t = true ∧ cd_od o o2 t = a ∧ P t = true) (Classical.propDecidable _)
theorem cd_pl_od {W H t : Nat} {o o2 : Nat → Nat} {P : Nat → Bool} (hW : W ≤ 8) (ho : cd_rx o W) (ho2 : cd_rx o2 H) (ht : cd_v W H t = true) : cd_pl W H o o2 P (cd_od o o2 t) = P t := by
  unfold cd_pl
  cases hP : P t
  · apply @decide_eq_false _ (Classical.propDecidable _)
    rintro ⟨s, h1, h2, h3⟩
    rw [cd_od_inj hW ho ho2 h1 ht h2, hP] at h3
    exact Bool.noConfusion h3
  · apply @decide_eq_true _ (Classical.propDecidable _)
    exact ⟨t, ht, rfl, hP⟩
theorem cd_pull {W H : Nat} {up : Nat → Nat → Bool} {P : Nat → Bool} {o o2 : Nat → Nat} (hW : W ≤ 8) (ho : cd_rx o W) (ho2 : cd_rx o2 H) (h : cd_cl W H (cd_pm up o o2) P) : cd_cl W H up (cd_pl W H o o2 P) := by
  intro c r hc hr
  obtain ⟨i, hi, rfl⟩ := cd_rx_sur ho hc
  obtain ⟨j, hj, rfl⟩ := cd_rx_sur ho2 hr
  have e1 : cd_pl W H o o2 P (o i) = P i := by
    have := cd_pl_od (P := P) hW ho ho2 (cd_v_w (H := H) hi)
    rw [cd_od_w (show i < 8 by omega)] at this
    exact this
  have e2 : cd_pl W H o o2 P (8 + o2 j) = P (8 + j) := by
    have := cd_pl_od (P := P) hW ho ho2 (cd_v_f (W := W) hj)
    rw [cd_od_f] at this
    exact this
  rw [e1, e2]
  exact h i j hi hj
theorem cd_pull_Z {W H : Nat} {up : Nat → Nat → Bool} {P : Nat → Bool} {o o2 : Nat → Nat} (hW : W ≤ 8) (ho : cd_rx o W) (ho2 : cd_rx o2 H) (h : cd_cl W H (cd_pm up o o2) P) : cd_Z W H up (cd_cw W P) (cd_cf H P) := by
  refine ⟨cd_pl W H o o2 P, cd_pull hW ho ho2 h, ?_, ?_⟩
  · rw [← cd_push_w (S := cd_pl W H o o2 P) (o := o) (o2 := o2) hW ho]
    exact cd_sm_congr (fun i hi => by dsimp only; rw [cd_pl_od hW ho ho2 (cd_v_w hi)])
  · rw [← cd_push_f (S := cd_pl W H o o2 P) (o := o) (o2 := o2) ho2]
    exact cd_sm_congr (fun i hi => by dsimp only; rw [cd_pl_od hW ho ho2 (cd_v_f hi)])
/-- the places are sorted -/
def cd_ok (W H : Nat) (up : Nat → Nat → Bool) (o o2 : Nat → Nat) : Prop := cd_rx o W ∧ cd_rx o2 H ∧ cd_so (cd_dW H up) o W ∧ cd_so (cd_dF W up) o2 H
theorem cd_pm_dW {W H : Nat} {up : Nat → Nat → Bool} {o o2 : Nat → Nat} (k : cd_ok W H up o o2) (i : Nat) : cd_dW H (cd_pm up o o2) i = cd_dW H up (o i) := k.2.1 (fun r => (up (o i) r).toNat)
theorem cd_pm_dF {W H : Nat} {up : Nat → Nat → Bool} {o o2 : Nat → Nat} (k : cd_ok W H up o o2) (j : Nat) : cd_dF W (cd_pm up o o2) j = cd_dF W up (o2 j) := k.1 (fun c => (!up c (o2 j)).toNat)
theorem cd_Z_pr {W H p q : Nat} {up : Nat → Nat → Bool} {o o2 : Nat → Nat} (hW : W ≤ 8) (k : cd_ok W H up o o2) (h : cd_Z W H up p q) : cd_cl W H (cd_pm up o o2) (cd_pr (p, q)) := by
  obtain ⟨S, h0, h1, h2⟩ := h
  have h3 := cd_push hW k.1 k.2.1 h0
  have h4 := cd_first hW (fun i j hij hj => by rw [cd_pm_dW k, cd_pm_dW k]; exact k.2.2.1 i j hij hj) (fun i j hij hj => by rw [cd_pm_dF k, cd_pm_dF k]; exact k.2.2.2 i j hij hj) h3
  rw [cd_push_w hW k.1, cd_push_f k.2.1, h1, h2] at h4
  exact h4
theorem cd_pr_Z {W H p q : Nat} {up : Nat → Nat → Bool} {o o2 : Nat → Nat} (hW : W ≤ 8) (hp : p ≤ W) (hq : q ≤ H) (k : cd_ok W H up o o2) : cd_VI W H (cd_pm up o o2) (cd_pr (p, q)) = 0 ↔ cd_Z W H up p q := by
  rw [cd_VI0]
  constructor
  · intro h
    have h1 := cd_pull_Z hW k.1 k.2.1 h
    rw [cd_pr_cw hW hp, cd_pr_cf hq] at h1
    exact h1
  · exact cd_Z_pr hW k
/-! ===== together ===== -/
theorem cd_sm_lt {f g : Nat → Nat} {n i : Nat} (h : ∀ i, i < n → f i ≤ g i) (hi : i < n) (h2 : f i < g i) : cd_sm f n < cd_sm g n := by
  have h1 := cd_sm_le h
  rcases Nat.lt_or_ge (cd_sm f n) (cd_sm g n) with z | z
  · exact z
  · exfalso
    have e : cd_sm (fun j => f j + (g j - f j)) n = cd_sm g n := cd_sm_congr (fun j hj => by have := h j hj; omega)
    rw [cd_sm_add] at e
    have h3 : cd_sm (fun j => g j - f j) n = 0 := by omega
    have h4 := cd_sm_zero.mp h3 i hi
    have h4' : g i - f i = 0 := h4
    omega
theorem cd_grow {W H t : Nat} {A B : Nat → Bool} (h : ∀ t, cd_v W H t = true → A t = true → B t = true) (hv : cd_v W H t = true) (ha : A t = false) (hb : B t = true) : cd_cw W A + cd_cf H A < cd_cw W B + cd_cf H B := by
  have le : ∀ t, cd_v W H t = true → (A t).toNat ≤ (B t).toNat := by
    intro t ht
    have h1 := h t ht
    revert h1
    cases A t <;> cases B t <;> decide
  have lt : (A t).toNat < (B t).toNat := by rw [ha, hb]; decide
  have w : cd_cw W A ≤ cd_cw W B := cd_sm_le (fun i hi => le i (cd_v_w hi))
  have f : cd_cf H A ≤ cd_cf H B := cd_sm_le (fun i hi => le (8 + i) (cd_v_f hi))
  rcases cd_v_iff.mp hv with z | ⟨r, z, rfl⟩
  · have : cd_cw W A < cd_cw W B := cd_sm_lt (fun i hi => le i (cd_v_w hi)) z lt
    omega
  · have : cd_cf H A < cd_cf H B := cd_sm_lt (f := fun r => (A (8 + r)).toNat) (g := fun r => (B (8 + r)).toNat) (fun i hi => le (8 + i) (cd_v_f hi)) z lt
    omega
theorem cd_pr_mono {a b : Nat × Nat} {t : Nat} (h1 : a.1 ≤ b.1) (h2 : a.2 ≤ b.2) (h : cd_pr a t = true) : cd_pr b t = true := by
  unfold cd_pr at h ⊢
  by_cases z : t < 8
  · rw [if_pos z] at h ⊢
    exact decide_eq_true (by have := of_decide_eq_true h; omega)
  · rw [if_neg z] at h ⊢
    exact decide_eq_true (by have := of_decide_eq_true h; omega)
theorem cd_pr_sz {W H p q : Nat} (hW : W ≤ 8) (hp : p ≤ W) (hq : q ≤ H) : cd_cw W (cd_pr (p, q)) + cd_cf H (cd_pr (p, q)) = p + q := by
  rw [cd_pr_cw hW hp, cd_pr_cf hq]
/-- no closed set parts what lies in one step -/
theorem cd_same {W H s t t' : Nat} {up : Nat → Nat → Bool} {o o2 : Nat → Nat} {P : Nat → Bool} (hW : W ≤ 8) (k : cd_ok W H up o o2) (hs : s < cd_N W H up) (hP : cd_cl W H (cd_pm up o o2) P) (hv : cd_v W H t = true) (hv' : cd_v W H t' = true)
    (h1 : cd_pr (cd_C W H up s) t = false) (h2 : cd_pr (cd_C W H up (s + 1)) t = true) (h3 : cd_pr (cd_C W H up s) t' = false) (h4 : cd_pr (cd_C W H up (s + 1)) t' = true) (ht : P t = true) (ht' : P t' = false) : False := by
  have c0 : cd_cl W H (cd_pm up o o2) (cd_pr (cd_C W H up s)) := cd_Z_pr hW k (cd_c_Z (by omega))
  have c1 : cd_cl W H (cd_pm up o o2) (cd_pr (cd_C W H up (s + 1))) := cd_Z_pr hW k (cd_c_Z (by omega))
  have c2 := cd_cl_or (cd_cl_and hP c1) c0
  have z := cd_pull_Z hW k.1 k.2.1 c2
  obtain ⟨x, hx, ex⟩ := cd_c_sur z
  have m := cd_c_mono (W := W) (H := H) (up := up) (show s ≤ s + 1 by omega) (show s + 1 ≤ _ by omega)
  have l0 := cd_c_le (W := W) (H := H) (up := up) (show s ≤ _ by omega)
  have l1 := cd_c_le (W := W) (H := H) (up := up) (show s + 1 ≤ _ by omega)
  have g1 : cd_cw W (cd_pr (cd_C W H up s)) + cd_cf H (cd_pr (cd_C W H up s)) < cd_sz (cd_C W H up x) := by
    rw [ex]
    refine cd_grow (t := t) (fun a _ ha => ?_) hv h1 ?_
    · show (P a && cd_pr (cd_C W H up (s + 1)) a || cd_pr (cd_C W H up s) a) = true
      rw [ha, Bool.or_true]
    · show (P t && cd_pr (cd_C W H up (s + 1)) t || cd_pr (cd_C W H up s) t) = true
      rw [ht, h2]; rfl
  have g2 : cd_sz (cd_C W H up x) < cd_cw W (cd_pr (cd_C W H up (s + 1))) + cd_cf H (cd_pr (cd_C W H up (s + 1))) := by
    rw [ex]
    refine cd_grow (t := t') (fun a _ ha => ?_) hv' ?_ h4
    · have ha' : (P a && cd_pr (cd_C W H up (s + 1)) a || cd_pr (cd_C W H up s) a) = true := ha
      rw [Bool.or_eq_true, Bool.and_eq_true] at ha'
      rcases ha' with y | y
      · exact y.2
      · exact cd_pr_mono m.1 m.2 y
    · show (P t' && cd_pr (cd_C W H up (s + 1)) t' || cd_pr (cd_C W H up s) t') = false
      rw [ht', h3]; rfl
  have e0 : cd_cw W (cd_pr (cd_C W H up s)) + cd_cf H (cd_pr (cd_C W H up s)) = cd_sz (cd_C W H up s) := cd_pr_sz hW l0.1 l0.2
  have e1 : cd_cw W (cd_pr (cd_C W H up (s + 1))) + cd_cf H (cd_pr (cd_C W H up (s + 1))) = cd_sz (cd_C W H up (s + 1)) := cd_pr_sz hW l1.1 l1.2
  rw [e0] at g1
  rw [e1] at g2
  rcases Nat.lt_trichotomy x s with y | y | y
  · have := cd_c_lt (W := W) (H := H) (up := up) y (by omega)
    omega
  · rw [y] at g1
    omega
  · by_cases w : x = s + 1
    · rw [w] at g2
      omega
    · have := cd_c_lt (W := W) (H := H) (up := up) (show s + 1 < x by omega) hx
      omega
theorem cd_apart {W H s s' t t' : Nat} {up : Nat → Nat → Bool} {o o2 : Nat → Nat} (hW : W ≤ 8) (k : cd_ok W H up o o2) (hss : s < s') (hs : s' < cd_N W H up) (hv : cd_v W H t = true) (hv' : cd_v W H t' = true)
    (h2 : cd_pr (cd_C W H up (s + 1)) t = true) (h3 : cd_pr (cd_C W H up s') t' = false) (h : cd_tg W H up (cd_od o o2 t) (cd_od o o2 t')) : False := by
  have c1 : cd_cl W H (cd_pm up o o2) (cd_pr (cd_C W H up (s + 1))) := cd_Z_pr hW k (cd_c_Z (by omega))
  have e := h _ (cd_pull hW k.1 k.2.1 c1)
  rw [cd_pl_od hW k.1 k.2.1 hv, cd_pl_od hW k.1 k.2.1 hv', h2] at e
  have m := cd_c_mono (W := W) (H := H) (up := up) (show s + 1 ≤ s' by omega) (show s' ≤ _ by omega)
  have := cd_pr_mono m.1 m.2 e.symm
  rw [h3] at this
  exact Bool.noConfusion this
theorem cd_tg_iff {W H s s' t t' : Nat} {up : Nat → Nat → Bool} {o o2 : Nat → Nat} (hW : W ≤ 8) (k : cd_ok W H up o o2) (hs : s < cd_N W H up) (hs' : s' < cd_N W H up) (hv : cd_v W H t = true) (hv' : cd_v W H t' = true)
    (h1 : cd_pr (cd_C W H up s) t = false) (h2 : cd_pr (cd_C W H up (s + 1)) t = true) (h3 : cd_pr (cd_C W H up s') t' = false) (h4 : cd_pr (cd_C W H up (s' + 1)) t' = true) : s = s' ↔ cd_tg W H up (cd_od o o2 t) (cd_od o o2 t') := by
  constructor
  · intro e S hS
    subst e
    have hP := cd_push hW k.1 k.2.1 hS
    cases e1 : S (cd_od o o2 t) <;> cases e2 : S (cd_od o o2 t')
    · rfl
    · exact (cd_same hW k hs hP hv' hv h3 h4 h1 h2 e2 e1).elim
    · exact (cd_same hW k hs hP hv hv' h1 h2 h3 h4 e1 e2).elim
    · rfl
  · intro h
    rcases Nat.lt_trichotomy s s' with y | y | y
    · exact (cd_apart hW k y hs' hv hv' h2 h3 h).elim
    · exact y
    · exact (cd_apart hW k y hs hv' hv h4 h1 (fun S hS => (h S hS).symm)).elim
/-! ===== one step alone: all hang together ===== -/
theorem cd_in {W H : Nat} {S : Nat → Bool} (h : 0 < cd_cw W S + cd_cf H S) : ∃ a, cd_v W H a = true ∧ S a = true := by
  rcases Nat.lt_or_ge 0 (cd_cw W S) with z | z
  · have h1 : cd_sm (fun _ => 0) W < cd_sm (fun c => (S c).toNat) W := by rw [cd_sm_const, Nat.mul_zero]; exact z
    obtain ⟨i, hi, e⟩ := cd_sm_ex h1
    exact ⟨i, cd_v_w hi, (cd_bl (a := false) e).2⟩
  · have h1 : cd_sm (fun _ => 0) H < cd_sm (fun r => (S (8 + r)).toNat) H := by
      rw [cd_sm_const, Nat.mul_zero]
      have : 0 < cd_cf H S := by omega
      exact this
    obtain ⟨i, hi, e⟩ := cd_sm_ex h1
    exact ⟨8 + i, cd_v_f hi, (cd_bl (a := false) e).2⟩
theorem cd_out {W H : Nat} {S : Nat → Bool} (h : cd_cw W S + cd_cf H S < W + H) : ∃ a, cd_v W H a = true ∧ S a = false := by
  have e1 := cd_sm_not S W
  have e2 := cd_sm_not (fun r => S (8 + r)) H
  have h1 : 0 < cd_cw W (fun t => !S t) + cd_cf H (fun t => !S t) := by
    have x1 : cd_cw W (fun t => !S t) + cd_cw W S = W := e1
    have x2 : cd_cf H (fun t => !S t) + cd_cf H S = H := e2
    omega
  obtain ⟨a, h2, h3⟩ := cd_in h1
  refine ⟨a, h2, ?_⟩
  revert h3
  show (!S a) = true → S a = false
  cases S a <;> decide
theorem cd_all0 {W H a : Nat} {S : Nat → Bool} (h1 : cd_cw W S = 0) (h2 : cd_cf H S = 0) (hv : cd_v W H a = true) : S a = false := by
  have e1 := cd_sm_zero.mp h1
  have e2 := cd_sm_zero.mp h2
  have key : (S a).toNat = 0 := by
    rcases cd_v_iff.mp hv with z | ⟨r, z, rfl⟩
    · exact e1 a z
    · exact e2 r z
  revert key
  cases S a <;> decide
theorem cd_all1 {W H a : Nat} {S : Nat → Bool} (h1 : cd_cw W S = W) (h2 : cd_cf H S = H) (hv : cd_v W H a = true) : S a = true := by
  have e1 := cd_sm_not S W
  have e2 := cd_sm_not (fun r => S (8 + r)) H
  have x1 : cd_cw W (fun t => !S t) + cd_cw W S = W := e1
  have x2 : cd_cf H (fun t => !S t) + cd_cf H S = H := e2
  have := cd_all0 (S := fun t => !S t) (by omega) (by omega) hv
  revert this
  show (!S a) = false → S a = true
  cases S a <;> decide
theorem cd_one {W H : Nat} {up : Nat → Nat → Bool} (hW : 1 ≤ W) : cd_N W H up = 1 ↔ ∀ a b, cd_v W H a = true → cd_v W H b = true → cd_tg W H up a b := by
  have p := cd_N_pos (W := W) (H := H) (up := up) hW
  constructor
  · intro e a b ha hb S hS
    obtain ⟨x, hx, ex⟩ := cd_c_sur ⟨S, hS, rfl, rfl⟩
    rw [e] at hx
    by_cases z : x = 0
    · rw [z, cd_c_0] at ex
      have e1 : 0 = cd_cw W S := congrArg Prod.fst ex
      have e2 : 0 = cd_cf H S := congrArg Prod.snd ex
      rw [cd_all0 e1.symm e2.symm ha, cd_all0 e1.symm e2.symm hb]
    · have y : x = cd_N W H up := by omega
      rw [y, cd_c_N] at ex
      have e1 : W = cd_cw W S := congrArg Prod.fst ex
      have e2 : H = cd_cf H S := congrArg Prod.snd ex
      rw [cd_all1 e1.symm e2.symm ha, cd_all1 e1.symm e2.symm hb]
  · intro h
    by_cases z : cd_N W H up = 1
    · exact z
    · exfalso
      obtain ⟨S, hS, e1, e2⟩ := cd_c_Z (W := W) (H := H) (up := up) p
      have l1 := cd_c_lt (W := W) (H := H) (up := up) (show 0 < 1 by omega) p
      have l2 := cd_c_lt (W := W) (H := H) (up := up) (show 1 < cd_N W H up by omega) (Nat.le_refl _)
      rw [cd_c_0] at l1
      rw [cd_c_N] at l2
      have l1' : 0 + 0 < (cd_C W H up 1).1 + (cd_C W H up 1).2 := l1
      have l2' : (cd_C W H up 1).1 + (cd_C W H up 1).2 < W + H := l2
      obtain ⟨a, a1, a2⟩ := cd_in (W := W) (H := H) (S := S) (by omega)
      obtain ⟨b, b1, b2⟩ := cd_out (W := W) (H := H) (S := S) (by omega)
      have := h a b a1 b1 S hS
      rw [a2, b2] at this
      exact Bool.noConfusion this
end
section
/-! ===== runs: a list of links, and the lengths of what they link ===== -/
def cd_ih : List Nat → List Nat
  | [] => []
  | n :: r => (n + 1) :: r
def cd_il : List Nat → List Nat
  | [] => []
  | [n] => [n + 1]
  | n :: m :: r => n :: cd_il (m :: r)
def cd_rn : List Bool → List Nat
  | [] => [1]
  | b :: t => if b = true then cd_ih (cd_rn t) else 1 :: cd_rn t
theorem cd_rn_t (t : List Bool) : cd_rn (true :: t) = cd_ih (cd_rn t) := if_pos rfl
theorem cd_rn_f (t : List Bool) : cd_rn (false :: t) = 1 :: cd_rn t := if_neg (by decide)
theorem cd_il_app (a : List Nat) (n : Nat) : cd_il (a ++ [n]) = a ++ [n + 1] := by
  induction a with
  | nil => rfl
  | cons h t ih =>
    cases t with
    | nil => rfl
    | cons m t' =>
      show h :: cd_il (m :: t' ++ [n]) = h :: (m :: t' ++ [n + 1])
      rw [ih]
theorem cd_rn_sn (b : List Bool) : ∃ a n, cd_rn b = a ++ [n] := by
  induction b with
  | nil => exact ⟨[], 1, rfl⟩
  | cons y t ih =>
    obtain ⟨a, n, e⟩ := ih
    cases y
    · exact ⟨1 :: a, n, by rw [cd_rn_f, e]; rfl⟩
    · cases a with
      | nil => exact ⟨[], n + 1, by rw [cd_rn_t, e]; rfl⟩
      | cons h a' => exact ⟨(h + 1) :: a', n, by rw [cd_rn_t, e]; rfl⟩
theorem cd_rn_cons (b : List Bool) : ∃ n r, cd_rn b = n :: r := by
  obtain ⟨a, n, e⟩ := cd_rn_sn b
  cases a with
  | nil => exact ⟨n, [], e⟩
  | cons h a' => exact ⟨h, a' ++ [n], e⟩
theorem cd_ihl (a : List Nat) (n : Nat) : cd_ih (a ++ [n + 1]) = cd_il (cd_ih (a ++ [n])) := by
  cases a with
  | nil => rfl
  | cons h a' =>
    show (h + 1) :: (a' ++ [n + 1]) = cd_il ((h + 1) :: a' ++ [n])
    rw [cd_il_app]
    rfl
theorem cd_rn_app (b : List Bool) (x : Bool) : cd_rn (b ++ [x]) = if x = true then cd_il (cd_rn b) else cd_rn b ++ [1] := by
  induction b with
  | nil => cases x <;> rfl
  | cons y t ih =>
    obtain ⟨a, n, e⟩ := cd_rn_sn t
    cases x
    · have ih' : cd_rn (t ++ [false]) = cd_rn t ++ [1] := ih
      show cd_rn (y :: (t ++ [false])) = cd_rn (y :: t) ++ [1]
      cases y
      · rw [cd_rn_f, cd_rn_f, ih']
        rfl
      · rw [cd_rn_t, cd_rn_t, ih']
        obtain ⟨m, r, e2⟩ := cd_rn_cons t
        rw [e2]
        rfl
    · have ih' : cd_rn (t ++ [true]) = cd_il (cd_rn t) := ih
      show cd_rn (y :: (t ++ [true])) = cd_il (cd_rn (y :: t))
      cases y
      · rw [cd_rn_f, cd_rn_f, ih', e, cd_il_app]
        show _ = cd_il (1 :: a ++ [n])
        rw [cd_il_app]
        rfl
      · rw [cd_rn_t, cd_rn_t, ih', e, cd_il_app, cd_ihl]
theorem cd_rn_rev (b : List Bool) : cd_rn b.reverse = (cd_rn b).reverse := by
  induction b with
  | nil => rfl
  | cons y t ih =>
    rw [List.reverse_cons, cd_rn_app, ih]
    cases y
    · rw [cd_rn_f, List.reverse_cons]
      rfl
    · rw [cd_rn_t]
      obtain ⟨m, r, e⟩ := cd_rn_cons t
      rw [e]
      show cd_il ((m :: r).reverse) = ((m + 1) :: r).reverse
      rw [List.reverse_cons, List.reverse_cons, cd_il_app]
/-! links from a function -/
def cd_lb (b : Nat → Bool) : Nat → Nat → List Bool
  | _, 0 => []
  | s, k + 1 => b s :: cd_lb b (s + 1) k
theorem cd_lb_sn (b : Nat → Bool) : ∀ k s, cd_lb b s (k + 1) = cd_lb b s k ++ [b (s + k)] := by
  intro k
  induction k with
  | zero => intro s; rfl
  | succ k ih =>
    intro s
    show b s :: cd_lb b (s + 1) (k + 1) = b s :: (cd_lb b (s + 1) k ++ [b (s + (k + 1))])
    rw [ih (s + 1), show s + 1 + k = s + (k + 1) by omega]
theorem cd_lb_rev (b b' : Nat → Bool) : ∀ k s s', (∀ i, i < k → b' (s' + i) = b (s + k - 1 - i)) → cd_lb b' s' k = (cd_lb b s k).reverse := by
  intro k
  induction k with
  | zero => intro s s' _; rfl
  | succ k ih =>
    intro s s' h
    rw [cd_lb_sn b, List.reverse_append]
    show b' s' :: cd_lb b' (s' + 1) k = b (s + k) :: (cd_lb b s k).reverse
    have h0 := h 0 (by omega)
    rw [show s + (k + 1) - 1 - 0 = s + k by omega] at h0
    rw [ih s (s' + 1) (fun i hi => ?_), ← h0]
    · rfl
    · have h1 := h (i + 1) (by omega)
      rw [show s' + 1 + i = s' + (i + 1) by omega, h1]
      congr 1
      omega
theorem cd_lb_len (b : Nat → Bool) : ∀ k s, (cd_lb b s k).length = k := by
  intro k
  induction k with
  | zero => intro s; rfl
  | succ k ih =>
    intro s
    show (cd_lb b (s + 1) k).length + 1 = k + 1
    rw [ih]
def cd_tl (b : Nat → Bool) (m s : Nat) : List Nat := if s < m then cd_rn (cd_lb b s (m - 1 - s)) else []
theorem cd_tl_0 {b : Nat → Bool} {m s : Nat} (h : m ≤ s) : cd_tl b m s = [] := if_neg (by omega)
theorem cd_tl_run {b : Nat → Bool} : ∀ n m s, s < m → 1 ≤ n → s + n ≤ m → (∀ i, i + 1 < n → b (s + i) = true) → (s + n < m → b (s + n - 1) = false) → cd_tl b m s = n :: cd_tl b m (s + n) := by
  intro n
  induction n with
  | zero => intro m s _ h; omega
  | succ n ih =>
    intro m s hs _ hm h1 h2
    by_cases z : n = 0
    · subst z
      unfold cd_tl
      rw [if_pos hs]
      by_cases y : s + (0 + 1) < m
      · rw [if_pos y, show m - 1 - s = (m - 1 - (s + (0 + 1))) + 1 by omega]
        show cd_rn (b s :: cd_lb b (s + 1) _) = _
        rw [show b s = false from h2 y, cd_rn_f]
      · rw [if_neg y, show m - 1 - s = 0 by omega]
        rfl
    · have e := ih m (s + 1) (by omega) (by omega) (by omega) (fun i hi => by rw [show s + 1 + i = s + (i + 1) by omega]; exact h1 (i + 1) (by omega)) (fun hy => by rw [show s + 1 + n - 1 = s + (n + 1) - 1 by omega]; exact h2 (by omega))
      rw [show s + 1 + n = s + (n + 1) by omega] at e
      have e0 : cd_tl b m s = cd_ih (cd_tl b m (s + 1)) := by
        unfold cd_tl
        rw [if_pos hs, if_pos (show s + 1 < m by omega), show m - 1 - s = (m - 1 - (s + 1)) + 1 by omega]
        show cd_rn (b s :: cd_lb b (s + 1) _) = _
        rw [show b s = true from h1 0 (by omega), cd_rn_t]
      rw [e0, e]
      rfl
/-! sum, product over the runs -/
def cd_ls : List Nat → Nat
  | [] => 0
  | n :: r => (2 ^ n - 1) + cd_ls r
def cd_fa : Nat → Nat
  | 0 => 1
  | n + 1 => cd_fa n * (n + 1)
def cd_lp : List Nat → Nat
  | [] => 1
  | n :: r => cd_fa n * cd_lp r
def cd_su : List Nat → Nat
  | [] => 0
  | n :: r => n + cd_su r
theorem cd_ls_app (a b : List Nat) : cd_ls (a ++ b) = cd_ls a + cd_ls b := by
  induction a with
  | nil => exact (Nat.zero_add _).symm
  | cons h t ih =>
    show (2 ^ h - 1) + cd_ls (t ++ b) = (2 ^ h - 1) + cd_ls t + cd_ls b
    rw [ih]; omega
theorem cd_ls_rev (a : List Nat) : cd_ls a.reverse = cd_ls a := by
  induction a with
  | nil => rfl
  | cons h t ih =>
    rw [List.reverse_cons, cd_ls_app, ih]
    show cd_ls t + ((2 ^ h - 1) + 0) = (2 ^ h - 1) + cd_ls t
    omega
theorem cd_lp_app (a b : List Nat) : cd_lp (a ++ b) = cd_lp a * cd_lp b := by
  induction a with
  | nil => exact (Nat.one_mul _).symm
  | cons h t ih =>
    show cd_fa h * cd_lp (t ++ b) = cd_fa h * cd_lp t * cd_lp b
    rw [ih, Nat.mul_assoc]
theorem cd_lp_rev (a : List Nat) : cd_lp a.reverse = cd_lp a := by
  induction a with
  | nil => rfl
  | cons h t ih =>
    rw [List.reverse_cons, cd_lp_app, ih]
    show cd_lp t * (cd_fa h * 1) = cd_fa h * cd_lp t
    rw [Nat.mul_one, Nat.mul_comm]
theorem cd_su_ih (l : List Nat) (h : ∃ n r, l = n :: r) : cd_su (cd_ih l) = cd_su l + 1 := by
  obtain ⟨n, r, rfl⟩ := h
  show n + 1 + cd_su r = n + cd_su r + 1
  omega
theorem cd_su_rn (b : List Bool) : cd_su (cd_rn b) = b.length + 1 := by
  induction b with
  | nil => rfl
  | cons y t ih =>
    cases y
    · rw [cd_rn_f]
      show 1 + cd_su (cd_rn t) = t.length + 1 + 1
      rw [ih]; omega
    · rw [cd_rn_t, cd_su_ih _ (cd_rn_cons t), ih]
      rfl
theorem cd_ls_ge (l : List Nat) : cd_su l ≤ cd_ls l := by
  induction l with
  | nil => exact Nat.le_refl _
  | cons n r ih =>
    show n + cd_su r ≤ (2 ^ n - 1) + cd_ls r
    have h : n < 2 ^ n := Nat.lt_two_pow_self
    omega
theorem cd_xy {x y : Nat} (hx : 1 ≤ x) (hy : 1 ≤ y) : x + y ≤ x * y + 1 := by
  obtain ⟨a, rfl⟩ : ∃ a, x = a + 1 := ⟨x - 1, by omega⟩
  obtain ⟨b, rfl⟩ : ∃ b, y = b + 1 := ⟨y - 1, by omega⟩
  have : (a + 1) * (b + 1) = a * b + a + b + 1 := by
    rw [Nat.add_mul, Nat.mul_add]; omega
  omega
theorem cd_ls_le (l : List Nat) : cd_ls l + 1 ≤ 2 ^ cd_su l := by
  induction l with
  | nil => exact Nat.le_refl _
  | cons n r ih =>
    show (2 ^ n - 1) + cd_ls r + 1 ≤ 2 ^ (n + cd_su r)
    rw [Nat.pow_add]
    have h1 : 1 ≤ 2 ^ n := Nat.one_le_two_pow
    have h2 : 1 ≤ 2 ^ cd_su r := Nat.one_le_two_pow
    have h3 := cd_xy h1 h2
    omega
/-! ===== the steps of the chain ===== -/
noncomputable def cd_dp (W H : Nat) (up : Nat → Nat → Bool) (s : Nat) : Nat := (cd_C W H up (s + 1)).1 - (cd_C W H up s).1
noncomputable def cd_dq (W H : Nat) (up : Nat → Nat → Bool) (s : Nat) : Nat := (cd_C W H up (s + 1)).2 - (cd_C W H up s).2
noncomputable def cd_lk (W H : Nat) (up : Nat → Nat → Bool) (s : Nat) : Bool := decide (cd_dp W H up s + cd_dq W H up s = 1 ∧ cd_dp W H up (s + 1) + cd_dq W H up (s + 1) = 1 ∧ cd_dp W H up s = cd_dp W H up (s + 1))
theorem cd_dp_fl {W H s : Nat} {up : Nat → Nat → Bool} (h : s < cd_N W H up) : cd_dp W H (cd_fl up) s = cd_dp W H up (cd_N W H up - 1 - s) ∧ cd_dq W H (cd_fl up) s = cd_dq W H up (cd_N W H up - 1 - s) := by
  unfold cd_dp cd_dq
  rw [cd_C_fl (show s ≤ cd_N W H up by omega), cd_C_fl (show s + 1 ≤ cd_N W H up by omega), show cd_N W H up - (s + 1) = cd_N W H up - 1 - s by omega, show cd_N W H up - 1 - s + 1 = cd_N W H up - s by omega]
  have l0 := cd_c_le (W := W) (H := H) (up := up) (show cd_N W H up - s ≤ _ by omega)
  have l1 := cd_c_le (W := W) (H := H) (up := up) (show cd_N W H up - 1 - s ≤ _ by omega)
  show (W - (cd_C W H up (cd_N W H up - 1 - s)).1) - (W - (cd_C W H up (cd_N W H up - s)).1) = _ ∧ (H - (cd_C W H up (cd_N W H up - 1 - s)).2) - (H - (cd_C W H up (cd_N W H up - s)).2) = _
  omega
theorem cd_lk_fl {W H s : Nat} {up : Nat → Nat → Bool} (h : s + 1 < cd_N W H up) : cd_lk W H (cd_fl up) s = cd_lk W H up (cd_N W H up - 2 - s) := by
  unfold cd_lk
  obtain ⟨e1, e2⟩ := cd_dp_fl (W := W) (H := H) (up := up) (show s < _ by omega)
  obtain ⟨e3, e4⟩ := cd_dp_fl (W := W) (H := H) (up := up) h
  rw [e1, e2, e3, e4, show cd_N W H up - 2 - s + 1 = cd_N W H up - 1 - s by omega, show cd_N W H up - 1 - (s + 1) = cd_N W H up - 2 - s by omega]
  refine decide_eq_decide.mpr ?_
  constructor
  · rintro ⟨a, b, c⟩
    exact ⟨b, a, c.symm⟩
  · rintro ⟨a, b, c⟩
    exact ⟨b, a, c.symm⟩
noncomputable def cd_RN (W H : Nat) (up : Nat → Nat → Bool) : List Nat := cd_tl (cd_lk W H up) (cd_N W H up) 0
theorem cd_RN_eq {W H : Nat} {up : Nat → Nat → Bool} (hW : 1 ≤ W) : cd_RN W H up = cd_rn (cd_lb (cd_lk W H up) 0 (cd_N W H up - 1)) := by
  unfold cd_RN cd_tl
  rw [if_pos (show 0 < cd_N W H up from cd_N_pos hW)]
  rfl
theorem cd_RN_fl {W H : Nat} {up : Nat → Nat → Bool} (hW : 1 ≤ W) : cd_RN W H (cd_fl up) = (cd_RN W H up).reverse := by
  rw [cd_RN_eq hW, cd_RN_eq hW, ← cd_rn_rev, cd_N_fl]
  congr 1
  refine cd_lb_rev _ _ _ 0 0 (fun i hi => ?_)
  rw [Nat.zero_add, Nat.zero_add, cd_lk_fl (by omega), show cd_N W H up - 2 - i = cd_N W H up - 1 - 1 - i by omega]
theorem cd_RN_su {W H : Nat} {up : Nat → Nat → Bool} (hW : 1 ≤ W) : cd_su (cd_RN W H up) = cd_N W H up := by
  rw [cd_RN_eq hW, cd_su_rn, cd_lb_len]
  have := cd_N_pos (H := H) (up := up) hW
  omega
/-- lifts, less one: nothing iff there is one step -/
theorem cd_ls_N {W H : Nat} {up : Nat → Nat → Bool} (hW : 1 ≤ W) (hW8 : W ≤ 8) (hH8 : H ≤ 8) : cd_ls (cd_RN W H up) < 2 ^ 16 ∧ 1 ≤ cd_ls (cd_RN W H up) ∧ (cd_ls (cd_RN W H up) - 1 = 0 ↔ cd_N W H up = 1) := by
  have h1 := cd_RN_su (H := H) (up := up) hW
  have h2 := cd_ls_ge (cd_RN W H up)
  have h3 := cd_ls_le (cd_RN W H up)
  have h4 := cd_N_pos (H := H) (up := up) hW
  have h5 := cd_N_le (W := W) (H := H) (up := up)
  rw [h1] at h2 h3
  have h6 : 2 ^ cd_N W H up ≤ 2 ^ 16 := Nat.pow_le_pow_right (by omega) (by omega)
  refine ⟨by omega, by omega, ?_⟩
  constructor
  · intro h
    omega
  · intro h
    rw [h] at h3
    have h3' : cd_ls (cd_RN W H up) + 1 ≤ 2 := h3
    omega
end
section
/-! ===== sizeOf, isAbove, findUnder ===== -/
theorem cd_sizeOf {post : Int32 → Prop} {f0_w f0_h f0_steps : Int32} {a1 a2 a3 a4 a5 a6 a7 a8 : Nat → Int32} {x : Int32} (h : post (nI (cb_pc x))) : wpX_sizeOf post (f0_w, f0_h, f0_steps, a1, a2, a3, a4, a5, a6, a7, a8) x :=
  pk_loop (σ := Unit) (fun n i _ => wX_sizeOf_4 post x f0_w f0_h f0_steps a1 a2 a3 a4 a5 a6 a7 a8 n (nI (cd_sm (fun i => (cb_bt x i).toNat) i)) (nI i)) (fun _ _ => True) 16 0 () (by omega) trivial
    (fun n _ _ => pk_le 16 16 (fun _ => h) (fun z => absurd z (by omega)))
    (fun n i _ hi _ hw => pk_le 16 i (fun z => absurd z (by omega)) (fun _ => nm_r (by rw [cb_bit x (by omega), nI_add]; rfl) (nm_r (nI_1 i) (hw () trivial))))
/-- what the three arrays say: which warp is above which weft -/
def cd_U (up : Nat → Nat → Bool) (a1 a2 a3 : Nat → Int32) : Prop := ∀ c r, c < 8 → r < 8 → vp_in (a2 r) 4 ∧ ((a3 (a2 r).toNatClampNeg >>> (a1 c &&& 31)) &&& 1) = nI (up c r).toNat
theorem cd_isAbove {post : Int32 → Prop} {f0_w f0_h f0_steps : Int32} {a1 a2 a3 a4 a5 a6 a7 a8 : Nat → Int32} {up : Nat → Nat → Bool} {c r : Nat} (hU : cd_U up a1 a2 a3) (hc : c < 8) (hr : r < 8) (h : post (nI (up c r).toNat)) : wpX_isAbove post (f0_w, f0_h, f0_steps, a1, a2, a3, a4, a5, a6, a7, a8) (nI c) (nI r) := by
  have e1 : (nI c).toNatClampNeg = c := nI_clamp (by omega)
  have e2 : (nI r).toNatClampNeg = r := nI_clamp (by omega)
  obtain ⟨u1, u2⟩ := hU c r hc hr
  unfold wpX_isAbove
  dsimp only
  rw [e1, e2, u2]
  refine ⟨pk_in r 8 hr, u1, pk_in c 8 hc, ?_⟩
  cases hb : up c r
  · rw [hb] at h
    exact br_f (by decide) h
  · rw [hb] at h
    exact br_t rfl h
/-- the bits of under, when the first k crossings are done -/
def cd_uP (W H : Nat) (up : Nat → Nat → Bool) (k t i : Nat) : Prop := (t < W ∧ 8 ≤ i ∧ i < 8 + H ∧ up t (i - 8) = true ∧ (i - 8) * W + t < k) ∨ (8 ≤ t ∧ t < 8 + H ∧ i < W ∧ up i (t - 8) = false ∧ (t - 8) * W + i < k)
theorem cd_dm {W k x y : Nat} (hx : x < W) : y * W + x = k ↔ x = k % W ∧ y = k / W := by
  constructor
  · intro h
    subst h
    constructor
    · rw [Nat.add_comm, Nat.add_mul_mod_self_right, Nat.mod_eq_of_lt hx]
    · rw [Nat.add_comm, Nat.add_mul_div_right _ _ (by omega), Nat.div_eq_of_lt hx, Nat.zero_add]
  · rintro ⟨h1, h2⟩
    rw [h1, h2, Nat.mul_comm]
    exact Nat.div_add_mod k W
theorem cd_uP_t {W H k t i : Nat} {up : Nat → Nat → Bool} (hW1 : 1 ≤ W) (hk : k < W * H) (h : up (k % W) (k / W) = true) : cd_uP W H up (k + 1) t i ↔ cd_uP W H up k t i ∨ (t = k % W ∧ i = 8 + k / W) := by
  have hc : k % W < W := Nat.mod_lt _ (by omega)
  have hr : k / W < H := Nat.div_lt_of_lt_mul hk
  have e := (cd_dm (k := k) hc).mpr ⟨rfl, rfl⟩
  unfold cd_uP
  constructor
  · rintro (⟨h1, h2, h3, h4, h5⟩ | ⟨h1, h2, h3, h4, h5⟩)
    · by_cases z : (i - 8) * W + t = k
      · obtain ⟨z1, z2⟩ := (cd_dm h1).mp z
        exact Or.inr ⟨z1, by omega⟩
      · exact Or.inl (Or.inl ⟨h1, h2, h3, h4, by omega⟩)
    · by_cases z : (t - 8) * W + i = k
      · obtain ⟨z1, z2⟩ := (cd_dm h3).mp z
        rw [z1, z2, h] at h4
        exact Bool.noConfusion h4
      · exact Or.inl (Or.inr ⟨h1, h2, h3, h4, by omega⟩)
  · rintro ((⟨h1, h2, h3, h4, h5⟩ | ⟨h1, h2, h3, h4, h5⟩) | ⟨h1, h2⟩)
    · exact Or.inl ⟨h1, h2, h3, h4, by omega⟩
    · exact Or.inr ⟨h1, h2, h3, h4, by omega⟩
    · subst h1 h2
      refine Or.inl ⟨hc, Nat.le_add_right _ _, by omega, ?_, ?_⟩
      · rw [Nat.add_sub_cancel_left]; exact h
      · rw [Nat.add_sub_cancel_left]; omega
theorem cd_uP_f {W H k t i : Nat} {up : Nat → Nat → Bool} (hW1 : 1 ≤ W) (hk : k < W * H) (h : up (k % W) (k / W) = false) : cd_uP W H up (k + 1) t i ↔ cd_uP W H up k t i ∨ (t = 8 + k / W ∧ i = k % W) := by
  have hc : k % W < W := Nat.mod_lt _ (by omega)
  have hr : k / W < H := Nat.div_lt_of_lt_mul hk
  have e := (cd_dm (k := k) hc).mpr ⟨rfl, rfl⟩
  unfold cd_uP
  constructor
  · rintro (⟨h1, h2, h3, h4, h5⟩ | ⟨h1, h2, h3, h4, h5⟩)
    · by_cases z : (i - 8) * W + t = k
      · obtain ⟨z1, z2⟩ := (cd_dm h1).mp z
        rw [z1, z2, h] at h4
        exact Bool.noConfusion h4
      · exact Or.inl (Or.inl ⟨h1, h2, h3, h4, by omega⟩)
    · by_cases z : (t - 8) * W + i = k
      · obtain ⟨z1, z2⟩ := (cd_dm h3).mp z
        exact Or.inr ⟨by omega, z1⟩
      · exact Or.inl (Or.inr ⟨h1, h2, h3, h4, by omega⟩)
  · rintro ((⟨h1, h2, h3, h4, h5⟩ | ⟨h1, h2, h3, h4, h5⟩) | ⟨h1, h2⟩)
    · exact Or.inl ⟨h1, h2, h3, h4, by omega⟩
    · exact Or.inr ⟨h1, h2, h3, h4, by omega⟩
    · subst h1 h2
      refine Or.inr ⟨Nat.le_add_right _ _, by omega, hc, ?_, ?_⟩
      · rw [Nat.add_sub_cancel_left]; exact h
      · rw [Nat.add_sub_cancel_left]; omega
/-- one bit set in one place -/
theorem cd_set {a : Nat → Int32} {P P' : Nat → Nat → Prop} {x y : Nat} (hy : y < 32) (h : ∀ t i, t < 16 → i < 32 → (cb_bt (a t) i = true ↔ P t i)) (hP : ∀ t i, P' t i ↔ P t i ∨ (t = x ∧ i = y)) :
    ∀ t i, t < 16 → i < 32 → (cb_bt (upd a x (a x ||| ((1 : Int32) <<< (nI y &&& 31))) t) i = true ↔ P' t i) := by
  intro t i ht hi
  rw [hP, ← h t i ht hi]
  by_cases z : t = x
  · subst z
    rw [pk_us, cb_or, cb_one hy hi, Bool.or_eq_true, decide_eq_true_iff]
    constructor
    · rintro (h1 | h1)
      · exact Or.inl h1
      · exact Or.inr ⟨rfl, h1⟩
    · rintro (h1 | h1)
      · exact Or.inl h1
      · exact Or.inr h1.2
  · rw [pk_un z]
    constructor
    · intro h1
      exact Or.inl h1
    · rintro (h1 | h1)
      · exact h1
      · exact absurd h1.1 z
/-- under is found -/
def cd_V (W H : Nat) (up : Nat → Nat → Bool) (a4 : Nat → Int32) : Prop := ∀ t i, t < 16 → i < 32 → (cb_bt (a4 t) i = true ↔ cd_uP W H up (W * H) t i)
theorem cd_fu23 {post : St2 → Prop} {W H : Nat} {f0_steps : Int32} {a1 a2 a3 a4 a5 a6 a7 a8 : Nat → Int32} {up : Nat → Nat → Bool} (hW1 : 1 ≤ W) (hW : W ≤ 8) (hH : H ≤ 8) (hU : cd_U up a1 a2 a3) (h0 : ∀ t i, t < 16 → i < 32 → (cb_bt (a4 t) i = true ↔ cd_uP W H up 0 t i))
    (hp : ∀ a, cd_V W H up a → post (nI W, nI H, f0_steps, a1, a2, a3, a, a5, a6, a7, a8)) : ∃ n, wX_findUnder_23 post (nI W) (nI H) f0_steps n 0 a1 a2 a3 a4 a5 a6 a7 a8 := by
  have hWH : W * H ≤ 8 * 8 := Nat.mul_le_mul hW hH
  refine pk_loop (fun n k s => wX_findUnder_23 post (nI W) (nI H) f0_steps n (nI k) a1 a2 a3 s a5 a6 a7 a8) (fun k s => ∀ t i, t < 16 → i < 32 → (cb_bt (s t) i = true ↔ cd_uP W H up k t i)) (W * H) 0 a4 (by omega) h0 ?_ ?_
  · intro n s h
    exact pk_le (W * H) (W * H) (fun _ => hp s h) (fun z => absurd z (by omega)) (pk_mul W H)
  · intro n k s hk h hw
    have hc : k % W < W := Nat.mod_lt _ (by omega)
    have hr : k / W < H := Nat.div_lt_of_lt_mul hk
    have hn : ¬ nI W = 0 := nI_ne0 (by omega) (by omega)
    refine pk_le (W * H) k (fun z => absurd z (by omega)) (fun _ => ⟨hn, nm_r (pk_rem (by omega) (by omega) (by omega)) ⟨hn, nm_r (pk_div (by omega) (by omega) (by omega)) (cd_isAbove hU (by omega) (by omega) ?_)⟩⟩) (pk_mul W H)
    have e8 : (8 : Int32) + nI (k / W) = nI (8 + k / W) := nI_add 8 (k / W)
    have ec : (nI (k % W)).toNatClampNeg = k % W := nI_clamp (by omega)
    have er : (nI (8 + k / W)).toNatClampNeg = 8 + k / W := nI_clamp (by omega)
    cases hb : up (k % W) (k / W)
    · refine br_t rfl ?_
      rw [e8, er]
      exact ⟨pk_in (8 + k / W) 16 (by omega), pk_in (8 + k / W) 16 (by omega), nm_e (nm_r (nI_1 k) (hw _ (cd_set (by omega) h (fun t i => cd_uP_f hW1 hk hb))))⟩
    · refine br_f (by decide) ?_
      rw [e8, ec]
      exact ⟨pk_in (k % W) 16 (by omega), pk_in (k % W) 16 (by omega), nm_e (nm_r (nI_1 k) (hw _ (cd_set (by omega) h (fun t i => cd_uP_t hW1 hk hb))))⟩
theorem cd_findUnder {post : St2 → Prop} {W H : Nat} {f0_steps : Int32} {a1 a2 a3 a4 a5 a6 a7 a8 : Nat → Int32} {up : Nat → Nat → Bool} (hW1 : 1 ≤ W) (hW : W ≤ 8) (hH : H ≤ 8) (hU : cd_U up a1 a2 a3)
    (hp : ∀ a, cd_V W H up a → post (nI W, nI H, f0_steps, a1, a2, a3, a, a5, a6, a7, a8)) : wpX_findUnder post (nI W, nI H, f0_steps, a1, a2, a3, a4, a5, a6, a7, a8) := by
  refine pk_loop (fun n k s => wX_findUnder_2 post (nI W) (nI H) f0_steps n (nI k) a1 a2 a3 s a5 a6 a7 a8) (fun k s => ∀ t, t < k → s t = 0) 16 0 a4 (by omega) (fun t ht => absurd ht (by omega)) ?_ ?_
  · intro n s h
    refine pk_le 16 16 (fun _ => cd_fu23 hW1 hW hH hU (fun t i ht hi => ?_) hp) (fun z => absurd z (by omega))
    rw [h t ht, cb_0]
    constructor
    · intro z
      exact Bool.noConfusion z
    · rintro (⟨_, _, _, _, z⟩ | ⟨_, _, _, _, z⟩) <;> omega
  · intro n k s hk h hw
    refine pk_le 16 k (fun z => absurd z (by omega)) (fun _ => ⟨pk_in k 16 hk, nm_e (nm_r (nI_1 k) (hw _ (fun t ht => ?_)))⟩)
    rw [nI_clamp (by omega)]
    by_cases z : t = k
    · rw [z, pk_us]
    · rw [pk_un z]
      exact h t (by omega)
/-! what under says -/
theorem cd_V_w {W H c r : Nat} {up : Nat → Nat → Bool} {a : Nat → Int32} (hW : W ≤ 8) (hH : H ≤ 8) (h : cd_V W H up a) (hc : c < W) (hr : r < H) : cb_bt (a c) (8 + r) = up c r := by
  have h1 := h c (8 + r) (by omega) (by omega)
  have h2 : r * W + c < W * H := by
    have h3 : (r + 1) * W ≤ H * W := Nat.mul_le_mul_right W (by omega)
    rw [Nat.succ_mul, Nat.mul_comm H W] at h3
    omega
  rw [Bool.eq_iff_iff, h1]
  unfold cd_uP
  rw [Nat.add_sub_cancel_left]
  constructor
  · rintro (z | z)
    · exact z.2.2.2.1
    · omega
  · intro z
    exact Or.inl ⟨hc, by omega, by omega, z, h2⟩
theorem cd_V_w0 {W H c i : Nat} {up : Nat → Nat → Bool} {a : Nat → Int32} (hW : W ≤ 8) (h : cd_V W H up a) (hc : c < 8) (hi : i < 32) (hn : i < 8 ∨ 8 + H ≤ i ∨ W ≤ c) : cb_bt (a c) i = false := by
  have h1 := h c i (by omega) hi
  cases e : cb_bt (a c) i
  · rfl
  · rcases h1.mp e with z | z <;> omega
theorem cd_V_f {W H c r : Nat} {up : Nat → Nat → Bool} {a : Nat → Int32} (hW : W ≤ 8) (hH : H ≤ 8) (h : cd_V W H up a) (hc : c < W) (hr : r < H) : cb_bt (a (8 + r)) c = !up c r := by
  have h1 := h (8 + r) c (by omega) (by omega)
  have h2 : r * W + c < W * H := by
    have h3 : (r + 1) * W ≤ H * W := Nat.mul_le_mul_right W (by omega)
    rw [Nat.succ_mul, Nat.mul_comm H W] at h3
    omega
  rw [Bool.eq_iff_iff, h1]
  unfold cd_uP
  rw [Nat.add_sub_cancel_left, Bool.not_eq_true']
  constructor
  · rintro (z | z)
    · omega
    · exact z.2.2.2.1
  · intro z
    exact Or.inr ⟨by omega, by omega, hc, z, h2⟩
theorem cd_V_f0 {W H r i : Nat} {up : Nat → Nat → Bool} {a : Nat → Int32} (hW : W ≤ 8) (h : cd_V W H up a) (hr : r < 8) (hi : i < 32) (hn : W ≤ i ∨ H ≤ r) : cb_bt (a (8 + r)) i = false := by
  have h1 := h (8 + r) i (by omega) hi
  cases e : cb_bt (a (8 + r)) i
  · rfl
  · rcases h1.mp e with z | z <;> omega
theorem cd_pc_w {W H c : Nat} {up : Nat → Nat → Bool} {a : Nat → Int32} (hW : W ≤ 8) (hH : H ≤ 8) (h : cd_V W H up a) (hc : c < W) : cb_pc (a c) = cd_dW H up c := by
  unfold cb_pc cd_dW
  rw [show (16 : Nat) = 8 + 8 from rfl, cd_sm_split, cd_sm_zero.mpr (fun i hi => by rw [cd_V_w0 hW h (by omega) (by omega) (Or.inl hi)]; rfl), Nat.zero_add, ← cd_sm_pre (fun j => (up c j).toNat) hH]
  refine cd_sm_congr (fun i hi => ?_)
  by_cases z : i < H
  · rw [if_pos z, cd_V_w hW hH h hc z]
  · rw [if_neg z, cd_V_w0 hW h (by omega) (by omega) (Or.inr (Or.inl (by omega)))]
    rfl
theorem cd_pc_f {W H r : Nat} {up : Nat → Nat → Bool} {a : Nat → Int32} (hW : W ≤ 8) (hH : H ≤ 8) (h : cd_V W H up a) (hr : r < H) : cb_pc (a (8 + r)) = cd_dF W up r := by
  unfold cb_pc cd_dF
  rw [← cd_sm_pre (fun j => (!up j r).toNat) (show W ≤ 16 by omega)]
  refine cd_sm_congr (fun i hi => ?_)
  by_cases z : i < W
  · rw [if_pos z, cd_V_f hW hH h z hr]
  · rw [if_neg z, cd_V_f0 hW h (by omega) (by omega) (Or.inl (by omega))]
    rfl
end
section
/-! ===== sort ===== -/
theorem cd_sort31 {post : St2 → Prop} {J2 : Int32 → (Nat → Int32) → (Nat → Int32) → (Nat → Int32) → (Nat → Int32) → (Nat → Int32) → (Nat → Int32) → (Nat → Int32) → (Nat → Int32) → Prop} {f0_w f0_h f0_steps x2 : Int32} {a1 a2 a3 a4 a5 a6 a7 a8 : Nat → Int32} {f i : Nat} {o D : Nat → Nat}
    (hf : f + i < 16) (ho : ∀ j, j < i → o j < i) (hD : ∀ x, D x = cb_pc (a4 (f + x))) (hs : cd_so D o i) (h5 : ∀ j, j < i → a5 (f + j) = nI (f + o j))
    (hJ : ∀ (k : Nat) (b : Nat → Int32), k ≤ i → (∀ j, j < k → D i ≤ D (o j)) → (∀ j, k ≤ j → j < i → D (o j) ≤ D i) → (∀ j, j ≤ i → b (f + j) = nI (f + cd_ins o k i j)) → (∀ x, x < f ∨ f + i < x → b x = a5 x) → J2 (nI (i + 1)) a1 a2 a3 a4 b a6 a7 a8) :
    ∃ n, wX_sort_31 post J2 (nI f) x2 (nI i) (nI (f + i)) (nI (D i)) f0_w f0_h f0_steps n (nI i) 1 a1 a2 a3 a4 a5 a6 a7 a8 := by
  have hD16 : ∀ x, D x ≤ 16 := fun x => by rw [hD]; exact cb_pc_le _
  refine loop_m (fun n (s : Nat × Nat × (Nat → Int32)) => wX_sort_31 post J2 (nI f) x2 (nI i) (nI (f + i)) (nI (D i)) f0_w f0_h f0_steps n (nI s.1) (nI s.2.1) a1 a2 a3 a4 s.2.2 a6 a7 a8)
    (fun s => s.1 ≤ i ∧ s.2.1 ≤ 1 ∧ (s.2.1 = 0 → 0 < s.1 ∧ D i ≤ D (o (s.1 - 1))) ∧ (∀ j, j < s.1 → s.2.2 (f + j) = nI (f + o j)) ∧ (∀ j, s.1 < j → j ≤ i → s.2.2 (f + j) = nI (f + o (j - 1))) ∧ (∀ x, x < f ∨ f + i < x → s.2.2 x = a5 x) ∧ (∀ j, s.1 ≤ j → j < i → D (o j) ≤ D i))
    (fun s => s.1 + s.2.1) ?_ (i, 1, a5) ⟨Nat.le_refl _, Nat.le_refl _, fun z => absurd z Nat.one_ne_zero, h5, fun j h1 h2 => absurd h1 (Nat.not_lt.mpr h2), fun x _ => rfl, fun j h1 h2 => absurd h1 (Nat.not_le.mpr h2)⟩
  rintro n ⟨k, on, b⟩ ⟨q1, q2, q3, q4, q5, q6, q7⟩ hw
  have q1 : k ≤ i := q1
  have q2 : on ≤ 1 := q2
  have q3 : on = 0 → 0 < k ∧ D i ≤ D (o (k - 1)) := q3
  have q4 : ∀ j, j < k → b (f + j) = nI (f + o j) := q4
  have q5 : ∀ j, k < j → j ≤ i → b (f + j) = nI (f + o (j - 1)) := q5
  have q6 : ∀ x, x < f ∨ f + i < x → b x = a5 x := q6
  have q7 : ∀ j, k ≤ j → j < i → D (o j) ≤ D i := q7
  have ek : nI f + nI k = nI (f + k) := nI_add f k
  have ck : (nI (f + k)).toNatClampNeg = f + k := nI_clamp (by omega)
  have exit : (∀ j, j < k → D i ≤ D (o j)) → wX_sort_108 post J2 (nI f) x2 (nI i) (nI (f + i)) (nI k) f0_w f0_h f0_steps a1 a2 a3 a4 b a6 a7 a8 := by
    intro hk
    unfold wX_sort_108
    rw [ek, ck, cb_nb (f + i) (by omega)]
    refine ⟨pk_in (f + k) 16 (by omega), nm_e (nm_r (nI_1 i) (hJ k _ q1 hk q7 ?_ ?_))⟩
    · intro j hj
      rcases Nat.lt_trichotomy j k with z | z | z
      · rw [pk_un (by omega), cd_ins_lt z]
        exact q4 j z
      · rw [z, pk_us, cd_ins_eq]
      · rw [pk_un (by omega), cd_ins_gt z]
        exact q5 j z hj
    · intro x hx
      rw [pk_un (by omega)]
      exact q6 x hx
  refine pk_le k 0 (fun z => exit (fun j hj => absurd hj (by omega))) (fun z => pk_eq on 0 (fun y => exit ?_) (fun y => ?_))
  · intro j hj
    have h1 := (q3 y).2
    by_cases e : j = k - 1
    · rw [e]; exact h1
    · have h2 := hs j (k - 1) (by omega) (by omega)
      omega
  · have e1 : nI f + nI k - 1 = nI (f + (k - 1)) := by
      rw [ek, show f + k = f + (k - 1) + 1 by omega, nI_pred]
    have c1 : (nI (f + (k - 1))).toNatClampNeg = f + (k - 1) := nI_clamp (by omega)
    have l1 := ho (k - 1) (by omega)
    have c2 : (nI (f + o (k - 1))).toNatClampNeg = f + o (k - 1) := nI_clamp (by omega)
    show vp_in (nI f + nI k - 1) 16 ∧ vp_in (b (nI f + nI k - 1).toNatClampNeg) 16 ∧ wpX_sizeOf _ _ (a4 (b (nI f + nI k - 1).toNatClampNeg).toNatClampNeg)
    rw [e1, c1, q4 (k - 1) (by omega), c2]
    refine ⟨pk_in (f + (k - 1)) 16 (by omega), pk_in (f + o (k - 1)) 16 (by omega), cd_sizeOf ?_⟩
    rw [← hD]
    have b1 := hD16 i
    have b2 := hD16 (o (k - 1))
    refine pk_le (D i) (D (o (k - 1))) (fun g => ?_) (fun g => ?_)
    · refine br_t rfl ?_
      exact hw (k, 0, b) ⟨q1, Nat.zero_le 1, fun _ => ⟨z, g⟩, q4, q5, q6, q7⟩ (by show k + 0 < k + on; omega)
    · refine br_f (by decide) ?_
      show vp_in (nI f + nI k - 1) 16 ∧ vp_in (nI f + nI k) 16 ∧ ∀ a5_17 : Nat → Int32, a5_17 = upd b (nI f + nI k).toNatClampNeg (vp_nar .byte (b (nI f + nI k - 1).toNatClampNeg)) → _
      rw [e1, c1, ek, ck, q4 (k - 1) (by omega), cb_vb (by omega)]
      refine ⟨pk_in (f + (k - 1)) 16 (by omega), pk_in (f + k) 16 (by omega), nm_e (nm_r (sb_m1 z) ?_)⟩
      refine hw (k - 1, 1, upd b (f + k) (nI (f + o (k - 1)))) ⟨?_, Nat.le_refl 1, fun w => absurd w Nat.one_ne_zero, ?_, ?_, ?_, ?_⟩ (by show k - 1 + 1 < k + on; omega)
      · show k - 1 ≤ i
        omega
      · intro j hj
        have hj' : j < k - 1 := hj
        show upd b (f + k) (nI (f + o (k - 1))) (f + j) = _
        rw [pk_un (by omega)]
        exact q4 j (by omega)
      · intro j hj hji
        have hj' : k - 1 < j := hj
        show upd b (f + k) (nI (f + o (k - 1))) (f + j) = _
        by_cases e : j = k
        · rw [e, pk_us]
        · rw [pk_un (by omega)]
          exact q5 j (by omega) hji
      · intro x hx
        show upd b (f + k) (nI (f + o (k - 1))) x = _
        rw [pk_un (by omega)]
        exact q6 x hx
      · intro j hj hji
        have hj' : k - 1 ≤ j := hj
        by_cases e : j = k - 1
        · rw [e]; omega
        · exact q7 j (by omega) hji
theorem cd_sort {post : St2 → Prop} {f0_w f0_h f0_steps : Int32} {a1 a2 a3 a4 a5 a6 a7 a8 : Nat → Int32} {f m : Nat} {D : Nat → Nat} (hf : f + m ≤ 16) (hD : ∀ x, D x = cb_pc (a4 (f + x)))
    (hp : ∀ (b : Nat → Int32) (o : Nat → Nat), cd_rx o m → cd_so D o m → (∀ j, j < m → b (f + j) = nI (f + o j)) → (∀ x, x < f ∨ f + m ≤ x → b x = a5 x) → post (f0_w, f0_h, f0_steps, a1, a2, a3, a4, b, a6, a7, a8)) :
    wpX_sort post (f0_w, f0_h, f0_steps, a1, a2, a3, a4, a5, a6, a7, a8) (nI f) (nI m) := by
  refine pk_loop (fun n i s => wX_sort_2 post (nI f) (nI m) f0_w f0_h f0_steps n (nI i) a1 a2 a3 a4 s a6 a7 a8)
    (fun i s => ∃ o : Nat → Nat, cd_rx o i ∧ cd_so D o i ∧ (∀ j, j < i → s (f + j) = nI (f + o j)) ∧ (∀ x, x < f ∨ f + m ≤ x → s x = a5 x)) m 0 a5 (by omega)
    ⟨fun x => x, cd_rx_0 _, fun j k _ h => absurd h (Nat.not_lt_zero k), fun j h => absurd h (Nat.not_lt_zero j), fun _ _ => rfl⟩ ?_ ?_
  · rintro n s ⟨o, h1, h2, h3, h4⟩
    exact pk_le m m (fun _ => hp s o h1 h2 h3 h4) (fun z => absurd z (by omega))
  · rintro n i s hi ⟨o, h1, h2, h3, h4⟩ hw
    refine pk_le m i (fun z => absurd z (by omega)) (fun _ => nm_r (nI_add f i) ⟨pk_in (f + i) 16 (by omega), ?_⟩)
    rw [nI_clamp (show f + i < 2 ^ 31 by omega)]
    refine cd_sizeOf ?_
    rw [← hD]
    refine cd_sort31 (by omega) (fun j hj => cd_rx_lt h1 hj) hD h2 h3 (fun k b k1 k2 k3 k4 k5 => hw b ⟨cd_ins o k i, cd_ins_rx h1 k1, cd_ins_so h2 k1 k2 k3, fun j hj => k4 j (by omega), fun x hx => ?_⟩)
    rw [k5 x (by omega)]
    exact h4 x hx
end
section
/-! ===== lacking, closeStep, findSteps ===== -/
/-- order is found -/
def cd_O (W H : Nat) (o o2 : Nat → Nat) (a5 : Nat → Int32) : Prop := ∀ t, cd_v W H t = true → a5 t = nI (cd_od o o2 t)
theorem cd_lacking {post : Int32 → Prop} {W H p q : Nat} {f0_steps : Int32} {a1 a2 a3 a4 a5 a6 a7 a8 : Nat → Int32} {up : Nat → Nat → Bool} {o o2 : Nat → Nat} (hW : W ≤ 8) (hH : H ≤ 8) (hV : cd_V W H up a4) (k : cd_ok W H up o o2) (hO : cd_O W H o o2 a5) (hp : p ≤ W) (hq : q ≤ H)
    (h : post (nI (cd_VI W H (cd_pm up o o2) (cd_pr (p, q))))) : wpX_lacking post (nI W, nI H, f0_steps, a1, a2, a3, a4, a5, a6, a7, a8) (nI p) (nI q) := by
  have l39 : ∃ n, wX_lacking_39 post (nI p) (nI q) (nI W) (nI H) f0_steps a1 a2 a3 a4 a5 a6 a7 a8 n (nI (cd_sm (cd_dW H (cd_pm up o o2)) p)) 0 := by
    refine pk_loop (σ := Unit) (fun n i _ => wX_lacking_39 post (nI p) (nI q) (nI W) (nI H) f0_steps a1 a2 a3 a4 a5 a6 a7 a8 n (nI (cd_sm (cd_dW H (cd_pm up o o2)) p + cd_sm (cd_dF W (cd_pm up o o2)) i)) (nI i)) (fun _ _ => True) q 0 () (by omega) trivial ?_ ?_
    · intro n _ _
      refine pk_le q q (fun _ => ?_) (fun z => absurd z (by omega))
      have e := cd_lack (H := H) (cd_pm up o o2) hW hp hq
      have e2 : nI p * nI H + nI q * nI W - nI p * nI q - nI (cd_sm (cd_dW H (cd_pm up o o2)) p + cd_sm (cd_dF W (cd_pm up o o2)) q) = nI (cd_VI W H (cd_pm up o o2) (cd_pr (p, q))) := by
        rw [pk_mul, pk_mul, pk_mul, nI_add, pk_sub (by omega), pk_sub (by omega)]
        congr 1
        omega
      rw [e2]
      exact h
    · intro n i _ hi _ hw
      have c1 : (nI (8 + i)).toNatClampNeg = 8 + i := nI_clamp (by omega)
      have v1 := hO (8 + i) (cd_v_f (by omega))
      rw [cd_od_f] at v1
      have l1 := cd_rx_lt k.2.1 (show i < H by omega)
      have c2 : (nI (8 + o2 i)).toNatClampNeg = 8 + o2 i := nI_clamp (by omega)
      have e8 : (8 : Int32) + nI i = nI (8 + i) := nI_add 8 i
      refine pk_le q i (fun z => absurd z (by omega)) (fun _ => ?_)
      rw [e8, c1, v1, c2]
      refine ⟨pk_in (8 + i) 16 (by omega), pk_in (8 + o2 i) 16 (by omega), cd_sizeOf ?_⟩
      rw [cd_pc_f hW hH hV l1, ← cd_pm_dF k]
      exact nm_r (by rw [nI_add, Nat.add_assoc]; rfl) (nm_r (nI_1 i) (hw () trivial))
  refine pk_loop (σ := Unit) (fun n i _ => wX_lacking_5 post (nI p) (nI q) (nI W) (nI H) f0_steps a1 a2 a3 a4 a5 a6 a7 a8 n (nI (cd_sm (cd_dW H (cd_pm up o o2)) i)) (nI i)) (fun _ _ => True) p 0 () (by omega) trivial ?_ ?_
  · intro n _ _
    exact pk_le p p (fun _ => l39) (fun z => absurd z (by omega))
  · intro n i _ hi _ hw
    have c1 : (nI i).toNatClampNeg = i := nI_clamp (by omega)
    have v1 := hO i (cd_v_w (by omega))
    rw [cd_od_w (by omega)] at v1
    have l1 := cd_rx_lt k.1 (show i < W by omega)
    have c2 : (nI (o i)).toNatClampNeg = o i := nI_clamp (by omega)
    refine pk_le p i (fun z => absurd z (by omega)) (fun _ => ?_)
    rw [c1, v1, c2]
    refine ⟨pk_in i 16 (by omega), pk_in (o i) 16 (by omega), cd_sizeOf ?_⟩
    rw [cd_pc_w hW hH hV l1, ← cd_pm_dW k]
    exact nm_r (nI_add _ _) (nm_r (nI_1 i) (hw () trivial))
/-- stepOf while a step is closed: those before as they were, those of the step with its number -/
def cd_B (W H : Nat) (o o2 : Nat → Nat) (z z' : Nat × Nat) (m : Nat) (a b : Nat → Int32) : Prop := (∀ t, cd_v W H t = true → cd_pr z t = true → b (cd_od o o2 t) = a (cd_od o o2 t)) ∧ (∀ t, cd_v W H t = true → cd_pr z t = false → cd_pr z' t = true → b (cd_od o o2 t) = nI m)
theorem cd_B_put {W H : Nat} {o o2 : Nat → Nat} {z z' z'' : Nat × Nat} {m x : Nat} {a b : Nat → Int32} (hW : W ≤ 8) (ho : cd_rx o W) (ho2 : cd_rx o2 H) (h : cd_B W H o o2 z z' m a b) (hx : cd_v W H x = true) (h1 : cd_pr z x = false) (h2 : ∀ t, cd_v W H t = true → cd_pr z'' t = true → t = x ∨ cd_pr z' t = true) : cd_B W H o o2 z z'' m a (upd b (cd_od o o2 x) (nI m)) := by
  have key : ∀ t, cd_v W H t = true → t ≠ x → upd b (cd_od o o2 x) (nI m) (cd_od o o2 t) = b (cd_od o o2 t) := by
    intro t ht hn
    exact pk_un (fun e => hn (cd_od_inj hW ho ho2 ht hx e))
  constructor
  · intro t ht hz
    rw [key t ht (fun e => by rw [e, h1] at hz; exact Bool.noConfusion hz)]
    exact h.1 t ht hz
  · intro t ht hz hz'
    by_cases e : t = x
    · rw [e, pk_us]
    · rw [key t ht e]
      rcases h2 t ht hz' with y | y
      · exact absurd y e
      · exact h.2 t ht hz y
theorem cd_pr_w1 {i q t : Nat} (h : cd_pr (i + 1, q) t = true) : t = i ∨ cd_pr (i, q) t = true := by
  unfold cd_pr at h ⊢
  by_cases z : t < 8
  · rw [if_pos z] at h ⊢
    have h' : t < i + 1 := of_decide_eq_true h
    by_cases e : t = i
    · exact Or.inl e
    · exact Or.inr (decide_eq_true (show t < i by omega))
  · rw [if_neg z] at h ⊢
    exact Or.inr h
theorem cd_pr_f1 {p j t : Nat} (h : cd_pr (p, j + 1) t = true) : t = 8 + j ∨ cd_pr (p, j) t = true := by
  unfold cd_pr at h ⊢
  by_cases z : t < 8
  · rw [if_pos z] at h ⊢
    exact Or.inr h
  · rw [if_neg z] at h ⊢
    have h' : t < 8 + (j + 1) := of_decide_eq_true h
    by_cases e : t = 8 + j
    · exact Or.inl e
    · exact Or.inr (decide_eq_true (show t < 8 + j by omega))
theorem cd_closeStep {post : St2 → Prop} {W H fw ff wa we m : Nat} {a1 a2 a3 a4 a5 a6 a7 a8 : Nat → Int32} {o o2 : Nat → Nat} (hW : W ≤ 8) (hH : H ≤ 8) (ho : cd_rx o W) (ho2 : cd_rx o2 H) (hO : cd_O W H o o2 a5) (h1 : fw ≤ wa) (h2 : wa ≤ W) (h3 : ff ≤ we) (h4 : we ≤ H) (hm : m < 17)
    (hp : ∀ b, cd_B W H o o2 (fw, ff) (wa, we) m a6 b → post (nI W, nI H, nI (m + 1), a1, a2, a3, a4, a5, b, upd a7 m (nI (wa - fw + (we - ff))), upd a8 m (if fw < wa then 1 else 0))) :
    wpX_closeStep post (nI W, nI H, nI m, a1, a2, a3, a4, a5, a6, a7, a8) (nI fw) (nI ff) (nI wa) (nI we) := by
  have cm : (nI m).toNatClampNeg = m := nI_clamp (by omega)
  have nm : (nI m).toInt8.toInt32 = nI m := cb_nb m (by omega)
  have fin : ∀ b, cd_B W H o o2 (fw, ff) (wa, we) m a6 b → ∀ n, wX_closeStep_35 post (nI fw) (nI ff) (nI wa) (nI we) (nI W) (nI H) (nI m) (n + 1) (nI we) a1 a2 a3 a4 a5 b a7 a8 := by
    intro b hb n
    have e : nI wa - nI fw + nI we - nI ff = nI (wa - fw + (we - ff)) := by
      rw [pk_sub h1, nI_add, pk_sub (by omega)]
      congr 1
      omega
    have hpb := hp b hb
    refine pk_le we we (fun _ => ?_) (fun z => absurd z (by omega))
    rw [e, cb_nb _ (by omega), cm]
    refine ⟨pk_in m 17 hm, nm_e (pk_le wa fw (fun z => ?_) (fun z => ?_))⟩
    · rw [if_neg (show ¬ fw < wa by omega)] at hpb
      unfold wX_closeStep_104
      rw [cm]
      exact ⟨pk_in m 17 hm, nm_r (by rfl) (nm_r (nI_1 m) hpb)⟩
    · rw [if_pos z] at hpb
      unfold wX_closeStep_104
      rw [cm]
      exact ⟨pk_in m 17 hm, nm_r (by rfl) (nm_r (nI_1 m) hpb)⟩
  have l35 : ∀ b, cd_B W H o o2 (fw, ff) (wa, ff) m a6 b → ∃ n, wX_closeStep_35 post (nI fw) (nI ff) (nI wa) (nI we) (nI W) (nI H) (nI m) n (nI ff) a1 a2 a3 a4 a5 b a7 a8 := by
    intro b hb
    refine pk_loop (fun n i s => wX_closeStep_35 post (nI fw) (nI ff) (nI wa) (nI we) (nI W) (nI H) (nI m) n (nI i) a1 a2 a3 a4 a5 s a7 a8) (fun i s => ff ≤ i ∧ cd_B W H o o2 (fw, ff) (wa, i) m a6 s) we ff b h3 ⟨Nat.le_refl _, hb⟩ ?_ ?_
    · intro n s h
      exact fin s h.2 n
    · intro n i s hi h hw
      have c1 : (nI (8 + i)).toNatClampNeg = 8 + i := nI_clamp (by omega)
      have vx : cd_v W H (8 + i) = true := cd_v_f (by omega)
      have v1 := hO (8 + i) vx
      have l1 := cd_rx_lt ho2 (show i < H by omega)
      have od : cd_od o o2 (8 + i) = 8 + o2 i := cd_od_f
      have c2 : (nI (cd_od o o2 (8 + i))).toNatClampNeg = cd_od o o2 (8 + i) := nI_clamp (by omega)
      have e8 : (8 : Int32) + nI i = nI (8 + i) := nI_add 8 i
      refine pk_le we i (fun z => absurd z (by omega)) (fun _ => ?_)
      rw [e8, c1, v1, c2, nm]
      refine ⟨pk_in (8 + i) 16 (by omega), pk_in (cd_od o o2 (8 + i)) 16 (by omega), nm_e (nm_r (nI_1 i) (hw _ ⟨by omega, cd_B_put hW ho ho2 h.2 vx ?_ (fun t _ ht => cd_pr_f1 ht)⟩))⟩
      rw [cd_pr_f]
      have h0 := h.1
      exact decide_eq_false (show ¬ i < ff by omega)
  refine pk_loop (fun n i s => wX_closeStep_3 post (nI fw) (nI ff) (nI wa) (nI we) (nI W) (nI H) (nI m) n (nI i) a1 a2 a3 a4 a5 s a7 a8) (fun i s => fw ≤ i ∧ cd_B W H o o2 (fw, ff) (i, ff) m a6 s) wa fw a6 h1 ⟨Nat.le_refl _, fun _ _ _ => rfl, fun t _ z y => ?_⟩ ?_ ?_
  · rw [z] at y
    exact Bool.noConfusion y
  · intro n s h
    exact pk_le wa wa (fun _ => l35 s h.2) (fun z => absurd z (by omega))
  · intro n i s hi h hw
    have c1 : (nI i).toNatClampNeg = i := nI_clamp (by omega)
    have vx : cd_v W H i = true := cd_v_w (by omega)
    have v1 := hO i vx
    have l1 := cd_rx_lt ho (show i < W by omega)
    have od : cd_od o o2 i = o i := cd_od_w (by omega)
    have c2 : (nI (cd_od o o2 i)).toNatClampNeg = cd_od o o2 i := nI_clamp (by omega)
    refine pk_le wa i (fun z => absurd z (by omega)) (fun _ => ?_)
    rw [c1, v1, c2, nm]
    refine ⟨pk_in i 16 (by omega), pk_in (cd_od o o2 i) 16 (by omega), nm_e (nm_r (nI_1 i) (hw _ ⟨by omega, cd_B_put hW ho ho2 h.2 vx ?_ (fun t _ ht => cd_pr_w1 ht)⟩))⟩
    rw [cd_pr_w (by omega)]
    have h0 := h.1
    exact decide_eq_false (show ¬ i < fw by omega)
end
section
/-- what findSteps leaves: the sizes and kinds of the steps, and which threads are of one step -/
def cd_F (W H : Nat) (up : Nat → Nat → Bool) (a6 a7 a8 : Nat → Int32) : Prop := (∀ s, s < cd_N W H up → a7 s = nI (cd_dp W H up s + cd_dq W H up s) ∧ a8 s = (if 0 < cd_dp W H up s then 1 else 0)) ∧ (∀ a b, cd_v W H a = true → cd_v W H b = true → (a6 a = a6 b ↔ cd_tg W H up a b))
/-- the loop's state at k -/
def cd_I (W H : Nat) (up : Nat → Nat → Bool) (o o2 : Nat → Nat) (k wa we m : Nat) (a6 a7 a8 : Nat → Int32) : Prop := 1 ≤ k ∧ m + 1 = cd_L W H up k ∧ cd_C W H up m = (wa, we) ∧ m ≤ cd_N W H up ∧ (∀ s, s < m → a7 s = nI (cd_dp W H up s + cd_dq W H up s) ∧ a8 s = (if 0 < cd_dp W H up s then 1 else 0)) ∧ (∀ t, cd_v W H t = true → cd_pr (wa, we) t = true → ∃ s, s < m ∧ a6 (cd_od o o2 t) = nI s ∧ cd_pr (cd_C W H up s) t = false ∧ cd_pr (cd_C W H up (s + 1)) t = true)
theorem cd_I_skip {W H k wa we m : Nat} {up : Nat → Nat → Bool} {o o2 : Nat → Nat} {a6 a7 a8 : Nat → Int32} (h : cd_I W H up o o2 k wa we m a6 a7 a8) (hz : ¬ cd_zk W H up k = true) : cd_I W H up o o2 (k + 1) wa we m a6 a7 a8 := by
  obtain ⟨h1, h2, h3⟩ := h
  exact ⟨by omega, by rw [cd_L_f hz]; exact h2, h3⟩
theorem cd_I_take {W H k wa we m : Nat} {up : Nat → Nat → Bool} {o o2 : Nat → Nat} {a6 a7 a8 b : Nat → Int32} (hk : k < cd_K W H) (h : cd_I W H up o o2 k wa we m a6 a7 a8) (hz : cd_zk W H up k = true) (hb : cd_B W H o o2 (wa, we) (cd_pt W k) m a6 b) :
    cd_I W H up o o2 (k + 1) (cd_pt W k).1 (cd_pt W k).2 (m + 1) b (upd a7 m (nI ((cd_pt W k).1 - wa + ((cd_pt W k).2 - we)))) (upd a8 m (if wa < (cd_pt W k).1 then 1 else 0)) := by
  obtain ⟨h1, h2, h3, h4, h5, h6⟩ := h
  obtain ⟨s1, s2⟩ := cd_step hk hz
  rw [← h2] at s1 s2
  have o1 := cd_over h1 hk hz
  have e1 : cd_dp W H up m = (cd_pt W k).1 - wa := by
    unfold cd_dp
    rw [s2, h3]
  have e2 : cd_dq W H up m = (cd_pt W k).2 - we := by
    unfold cd_dq
    rw [s2, h3]
  refine ⟨by omega, by rw [cd_L_t hz, ← h2], s2, s1, ?_, ?_⟩
  · intro s hs
    by_cases e : s = m
    · subst e
      rw [pk_us, pk_us, e1, e2]
      refine ⟨rfl, ?_⟩
      by_cases z : wa < (cd_pt W k).1
      · rw [if_pos z, if_pos (by omega)]
      · rw [if_neg z, if_neg (by omega)]
    · rw [pk_un e, pk_un e]
      exact h5 s (by omega)
  · intro t ht hp
    cases z : cd_pr (wa, we) t
    · refine ⟨m, by omega, hb.2 t ht z hp, ?_, ?_⟩
      · rw [h3]; exact z
      · rw [s2]; exact hp
    · obtain ⟨s, q1, q2, q3⟩ := h6 t ht z
      refine ⟨s, by omega, ?_, q3⟩
      rw [hb.1 t ht z]
      exact q2
theorem cd_I_end {W H wa we m : Nat} {up : Nat → Nat → Bool} {o o2 : Nat → Nat} {a6 a7 a8 : Nat → Int32} (hW : W ≤ 8) (hH : H ≤ 8) (k : cd_ok W H up o o2) (h : cd_I W H up o o2 (cd_K W H) wa we m a6 a7 a8) : m = cd_N W H up ∧ cd_F W H up a6 a7 a8 := by
  obtain ⟨h1, h2, h3, h4, h5, h6⟩ := h
  have hN := cd_LK (W := W) (H := H) (up := up)
  have e : m = cd_N W H up := by omega
  subst e
  rw [cd_c_N] at h3
  have hl := cd_N_le (W := W) (H := H) (up := up)
  refine ⟨rfl, h5, ?_⟩
  have all : ∀ t, cd_v W H t = true → cd_pr (wa, we) t = true := by
    intro t ht
    have e1 : W = wa := congrArg Prod.fst h3
    have e2 : H = we := congrArg Prod.snd h3
    subst e1 e2
    rcases cd_v_iff.mp ht with z | ⟨r, z, rfl⟩
    · rw [cd_pr_w (by omega)]
      exact decide_eq_true z
    · rw [cd_pr_f]
      exact decide_eq_true z
  intro a b ha hb
  obtain ⟨t, t1, rfl⟩ := cd_od_sur hW k.1 k.2.1 ha
  obtain ⟨t', t2, rfl⟩ := cd_od_sur hW k.1 k.2.1 hb
  obtain ⟨s, q1, q2, q3, q4⟩ := h6 t t1 (all t t1)
  obtain ⟨s', p1, p2, p3, p4⟩ := h6 t' t2 (all t' t2)
  rw [q2, p2, nI_eq (by omega) (by omega)]
  exact cd_tg_iff hW k q1 p1 t1 t2 q3 q4 p3 p4
theorem cd_fs34 {post : St2 → Prop} {W H : Nat} {a1 a2 a3 a4 a5 a6 a7 a8 : Nat → Int32} {up : Nat → Nat → Bool} {o o2 : Nat → Nat} (hW1 : 1 ≤ W) (hW : W ≤ 8) (hH : H ≤ 8) (hV : cd_V W H up a4) (ok : cd_ok W H up o o2) (hO : cd_O W H o o2 a5)
    (hp : ∀ a6 a7 a8, cd_F W H up a6 a7 a8 → post (nI W, nI H, nI (cd_N W H up), a1, a2, a3, a4, a5, a6, a7, a8)) :
    ∃ n, wX_findSteps_34 post n 0 0 1 (nI W) (nI H) 0 a1 a2 a3 a4 a5 a6 a7 a8 := by
  have hK : cd_K W H ≤ 17 * 9 := Nat.mul_le_mul (by omega) (by omega)
  have hK1 : 1 ≤ cd_K W H := Nat.mul_pos (by omega) (by omega)
  have hN := cd_N_le (W := W) (H := H) (up := up)
  have eW : nI W + 1 = nI (W + 1) := nI_1 W
  have eK : (nI W + nI H + 1) * (nI W + 1) = nI (cd_K W H) := by
    rw [nI_add, nI_1, nI_1, pk_mul]
    rfl
  refine pk_loop (fun n k (s : Nat × Nat × Nat × (Nat → Int32) × (Nat → Int32) × (Nat → Int32)) => wX_findSteps_34 post n (nI s.1) (nI s.2.1) (nI k) (nI W) (nI H) (nI s.2.2.1) a1 a2 a3 a4 a5 s.2.2.2.1 s.2.2.2.2.1 s.2.2.2.2.2)
    (fun k s => cd_I W H up o o2 k s.1 s.2.1 s.2.2.1 s.2.2.2.1 s.2.2.2.2.1 s.2.2.2.2.2) (cd_K W H) 1 (0, 0, 0, a6, a7, a8) hK1 ?_ ?_ ?_
  · refine ⟨Nat.le_refl _, cd_L1.symm, cd_c_0, Nat.zero_le _, fun s hs => absurd hs (Nat.not_lt_zero s), fun t _ hp => ?_⟩
    exfalso
    have hp' : cd_pr (0, 0) t = true := hp
    unfold cd_pr at hp'
    by_cases z : t < 8
    · rw [if_pos z] at hp'
      exact absurd (of_decide_eq_true hp') (Nat.not_lt_zero t)
    · rw [if_neg z] at hp'
      have := of_decide_eq_true hp'
      omega
  · rintro n ⟨wa, we, m, b6, b7, b8⟩ h
    obtain ⟨e1, e2⟩ := cd_I_end hW hH ok h
    have e1 : m = cd_N W H up := e1
    subst e1
    exact pk_le (cd_K W H) (cd_K W H) (fun _ => hp b6 b7 b8 e2) (fun z => absurd z (by omega)) eK
  · rintro n k ⟨wa, we, m, b6, b7, b8⟩ hk h hw
    have h : cd_I W H up o o2 k wa we m b6 b7 b8 := h
    obtain ⟨i1, i2, i3, i4, _⟩ := id h
    have hwa := cd_c_le (W := W) (H := H) (up := up) i4
    rw [i3] at hwa
    have hwa1 : wa ≤ W := hwa.1
    have hwe1 : we ≤ H := hwa.2
    have nW : ¬ nI W + 1 = 0 := by rw [eW]; exact nI_ne0 (by omega) (by omega)
    have pW : k % (W + 1) < W + 1 := Nat.mod_lt _ (by omega)
    have sK : k / (W + 1) ≤ k := Nat.div_le_self _ _
    have over : cd_zk W H up k = true → k % (W + 1) ≤ k / (W + 1) ∧ k / (W + 1) - k % (W + 1) ≤ H ∧ wa ≤ k % (W + 1) ∧ we ≤ k / (W + 1) - k % (W + 1) ∧ wa + we < k % (W + 1) + (k / (W + 1) - k % (W + 1)) := by
      intro hz
      obtain ⟨z1, z2⟩ := cd_zk_iff.mp hz
      obtain ⟨o1, o2', o3⟩ := cd_over i1 hk hz
      rw [← i2, Nat.add_sub_cancel, i3] at o1 o2' o3
      exact ⟨z1, (cd_Z_le z2).2, o1, o2', o3⟩
    have skip : ¬ cd_zk W H up k = true → ∀ x : Int32, x = nI k + 1 → wX_findSteps_34 post n (nI wa) (nI we) x (nI W) (nI H) (nI m) a1 a2 a3 a4 a5 b6 b7 b8 :=
      fun hz => nm_r (nI_1 k) (hw (wa, we, m, b6, b7, b8) (cd_I_skip h hz))
    have er : nI k - nI k / (nI W + 1) * (nI W + 1) = nI (k % (W + 1)) := by
      rw [eW]
      exact pk_rem (by omega) (by omega) (by omega)
    have ed : nI k / (nI W + 1) = nI (k / (W + 1)) := by
      rw [eW]
      exact pk_div (by omega) (by omega) (by omega)
    refine pk_le (cd_K W H) k (fun z => absurd z (by omega)) (fun _ => ⟨nW, nm_r er ⟨nW, ?_⟩⟩) eK
    rw [ed]
    by_cases z : k % (W + 1) ≤ k / (W + 1)
    · refine nm_r (pk_sub z) (br_f (nI_pos (by omega)) ?_)
      refine pk_lt H (k / (W + 1) - k % (W + 1)) (fun y => skip (fun hz => by have := over hz; omega)) (fun y => ?_)
      refine pk_lt (k % (W + 1)) wa (fun y1 => skip (fun hz => by have := over hz; omega)) (fun y1 => ?_)
      refine pk_lt (k / (W + 1) - k % (W + 1)) we (fun y2 => skip (fun hz => by have := over hz; omega)) (fun y2 => ?_)
      refine pk_le (k % (W + 1) + (k / (W + 1) - k % (W + 1))) (wa + we) (fun y3 => skip (fun hz => by have := over hz; omega)) (fun y3 => ?_) (nI_add _ _) (nI_add _ _)
      refine cd_lacking hW hH hV ok hO (by omega) y ?_
      have pz := cd_pr_Z hW (show k % (W + 1) ≤ W by omega) y ok
      have kz : cd_zk W H up k = true ↔ cd_VI W H (cd_pm up o o2) (cd_pr (k % (W + 1), k / (W + 1) - k % (W + 1))) = 0 := by
        rw [pz, cd_zk_iff]
        exact ⟨fun g => g.2, fun g => ⟨z, g⟩⟩
      have lv : cd_VI W H (cd_pm up o o2) (cd_pr (k % (W + 1), k / (W + 1) - k % (W + 1))) ≤ (k % (W + 1)) * H + (k / (W + 1) - k % (W + 1)) * W := by
        have := cd_lack (H := H) (cd_pm up o o2) hW (show k % (W + 1) ≤ W by omega) y
        omega
      have lv2 : (k % (W + 1)) * H ≤ 8 * 8 := Nat.mul_le_mul (by omega) (by omega)
      have lv3 : (k / (W + 1) - k % (W + 1)) * W ≤ 8 * 8 := Nat.mul_le_mul (by omega) (by omega)
      refine pk_eq _ 0 (fun y4 => ?_) (fun y4 => skip (fun hz => y4 (kz.mp hz))) rfl rfl (by omega) (by omega)
      have hz := kz.mpr y4
      have s1 := (cd_step hk hz).1
      refine cd_closeStep hW hH ok.1 ok.2.1 hO (by omega) (by omega) (by omega) (by omega) (show m < 17 by omega) (fun b hb => ?_)
      exact nm_r (nI_1 k) (hw (k % (W + 1), k / (W + 1) - k % (W + 1), m + 1, b, _, _) (cd_I_take hk h hz hb))
    · exact nm_e (br_t (pk_sneg (by omega) (by omega)) (skip (fun hz => by have := over hz; omega)))
theorem cd_findSteps {post : St2 → Prop} {W H : Nat} {f0_steps : Int32} {a1 a2 a3 a4 a5 a6 a7 a8 : Nat → Int32} {up : Nat → Nat → Bool} (hW1 : 1 ≤ W) (hW : W ≤ 8) (hH : H ≤ 8) (hU : cd_U up a1 a2 a3)
    (hp : ∀ a4 a5 a6 a7 a8, cd_F W H up a6 a7 a8 → post (nI W, nI H, nI (cd_N W H up), a1, a2, a3, a4, a5, a6, a7, a8)) :
    wpX_findSteps post (nI W, nI H, f0_steps, a1, a2, a3, a4, a5, a6, a7, a8) := by
  refine cd_findUnder hW1 hW hH hU (fun b4 hV => ?_)
  refine cd_sort (f := 0) (m := W) (D := fun x => cb_pc (b4 (0 + x))) (by omega) (fun _ => rfl) (fun b5 o o1 o2 o3 o4 => ?_)
  refine cd_sort (f := 8) (m := H) (D := fun x => cb_pc (b4 (8 + x))) (by omega) (fun _ => rfl) (fun c5 p p1 p2 p3 p4 => ?_)
  have ok : cd_ok W H up o p := by
    refine ⟨o1, p1, ?_, ?_⟩
    · intro i j hij hj
      have h1 := o2 i j hij hj
      have h1' : cb_pc (b4 (0 + o j)) ≤ cb_pc (b4 (0 + o i)) := h1
      rw [Nat.zero_add, Nat.zero_add, cd_pc_w hW hH hV (cd_rx_lt o1 hj), cd_pc_w hW hH hV (cd_rx_lt o1 (show i < W by omega))] at h1'
      exact h1'
    · intro i j hij hj
      have h1 := p2 i j hij hj
      have h1' : cb_pc (b4 (8 + p j)) ≤ cb_pc (b4 (8 + p i)) := h1
      rw [cd_pc_f hW hH hV (cd_rx_lt p1 hj), cd_pc_f hW hH hV (cd_rx_lt p1 (show i < H by omega))] at h1'
      exact h1'
  have hO : cd_O W H o p c5 := by
    intro t ht
    rcases cd_v_iff.mp ht with z | ⟨r, z, rfl⟩
    · rw [cd_od_w (by omega), p4 t (Or.inl (by omega))]
      have := o3 t z
      rw [Nat.zero_add, Nat.zero_add] at this
      exact this
    · rw [cd_od_f]
      exact p3 r z
  exact cd_fs34 hW1 hW hH hV ok hO (fun a6 a7 a8 h => hp b4 c5 a6 a7 a8 h)
end
section
/-! ===== the answers that rest on findSteps ===== -/
theorem cd_badThread {post : Int32 → Prop} {W H t : Nat} {f0_steps : Int32} {a1 a2 a3 a4 a5 a6 a7 a8 : Nat → Int32} (hW : W ≤ 8) (hH : H ≤ 8) (ht : t < 16) (h0 : cd_v W H t = true → post 0) (h1 : cd_v W H t = false → post 1) : wpX_badThread post (nI W, nI H, f0_steps, a1, a2, a3, a4, a5, a6, a7, a8) (nI t) := by
  refine br_f (nI_pos (by omega)) (pk_le (8 + H) t (fun z => h1 ?_) (fun z => pk_lt t W (fun y => h0 (cd_v_w y)) (fun y => pk_le 8 t (fun x => h0 ?_) (fun x => h1 ?_))) (nI_add 8 H))
  · unfold cd_v
    rw [decide_eq_false (show ¬ t < W by omega), decide_eq_false (show ¬ t < 8 + H by omega), Bool.and_false]
    rfl
  · exact cd_v_iff.mpr (Or.inr ⟨t - 8, by omega, by omega⟩)
  · unfold cd_v
    rw [decide_eq_false (show ¬ t < W by omega), decide_eq_false (show ¬ 8 ≤ t by omega), Bool.false_and]
    rfl
theorem cd_layers {post : Int32 → St2 → Prop} {W H : Nat} {f0_steps : Int32} {a1 a2 a3 a4 a5 a6 a7 a8 : Nat → Int32} {up : Nat → Nat → Bool} (hW1 : 1 ≤ W) (hW : W ≤ 8) (hH : H ≤ 8) (hU : cd_U up a1 a2 a3)
    (hp : ∀ st a4 a5 a6 a7 a8, post (nI (cd_N W H up)) (nI W, nI H, st, a1, a2, a3, a4, a5, a6, a7, a8)) : wpX_layers post (nI W, nI H, f0_steps, a1, a2, a3, a4, a5, a6, a7, a8) :=
  cd_findSteps hW1 hW hH hU (fun a4 a5 a6 a7 a8 _ => hp _ a4 a5 a6 a7 a8)
theorem cd_hangs {post : Int32 → St2 → Prop} {W H : Nat} {f0_steps : Int32} {a1 a2 a3 a4 a5 a6 a7 a8 : Nat → Int32} {up : Nat → Nat → Bool} (hW1 : 1 ≤ W) (hW : W ≤ 8) (hH : H ≤ 8) (hU : cd_U up a1 a2 a3)
    (hp : ∀ st a4 a5 a6 a7 a8, post (if cd_N W H up = 1 then 1 else 0) (nI W, nI H, st, a1, a2, a3, a4, a5, a6, a7, a8)) : wpX_hangs post (nI W, nI H, f0_steps, a1, a2, a3, a4, a5, a6, a7, a8) := by
  refine cd_findSteps hW1 hW hH hU (fun a4 a5 a6 a7 a8 _ => ?_)
  have hN := cd_N_le (W := W) (H := H) (up := up)
  have h := hp (nI (cd_N W H up)) a4 a5 a6 a7 a8
  refine pk_eq (cd_N W H up) 1 (fun z => ?_) (fun z => ?_)
  · rw [if_pos z] at h
    exact h
  · rw [if_neg z] at h
    exact h
/-- what together answers -/
noncomputable def cd_at (W H : Nat) (up : Nat → Nat → Bool) (a b : Nat) : Int32 := if (cd_v W H a && cd_v W H b) = true then (@ite _ (cd_tg W H up a b) (Classical.propDecidable _) 1 0) else -1
theorem cd_at_t {W H a b : Nat} {up : Nat → Nat → Bool} (ha : cd_v W H a = true) (hb : cd_v W H b = true) (h : cd_tg W H up a b) : cd_at W H up a b = 1 := by
  unfold cd_at
  rw [ha, hb, if_pos (by rfl), @if_pos _ (Classical.propDecidable _) h]
theorem cd_at_f {W H a b : Nat} {up : Nat → Nat → Bool} (ha : cd_v W H a = true) (hb : cd_v W H b = true) (h : ¬ cd_tg W H up a b) : cd_at W H up a b = 0 := by
  unfold cd_at
  rw [ha, hb, if_pos (by rfl), @if_neg _ (Classical.propDecidable _) h]
theorem cd_at_a {W H a b : Nat} {up : Nat → Nat → Bool} (ha : cd_v W H a = false) : cd_at W H up a b = -1 := by
  unfold cd_at
  rw [ha, Bool.false_and, if_neg (by decide)]
theorem cd_at_b {W H a b : Nat} {up : Nat → Nat → Bool} (hb : cd_v W H b = false) : cd_at W H up a b = -1 := by
  unfold cd_at
  rw [hb, Bool.and_false, if_neg (by decide)]
theorem cd_at_fl (W H : Nat) (up : Nat → Nat → Bool) (a b : Nat) : cd_at W H (cd_fl up) a b = cd_at W H up a b := by
  cases ha : cd_v W H a
  · rw [cd_at_a ha, cd_at_a ha]
  · cases hb : cd_v W H b
    · rw [cd_at_b hb, cd_at_b hb]
    · rcases Classical.em (cd_tg W H up a b) with z | z
      · rw [cd_at_t ha hb z, cd_at_t ha hb (cd_tg_fl.mpr z)]
      · rw [cd_at_f ha hb z, cd_at_f ha hb (fun y => z (cd_tg_fl.mp y))]
theorem cd_together {post : Int32 → St2 → Prop} {W H a b : Nat} {f0_steps : Int32} {a1 a2 a3 a4 a5 a6 a7 a8 : Nat → Int32} {up : Nat → Nat → Bool} (hW1 : 1 ≤ W) (hW : W ≤ 8) (hH : H ≤ 8) (hU : cd_U up a1 a2 a3) (ha : a < 16) (hb : b < 16)
    (hp : ∀ st a4 a5 a6 a7 a8, post (cd_at W H up a b) (nI W, nI H, st, a1, a2, a3, a4, a5, a6, a7, a8)) : wpX_together post (nI W, nI H, f0_steps, a1, a2, a3, a4, a5, a6, a7, a8) (nI a) (nI b) := by
  have bad : cd_at W H up a b = -1 → post (-1) (nI W, nI H, f0_steps, a1, a2, a3, a4, a5, a6, a7, a8) := by
    intro e
    have h := hp f0_steps a4 a5 a6 a7 a8
    rw [e] at h
    exact h
  unfold wpX_together
  dsimp only
  refine cd_badThread hW hH ha (fun va => br_t rfl ?_) (fun va => br_f (show ¬ (1 : Int32) = 0 by decide) (bad (cd_at_a va)))
  refine cd_badThread hW hH hb (fun vb => br_t rfl ?_) (fun vb => br_f (show ¬ (1 : Int32) = 0 by decide) (bad (cd_at_b vb)))
  refine cd_findSteps hW1 hW hH hU (fun b4 b5 b6 b7 b8 hF => ?_)
  have h := hp (nI (cd_N W H up)) b4 b5 b6 b7 b8
  show vp_in (nI a) 16 ∧ vp_in (nI b) 16 ∧ ((b6 (nI a).toNatClampNeg = b6 (nI b).toNatClampNeg → _) ∧ (¬ b6 (nI a).toNatClampNeg = b6 (nI b).toNatClampNeg → _))
  rw [nI_clamp (show a < 2 ^ 31 by omega), nI_clamp (show b < 2 ^ 31 by omega)]
  refine ⟨pk_in a 16 ha, pk_in b 16 hb, ek_if (hF.2 a b va vb) (fun z => ?_) (fun z => ?_)⟩
  · rw [cd_at_t va vb z] at h
    exact h
  · rw [cd_at_f va vb z] at h
    exact h
/-! freeFrom, lifts, divisions -/
theorem cd_freeFrom {post : Int32 → Prop} {W H s : Nat} {f0_w f0_h : Int32} {a1 a2 a3 a4 a5 a6 a7 a8 : Nat → Int32} {up : Nat → Nat → Bool} (hW : W ≤ 8) (hH : H ≤ 8) (hF : cd_F W H up a6 a7 a8) (hs : s < cd_N W H up)
    (hp : ∀ n, 1 ≤ n → s + n ≤ cd_N W H up → (∀ i, i + 1 < n → cd_lk W H up (s + i) = true) → (s + n < cd_N W H up → cd_lk W H up (s + n - 1) = false) → post (nI n)) :
    wpX_freeFrom post (f0_w, f0_h, nI (cd_N W H up), a1, a2, a3, a4, a5, a6, a7, a8) (nI s) := by
  have hN := cd_N_le (W := W) (H := H) (up := up)
  have sz : ∀ x, x < cd_N W H up → cd_dp W H up x + cd_dq W H up x ≤ 16 := by
    intro x hx
    have l1 := cd_c_le (W := W) (H := H) (up := up) (show x + 1 ≤ cd_N W H up by omega)
    unfold cd_dp cd_dq
    omega
  refine loop_m (fun n k => wX_freeFrom_2 post (nI s) f0_w f0_h (nI (cd_N W H up)) a1 a2 a3 a4 a5 a6 a7 a8 n (nI k))
    (fun k => 1 ≤ k ∧ s + k ≤ cd_N W H up ∧ ∀ j, 1 ≤ j → j < k → cd_dp W H up s + cd_dq W H up s = 1 ∧ cd_dp W H up (s + j) + cd_dq W H up (s + j) = 1 ∧ cd_dp W H up (s + j) = cd_dp W H up s)
    (fun k => cd_N W H up - (s + k)) ?_ 1 ⟨Nat.le_refl _, by omega, fun j h1 h2 => absurd h1 (by omega)⟩
  rintro n k ⟨k1, k2, k3⟩ hw
  have done : (s + k < cd_N W H up → cd_lk W H up (s + k - 1) = false) → post (nI k) := by
    intro h
    refine hp k k1 k2 (fun i hi => ?_) h
    unfold cd_lk
    apply decide_eq_true
    have j1 := k3 (i + 1) (by omega) hi
    by_cases z : i = 0
    · subst z
      exact ⟨j1.1, j1.2.1, j1.2.2.symm⟩
    · have j0 := k3 i (by omega) (by omega)
      exact ⟨j0.2.1, j1.2.1, j0.2.2.trans j1.2.2.symm⟩
  have last : cd_dp W H up (s + k - 1) = cd_dp W H up s := by
    by_cases z : k = 1
    · rw [z]; rfl
    · have j0 := k3 (k - 1) (by omega) (by omega)
      rw [show s + k - 1 = s + (k - 1) by omega]
      exact j0.2.2
  have cs : (nI s).toNatClampNeg = s := nI_clamp (by omega)
  have es : nI s + nI k = nI (s + k) := nI_add s k
  have ck : (nI (s + k)).toNatClampNeg = s + k := nI_clamp (by omega)
  obtain ⟨f7, f8⟩ := hF.1 s hs
  have szs := sz s hs
  show vp_in (nI s) 17 ∧ ((a7 (nI s).toNatClampNeg = 1 → ((nI (cd_N W H up) ≤ nI s + nI k → _) ∧ (¬ nI (cd_N W H up) ≤ nI s + nI k → vp_in (nI s + nI k) 17 ∧ ((a7 (nI s + nI k).toNatClampNeg = 1 → vp_in (nI s + nI k) 17 ∧ vp_in (nI s) 17 ∧ ((a8 (nI s + nI k).toNatClampNeg = a8 (nI s).toNatClampNeg → _) ∧ (¬ a8 (nI s + nI k).toNatClampNeg = a8 (nI s).toNatClampNeg → _))) ∧ (¬ a7 (nI s + nI k).toNatClampNeg = 1 → _))))) ∧ (¬ a7 (nI s).toNatClampNeg = 1 → _))
  rw [cs, es, ck, f7]
  refine ⟨pk_in s 17 (by omega), pk_eq (cd_dp W H up s + cd_dq W H up s) 1 (fun z => ?_) (fun z => done (fun _ => ?_))⟩
  · refine pk_le (cd_N W H up) (s + k) (fun y => done (fun y' => absurd y' (by omega))) (fun y => ⟨pk_in (s + k) 17 (by omega), ?_⟩)
    obtain ⟨g7, g8⟩ := hF.1 (s + k) y
    have szk := sz (s + k) y
    rw [g7]
    refine pk_eq (cd_dp W H up (s + k) + cd_dq W H up (s + k)) 1 (fun x => ⟨pk_in (s + k) 17 (by omega), pk_in s 17 (by omega), ?_⟩) (fun x => done (fun _ => ?_))
    · rw [f8, g8]
      by_cases d1 : 0 < cd_dp W H up s
      · by_cases d2 : 0 < cd_dp W H up (s + k)
        · refine br_t (by rw [if_pos d1, if_pos d2]) (nm_r (nI_1 k) (hw (k + 1) ⟨by omega, by omega, fun j h1 h2 => ?_⟩ (by omega)))
          by_cases e : j = k
          · rw [e]
            exact ⟨z, x, by omega⟩
          · exact k3 j h1 (by omega)
        · refine br_f (by rw [if_pos d1, if_neg d2]; decide) (done (fun _ => ?_))
          unfold cd_lk
          apply decide_eq_false
          rintro ⟨_, _, q⟩
          rw [last, show s + k - 1 + 1 = s + k by omega] at q
          omega
      · by_cases d2 : 0 < cd_dp W H up (s + k)
        · refine br_f (by rw [if_neg d1, if_pos d2]; decide) (done (fun _ => ?_))
          unfold cd_lk
          apply decide_eq_false
          rintro ⟨_, _, q⟩
          rw [last, show s + k - 1 + 1 = s + k by omega] at q
          omega
        · refine br_t (by rw [if_neg d1, if_neg d2]) (nm_r (nI_1 k) (hw (k + 1) ⟨by omega, by omega, fun j h1 h2 => ?_⟩ (by omega)))
          by_cases e : j = k
          · rw [e]
            exact ⟨z, x, by omega⟩
          · exact k3 j h1 (by omega)
    · unfold cd_lk
      apply decide_eq_false
      rintro ⟨_, q, _⟩
      rw [show s + k - 1 + 1 = s + k by omega] at q
      exact x q
  · have ek : k = 1 := by
      rcases Nat.lt_or_ge 1 k with y | y
      · exact absurd (k3 1 (Nat.le_refl _) y).1 z
      · omega
    subst ek
    unfold cd_lk
    apply decide_eq_false
    rintro ⟨q, _⟩
    exact z q
theorem cd_lifts {post : Int32 → St2 → Prop} {W H : Nat} {f0_steps : Int32} {a1 a2 a3 a4 a5 a6 a7 a8 : Nat → Int32} {up : Nat → Nat → Bool} (hW1 : 1 ≤ W) (hW : W ≤ 8) (hH : H ≤ 8) (hU : cd_U up a1 a2 a3)
    (hp : ∀ st a4 a5 a6 a7 a8, post (nI (cd_ls (cd_RN W H up) - 1)) (nI W, nI H, st, a1, a2, a3, a4, a5, a6, a7, a8)) : wpX_lifts post (nI W, nI H, f0_steps, a1, a2, a3, a4, a5, a6, a7, a8) := by
  refine cd_findSteps hW1 hW hH hU (fun b4 b5 b6 b7 b8 hF => ?_)
  have hN := cd_N_le (W := W) (H := H) (up := up)
  obtain ⟨_, n1, _⟩ := cd_ls_N (H := H) (up := up) hW1 hW hH
  have h := hp (nI (cd_N W H up)) b4 b5 b6 b7 b8
  refine loop_m (fun n (s : Nat × Nat) => wX_lifts_8 post (nI W) (nI H) (nI (cd_N W H up)) a1 a2 a3 b4 b5 b6 b7 b8 n (nI s.1) (nI s.2))
    (fun s => s.2 ≤ cd_N W H up ∧ s.1 + cd_ls (cd_tl (cd_lk W H up) (cd_N W H up) s.2) = cd_ls (cd_RN W H up)) (fun s => cd_N W H up - s.2) ?_ (0, 0) ⟨Nat.zero_le _, Nat.zero_add _⟩
  rintro n ⟨acc, s⟩ ⟨i1, i2⟩ hw
  have i1 : s ≤ cd_N W H up := i1
  have i2 : acc + cd_ls (cd_tl (cd_lk W H up) (cd_N W H up) s) = cd_ls (cd_RN W H up) := i2
  refine pk_le (cd_N W H up) s (fun z => ?_) (fun z => cd_freeFrom hW hH hF z (fun m m1 m2 m3 m4 => ?_))
  · rw [cd_tl_0 z] at i2
    have e : acc = cd_ls (cd_RN W H up) := i2
    have e2 : nI acc - 1 = nI (cd_ls (cd_RN W H up) - 1) := by
      rw [e]
      exact pk_sub n1
    show post (nI acc - 1) _
    rw [e2]
    exact h
  · rw [cd_tl_run m _ s z m1 m2 m3 m4] at i2
    have i2' : acc + ((2 ^ m - 1) + cd_ls (cd_tl (cd_lk W H up) (cd_N W H up) (s + m))) = cd_ls (cd_RN W H up) := i2
    have p1 : 1 ≤ 2 ^ m := Nat.one_le_two_pow
    have p2 : 2 ^ m ≤ 2 ^ 16 := Nat.pow_le_pow_right (by omega) (by omega)
    have e1 : nI acc + ((1 : Int32) <<< (nI m &&& 31)) - 1 = nI (acc + (2 ^ m - 1)) := by
      have q : (1 : Int32) <<< (nI m &&& 31) = nI (1 * 2 ^ m) := pk_shlN (n := 1) (nI m &&& 31) m (cb_sl m (by omega)) (by omega)
      rw [q, nI_add, Nat.one_mul]
      have q2 : nI (acc + 2 ^ m) - 1 = nI (acc + 2 ^ m - 1) := pk_sub (b := 1) (by omega)
      rw [q2]
      congr 1
      omega
    refine nm_r e1 (nm_r (nI_add s m) (hw (acc + (2 ^ m - 1), s + m) ⟨m2, ?_⟩ ?_))
    · show acc + (2 ^ m - 1) + cd_ls (cd_tl (cd_lk W H up) (cd_N W H up) (s + m)) = _
      omega
    · show cd_N W H up - (s + m) < cd_N W H up - s
      omega
theorem cd_divisions {post : Int32 → St2 → Prop} {W H : Nat} {f0_steps : Int32} {a1 a2 a3 a4 a5 a6 a7 a8 : Nat → Int32} {up : Nat → Nat → Bool} (hW1 : 1 ≤ W) (hW : W ≤ 8) (hH : H ≤ 8) (hU : cd_U up a1 a2 a3)
    (hp : ∀ st a4 a5 a6 a7 a8, post (nI (cd_lp (cd_RN W H up))) (nI W, nI H, st, a1, a2, a3, a4, a5, a6, a7, a8)) : wpX_divisions post (nI W, nI H, f0_steps, a1, a2, a3, a4, a5, a6, a7, a8) := by
  refine cd_findSteps hW1 hW hH hU (fun b4 b5 b6 b7 b8 hF => ?_)
  have hN := cd_N_le (W := W) (H := H) (up := up)
  have h := hp (nI (cd_N W H up)) b4 b5 b6 b7 b8
  refine loop_m (fun n (s : Nat × Nat) => wX_divisions_8 post (nI W) (nI H) (nI (cd_N W H up)) a1 a2 a3 b4 b5 b6 b7 b8 n (nI s.1) (nI s.2))
    (fun s => s.2 ≤ cd_N W H up ∧ s.1 * cd_lp (cd_tl (cd_lk W H up) (cd_N W H up) s.2) = cd_lp (cd_RN W H up)) (fun s => cd_N W H up - s.2) ?_ (1, 0) ⟨Nat.zero_le _, Nat.one_mul _⟩
  rintro n ⟨acc, s⟩ ⟨i1, i2⟩ hw
  have i1 : s ≤ cd_N W H up := i1
  have i2 : acc * cd_lp (cd_tl (cd_lk W H up) (cd_N W H up) s) = cd_lp (cd_RN W H up) := i2
  refine pk_le (cd_N W H up) s (fun z => ?_) (fun z => cd_freeFrom hW hH hF z (fun m m1 m2 m3 m4 => ?_))
  · rw [cd_tl_0 z] at i2
    have e : acc * 1 = cd_lp (cd_RN W H up) := i2
    rw [Nat.mul_one] at e
    show post (nI acc) _
    rw [e]
    exact h
  · rw [cd_tl_run m _ s z m1 m2 m3 m4] at i2
    have i2' : acc * (cd_fa m * cd_lp (cd_tl (cd_lk W H up) (cd_N W H up) (s + m))) = cd_lp (cd_RN W H up) := i2
    have g : ∃ n', wX_divisions_25 post (wX_divisions_8 post (nI W) (nI H) (nI (cd_N W H up)) a1 a2 a3 b4 b5 b6 b7 b8 n) (nI s) (nI m) (nI W) (nI H) (nI (cd_N W H up)) a1 a2 a3 b4 b5 b6 b7 b8 n' (nI (acc * 1)) (nI 2) := by
      refine pk_loop (σ := Unit) (fun n' i _ => wX_divisions_25 post (wX_divisions_8 post (nI W) (nI H) (nI (cd_N W H up)) a1 a2 a3 b4 b5 b6 b7 b8 n) (nI s) (nI m) (nI W) (nI H) (nI (cd_N W H up)) a1 a2 a3 b4 b5 b6 b7 b8 n' (nI (acc * cd_fa (i - 1))) (nI i)) (fun i _ => 2 ≤ i) (m + 1) 2 () (by omega) (Nat.le_refl _) ?_ ?_
      · intro n' _ _
        refine pk_lt m (m + 1) (fun _ => ?_) (fun y => absurd y (by omega))
        refine nm_r (nI_add s m) (hw (acc * cd_fa m, s + m) ⟨m2, ?_⟩ ?_)
        · show acc * cd_fa m * cd_lp (cd_tl (cd_lk W H up) (cd_N W H up) (s + m)) = _
          rw [Nat.mul_assoc]
          exact i2'
        · show cd_N W H up - (s + m) < cd_N W H up - s
          omega
      · intro n' i _ hi hi2 hw'
        refine pk_lt m i (fun y => absurd y (by omega)) (fun _ => nm_r ?_ (nm_r (nI_1 i) (hw' () (by omega))))
        obtain ⟨j, rfl⟩ : ∃ j, i = j + 1 := ⟨i - 1, by omega⟩
        rw [pk_mul, Nat.mul_assoc]
        rfl
    rw [Nat.mul_one] at g
    exact g
end
section
/-! ===== over, shafts, liftable, longest, above, invert, held ===== -/
def cd_dg (W H : Nat) (up : Nat → Nat → Bool) (t : Nat) : Nat := if t < 8 then cd_dW H up t else cd_dF W up (t - 8)
theorem cd_dg_pc {W H t : Nat} {up : Nat → Nat → Bool} {a : Nat → Int32} (hW : W ≤ 8) (hH : H ≤ 8) (hV : cd_V W H up a) (hv : cd_v W H t = true) : cb_pc (a t) = cd_dg W H up t := by
  unfold cd_dg
  rcases cd_v_iff.mp hv with z | ⟨r, z, rfl⟩
  · rw [if_pos (by omega)]
    exact cd_pc_w hW hH hV z
  · rw [if_neg (by omega), Nat.add_sub_cancel_left]
    exact cd_pc_f hW hH hV z
/-- what over answers -/
def cd_ov (W H : Nat) (up : Nat → Nat → Bool) (t : Nat) : Int32 := if cd_v W H t = true then nI (cd_dg W H up t) else -1
theorem cd_over_m {post : Int32 → St2 → Prop} {W H t : Nat} {f0_steps : Int32} {a1 a2 a3 a4 a5 a6 a7 a8 : Nat → Int32} {up : Nat → Nat → Bool} (hW1 : 1 ≤ W) (hW : W ≤ 8) (hH : H ≤ 8) (hU : cd_U up a1 a2 a3) (ht : t < 16)
    (hp : ∀ st a4 a5 a6 a7 a8, post (cd_ov W H up t) (nI W, nI H, st, a1, a2, a3, a4, a5, a6, a7, a8)) : wpX_over post (nI W, nI H, f0_steps, a1, a2, a3, a4, a5, a6, a7, a8) (nI t) := by
  unfold wpX_over
  dsimp only
  refine cd_badThread hW hH ht (fun v => br_t rfl ?_) (fun v => br_f (show ¬ (1 : Int32) = 0 by decide) ?_)
  · refine cd_findUnder hW1 hW hH hU (fun b4 hV => ?_)
    have h := hp f0_steps b4 a5 a6 a7 a8
    unfold cd_ov at h
    rw [if_pos v] at h
    show vp_in (nI t) 16 ∧ wpX_sizeOf _ _ (b4 (nI t).toNatClampNeg)
    rw [nI_clamp (show t < 2 ^ 31 by omega)]
    refine ⟨pk_in t 16 ht, cd_sizeOf ?_⟩
    rw [cd_dg_pc hW hH hV v]
    exact h
  · have h := hp f0_steps a4 a5 a6 a7 a8
    unfold cd_ov at h
    rw [if_neg (by rw [v]; decide)] at h
    exact h
/-! shafts -/
def cd_sn (sh : Nat → Nat) (i v : Nat) : Nat := if cd_sm (fun j => if sh j = v then 1 else 0) i = 0 then 0 else 1
theorem cd_sn_le (sh : Nat → Nat) (i v : Nat) : cd_sn sh i v ≤ 1 := by
  unfold cd_sn
  split <;> omega
theorem cd_sn_mono (sh : Nat → Nat) (i v : Nat) : cd_sn sh i v ≤ cd_sn sh (i + 1) v := by
  unfold cd_sn
  have e : cd_sm (fun j => if sh j = v then 1 else 0) (i + 1) = cd_sm (fun j => if sh j = v then 1 else 0) i + (if sh i = v then 1 else 0) := rfl
  by_cases z : cd_sm (fun j => if sh j = v then 1 else 0) i = 0
  · rw [if_pos z]
    exact Nat.zero_le _
  · rw [if_neg z, if_neg (by omega)]
    exact Nat.le_refl _
theorem cd_sn_new {sh : Nat → Nat} {i : Nat} (h : ∀ j, j < i → ¬ sh j = sh i) : cd_sn sh i (sh i) < cd_sn sh (i + 1) (sh i) := by
  unfold cd_sn
  have e : cd_sm (fun j => if sh j = sh i then 1 else 0) (i + 1) = cd_sm (fun j => if sh j = sh i then 1 else 0) i + (if sh i = sh i then 1 else 0) := rfl
  rw [if_pos rfl] at e
  rw [if_pos (cd_sm_zero.mpr (fun j hj => if_neg (h j hj))), if_neg (by omega)]
  omega
theorem cd_diff21 {post : Int32 → St2 → Prop} {J9 : Int32 → Int32 → Prop} {x2 f0_w f0_h f0_steps : Int32} {a1 a2 a3 a4 a5 a6 a7 a8 : Nat → Int32} {m i : Nat} (hi : i < 16)
    (hJ : ∀ fr, fr ≤ 1 → (fr = 1 → ∀ j, j < i → ¬ a4 j = a4 i) → (i = 0 → fr = 1) → J9 (nI (m + fr)) (nI (i + 1))) :
    ∃ n, wX_different_21 post J9 0 x2 (nI m) (nI i) f0_w f0_h f0_steps a1 a2 a3 a4 a5 a6 a7 a8 n 1 0 := by
  refine pk_loop (fun n j (fr : Nat) => wX_different_21 post J9 0 x2 (nI m) (nI i) f0_w f0_h f0_steps a1 a2 a3 a4 a5 a6 a7 a8 n (nI fr) (nI j)) (fun j fr => fr ≤ 1 ∧ (fr = 1 → ∀ j', j' < j → ¬ a4 j' = a4 i) ∧ (j = 0 → fr = 1)) i 0 1 (by omega) ⟨Nat.le_refl _, fun _ j h => absurd h (Nat.not_lt_zero j), fun _ => rfl⟩ ?_ ?_
  · rintro n fr ⟨h1, h2, h3⟩
    have h := hJ fr h1 h2 h3
    refine pk_le i i (fun _ => pk_eq fr 0 (fun z => nm_r (nI_1 i) ?_) (fun z => nm_r (nI_1 m) (nm_r (nI_1 i) ?_))) (fun z => absurd z (by omega))
    · rw [z] at h
      exact h
    · rw [show fr = 1 by omega] at h
      exact h
  · rintro n j fr hj ⟨h1, h2, h3⟩ hw
    have e1 : (0 : Int32) + nI j = nI j := (nI_add 0 j).trans (by rw [Nat.zero_add])
    have e2 : (0 : Int32) + nI i = nI i := (nI_add 0 i).trans (by rw [Nat.zero_add])
    have c1 : (nI j).toNatClampNeg = j := nI_clamp (by omega)
    have c2 : (nI i).toNatClampNeg = i := nI_clamp (by omega)
    refine pk_le i j (fun z => absurd z (by omega)) (fun _ => pk_eq fr 0 (fun z => nm_r (nI_1 j) (hw 0 ⟨by omega, fun z => absurd z (by omega), fun z => absurd z (by omega)⟩)) (fun z => ?_))
    rw [e1, e2, c1, c2]
    refine ⟨pk_in j 16 (by omega), pk_in i 16 (by omega), br_c (fun y => nm_r (nI_1 j) (hw 0 ⟨by omega, fun z => absurd z (by omega), fun z => absurd z (by omega)⟩)) (fun y => nm_r (nI_1 j) (hw 1 ⟨by omega, fun _ j' hj' => ?_, fun z => absurd z (by omega)⟩))⟩
    by_cases e : j' = j
    · rw [e]; exact y
    · exact h2 (by omega) j' (by omega)
theorem cd_shafts {post : Int32 → St2 → Prop} {W H : Nat} {f0_steps : Int32} {a1 a2 a3 a4 a5 a6 a7 a8 : Nat → Int32} {up : Nat → Nat → Bool} {sh : Nat → Nat} (hW1 : 1 ≤ W) (hW : W ≤ 8) (hH : H ≤ 8) (hU : cd_U up a1 a2 a3) (hs4 : ∀ c, sh c < 4) (hs : ∀ c c' r, sh c = sh c' → up c r = up c' r)
    (hp : ∀ r st a4 a5 a6 a7 a8, 1 ≤ r → r ≤ 4 → post (nI r) (nI W, nI H, st, a1, a2, a3, a4, a5, a6, a7, a8)) : wpX_shafts post (nI W, nI H, f0_steps, a1, a2, a3, a4, a5, a6, a7, a8) := by
  refine cd_findUnder hW1 hW hH hU (fun b4 hV => ?_)
  have same : ∀ c c', c < W → c' < W → sh c = sh c' → b4 c = b4 c' := by
    intro c c' hc hc' e
    refine cb_ext (fun i hi => ?_)
    by_cases z : 8 ≤ i ∧ i < 8 + H
    · have h1 := cd_V_w hW hH hV hc (show i - 8 < H by omega)
      have h2 := cd_V_w hW hH hV hc' (show i - 8 < H by omega)
      rw [show 8 + (i - 8) = i by omega] at h1 h2
      rw [h1, h2]
      exact hs c c' _ e
    · rw [cd_V_w0 hW hV (by omega) hi (by omega), cd_V_w0 hW hV (by omega) hi (by omega)]
  refine pk_loop (fun n i (m : Nat) => wX_different_9 (fun r u => post r u) 0 (nI W) (nI W) (nI H) f0_steps a1 a2 a3 b4 a5 a6 a7 a8 n (nI m) (nI i)) (fun i m => (1 ≤ i → 1 ≤ m) ∧ m ≤ cd_sm (cd_sn sh i) 4) W 0 0 (by omega) ⟨fun z => absurd z (by omega), Nat.zero_le _⟩ ?_ ?_
  · rintro n m ⟨h1, h2⟩
    have h3 := cd_sm_01 (n := 4) (fun v _ => cd_sn_le sh W v)
    exact pk_le W W (fun _ => hp m f0_steps b4 a5 a6 a7 a8 (h1 hW1) (by omega)) (fun z => absurd z (by omega))
  · rintro n i m hi ⟨h1, h2⟩ hw
    refine pk_le W i (fun z => absurd z (by omega)) (fun _ => cd_diff21 (by omega) (fun fr f1 f2 f3 => hw (m + fr) ⟨fun _ => ?_, ?_⟩))
    · by_cases z : i = 0
      · have := f3 z; omega
      · have := h1 (by omega); omega
    · by_cases z : fr = 1
      · have f4 := f2 z
        have h4 := cd_sm_lt (fun v _ => cd_sn_mono sh i v) (hs4 i) (cd_sn_new (sh := sh) (i := i) (fun j hj e => f4 j hj (same j i (by omega) hi e)))
        omega
      · have h4 := cd_sm_le (n := 4) (fun v _ => cd_sn_mono sh i v)
        omega
end
section
/-! ===== liftable ===== -/
/-- what liftable answers -/
noncomputable def cd_al (W H : Nat) (up : Nat → Nat → Bool) (S : Nat → Bool) : Int32 := @ite _ (cd_cl W H up S) (Classical.propDecidable _) 1 0
theorem cd_al_iff {W H : Nat} {up up' : Nat → Nat → Bool} {S S' : Nat → Bool} (h : cd_cl W H up S ↔ cd_cl W H up' S') : cd_al W H up S = cd_al W H up' S' := by
  unfold cd_al
  rcases Classical.em (cd_cl W H up S) with z | z
  · rw [@if_pos _ (Classical.propDecidable _) z, @if_pos _ (Classical.propDecidable _) (h.mp z)]
  · rw [@if_neg _ (Classical.propDecidable _) z, @if_neg _ (Classical.propDecidable _) (fun y => z (h.mpr y))]
theorem cd_cl_congr {W H : Nat} {up : Nat → Nat → Bool} {S S' : Nat → Bool} (h : ∀ t, cd_v W H t = true → S t = S' t) : cd_cl W H up S ↔ cd_cl W H up S' := by
  constructor
  · intro g c r hc hr
    rw [← h c (cd_v_w hc), ← h (8 + r) (cd_v_f hr)]
    exact g c r hc hr
  · intro g c r hc hr
    rw [h c (cd_v_w hc), h (8 + r) (cd_v_f hr)]
    exact g c r hc hr
/-- the crossed threads, as the code has them -/
def cd_cr (W H t : Nat) : Int32 := if 8 ≤ t then ((1 : Int32) <<< (nI W &&& 31)) - 1 else (cb_all W H >>> ((8 : Int32) &&& 31)) <<< ((8 : Int32) &&& 31)
def cd_ct (W H : Nat) (x : Int32) (a4 : Nat → Int32) (t : Nat) : Prop := cb_bt x t = true → ((cd_cr W H t &&& (x ^^^ (-1))) &&& (a4 t ^^^ (-1))) = 0
theorem cd_lift_iff {W H : Nat} {up : Nat → Nat → Bool} {a4 : Nat → Int32} {y : Int32} (hW : W ≤ 8) (hH : H ≤ 8) (hV : cd_V W H up a4) : (∀ t, t < 8 + H → cd_ct W H (y &&& cb_all W H) a4 t) ↔ cd_cl W H up (cb_bt y) := by
  have bx : ∀ i, i < 32 → cb_bt (y &&& cb_all W H) i = (cb_bt y i && cd_v W H i) := fun i hi => by rw [cb_and, cb_all_bt hW hH hi]
  have bc : ∀ t i, i < 32 → cb_bt ((cd_cr W H t &&& ((y &&& cb_all W H) ^^^ (-1))) &&& (a4 t ^^^ (-1))) i = (cb_bt (cd_cr W H t) i && !(cb_bt y i && cd_v W H i) && !cb_bt (a4 t) i) := by
    intro t i hi
    rw [cb_and, cb_and, cb_not _ hi, cb_not _ hi, bx i hi]
  have crw : ∀ t i, t < 8 → i < 32 → cb_bt (cd_cr W H t) i = (decide (8 ≤ i) && decide (i < 8 + H)) := by
    intro t i ht hi
    unfold cd_cr
    rw [if_neg (by omega)]
    exact cb_hi_bt hW hH hi
  have crf : ∀ r i, i < 32 → cb_bt (cd_cr W H (8 + r)) i = decide (i < W) := by
    intro r i hi
    unfold cd_cr
    rw [if_pos (by omega)]
    exact cb_msk W (by omega) i hi
  constructor
  · intro h c r hc hr
    constructor
    · intro s1 s2
      have h1 := h c (by omega) (by rw [bx c (by omega), s1, cd_v_w hc]; rfl)
      have h2 := cb_z.mp h1 (8 + r) (by omega)
      rw [bc c (8 + r) (by omega), crw c (8 + r) (by omega) (by omega), s2, cd_V_w hW hH hV hc hr, decide_eq_true (show 8 ≤ 8 + r by omega), decide_eq_true (show 8 + r < 8 + H by omega), Bool.false_and] at h2
      revert h2
      cases up c r <;> decide
    · intro s1 s2
      have h1 := h (8 + r) (by omega) (by rw [bx (8 + r) (by omega), s1, cd_v_f hr]; rfl)
      have h2 := cb_z.mp h1 c (by omega)
      rw [bc (8 + r) c (by omega), crf r c (by omega), s2, cd_V_f hW hH hV hc hr, decide_eq_true hc, Bool.false_and] at h2
      revert h2
      cases up c r <;> decide
  · intro h t ht hx
    rw [bx t (by omega), Bool.and_eq_true] at hx
    refine cb_z.mpr (fun i hi => ?_)
    rw [bc t i hi]
    rcases cd_v_iff.mp hx.2 with z | ⟨r, z, rfl⟩
    · rw [crw t i (by omega) hi]
      by_cases y1 : 8 ≤ i ∧ i < 8 + H
      · obtain ⟨j, rfl⟩ : ∃ j, i = 8 + j := ⟨i - 8, by omega⟩
        have h1 := (h t j z (by omega)).1 hx.1
        rw [cd_V_w hW hH hV z (by omega), cd_v_f (show j < H by omega), Bool.and_true]
        cases e : cb_bt y (8 + j)
        · rw [h1 e, Bool.not_true, Bool.and_false]
        · rw [Bool.not_true, Bool.and_false, Bool.false_and]
      · have : (decide (8 ≤ i) && decide (i < 8 + H)) = false := by
          rw [← Bool.decide_and]
          exact decide_eq_false y1
        rw [this, Bool.false_and, Bool.false_and]
    · rw [crf r i hi]
      by_cases y1 : i < W
      · have h1 := (h i r y1 z).2 hx.1
        rw [cd_V_f hW hH hV y1 z, cd_v_w y1, Bool.and_true]
        cases e : cb_bt y i
        · rw [h1 e, Bool.not_false, Bool.not_true, Bool.and_false]
        · rw [Bool.not_true, Bool.and_false, Bool.false_and]
      · rw [decide_eq_false y1, Bool.false_and, Bool.false_and]
theorem cd_l56 {post : Int32 → St2 → Prop} {J16 : Int32 → Int32 → Prop} {W H g t : Nat} {x f0_w f0_h f0_steps : Int32} {a1 a2 a3 a4 a5 a6 a7 a8 : Nat → Int32} (hg : g ≤ 1) (ht : t < 16)
    (hJ : ∀ g', g' ≤ 1 → (g' = 1 ↔ g = 1 ∧ cd_ct W H x a4 t) → J16 (nI g') (nI (t + 1))) : wX_liftable_56 post J16 x (nI g) (nI t) (cd_cr W H t) f0_w f0_h f0_steps a1 a2 a3 a4 a5 a6 a7 a8 := by
  have ct : (nI t).toNatClampNeg = t := nI_clamp (by omega)
  have q0 : g = 0 → ∀ x' : Int32, x' = nI t + 1 → J16 0 x' := fun z => nm_r (nI_1 t) (hJ 0 (by omega) ⟨fun y => absurd y (by omega), fun y => absurd y.1 (by omega)⟩)
  have q1 : ¬ g = 0 → cd_ct W H x a4 t → ∀ x' : Int32, x' = nI t + 1 → J16 1 x' := fun z y => nm_r (nI_1 t) (hJ 1 (by omega) ⟨fun _ => ⟨by omega, y⟩, fun _ => rfl⟩)
  have q2 : ¬ cd_ct W H x a4 t → ∀ x' : Int32, x' = nI t + 1 → J16 0 x' := fun y => nm_r (nI_1 t) (hJ 0 (by omega) ⟨fun z => absurd z (by omega), fun z => absurd z.2 y⟩)
  unfold wX_liftable_56
  rw [cb_bit x (show t < 32 by omega)]
  cases hb : cb_bt x t
  · refine br_f (by decide) ?_
    exact pk_eq g 0 (fun z => q0 z) (fun z => br_t rfl (q1 z (fun y => by rw [hb] at y; exact Bool.noConfusion y)))
  · refine br_t rfl ?_
    refine pk_eq g 0 (fun z => q0 z) (fun z => br_f (by decide) ?_)
    rw [ct]
    exact ⟨pk_in t 16 ht, br_c (fun y => q1 z (fun _ => y)) (fun y => q2 (fun w => y (w hb)))⟩
theorem cd_liftable {post : Int32 → St2 → Prop} {W H : Nat} {f0_steps y : Int32} {a1 a2 a3 a4 a5 a6 a7 a8 : Nat → Int32} {up : Nat → Nat → Bool} (hW1 : 1 ≤ W) (hW : W ≤ 8) (hH : H ≤ 8) (hU : cd_U up a1 a2 a3)
    (hp : ∀ st a4 a5 a6 a7 a8, post (cd_al W H up (cb_bt y)) (nI W, nI H, st, a1, a2, a3, a4, a5, a6, a7, a8)) : wpX_liftable post (nI W, nI H, f0_steps, a1, a2, a3, a4, a5, a6, a7, a8) y := by
  refine cd_findUnder hW1 hW hH hU (fun b4 hV => ?_)
  have h := hp f0_steps b4 a5 a6 a7 a8
  have e8 : (8 : Int32) + nI H = nI (8 + H) := nI_add 8 H
  refine nm_e (e := y &&& cb_all W H) ?_
  refine pk_loop (fun n t (g : Nat) => wX_liftable_16 post (y &&& cb_all W H) (nI W) (nI H) f0_steps a1 a2 a3 b4 a5 a6 a7 a8 n (nI g) (nI t)) (fun t g => g ≤ 1 ∧ (g = 1 ↔ ∀ t', t' < t → cd_ct W H (y &&& cb_all W H) b4 t')) (8 + H) 0 1 (by omega) ⟨Nat.le_refl _, fun _ t ht => absurd ht (Nat.not_lt_zero t), fun _ => rfl⟩ ?_ ?_
  · rintro n g ⟨h1, h2⟩
    rw [cd_lift_iff hW hH hV] at h2
    refine pk_le (8 + H) (8 + H) (fun _ => pk_eq g 0 (fun z => ?_) (fun z => ?_)) (fun z => absurd z (by omega)) e8
    · unfold cd_al at h
      rw [@if_neg _ (Classical.propDecidable _) (fun w => by have := h2.mpr w; omega)] at h
      exact h
    · unfold cd_al at h
      rw [@if_pos _ (Classical.propDecidable _) (h2.mp (by omega))] at h
      exact h
  · rintro n t g ht ⟨h1, h2⟩ hw
    have go : wX_liftable_56 post (wX_liftable_16 post (y &&& cb_all W H) (nI W) (nI H) f0_steps a1 a2 a3 b4 a5 a6 a7 a8 n) (y &&& cb_all W H) (nI g) (nI t) (cd_cr W H t) (nI W) (nI H) f0_steps a1 a2 a3 b4 a5 a6 a7 a8 := by
      refine cd_l56 h1 (by omega) (fun g' k1 k2 => hw g' ⟨k1, ?_⟩)
      rw [k2, h2]
      constructor
      · rintro ⟨m1, m2⟩ t' ht'
        by_cases e : t' = t
        · rw [e]; exact m2
        · exact m1 t' (by omega)
      · intro m
        exact ⟨fun t' ht' => m t' (by omega), m t (by omega)⟩
    refine pk_le (8 + H) t (fun z => absurd z (by omega)) (fun _ => pk_le 8 t (fun z => ?_) (fun z => ?_)) e8
    · unfold cd_cr at go
      rw [if_pos z] at go
      exact go
    · unfold cd_cr at go
      rw [if_neg (by omega)] at go
      exact go
end
section
/-! ===== longest ===== -/
def cd_lg (e : Nat → Bool) : Nat → Nat × Nat
  | 0 => (0, 0)
  | i + 1 => (if (if e i = true then (cd_lg e i).2 + 1 else 1) ≤ (cd_lg e i).1 then (cd_lg e i).1 else (if e i = true then (cd_lg e i).2 + 1 else 1), if e i = true then (cd_lg e i).2 + 1 else 1)
theorem cd_lg_congr {e e' : Nat → Bool} {n : Nat} (h : ∀ i, i < n → e i = e' i) : cd_lg e n = cd_lg e' n := by
  induction n with
  | zero => rfl
  | succ n ih =>
    have h1 := ih (fun i hi => h i (by omega))
    have h2 := h n (by omega)
    unfold cd_lg
    rw [h1, h2]
theorem cd_lg_le (e : Nat → Bool) (n : Nat) : (cd_lg e n).1 ≤ n ∧ (cd_lg e n).2 ≤ n := by
  induction n with
  | zero => exact ⟨Nat.le_refl _, Nat.le_refl _⟩
  | succ n ih =>
    unfold cd_lg
    have h : (if e n = true then (cd_lg e n).2 + 1 else 1) ≤ n + 1 := by
      split <;> omega
    refine ⟨?_, h⟩
    generalize (if e n = true then (cd_lg e n).2 + 1 else 1) = r at h
    show (if r ≤ (cd_lg e n).1 then (cd_lg e n).1 else r) ≤ n + 1
    split <;> omega
theorem cd_bn {a b : Bool} : nI a.toNat = nI b.toNat ↔ (a == b) = true := by
  cases a <;> cases b <;> decide
theorem cd_lo54 {post : Int32 → St2 → Prop} {f0_w f0_h f0_steps : Int32} {a1 a2 a3 a4 a5 a6 a7 a8 : Nat → Int32} {t f m : Nat} (ht : t < 16) (hf : f + m ≤ 16)
    (h : post (nI (cd_lg (fun i => cb_bt (a4 t) (f + i) == cb_bt (a4 t) (f + (i - 1))) m).1) (f0_w, f0_h, f0_steps, a1, a2, a3, a4, a5, a6, a7, a8)) :
    ∃ n, wX_longest_54 post (nI t) (nI f) (nI m) f0_w f0_h f0_steps a1 a2 a3 a4 a5 a6 a7 a8 n 0 0 0 := by
  have ct : (nI t).toNatClampNeg = t := nI_clamp (by omega)
  refine pk_loop (σ := Unit) (fun n i _ => wX_longest_54 post (nI t) (nI f) (nI m) f0_w f0_h f0_steps a1 a2 a3 a4 a5 a6 a7 a8 n (nI (cd_lg (fun i => cb_bt (a4 t) (f + i) == cb_bt (a4 t) (f + (i - 1))) i).1) (nI (cd_lg (fun i => cb_bt (a4 t) (f + i) == cb_bt (a4 t) (f + (i - 1))) i).2) (nI i)) (fun _ _ => True) m 0 () (by omega) trivial ?_ ?_
  · intro n _ _
    exact pk_le m m (fun _ => h) (fun z => absurd z (by omega))
  · intro n i _ hi _ hw
    have ei : nI f + nI i = nI (f + i) := nI_add f i
    have l := cd_lg_le (fun i => cb_bt (a4 t) (f + i) == cb_bt (a4 t) (f + (i - 1))) i
    have hw' := hw () trivial
    have go : ∀ z0 : Int32, z0 = nI (cb_bt (a4 t) (f + (i - 1))).toNat → wX_longest_103 post (wX_longest_54 post (nI t) (nI f) (nI m) f0_w f0_h f0_steps a1 a2 a3 a4 a5 a6 a7 a8 n) (nI t) (nI (cd_lg (fun i => cb_bt (a4 t) (f + i) == cb_bt (a4 t) (f + (i - 1))) i).1) (nI (cd_lg (fun i => cb_bt (a4 t) (f + i) == cb_bt (a4 t) (f + (i - 1))) i).2) (nI f) (nI m) (nI i) (nI (cb_bt (a4 t) (f + i)).toNat) z0 f0_w f0_h f0_steps a1 a2 a3 a4 a5 a6 a7 a8 := by
      rintro z0 rfl
      unfold cd_lg at hw'
      dsimp only at hw'
      refine ek_if cd_bn (fun z => ?_) (fun z => ?_)
      · rw [if_pos z] at hw'
        unfold wX_longest_119
        rw [nI_1]
        refine pk_le ((cd_lg (fun i => cb_bt (a4 t) (f + i) == cb_bt (a4 t) (f + (i - 1))) i).2 + 1) (cd_lg (fun i => cb_bt (a4 t) (f + i) == cb_bt (a4 t) (f + (i - 1))) i).1 (fun y => ?_) (fun y => ?_)
        · rw [if_pos y] at hw'
          exact nm_r (nI_1 i) hw'
        · rw [if_neg (by omega)] at hw'
          exact nm_r (nI_1 i) hw'
      · rw [if_neg z] at hw'
        unfold wX_longest_119
        refine pk_le 1 (cd_lg (fun i => cb_bt (a4 t) (f + i) == cb_bt (a4 t) (f + (i - 1))) i).1 (fun y => ?_) (fun y => ?_)
        · rw [if_pos y] at hw'
          exact nm_r (nI_1 i) hw'
        · rw [if_neg (by omega)] at hw'
          exact nm_r (nI_1 i) hw'
    refine pk_le m i (fun z => absurd z (by omega)) (fun _ => ⟨pk_in t 16 ht, nm_r (e' := nI (cb_bt (a4 t) (f + i)).toNat) (by rw [ct, ei, cb_bit _ (by omega)]) ?_⟩)
    refine pk_le i 0 (fun z => ?_) (fun z => ⟨pk_in t 16 ht, ?_⟩)
    · refine go _ ?_
      rw [show i - 1 = i by omega]
    · refine go _ ?_
      rw [ct, ei, show f + i = f + (i - 1) + 1 by omega, nI_pred, cb_bit _ (by omega)]
/-- what longest answers -/
def cd_lw (up : Nat → Nat → Bool) (t i : Nat) : Bool := if t < 8 then up t i == up t (i - 1) else up i (t - 8) == up (i - 1) (t - 8)
def cd_lo (W H : Nat) (up : Nat → Nat → Bool) (t : Nat) : Int32 := if cd_v W H t = true then nI (cd_lg (cd_lw up t) (if t < 8 then H else W)).1 else -1
theorem cd_lw_fl (up : Nat → Nat → Bool) (t i : Nat) : cd_lw (cd_fl up) t i = cd_lw up t i := by
  unfold cd_lw cd_fl
  by_cases z : t < 8
  · rw [if_pos z, if_pos z]
    cases up t i <;> cases up t (i - 1) <;> rfl
  · rw [if_neg z, if_neg z]
    cases up i (t - 8) <;> cases up (i - 1) (t - 8) <;> rfl
theorem cd_lo_fl (W H : Nat) (up : Nat → Nat → Bool) (t : Nat) : cd_lo W H (cd_fl up) t = cd_lo W H up t := by
  unfold cd_lo
  rw [show cd_lw (cd_fl up) t = cd_lw up t from funext (cd_lw_fl up t)]
theorem cd_longest {post : Int32 → St2 → Prop} {W H t : Nat} {f0_steps : Int32} {a1 a2 a3 a4 a5 a6 a7 a8 : Nat → Int32} {up : Nat → Nat → Bool} (hW1 : 1 ≤ W) (hW : W ≤ 8) (hH : H ≤ 8) (hU : cd_U up a1 a2 a3) (ht : t < 16)
    (hp : ∀ st a4 a5 a6 a7 a8, post (cd_lo W H up t) (nI W, nI H, st, a1, a2, a3, a4, a5, a6, a7, a8)) : wpX_longest post (nI W, nI H, f0_steps, a1, a2, a3, a4, a5, a6, a7, a8) (nI t) := by
  unfold wpX_longest
  dsimp only
  refine cd_badThread hW hH ht (fun v => br_t rfl ?_) (fun v => br_f (show ¬ (1 : Int32) = 0 by decide) ?_)
  · refine cd_findUnder hW1 hW hH hU (fun b4 hV => ?_)
    have h := hp f0_steps b4 a5 a6 a7 a8
    unfold cd_lo at h
    rw [if_pos v] at h
    rcases cd_v_iff.mp v with z | ⟨r, z, rfl⟩
    · rw [if_pos (show t < 8 by omega)] at h
      refine br_f (nI_ge (b := 8) (show t < 8 by omega) (by decide)) (br_f (nI_ge (b := 8) (show t < 8 by omega) (by decide)) (cd_lo54 (f := 8) ht (by omega) ?_))
      rw [cd_lg_congr (e' := cd_lw up t) (fun i hi => ?_)]
      · exact h
      · show (cb_bt (b4 t) (8 + i) == cb_bt (b4 t) (8 + (i - 1))) = _
        unfold cd_lw
        rw [if_pos (show t < 8 by omega), cd_V_w hW hH hV z hi, cd_V_w hW hH hV z (show i - 1 < H by omega)]
    · rw [if_neg (show ¬ 8 + r < 8 by omega)] at h
      refine br_t (nI_le (show 8 ≤ 8 + r by omega) (by omega)) (br_t (nI_le (show 8 ≤ 8 + r by omega) (by omega)) (cd_lo54 (f := 0) ht (by omega) ?_))
      rw [cd_lg_congr (e' := cd_lw up (8 + r)) (fun i hi => ?_)]
      · exact h
      · show (cb_bt (b4 (8 + r)) (0 + i) == cb_bt (b4 (8 + r)) (0 + (i - 1))) = _
        unfold cd_lw
        rw [if_neg (show ¬ 8 + r < 8 by omega), Nat.zero_add, Nat.zero_add, cd_V_f hW hH hV hi z, cd_V_f hW hH hV (show i - 1 < W by omega) z, Nat.add_sub_cancel_left]
        cases up i r <;> cases up (i - 1) r <;> rfl
  · have h := hp f0_steps a4 a5 a6 a7 a8
    unfold cd_lo at h
    rw [if_neg (by rw [v]; decide)] at h
    exact h
/-! ===== above(0, 0), invert ===== -/
theorem cd_above {post : Int32 → Prop} {W H : Nat} {f0_steps : Int32} {a1 a2 a3 a4 a5 a6 a7 a8 : Nat → Int32} {up : Nat → Nat → Bool} (hW1 : 1 ≤ W) (hW : W ≤ 8) (hH1 : 1 ≤ H) (hH : H ≤ 8) (hU : cd_U up a1 a2 a3) (hp : post (nI (up 0 0).toNat)) : wpX_above post (nI W, nI H, f0_steps, a1, a2, a3, a4, a5, a6, a7, a8) 0 0 := by
  have w0 : (0 : Int32) < nI W := nI_lt (a := 0) (by omega) (by omega)
  have h0 : (0 : Int32) < nI H := nI_lt (a := 0) (by omega) (by omega)
  unfold wpX_above
  dsimp only
  unfold wpX_badWarp
  dsimp only
  refine br_f (by decide) (br_t w0 (br_t rfl ?_))
  unfold wpX_badWeft
  dsimp only
  refine br_f (by decide) (br_t h0 (br_t rfl ?_))
  refine cd_isAbove (c := 0) (r := 0) hU (by omega) (by omega) ?_
  cases e : up 0 0
  · rw [e] at hp
    exact br_t rfl hp
  · rw [e] at hp
    exact br_f (by decide) hp
theorem cd_invert {post : Int32 → St2 → Prop} {f0_w f0_h f0_steps : Int32} {a1 a2 a3 a4 a5 a6 a7 a8 : Nat → Int32} {ti : Nat → Nat} (ht : ∀ k, ti k < 16) (h3 : ∀ k, k < 4 → a3 k = nI (ti k))
    (hp : ∀ b, (∀ k, k < 4 → b k = nI (15 - ti k)) → post (nI (cd_sm (fun k => cb_pc (nI (15 - ti k))) 4)) (f0_w, f0_h, f0_steps, a1, a2, b, a4, a5, a6, a7, a8)) :
    wpX_invert post (f0_w, f0_h, f0_steps, a1, a2, a3, a4, a5, a6, a7, a8) := by
  refine pk_loop (fun n k s => wX_invert_4 post f0_w f0_h f0_steps n (nI (cd_sm (fun k => cb_pc (nI (15 - ti k))) k)) (nI k) a1 a2 s a4 a5 a6 a7 a8) (fun k s => (∀ j, j < k → s j = nI (15 - ti j)) ∧ (∀ j, k ≤ j → j < 4 → s j = nI (ti j))) 4 0 a3 (by omega) ⟨fun j hj => absurd hj (Nat.not_lt_zero j), fun j _ hj => h3 j hj⟩ ?_ ?_
  · rintro n s ⟨h1, _⟩
    exact pk_le 4 4 (fun _ => hp s h1) (fun z => absurd z (by omega))
  · rintro n k s hk ⟨h1, h2⟩ hw
    have ck : (nI k).toNatClampNeg = k := nI_clamp (by omega)
    have tk := ht k
    have ev : ((15 : Int32) - s k).toInt8.toInt32 = nI (15 - ti k) := by
      rw [h2 k (by omega) hk]
      have e : (15 : Int32) - nI (ti k) = nI (15 - ti k) := pk_sub (a := 15) (by omega)
      rw [e]
      exact cb_nb _ (by omega)
    refine pk_le 4 k (fun z => absurd z (by omega)) (fun _ => ⟨pk_in k 4 hk, pk_in k 4 hk, nm_r (e' := upd s k (nI (15 - ti k))) (by rw [ck, ev]) ⟨pk_in k 4 hk, ?_⟩⟩)
    rw [ck, pk_us]
    refine cd_sizeOf (nm_r (nI_add _ _) (nm_r (nI_1 k) (hw _ ⟨fun j hj => ?_, fun j hj hj4 => ?_⟩)))
    · by_cases e : j = k
      · rw [e, pk_us]
      · rw [pk_un e]
        exact h1 j (by omega)
    · rw [pk_un (by omega)]
      exact h2 j (by omega) hj4
/-! ===== held ===== -/
def cd_hb (g : Nat → Nat → Int32) (a : Nat) (x : Int32) : Nat → Int32
  | 0 => x
  | b + 1 => cd_hb g a x b * 3 + g a b + 1
def cd_ha (g : Nat → Nat → Int32) : Nat → Int32
  | 0 => 0
  | a + 1 => cd_hb g a (cd_ha g a) 16
theorem cd_held {post : Int32 → St2 → Prop} {W H : Nat} {f0_steps : Int32} {a1 a2 a3 a4 a5 a6 a7 a8 : Nat → Int32} {up : Nat → Nat → Bool} (hW1 : 1 ≤ W) (hW : W ≤ 8) (hH : H ≤ 8) (hU : cd_U up a1 a2 a3)
    (hp : ∀ st a4 a5 a6 a7 a8, post (cd_ha (cd_at W H up) 16) (nI W, nI H, st, a1, a2, a3, a4, a5, a6, a7, a8)) : wpL_held post (nI W, nI H, f0_steps, a1, a2, a3, a4, a5, a6, a7, a8) := by
  refine pk_loop (fun n a (s : Int32 × (Nat → Int32) × (Nat → Int32) × (Nat → Int32) × (Nat → Int32) × (Nat → Int32)) => wL_held_4 post n (cd_ha (cd_at W H up) a) (nI a) (nI W) (nI H) s.1 a1 a2 a3 s.2.1 s.2.2.1 s.2.2.2.1 s.2.2.2.2.1 s.2.2.2.2.2) (fun _ _ => True) 16 0 (f0_steps, a4, a5, a6, a7, a8) (by omega) trivial ?_ ?_
  · rintro n ⟨st, b4, b5, b6, b7, b8⟩ _
    exact pk_le 16 16 (fun _ => hp st b4 b5 b6 b7 b8) (fun z => absurd z (by omega))
  · rintro n a ⟨st, b4, b5, b6, b7, b8⟩ ha _ hw
    refine pk_le 16 a (fun z => absurd z (by omega)) (fun _ => ?_)
    refine pk_loop (fun n' b (s : Int32 × (Nat → Int32) × (Nat → Int32) × (Nat → Int32) × (Nat → Int32) × (Nat → Int32)) => wL_held_12 post (wL_held_4 post n) (nI a) n' (cd_hb (cd_at W H up) a (cd_ha (cd_at W H up) a) b) (nI b) (nI W) (nI H) s.1 a1 a2 a3 s.2.1 s.2.2.1 s.2.2.2.1 s.2.2.2.2.1 s.2.2.2.2.2) (fun _ _ => True) 16 0 (st, b4, b5, b6, b7, b8) (by omega) trivial ?_ ?_
    · rintro n' ⟨st, c4, c5, c6, c7, c8⟩ _
      exact pk_le 16 16 (fun _ => nm_r (nI_1 a) (hw (st, c4, c5, c6, c7, c8) trivial)) (fun z => absurd z (by omega))
    · rintro n' b ⟨st, c4, c5, c6, c7, c8⟩ hb _ hw'
      refine pk_le 16 b (fun z => absurd z (by omega)) (fun _ => cd_together hW1 hW hH hU ha hb (fun st d4 d5 d6 d7 d8 => ?_))
      exact nm_e (nm_r (nI_1 b) (hw' (st, d4, d5, d6, d7, d8) trivial))
end
section
/-! ===== loose ===== -/
def cd_dv (W H : Nat) (up : Nat → Nat → Bool) (t : Nat) : Nat := if cd_v W H t = true then cd_dg W H up t else 0
theorem cd_dg_le (W H : Nat) (up : Nat → Nat → Bool) (t : Nat) (hW : W ≤ 8) (hH : H ≤ 8) : cd_dg W H up t ≤ 8 := by
  unfold cd_dg
  split
  · have : cd_dW H up t ≤ H := cd_sm_01 (fun _ _ => cb_tn _)
    omega
  · have : cd_dF W up (t - 8) ≤ W := cd_sm_01 (fun _ _ => cb_tn _)
    omega
theorem cd_dv_sum {W H : Nat} (up : Nat → Nat → Bool) (hW : W ≤ 8) (hH : H ≤ 8) : cd_sm (cd_dv W H up) 16 = W * H := by
  have e1 : cd_sm (cd_dv W H up) 8 = cd_sm (cd_dW H up) W := by
    rw [← cd_sm_pre (cd_dW H up) hW]
    refine cd_sm_congr (fun i hi => ?_)
    unfold cd_dv cd_dg
    by_cases z : i < W
    · rw [if_pos (cd_v_w z), if_pos hi, if_pos z]
    · rw [if_neg z, if_neg ?_]
      intro y
      rcases cd_v_iff.mp y with x | ⟨r, x, x2⟩ <;> omega
  have e2 : cd_sm (fun i => cd_dv W H up (8 + i)) 8 = cd_sm (cd_dF W up) H := by
    rw [← cd_sm_pre (cd_dF W up) hH]
    refine cd_sm_congr (fun i hi => ?_)
    unfold cd_dv cd_dg
    by_cases z : i < H
    · rw [if_pos (cd_v_f z), if_neg (by omega), if_pos z, Nat.add_sub_cancel_left]
    · rw [if_neg z, if_neg ?_]
      intro y
      rcases cd_v_iff.mp y with x | ⟨r, x, x2⟩ <;> omega
  have e3 : cd_sm (cd_dF W up) H = cd_sm (fun i => cd_sm (fun j => (!up i j).toNat) H) W := (cd_sm_swap (fun i j => (!up i j).toNat) W H).symm
  rw [show (16 : Nat) = 8 + 8 from rfl, cd_sm_split, e1, e2, e3]
  show cd_sm (fun i => cd_sm (fun j => (up i j).toNat) H) W + _ = _
  rw [← cd_sm_add, cd_sm_congr (g := fun _ => H) (fun i _ => ?_), cd_sm_const]
  rw [Nat.add_comm]
  exact cd_sm_not (up i) H
/-- the law's one, when a rows are done -/
def cd_o1 (W H : Nat) (up : Nat → Nat → Bool) (a b : Nat) : Prop := (∀ a', a' < a → ∀ b', b' < 16 → ¬ cd_at W H up a' b' = 0) ∧ (∀ b', b' < b → ¬ cd_at W H up a b' = 0)
theorem cd_o1_N {W H : Nat} {up : Nat → Nat → Bool} (hW1 : 1 ≤ W) (hW : W ≤ 8) (hH : H ≤ 8) : cd_o1 W H up 16 0 ↔ cd_N W H up = 1 := by
  rw [cd_one hW1]
  constructor
  · intro h a b ha hb
    rcases Classical.em (cd_tg W H up a b) with z | z
    · exact z
    · exact absurd (cd_at_f ha hb z) (h.1 a (cd_v_lt hW hH ha) b (cd_v_lt hW hH hb))
  · intro h
    refine ⟨fun a _ b _ => ?_, fun b hb => absurd hb (Nat.not_lt_zero b)⟩
    cases va : cd_v W H a
    · rw [cd_at_a va]; decide
    · cases vb : cd_v W H b
      · rw [cd_at_b vb]; decide
      · rw [cd_at_t va vb (h a b va vb)]; decide
theorem cd_loose18 {post : Int32 → St2 → Prop} {W H a one : Nat} {x1 x2 f0_steps : Int32} {a1 a2 a3 a4 a5 a6 a7 a8 : Nat → Int32} {up : Nat → Nat → Bool} {J8 : Int32 → Int32 → Int32 → Int32 → Int32 → Int32 → (Nat → Int32) → (Nat → Int32) → (Nat → Int32) → (Nat → Int32) → (Nat → Int32) → (Nat → Int32) → (Nat → Int32) → (Nat → Int32) → Prop} (hW1 : 1 ≤ W) (hW : W ≤ 8) (hH : H ≤ 8) (hU : cd_U up a1 a2 a3) (ha : a < 16) (h1 : one ≤ 1) (h2 : one = 1 ↔ cd_o1 W H up a 0)
    (hJ : ∀ one st a4 a5 a6 a7 a8, one ≤ 1 → (one = 1 ↔ cd_o1 W H up (a + 1) 0) → J8 (nI one) (nI (cd_sm (cd_dv W H up) (a + 1))) (nI (a + 1)) (nI W) (nI H) st a1 a2 a3 a4 a5 a6 a7 a8) :
    ∃ n, wL_loose_18 post J8 x1 x2 (nI (cd_sm (cd_dv W H up) a)) (nI a) n (nI one) 0 (nI W) (nI H) f0_steps a1 a2 a3 a4 a5 a6 a7 a8 := by
  refine pk_loop (fun n b (s : Nat × Int32 × (Nat → Int32) × (Nat → Int32) × (Nat → Int32) × (Nat → Int32) × (Nat → Int32)) => wL_loose_18 post J8 x1 x2 (nI (cd_sm (cd_dv W H up) a)) (nI a) n (nI s.1) (nI b) (nI W) (nI H) s.2.1 a1 a2 a3 s.2.2.1 s.2.2.2.1 s.2.2.2.2.1 s.2.2.2.2.2.1 s.2.2.2.2.2.2)
    (fun b s => s.1 ≤ 1 ∧ (s.1 = 1 ↔ cd_o1 W H up a b)) 16 0 (one, f0_steps, a4, a5, a6, a7, a8) (by omega) ⟨h1, h2⟩ ?_ ?_
  · rintro n ⟨one, st, b4, b5, b6, b7, b8⟩ ⟨k1, k2⟩
    have k1 : one ≤ 1 := k1
    have k2 : one = 1 ↔ cd_o1 W H up a 16 := k2
    have k3 : one = 1 ↔ cd_o1 W H up (a + 1) 0 := by
      rw [k2]
      constructor
      · rintro ⟨m1, m2⟩
        refine ⟨fun a' ha' b' hb' => ?_, fun b' hb' => absurd hb' (Nat.not_lt_zero b')⟩
        by_cases e : a' = a
        · rw [e]; exact m2 b' hb'
        · exact m1 a' (by omega) b' hb'
      · rintro ⟨m1, _⟩
        exact ⟨fun a' ha' => m1 a' (by omega), m1 a (by omega)⟩
    have dl := cd_dg_le W H up a hW hH
    refine pk_le 16 16 (fun _ => ?_) (fun z => absurd z (by omega))
    refine cd_over_m hW1 hW hH hU ha (fun st c4 c5 c6 c7 c8 => ?_)
    have hj := fun st c4 c5 c6 c7 c8 => hJ one st c4 c5 c6 c7 c8 k1 k3
    have es : cd_sm (cd_dv W H up) (a + 1) = cd_sm (cd_dv W H up) a + cd_dv W H up a := rfl
    cases va : cd_v W H a
    · have e0 : cd_ov W H up a = -1 := by
        unfold cd_ov
        rw [if_neg (by rw [va]; decide)]
      have d0 : cd_dv W H up a = 0 := by
        unfold cd_dv
        rw [if_neg (by rw [va]; decide)]
      have es : cd_sm (cd_dv W H up) (a + 1) = cd_sm (cd_dv W H up) a := by omega
      rw [e0]
      refine br_t (by decide) (nm_r (nI_1 a) ?_)
      rw [← es]
      exact hj st c4 c5 c6 c7 c8
    · have e0 : cd_ov W H up a = nI (cd_dg W H up a) := by
        unfold cd_ov
        rw [if_pos va]
      have d0 : cd_dv W H up a = cd_dg W H up a := by
        unfold cd_dv
        rw [if_pos va]
      rw [d0] at es
      rw [e0]
      refine pk_le (cd_dg W H up a) 0 (fun z => nm_r (nI_1 a) ?_) (fun z => ?_)
      · have es : cd_sm (cd_dv W H up) (a + 1) = cd_sm (cd_dv W H up) a := by omega
        rw [← es]
        exact hj st c4 c5 c6 c7 c8
      · refine cd_over_m hW1 hW hH hU ha (fun st d4 d5 d6 d7 d8 => ?_)
        rw [e0]
        refine nm_r (nI_add _ _) (nm_r (nI_1 a) ?_)
        rw [← es]
        exact hj st d4 d5 d6 d7 d8
  · rintro n b ⟨one, st, b4, b5, b6, b7, b8⟩ hb ⟨k1, k2⟩ hw
    have k1 : one ≤ 1 := k1
    have k2 : one = 1 ↔ cd_o1 W H up a b := k2
    refine pk_le 16 b (fun z => absurd z (by omega)) (fun _ => cd_together hW1 hW hH hU ha hb (fun st c4 c5 c6 c7 c8 => br_c (fun z => nm_r (nI_1 b) (hw (0, st, c4, c5, c6, c7, c8) ⟨Nat.zero_le _, ?_⟩)) (fun z => nm_r (nI_1 b) (hw (one, st, c4, c5, c6, c7, c8) ⟨k1, ?_⟩))))
    · constructor
      · intro y
        exact absurd y Nat.zero_ne_one
      · rintro ⟨_, m2⟩
        exact absurd z (m2 b (by omega))
    · show one = 1 ↔ _
      rw [k2]
      constructor
      · rintro ⟨m1, m2⟩
        refine ⟨m1, fun b' hb' => ?_⟩
        by_cases e : b' = b
        · rw [e]; exact z
        · exact m2 b' (by omega)
      · rintro ⟨m1, m2⟩
        exact ⟨m1, fun b' hb' => m2 b' (by omega)⟩
theorem cd_loose144 {post : Int32 → St2 → Prop} {W H : Nat} {x f0_steps : Int32} {a1 a2 a3 a4 a5 a6 a7 a8 : Nat → Int32} {up : Nat → Nat → Bool} {sh : Nat → Nat} (hW1 : 1 ≤ W) (hW : W ≤ 8) (hH : H ≤ 8) (hU : cd_U up a1 a2 a3) (hs4 : ∀ c, sh c < 4) (hs : ∀ c c' r, sh c = sh c' → up c r = up c' r)
    (hp : ∀ st a4 a5 a6 a7 a8, post 1 (nI W, nI H, st, a1, a2, a3, a4, a5, a6, a7, a8)) : wL_loose_144 post (nI W) (nI H) x (nI (W * H)) (nI (cd_N W H up)) x (nI W) (nI H) f0_steps a1 a2 a3 a4 a5 a6 a7 a8 := by
  have n1 := cd_N_pos (H := H) (up := up) hW1
  have n2 := cd_N_le (W := W) (H := H) (up := up)
  refine br_t rfl (pk_lt (cd_N W H up) 1 (fun z => absurd z (by omega)) (fun _ => pk_lt (W + H) (cd_N W H up) (fun z => absurd z (by omega)) (fun _ => br_t (pk_mul W H).symm ?_) (nI_add W H)))
  refine cd_shafts hW1 hW hH hU hs4 hs (fun r st b4 b5 b6 b7 b8 r1 r2 => ?_)
  refine pk_lt r 1 (fun z => absurd z (by omega)) (fun _ => ?_)
  refine cd_shafts hW1 hW hH hU hs4 hs (fun r st c4 c5 c6 c7 c8 r1 r2 => ?_)
  exact pk_lt 4 r (fun z => absurd z (by omega)) (fun _ => hp st c4 c5 c6 c7 c8)
theorem cd_loose {post : Int32 → St2 → Prop} {W H : Nat} {f0_steps : Int32} {a1 a2 a3 a4 a5 a6 a7 a8 : Nat → Int32} {up : Nat → Nat → Bool} {sh : Nat → Nat} (hW1 : 1 ≤ W) (hW : W ≤ 8) (hH : H ≤ 8) (hU : cd_U up a1 a2 a3) (hs4 : ∀ c, sh c < 4) (hs : ∀ c c' r, sh c = sh c' → up c r = up c' r)
    (hp : ∀ st a4 a5 a6 a7 a8, post 1 (nI W, nI H, st, a1, a2, a3, a4, a5, a6, a7, a8)) : wpL_loose post (nI W, nI H, f0_steps, a1, a2, a3, a4, a5, a6, a7, a8) (nI W) (nI H) := by
  refine pk_loop (fun n a (s : Nat × Int32 × (Nat → Int32) × (Nat → Int32) × (Nat → Int32) × (Nat → Int32) × (Nat → Int32)) => wL_loose_8 post (nI W) (nI H) n (nI s.1) (nI (cd_sm (cd_dv W H up) a)) (nI a) (nI W) (nI H) s.2.1 a1 a2 a3 s.2.2.1 s.2.2.2.1 s.2.2.2.2.1 s.2.2.2.2.2.1 s.2.2.2.2.2.2)
    (fun a s => s.1 ≤ 1 ∧ (s.1 = 1 ↔ cd_o1 W H up a 0)) 16 0 (1, f0_steps, a4, a5, a6, a7, a8) (by omega) ⟨Nat.le_refl _, fun _ => ⟨fun a h => absurd h (Nat.not_lt_zero a), fun b h => absurd h (Nat.not_lt_zero b)⟩, fun _ => rfl⟩ ?_ ?_
  · rintro n ⟨one, st, b4, b5, b6, b7, b8⟩ ⟨k1, k2⟩
    have k1 : one ≤ 1 := k1
    have k2 : one = 1 ↔ cd_o1 W H up 16 0 := k2
    rw [cd_o1_N hW1 hW hH] at k2
    obtain ⟨l1, l2, l3⟩ := cd_ls_N (H := H) (up := up) hW1 hW hH
    have n2 := cd_N_le (W := W) (H := H) (up := up)
    refine pk_le 16 16 (fun _ => ?_) (fun z => absurd z (by omega))
    refine cd_layers hW1 hW hH hU (fun st c4 c5 c6 c7 c8 => cd_hangs hW1 hW hH hU (fun st d4 d5 d6 d7 d8 => ?_))
    dsimp only
    rw [cd_dv_sum up hW hH]
    by_cases z : cd_N W H up = 1
    · have e1 : one = 1 := k2.mpr z
      subst e1
      rw [if_pos z]
      refine br_t rfl ?_
      refine br_t (show nI (cd_N W H up) = 1 by rw [z]; rfl) ?_
      refine br_t rfl (br_t rfl ?_)
      refine cd_lifts hW1 hW hH hU (fun st e4 e5 e6 e7 e8 => ?_)
      refine br_t (show nI (cd_ls (cd_RN W H up) - 1) = 0 by rw [l3.mpr z]; rfl) ?_
      refine br_t rfl (br_t rfl ?_)
      exact cd_loose144 hW1 hW hH hU hs4 hs hp
    · have e1 : one = 0 := by
        have : ¬ one = 1 := fun y => z (k2.mp y)
        omega
      subst e1
      rw [if_neg z]
      refine br_f (show ¬ (0 : Int32) = 1 by decide) ?_
      refine br_f (show ¬ nI (cd_N W H up) = nI 1 by rw [nI_eq (by omega) (by omega)]; exact z) ?_
      refine br_t rfl (br_f (show ¬ (0 : Int32) = 1 by decide) ?_)
      refine cd_lifts hW1 hW hH hU (fun st e4 e5 e6 e7 e8 => ?_)
      refine br_f (show ¬ nI (cd_ls (cd_RN W H up) - 1) = nI 0 by rw [nI_eq (by omega) (by omega)]; exact fun y => z (l3.mp y)) ?_
      refine br_t rfl (br_f (show ¬ (0 : Int32) = 1 by decide) ?_)
      exact cd_loose144 hW1 hW hH hU hs4 hs hp
  · rintro n a ⟨one, st, b4, b5, b6, b7, b8⟩ ha ⟨k1, k2⟩ hw
    refine pk_le 16 a (fun z => absurd z (by omega)) (fun _ => ?_)
    exact cd_loose18 hW1 hW hH hU ha k1 k2 (fun one st c4 c5 c6 c7 c8 m1 m2 => hw (one, st, c4, c5, c6, c7, c8) ⟨m1, m2⟩)
end
section
/-! ===== inverts ===== -/
def cd_up (sh tr ti : Nat → Nat) : Nat → Nat → Bool := fun c r => cb_bt (nI (ti (tr r))) (sh c)
def cd_A (sh tr ti : Nat → Nat) (a1 a2 a3 : Nat → Int32) : Prop := (∀ i, sh i < 4) ∧ (∀ i, tr i < 4) ∧ (∀ i, ti i < 16) ∧ (∀ i, i < 8 → a1 i = nI (sh i)) ∧ (∀ i, i < 8 → a2 i = nI (tr i)) ∧ (∀ i, i < 4 → a3 i = nI (ti i))
theorem cd_A_U {sh tr ti : Nat → Nat} {a1 a2 a3 : Nat → Int32} (h : cd_A sh tr ti a1 a2 a3) : cd_U (cd_up sh tr ti) a1 a2 a3 := by
  obtain ⟨h1, h2, h3, h4, h5, h6⟩ := h
  intro c r hc hr
  have t1 := h2 r
  have s1 := h1 c
  rw [h5 r hr, h4 c hc, nI_clamp (show tr r < 2 ^ 31 by omega), h6 (tr r) t1, cb_bit _ (by omega)]
  exact ⟨pk_in (tr r) 4 t1, rfl⟩
theorem cd_flb : ∀ n, n < 16 → ∀ s, s < 4 → cb_bt (nI (15 - n)) s = !cb_bt (nI n) s := by decide +kernel
theorem cd_up_fl {sh tr ti : Nat → Nat} (hs : ∀ i, sh i < 4) (ht : ∀ i, ti i < 16) : cd_up sh tr (fun k => 15 - ti k) = cd_fl (cd_up sh tr ti) := by
  funext c r
  exact cd_flb (ti (tr r)) (ht _) (sh c) (hs c)
theorem cd_A_fl {sh tr ti : Nat → Nat} {a1 a2 a3 b : Nat → Int32} (h : cd_A sh tr ti a1 a2 a3) (hb : ∀ k, k < 4 → b k = nI (15 - ti k)) : cd_A sh tr (fun k => 15 - ti k) a1 a2 b := by
  obtain ⟨h1, h2, h3, h4, h5, h6⟩ := h
  exact ⟨h1, h2, fun i => by have := h3 i; show 15 - ti i < 16; omega, h4, h5, hb⟩
theorem cd_al_fl {W H : Nat} {up : Nat → Nat → Bool} {y : Int32} (hW : W ≤ 8) (hH : H ≤ 8) : cd_al W H (cd_fl up) (cb_bt (cb_all W H &&& (y ^^^ (-1)))) = cd_al W H up (cb_bt y) := by
  apply cd_al_iff
  have e : ∀ t, cd_v W H t = true → cb_bt (cb_all W H &&& (y ^^^ (-1))) t = !cb_bt y t := by
    intro t ht
    have := cd_v_lt hW hH ht
    rw [cb_and, cb_all_bt hW hH (by omega), ht, cb_not _ (by omega), Bool.true_and]
  rw [cd_cl_congr (S' := fun t => !cb_bt y t) e]
  constructor
  · intro h
    have h1 := cd_cl_fl h
    rw [cd_fl_fl] at h1
    exact (cd_cl_congr (fun t _ => Bool.not_not _)).mp h1
  · exact cd_cl_fl
theorem cd_inverts {post : Int32 → St2 → Prop} {W H t : Nat} {y f0_steps : Int32} {a1 a2 a3 a4 a5 a6 a7 a8 : Nat → Int32} {sh tr ti : Nat → Nat} (hW1 : 1 ≤ W) (hW : W ≤ 8) (hH1 : 1 ≤ H) (hH : H ≤ 8) (ht : t < 16) (hA : cd_A sh tr ti a1 a2 a3)
    (hp : ∀ st a3 a4 a5 a6 a7 a8, cd_A sh tr ti a1 a2 a3 → post 1 (nI W, nI H, st, a1, a2, a3, a4, a5, a6, a7, a8)) : wpL_inverts post (nI W, nI H, f0_steps, a1, a2, a3, a4, a5, a6, a7, a8) y (nI t) (nI W) (nI H) := by
  have hU := cd_A_U hA
  obtain ⟨s1, s2, s3, s4, s5, s6⟩ := id hA
  unfold wpL_inverts
  refine nm_e (e := cb_all W H) ?_
  refine cd_liftable hW1 hW hH hU (fun st b4 b5 b6 b7 b8 => ?_)
  refine cd_layers hW1 hW hH hU (fun st b4 b5 b6 b7 b8 => ?_)
  refine cd_lifts hW1 hW hH hU (fun st b4 b5 b6 b7 b8 => ?_)
  refine cd_divisions hW1 hW hH hU (fun st b4 b5 b6 b7 b8 => ?_)
  refine cd_longest hW1 hW hH hU ht (fun st b4 b5 b6 b7 b8 => ?_)
  refine cd_held hW1 hW hH hU (fun st b4 b5 b6 b7 b8 => ?_)
  refine cd_above hW1 hW hH1 hH hU ?_
  refine cd_invert s3 s6 (fun b3 hb3 => ?_)
  have hA' := cd_A_fl hA hb3
  have hU' := cd_A_U hA'
  rw [cd_up_fl s1 s3] at hU'
  refine cd_liftable hW1 hW hH hU' (fun st b4 b5 b6 b7 b8 => br_t (cd_al_fl hW hH) ?_)
  refine cd_layers hW1 hW hH hU' (fun st b4 b5 b6 b7 b8 => br_t (by rw [cd_N_fl]) ?_)
  refine cd_lifts hW1 hW hH hU' (fun st b4 b5 b6 b7 b8 => br_t (by rw [cd_RN_fl hW1, cd_ls_rev]) ?_)
  refine cd_divisions hW1 hW hH hU' (fun st b4 b5 b6 b7 b8 => br_t (by rw [cd_RN_fl hW1, cd_lp_rev]) ?_)
  refine cd_longest hW1 hW hH hU' ht (fun st b4 b5 b6 b7 b8 => br_t (cd_lo_fl _ _ _ _) ?_)
  refine cd_held hW1 hW hH hU' (fun st b4 b5 b6 b7 b8 => br_t (by rw [show cd_at W H (cd_fl (cd_up sh tr ti)) = cd_at W H (cd_up sh tr ti) from funext (fun a => funext (fun b => cd_at_fl W H _ a b))]) ?_)
  refine cd_above hW1 hW hH1 hH hU' (br_t ?_ ?_)
  · show nI (!(cd_up sh tr ti 0 0)).toNat = 1 - nI (cd_up sh tr ti 0 0).toNat
    cases cd_up sh tr ti 0 0 <;> decide
  refine cd_invert hA'.2.2.1 hA'.2.2.2.2.2 (fun c3 hc3 => br_t ?_ ?_)
  · have e : cd_sm (fun k => cb_pc (nI (15 - (15 - ti k)))) 4 + cd_sm (fun k => cb_pc (nI (15 - ti k))) 4 = 16 := by
      rw [← cd_sm_add, cd_sm_congr (g := fun _ => 4) (fun k _ => ?_), cd_sm_const]
      have h3 := s3 k
      rw [show 15 - (15 - ti k) = ti k by omega]
      exact cb_pc4 (ti k) h3
    show nI (cd_sm (fun k => cb_pc (nI (15 - (15 - ti k)))) 4) = 16 - nI (cd_sm (fun k => cb_pc (nI (15 - ti k))) 4)
    have e2 : (16 : Int32) - nI (cd_sm (fun k => cb_pc (nI (15 - ti k))) 4) = nI (16 - cd_sm (fun k => cb_pc (nI (15 - ti k))) 4) := pk_sub (a := 16) (by omega)
    rw [e2]
    congr 1
    omega
  have hA2 : cd_A sh tr ti a1 a2 c3 := by
    refine ⟨s1, s2, s3, s4, s5, fun k hk => ?_⟩
    rw [hc3 k hk]
    have h3 := s3 k
    show nI (15 - (15 - ti k)) = nI (ti k)
    rw [show 15 - (15 - ti k) = ti k by omega]
  have hU2 := cd_A_U hA2
  refine cd_liftable hW1 hW hH hU2 (fun st b4 b5 b6 b7 b8 => br_t rfl ?_)
  refine cd_longest hW1 hW hH hU2 ht (fun st b4 b5 b6 b7 b8 => br_t rfl ?_)
  exact cd_above hW1 hW hH1 hH hU2 (br_t rfl (hp st c3 b4 b5 b6 b7 b8 hA2))
end
section
/-! ===== turn ===== -/
/-- an array of small numbers -/
def cd_bd (N B : Nat) (a : Nat → Int32) : Prop := ∃ f : Nat → Nat, (∀ i, f i < B) ∧ ∀ i, i < N → a i = nI (f i)
theorem cd_bd_upd {N B k v : Nat} {a : Nat → Int32} (h : cd_bd N B a) (hv : v < B) : cd_bd N B (upd a k (nI v)) := by
  obtain ⟨f, h1, h2⟩ := h
  refine ⟨fun i => if i = k then v else f i, fun i => ?_, fun i hi => ?_⟩
  · show (if i = k then v else f i) < B
    split
    · exact hv
    · exact h1 i
  · show upd a k (nI v) i = nI (if i = k then v else f i)
    by_cases e : i = k
    · rw [e, pk_us, if_pos rfl]
    · rw [pk_un e, if_neg e]
      exact h2 i hi
def cd_S (a1 a2 a3 : Nat → Int32) : Prop := cd_bd 8 4 a1 ∧ cd_bd 8 4 a2 ∧ cd_bd 4 16 a3
theorem cd_thread {post : Int32 → St2 → Prop} {W H c s : Nat} {f0_steps : Int32} {a1 a2 a3 a4 a5 a6 a7 a8 : Nat → Int32} (hW : W ≤ 8) (hc : c < W) (hs : s < 4)
    (hp : ∀ r, post r (nI W, nI H, f0_steps, upd a1 c (nI s), a2, a3, a4, a5, a6, a7, a8)) : wpX_thread post (nI W, nI H, f0_steps, a1, a2, a3, a4, a5, a6, a7, a8) (nI c) (nI s) := by
  unfold wpX_thread
  dsimp only
  unfold wpX_badWarp
  dsimp only
  refine br_f (nI_pos (by omega)) (br_t (nI_lt hc (by omega)) (br_t rfl ?_))
  unfold wpX_badFour
  dsimp only
  refine br_f (nI_pos (by omega)) (br_t (nI_lt (b := 4) hs (by omega)) (br_t rfl ?_))
  exact ⟨pk_in c 8 (by omega), nm_e ⟨pk_in c 8 (by omega), nm_r (by rw [nI_clamp (by omega), cb_nb s (by omega)]) (hp _)⟩⟩
theorem cd_treadle {post : Int32 → St2 → Prop} {W H c s : Nat} {f0_steps : Int32} {a1 a2 a3 a4 a5 a6 a7 a8 : Nat → Int32} (hH : H ≤ 8) (hc : c < H) (hs : s < 4)
    (hp : ∀ r, post r (nI W, nI H, f0_steps, a1, upd a2 c (nI s), a3, a4, a5, a6, a7, a8)) : wpX_treadle post (nI W, nI H, f0_steps, a1, a2, a3, a4, a5, a6, a7, a8) (nI c) (nI s) := by
  unfold wpX_treadle
  dsimp only
  unfold wpX_badWeft
  dsimp only
  refine br_f (nI_pos (by omega)) (br_t (nI_lt hc (by omega)) (br_t rfl ?_))
  unfold wpX_badFour
  dsimp only
  refine br_f (nI_pos (by omega)) (br_t (nI_lt (b := 4) hs (by omega)) (br_t rfl ?_))
  exact ⟨pk_in c 8 (by omega), nm_e ⟨pk_in c 8 (by omega), nm_r (by rw [nI_clamp (by omega), cb_nb s (by omega)]) (hp _)⟩⟩
theorem cd_tie {post : Int32 → St2 → Prop} {W H c s : Nat} {f0_steps : Int32} {a1 a2 a3 a4 a5 a6 a7 a8 : Nat → Int32} (hc : c < 4) (hs : s < 16)
    (hp : ∀ r, post r (nI W, nI H, f0_steps, a1, a2, upd a3 c (nI s), a4, a5, a6, a7, a8)) : wpX_tie post (nI W, nI H, f0_steps, a1, a2, a3, a4, a5, a6, a7, a8) (nI c) (nI s) := by
  unfold wpX_tie
  dsimp only
  unfold wpX_badFour
  dsimp only
  refine br_f (nI_pos (by omega)) (br_t (nI_lt (b := 4) hc (by omega)) (br_t rfl ?_))
  refine br_f (nI_pos (by omega)) (br_t (nI_le (b := 15) (by omega) (by omega)) ?_)
  exact ⟨pk_in c 4 (by omega), nm_e ⟨pk_in c 4 (by omega), nm_r (by rw [nI_clamp (by omega), cb_nb s (by omega)]) (hp _)⟩⟩
theorem cd_threadAll {post : Int32 → St2 → Prop} {W H c s : Nat} {f0_steps : Int32} {a1 a2 a3 a4 a5 a6 a7 a8 : Nat → Int32} (hW : W ≤ 8) (hc : c < 4) (hs : s < 4) (h1 : cd_bd 8 4 a1)
    (hp : ∀ b, cd_bd 8 4 b → post 0 (nI W, nI H, f0_steps, b, a2, a3, a4, a5, a6, a7, a8)) : wpX_threadAll post (nI W, nI H, f0_steps, a1, a2, a3, a4, a5, a6, a7, a8) (nI c) (nI s) := by
  unfold wpX_threadAll
  dsimp only
  unfold wpX_badFour
  dsimp only
  refine br_f (nI_pos (by omega)) (br_t (nI_lt (b := 4) hc (by omega)) (br_t rfl ?_))
  refine br_f (nI_pos (by omega)) (br_t (nI_lt (b := 4) hs (by omega)) (br_t rfl ?_))
  refine pk_loop (fun n i b => wX_threadAll_20 post (nI c) (nI s) (nI W) (nI H) f0_steps n (nI i) b a2 a3 a4 a5 a6 a7 a8) (fun _ b => cd_bd 8 4 b) W 0 a1 (by omega) h1 ?_ ?_
  · intro n b hb
    exact pk_le W W (fun _ => hp b hb) (fun z => absurd z (by omega))
  · intro n i b hi hb hw
    obtain ⟨v, v1, v2⟩ := pk_andE (nI c + nI s * nI i) (m := 3) 2 rfl
    have v1' : v < 4 := v1
    refine pk_le W i (fun z => absurd z (by omega)) (fun _ => ⟨pk_in i 8 (by omega), nm_r (e' := upd b i (nI v)) (by rw [nI_clamp (by omega), v2, cb_nb v (by omega)]) (nm_r (nI_1 i) (hw _ (cd_bd_upd hb v1')))⟩)
theorem cd_treadleAll {post : Int32 → St2 → Prop} {W H c s : Nat} {f0_steps : Int32} {a1 a2 a3 a4 a5 a6 a7 a8 : Nat → Int32} (hH : H ≤ 8) (hc : c < 4) (hs : s < 4) (h2 : cd_bd 8 4 a2)
    (hp : ∀ b, cd_bd 8 4 b → post 0 (nI W, nI H, f0_steps, a1, b, a3, a4, a5, a6, a7, a8)) : wpX_treadleAll post (nI W, nI H, f0_steps, a1, a2, a3, a4, a5, a6, a7, a8) (nI c) (nI s) := by
  unfold wpX_treadleAll
  dsimp only
  unfold wpX_badFour
  dsimp only
  refine br_f (nI_pos (by omega)) (br_t (nI_lt (b := 4) hc (by omega)) (br_t rfl ?_))
  refine br_f (nI_pos (by omega)) (br_t (nI_lt (b := 4) hs (by omega)) (br_t rfl ?_))
  refine pk_loop (fun n i b => wX_treadleAll_20 post (nI c) (nI s) (nI W) (nI H) f0_steps n (nI i) a1 b a3 a4 a5 a6 a7 a8) (fun _ b => cd_bd 8 4 b) H 0 a2 (by omega) h2 ?_ ?_
  · intro n b hb
    exact pk_le H H (fun _ => hp b hb) (fun z => absurd z (by omega))
  · intro n i b hi hb hw
    obtain ⟨v, v1, v2⟩ := pk_andE (nI c + nI s * nI i) (m := 3) 2 rfl
    have v1' : v < 4 := v1
    refine pk_le H i (fun z => absurd z (by omega)) (fun _ => ⟨pk_in i 8 (by omega), nm_r (e' := upd b i (nI v)) (by rw [nI_clamp (by omega), v2, cb_nb v (by omega)]) (nm_r (nI_1 i) (hw _ (cd_bd_upd hb v1')))⟩)
theorem cd_turn {post : St2 → Prop} {W H : Nat} {f0_steps p1 p2 : Int32} {a1 a2 a3 a4 a5 a6 a7 a8 : Nat → Int32} (hW1 : 1 ≤ W) (hW : W ≤ 8) (hH1 : 1 ≤ H) (hH : H ≤ 8) (hS : cd_S a1 a2 a3)
    (hp : ∀ a1 a2 a3, cd_S a1 a2 a3 → post (nI W, nI H, f0_steps, a1, a2, a3, a4, a5, a6, a7, a8)) : wpL_turn post (nI W, nI H, f0_steps, a1, a2, a3, a4, a5, a6, a7, a8) p1 p2 (nI W) (nI H) := by
  obtain ⟨op, o1, o2⟩ := pk_andE p1 (m := 15) 4 rfl
  obtain ⟨p, q1, q2⟩ := pk_andE p2 (m := 127) 7 rfl
  obtain ⟨q, r1, r2⟩ := pk_andE (p2 >>> ((7 : Int32) &&& 31)) (m := 15) 4 rfl
  obtain ⟨p3, s1, s2⟩ := pk_andE (nI p) (m := 3) 2 rfl
  obtain ⟨q3, t1, t2⟩ := pk_andE (nI q) (m := 3) 2 rfl
  have o1 : op < 16 := o1
  have q1 : p < 128 := q1
  have r1 : q < 16 := r1
  have s1 : p3 < 4 := s1
  have t1 : q3 < 4 := t1
  obtain ⟨h1, h2, h3⟩ := hS
  unfold wpL_turn
  refine nm_r o2 (nm_r q2 (nm_r r2 ?_))
  rw [s2, t2]
  refine pk_le 4 op (fun _ => pk_le 8 op (fun _ => pk_le 12 op (fun _ => pk_eq op 12 (fun _ => ?_) (fun _ => pk_eq op 13 (fun _ => ?_) (fun _ => ?_))) (fun _ => ?_)) (fun _ => ⟨nI_ne0 (by omega) (by omega), ?_⟩)) (fun _ => ⟨nI_ne0 (by omega) (by omega), ?_⟩)
  · exact cd_threadAll hW s1 t1 h1 (fun b hb => hp b a2 a3 ⟨hb, h2, h3⟩)
  · exact cd_treadleAll hH s1 t1 h2 (fun b hb => hp a1 b a3 ⟨h1, hb, h3⟩)
  · exact hp a1 a2 a3 ⟨h1, h2, h3⟩
  · exact cd_tie s1 r1 (fun r => hp a1 a2 _ ⟨h1, h2, cd_bd_upd h3 r1⟩)
  · rw [pk_rem (by omega) (by omega) (by omega)]
    exact cd_treadle hH (Nat.mod_lt _ (by omega)) t1 (fun r => hp a1 _ a3 ⟨h1, cd_bd_upd h2 t1, h3⟩)
  · rw [pk_rem (by omega) (by omega) (by omega)]
    exact cd_thread hW (Nat.mod_lt _ (by omega)) t1 (fun r => hp _ a2 a3 ⟨cd_bd_upd h1 t1, h2, h3⟩)
end
section
/-! ===== the law ===== -/
theorem cd_celll {post : Int32 → Prop} {L k : Nat} {xs : Nat → Int32} {u : St0} (hL : L ≤ 260) (hk : k < 2 ^ 31) (h : ∀ v, post v) : wpL_cell post L xs u (nI k) :=
  pk_le L k (fun _ => h 0) (fun z => ⟨pk_in k L z, h _⟩)
theorem cd_S_A {a1 a2 a3 : Nat → Int32} (h : cd_S a1 a2 a3) : ∃ sh tr ti, cd_A sh tr ti a1 a2 a3 := by
  obtain ⟨⟨sh, s1, s2⟩, ⟨tr, t1, t2⟩, ⟨ti, i1, i2⟩⟩ := h
  exact ⟨sh, tr, ti, s1, t1, i1, s2, t2, i2⟩
theorem cd_A_S {sh tr ti : Nat → Nat} {a1 a2 a3 : Nat → Int32} (h : cd_A sh tr ti a1 a2 a3) : cd_S a1 a2 a3 :=
  ⟨⟨sh, h.1, h.2.2.2.1⟩, ⟨tr, h.2.1, h.2.2.2.2.1⟩, ⟨ti, h.2.2.1, h.2.2.2.2.2⟩⟩
theorem cd_looseS {post : Int32 → St2 → Prop} {W H : Nat} {f0_steps : Int32} {a1 a2 a3 a4 a5 a6 a7 a8 : Nat → Int32} (hW1 : 1 ≤ W) (hW : W ≤ 8) (hH : H ≤ 8) (hS : cd_S a1 a2 a3)
    (hp : ∀ st a4 a5 a6 a7 a8, post 1 (nI W, nI H, st, a1, a2, a3, a4, a5, a6, a7, a8)) : wpL_loose post (nI W, nI H, f0_steps, a1, a2, a3, a4, a5, a6, a7, a8) (nI W) (nI H) := by
  obtain ⟨sh, tr, ti, hA⟩ := cd_S_A hS
  exact cd_loose (sh := sh) hW1 hW hH (cd_A_U hA) hA.1 (fun c c' r e => by unfold cd_up; rw [e]) hp
theorem cd_invertsS {post : Int32 → St2 → Prop} {W H t : Nat} {y f0_steps : Int32} {a1 a2 a3 a4 a5 a6 a7 a8 : Nat → Int32} (hW1 : 1 ≤ W) (hW : W ≤ 8) (hH1 : 1 ≤ H) (hH : H ≤ 8) (ht : t < 16) (hS : cd_S a1 a2 a3)
    (hp : ∀ st a3 a4 a5 a6 a7 a8, cd_S a1 a2 a3 → post 1 (nI W, nI H, st, a1, a2, a3, a4, a5, a6, a7, a8)) : wpL_inverts post (nI W, nI H, f0_steps, a1, a2, a3, a4, a5, a6, a7, a8) y (nI t) (nI W) (nI H) := by
  obtain ⟨sh, tr, ti, hA⟩ := cd_S_A hS
  exact cd_inverts hW1 hW hH1 hH ht hA (fun st b3 b4 b5 b6 b7 b8 hb => hp st b3 b4 b5 b6 b7 b8 (cd_A_S hb))
theorem cd_law39 {xs : Nat → Int32} {L W H kc ks : Nat} {f0_steps : Int32} {a1 a2 a3 a4 a5 a6 a7 a8 : Nat → Int32} (hL : L ≤ 260) (hW1 : 1 ≤ W) (hW : W ≤ 8) (hH1 : 1 ≤ H) (hH : H ≤ 8) (hS : cd_S a1 a2 a3) :
    ∃ n, wL_law_39 (fun r => r = 1) L xs (nI W) (nI H) kc ks n 0 1 (nI W) (nI H) f0_steps a1 a2 a3 a4 a5 a6 a7 a8 := by
  refine loop_m (fun n (s : Int32 × Nat × Int32 × (Nat → Int32) × (Nat → Int32) × (Nat → Int32) × (Nat → Int32) × (Nat → Int32) × (Nat → Int32) × (Nat → Int32) × (Nat → Int32)) => wL_law_39 (fun r => r = 1) L xs (nI W) (nI H) kc ks n s.1 (nI s.2.1) (nI W) (nI H) s.2.2.1 s.2.2.2.1 s.2.2.2.2.1 s.2.2.2.2.2.1 s.2.2.2.2.2.2.1 s.2.2.2.2.2.2.2.1 s.2.2.2.2.2.2.2.2.1 s.2.2.2.2.2.2.2.2.2.1 s.2.2.2.2.2.2.2.2.2.2)
    (fun s => s.2.1 ≤ 262 ∧ cd_S s.2.2.2.1 s.2.2.2.2.1 s.2.2.2.2.2.1) (fun s => 262 - s.2.1) ?_ (0, 1, f0_steps, a1, a2, a3, a4, a5, a6, a7, a8) ⟨by show 1 ≤ 262; omega, hS⟩
  rintro n ⟨lo, k, st, a1, a2, a3, a4, a5, a6, a7, a8⟩ ⟨hk, hS⟩ hw
  have hk : k ≤ 262 := hk
  have hS : cd_S a1 a2 a3 := hS
  have e2 : nI k + 2 = nI (k + 2) := nI_add k 2
  refine pk_le L k (fun z => ?_) (fun z => ?_)
  · refine cd_looseS hW1 hW hH hS (fun st b4 b5 b6 b7 b8 => br_f (show ¬ (1 : Int32) = 0 by decide) ?_)
    refine cd_invertsS (t := 0) hW1 hW hH1 hH (by omega) hS (fun st b3 b4 b5 b6 b7 b8 hS => br_f (show ¬ (1 : Int32) = 0 by decide) ?_)
    refine cd_invertsS (t := 8) hW1 hW hH1 hH (by omega) hS (fun st b3 b4 b5 b6 b7 b8 hS => br_f (show ¬ (1 : Int32) = 0 by decide) ?_)
    rfl
  · refine cd_celll hL (by omega) (fun c => ?_)
    refine ek_v (P := fun x => wpL_cell _ L xs () x) (nI_1 k) (cd_celll hL (by omega) (fun e => ?_))
    refine cd_turn hW1 hW hH1 hH hS (fun a1 a2 a3 hS => ?_)
    refine br_c (fun _ => nm_e (br_c (fun _ => nm_r e2 ?_) (fun _ => ?_))) (fun _ => nm_r e2 ?_)
    · exact hw (lo + 1, k + 2, st, a1, a2, a3, a4, a5, a6, a7, a8) ⟨by show k + 2 ≤ 262; omega, hS⟩ (by show 262 - (k + 2) < 262 - k; omega)
    · refine cd_looseS hW1 hW hH hS (fun st b4 b5 b6 b7 b8 => br_f (show ¬ (1 : Int32) = 0 by decide) ?_)
      obtain ⟨t, t1, t2⟩ := pk_andE (c >>> ((7 : Int32) &&& 31)) (m := 15) 4 rfl
      rw [t2]
      refine cd_invertsS (t := t) hW1 hW hH1 hH t1 hS (fun st b3 b4 b5 b6 b7 b8 hS => br_f (show ¬ (1 : Int32) = 0 by decide) (nm_r e2 ?_))
      exact hw (lo + 1, k + 2, st, a1, a2, b3, b4, b5, b6, b7, b8) ⟨by show k + 2 ≤ 262; omega, hS⟩ (by show 262 - (k + 2) < 262 - k; omega)
    · exact hw (lo, k + 2, st, a1, a2, a3, a4, a5, a6, a7, a8) ⟨by show k + 2 ≤ 262; omega, hS⟩ (by show 262 - (k + 2) < 262 - k; omega)
theorem i_vc (xs : Nat → Int32) (L : Nat) (hL : L ≤ 260) : wpL_law (fun r => r = 1) L xs := by
  unfold wpL_law
  refine cd_celll (k := 0) hL (by omega) (fun v => ?_)
  obtain ⟨w, w1, w2⟩ := pk_andE v (m := 7) 3 rfl
  obtain ⟨h, h1, h2⟩ := pk_andE (v >>> ((3 : Int32) &&& 31)) (m := 7) 3 rfl
  have w1 : w < 8 := w1
  have h1 : h < 8 := h1
  have eW : (1 : Int32) + (v &&& 7) = nI (1 + w) := by
    rw [w2]
    exact nI_add 1 w
  have eH : (1 : Int32) + ((v >>> ((3 : Int32) &&& 31)) &&& 7) = nI (1 + h) := by
    rw [h2]
    exact nI_add 1 h
  refine nm_r eW (nm_r eH ⟨8, 102, by omega, by omega, ?_⟩)
  have z8 : ∀ B, 0 < B → ∀ N, cd_bd N B (fun _ => 0) := fun B hB N => ⟨fun _ => 0, fun _ => hB, fun _ _ => rfl⟩
  have lw1 : (1 : Int32) ≤ nI (1 + w) := nI_le (a := 1) (by omega) (by omega)
  have lw8 : nI (1 + w) ≤ 8 := nI_le (b := 8) (by omega) (by omega)
  have lh1 : (1 : Int32) ≤ nI (1 + h) := nI_le (a := 1) (by omega) (by omega)
  have lh8 : nI (1 + h) ≤ 8 := nI_le (b := 8) (by omega) (by omega)
  unfold wpX_init
  dsimp only
  refine ⟨by omega, by omega, by omega, by omega, by omega, by omega, by omega, by omega, by omega, by omega, by omega, by omega, by omega, by omega, by omega, by omega, br_t lw1 (br_t lw8 ?_)⟩
  unfold wX_init_89
  refine br_t lh1 (br_t lh8 ?_)
  exact cd_law39 hL (by omega) (by omega) (by omega) (by omega) ⟨z8 4 (by omega) 8, z8 4 (by omega) 8, z8 16 (by omega) 4⟩
end
