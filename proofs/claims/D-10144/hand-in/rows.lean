section
/-! The plain law: what the machine's code does to the cells, with no program in sight. -/
/-- an int in the range of 16 bits -/
def dq_R (x : Int32) : Prop := -32768 ≤ x.toInt ∧ x.toInt ≤ 32767
/-- a long in the range of 16 bits -/
def dq_Q (a : Int64) : Prop := -32768 ≤ a.toInt ∧ a.toInt ≤ 32767
theorem dq_RQ {x : Int32} (h : dq_R x) : dq_Q x.toInt64 := by
  unfold dq_Q
  rw [Int32.toInt_toInt64]
  exact h
theorem dq_QR {a : Int64} (h : dq_Q a) : dq_R a.toInt32 := by
  obtain ⟨h1, h2⟩ := h
  have e : a.toInt32.toInt = a.toInt := by
    rw [Int64.toInt_toInt32]
    exact Int.bmod_eq_of_le (by omega) (by omega)
  unfold dq_R
  rw [e]
  exact ⟨h1, h2⟩
theorem dq_R0 : dq_R 0 := by
  unfold dq_R
  decide
theorem dq_Rlo {x : Int32} (h : dq_R x) : ¬ x < (-32768) := by
  rw [Int32.lt_iff_toInt_lt, show (-32768 : Int32).toInt = -32768 by decide]
  have := h.1
  omega
theorem dq_Rhi {x : Int32} (h : dq_R x) : x ≤ 32767 := by
  rw [Int32.le_iff_toInt_le, show (32767 : Int32).toInt = 32767 by decide]
  exact h.2
theorem dq_Rof {x : Int32} (h1 : ¬ x < (-32768)) (h2 : x ≤ 32767) : dq_R x := by
  rw [Int32.lt_iff_toInt_lt, show (-32768 : Int32).toInt = -32768 by decide] at h1
  rw [Int32.le_iff_toInt_le, show (32767 : Int32).toInt = 32767 by decide] at h2
  exact ⟨by omega, h2⟩
theorem dq_Qshr {a : Int64} (h : dq_Q a) (s : Int64) : dq_Q (a >>> s) := by
  have e : (a >>> s).toInt = a.toInt >>> (s.toBitVec.smod 64).toNat := by
    show (a.toBitVec.sshiftRight (s.toBitVec.smod 64).toNat).toInt = _
    rw [BitVec.toInt_sshiftRight]
    rfl
  obtain ⟨h1, h2⟩ := h
  unfold dq_Q
  rw [e, Int.shiftRight_eq_div_pow]
  generalize (s.toBitVec.smod 64).toNat = k
  generalize a.toInt = v at *
  have hp : (0 : Int) < ((2 ^ k : Nat) : Int) := by
    have := Nat.two_pow_pos k
    omega
  constructor
  · refine (Int.le_ediv_iff_mul_le hp).mpr ?_
    have : (-32768 : Int) * ((2 ^ k : Nat) : Int) ≤ -32768 * 1 := by omega
    omega
  · have : v / ((2 ^ k : Nat) : Int) < 32768 := by
      refine (Int.ediv_lt_iff_lt_mul hp).mpr ?_
      have : (32768 : Int) * 1 ≤ 32768 * ((2 ^ k : Nat) : Int) := by omega
      omega
    omega
/-- saturated, as a function -/
def dq_sat (a : Int64) : Int64 := if a ≤ 32767 then (if (-32768) ≤ a then a else (-32768)) else 32767
theorem dq_Qsat (a : Int64) : dq_Q (dq_sat a) := by
  unfold dq_sat
  by_cases h : a ≤ 32767
  · rw [if_pos h]
    by_cases g : (-32768) ≤ a
    · rw [if_pos g]
      rw [Int64.le_iff_toInt_le, show (32767 : Int64).toInt = 32767 by decide] at h
      rw [Int64.le_iff_toInt_le, show (-32768 : Int64).toInt = -32768 by decide] at g
      exact ⟨g, h⟩
    · rw [if_neg g]
      unfold dq_Q
      decide
  · rw [if_neg h]
    unfold dq_Q
    decide
/-- performSpecial's accumulator -/
def dq_sp (op cell num : Int32) (ac : Int64) : Int64 :=
  if op = 5 then (if cell.toInt64 ≤ ac then ac else cell.toInt64)
  else if op = 6 then -ac
  else if op = 7 then (if 0 ≤ ac then ac else -ac)
  else if op = 8 then ac <<< (num.toInt64 &&& 63)
  else if op = 9 then ac >>> (num.toInt64 &&& 63)
  else (ac + 16384) >>> ((15 : Int32).toInt64 &&& 63)
/-- perform's accumulator -/
def dq_ac (op cell num : Int32) (ac : Int64) : Int64 :=
  if op = 0 then cell.toInt64
  else if op = 1 then num.toInt64
  else if op = 2 then ac
  else if op = 3 then ac + cell.toInt64
  else if op = 4 then ac - cell.toInt64
  else if op = 10 then ac + num.toInt64 * cell.toInt64
  else if op = 12 then dq_sat ac
  else dq_sp op cell num ac
/-- perform's cells -/
def dq_ce (op : Int32) (c : Nat) (ac : Int64) (a : Nat → Int32) : Nat → Int32 := if op = 2 then upd a c ac.toInt32 else a
/-- accumulator and cells after k operations -/
def dq_run (a8 a9 a10 : Nat → Int32) (ac : Int64) (a : Nat → Int32) : Nat → Int64 × (Nat → Int32)
  | 0 => (ac, a)
  | k + 1 => (dq_ac (a8 k) ((dq_run a8 a9 a10 ac a k).2 (a10 k).toNatClampNeg) (a9 k) (dq_run a8 a9 a10 ac a k).1, dq_ce (a8 k) (a10 k).toNatClampNeg (dq_run a8 a9 a10 ac a k).1 (dq_run a8 a9 a10 ac a k).2)
/-- one operation's typing: 0 nothing is known of the accumulator, 1 it doesn't depend on what it was before the sample, 2 nor leaves 16 bits -/
def dq_st (op num c : Int32) (t t' : Nat) : Prop := (∃ j : Nat, j < 42 ∧ c = nI j) ∧ ((op = 0 ∧ t' = 2) ∨ (op = 1 ∧ dq_R num ∧ t' = 2) ∨ (op = 2 ∧ t = 2 ∧ t' = 2) ∨ (op = 5 ∧ t = 2 ∧ t' = 2) ∨ (op = 9 ∧ t = 2 ∧ t' = 2) ∨ (op = 12 ∧ t ≠ 0 ∧ t' = 2) ∨ (op ≠ 0 ∧ op ≠ 1 ∧ op ≠ 2 ∧ t ≠ 0 ∧ t' = 1))
/-- the first m operations are well typed, and leave type t -/
def dq_cd (a8 a9 a10 : Nat → Int32) : Nat → Nat → Prop
  | 0 => fun t => t = 0
  | m + 1 => fun t' => ∃ t, dq_cd a8 a9 a10 m t ∧ dq_st (a8 m) (a9 m) (a10 m) t t'
theorem dq_s0 {num : Int32} {j t : Nat} (hj : j < 42) : dq_st 0 num (nI j) t 2 := ⟨⟨j, hj, rfl⟩, Or.inl ⟨rfl, rfl⟩⟩
theorem dq_s1 {num : Int32} {j t : Nat} (hj : j < 42) (hn : dq_R num) : dq_st 1 num (nI j) t 2 := ⟨⟨j, hj, rfl⟩, Or.inr (Or.inl ⟨rfl, hn, rfl⟩)⟩
theorem dq_s2 {num : Int32} {j : Nat} (hj : j < 42) : dq_st 2 num (nI j) 2 2 := ⟨⟨j, hj, rfl⟩, Or.inr (Or.inr (Or.inl ⟨rfl, rfl, rfl⟩))⟩
theorem dq_s5 {num : Int32} {j : Nat} (hj : j < 42) : dq_st 5 num (nI j) 2 2 := ⟨⟨j, hj, rfl⟩, Or.inr (Or.inr (Or.inr (Or.inl ⟨rfl, rfl, rfl⟩)))⟩
theorem dq_s9 {num : Int32} {j : Nat} (hj : j < 42) : dq_st 9 num (nI j) 2 2 := ⟨⟨j, hj, rfl⟩, Or.inr (Or.inr (Or.inr (Or.inr (Or.inl ⟨rfl, rfl, rfl⟩))))⟩
theorem dq_s12 {num : Int32} {j t : Nat} (hj : j < 42) (ht : t ≠ 0) : dq_st 12 num (nI j) t 2 := ⟨⟨j, hj, rfl⟩, Or.inr (Or.inr (Or.inr (Or.inr (Or.inr (Or.inl ⟨rfl, ht, rfl⟩)))))⟩
theorem dq_sB {op num : Int32} {j t : Nat} (hj : j < 42) (ht : t ≠ 0) (h0 : op ≠ 0 := by decide) (h1 : op ≠ 1 := by decide) (h2 : op ≠ 2 := by decide) : dq_st op num (nI j) t 1 := ⟨⟨j, hj, rfl⟩, Or.inr (Or.inr (Or.inr (Or.inr (Or.inr (Or.inr ⟨h0, h1, h2, ht, rfl⟩)))))⟩
theorem dq_cd_congr {a8 a9 a10 b8 b9 b10 : Nat → Int32} : ∀ (m t : Nat), (∀ k, k < m → a8 k = b8 k) → (∀ k, k < m → a9 k = b9 k) → (∀ k, k < m → a10 k = b10 k) → dq_cd a8 a9 a10 m t → dq_cd b8 b9 b10 m t := by
  intro m
  induction m with
  | zero => exact fun t _ _ _ h => h
  | succ m ih =>
    intro t h8 h9 h10 h
    obtain ⟨s, h1, h2⟩ := h
    refine ⟨s, ih s (fun k hk => h8 k (by omega)) (fun k hk => h9 k (by omega)) (fun k hk => h10 k (by omega)) h1, ?_⟩
    rw [← h8 m (by omega), ← h9 m (by omega), ← h10 m (by omega)]
    exact h2
theorem dq_cd_add {a8 a9 a10 : Nat → Int32} {m t t' : Nat} {op num c : Int32} (h : dq_cd a8 a9 a10 m t) (hs : dq_st op num c t t') : dq_cd (upd a8 m op) (upd a9 m num) (upd a10 m c) (m + 1) t' := by
  refine ⟨t, dq_cd_congr m t (fun k hk => (pk_un (by omega)).symm) (fun k hk => (pk_un (by omega)).symm) (fun k hk => (pk_un (by omega)).symm) h, ?_⟩
  rw [pk_us, pk_us, pk_us]
  exact hs
theorem dq_cd_c {a8 a9 a10 : Nat → Int32} : ∀ (m t : Nat), dq_cd a8 a9 a10 m t → ∀ k, k < m → ∃ j : Nat, j < 42 ∧ a10 k = nI j := by
  intro m
  induction m with
  | zero => exact fun t _ k hk => absurd hk (by omega)
  | succ m ih =>
    intro t h k hk
    obtain ⟨s, h1, h2⟩ := h
    by_cases e : k = m
    · rw [e]
      exact h2.1
    · exact ih s h1 k (by omega)
theorem dq_ce_R {op : Int32} {c : Nat} {ac : Int64} {a : Nat → Int32} (ha : ∀ j, dq_R (a j)) (h : op = 2 → dq_Q ac) (j : Nat) : dq_R (dq_ce op c ac a j) := by
  unfold dq_ce
  by_cases e : op = 2
  · rw [if_pos e]
    by_cases g : j = c
    · rw [g, pk_us]
      exact dq_QR (h e)
    · rw [pk_un g]
      exact ha j
  · rw [if_neg e]
    exact ha j
theorem dq_ce_out {op : Int32} {c : Nat} {ac : Int64} {a : Nat → Int32} {j : Nat} (h : j ≠ c) : dq_ce op c ac a j = a j := by
  unfold dq_ce
  by_cases e : op = 2
  · rw [if_pos e, pk_un h]
  · rw [if_neg e]
theorem dq_ce_n {op : Int32} {c : Nat} {ac : Int64} {a : Nat → Int32} (h : ¬ op = 2) : dq_ce op c ac a = a := by
  unfold dq_ce
  rw [if_neg h]
theorem dq_ac_0 {cell num : Int32} {ac : Int64} : dq_ac 0 cell num ac = cell.toInt64 := by
  unfold dq_ac
  rw [if_pos rfl]
theorem dq_ac_1 {cell num : Int32} {ac : Int64} : dq_ac 1 cell num ac = num.toInt64 := by
  unfold dq_ac
  rw [if_neg (by decide), if_pos rfl]
theorem dq_ac_2 {cell num : Int32} {ac : Int64} : dq_ac 2 cell num ac = ac := by
  unfold dq_ac
  rw [if_neg (by decide), if_neg (by decide), if_pos rfl]
theorem dq_ac_12 {cell num : Int32} {ac : Int64} : dq_ac 12 cell num ac = dq_sat ac := by
  unfold dq_ac
  rw [if_neg (by decide), if_neg (by decide), if_neg (by decide), if_neg (by decide), if_neg (by decide), if_neg (by decide), if_pos rfl]
theorem dq_ac_5 {cell num : Int32} {ac : Int64} : dq_ac 5 cell num ac = if cell.toInt64 ≤ ac then ac else cell.toInt64 := by
  unfold dq_ac
  rw [if_neg (by decide), if_neg (by decide), if_neg (by decide), if_neg (by decide), if_neg (by decide), if_neg (by decide), if_neg (by decide)]
  unfold dq_sp
  rw [if_pos rfl]
theorem dq_ac_9 {cell num : Int32} {ac : Int64} : dq_ac 9 cell num ac = ac >>> (num.toInt64 &&& 63) := by
  unfold dq_ac
  rw [if_neg (by decide), if_neg (by decide), if_neg (by decide), if_neg (by decide), if_neg (by decide), if_neg (by decide), if_neg (by decide)]
  unfold dq_sp
  rw [if_neg (by decide), if_neg (by decide), if_neg (by decide), if_neg (by decide), if_pos rfl]
theorem dq_step {op num c : Int32} {t t' : Nat} {ac ac' : Int64} {a : Nat → Int32} (h : dq_st op num c t t') (ha : ∀ j, dq_R (a j)) (he : t ≠ 0 → ac = ac') (hq : t = 2 → dq_Q ac) :
    (∀ j, dq_R (dq_ce op c.toNatClampNeg ac a j)) ∧ dq_ce op c.toNatClampNeg ac a = dq_ce op c.toNatClampNeg ac' a ∧ (t' ≠ 0 → dq_ac op (a c.toNatClampNeg) num ac = dq_ac op (a c.toNatClampNeg) num ac') ∧ (t' = 2 → dq_Q (dq_ac op (a c.toNatClampNeg) num ac)) := by
  obtain ⟨_, h⟩ := h
  have hc : dq_Q (a c.toNatClampNeg).toInt64 := dq_RQ (ha _)
  generalize a c.toNatClampNeg = cell at hc
  generalize c.toNatClampNeg = p
  rcases h with ⟨e, _⟩ | ⟨e, hn, _⟩ | ⟨e, ht, _⟩ | ⟨e, ht, _⟩ | ⟨e, ht, _⟩ | ⟨e, ht, _⟩ | ⟨e0, e1, e2, ht, h1⟩
  · subst e
    rw [dq_ce_n (by decide), dq_ce_n (by decide), dq_ac_0, dq_ac_0]
    exact ⟨ha, rfl, fun _ => rfl, fun _ => hc⟩
  · subst e
    rw [dq_ce_n (by decide), dq_ce_n (by decide), dq_ac_1, dq_ac_1]
    exact ⟨ha, rfl, fun _ => rfl, fun _ => dq_RQ hn⟩
  · have e2 := he (by omega)
    subst e2
    subst e
    rw [dq_ac_2]
    exact ⟨dq_ce_R ha (fun _ => hq ht), rfl, fun _ => rfl, fun _ => hq ht⟩
  · have e2 := he (by omega)
    subst e2
    subst e
    rw [dq_ac_5]
    refine ⟨dq_ce_R ha (fun _ => hq ht), rfl, fun _ => rfl, fun _ => ?_⟩
    by_cases g : cell.toInt64 ≤ ac
    · rw [if_pos g]
      exact hq ht
    · rw [if_neg g]
      exact hc
  · have e2 := he (by omega)
    subst e2
    subst e
    rw [dq_ac_9]
    exact ⟨dq_ce_R ha (fun _ => hq ht), rfl, fun _ => rfl, fun _ => dq_Qshr (hq ht) _⟩
  · have e2 := he ht
    subst e2
    subst e
    rw [dq_ac_12]
    exact ⟨dq_ce_R ha (fun z => absurd z (by decide)), rfl, fun _ => rfl, fun _ => dq_Qsat ac⟩
  · have e3 := he ht
    subst e3
    exact ⟨dq_ce_R ha (fun z => absurd z e2), rfl, fun _ => rfl, fun z => absurd z (by omega)⟩
/-- the law of a run: well-typed code over cells in range leaves cells in range, and what it leaves doesn't depend on the accumulator that it begins with -/
theorem dq_law {a8 a9 a10 : Nat → Int32} {ac ac' : Int64} {a : Nat → Int32} (ha : ∀ j, dq_R (a j)) : ∀ (m t : Nat), dq_cd a8 a9 a10 m t →
    (∀ j, dq_R ((dq_run a8 a9 a10 ac a m).2 j)) ∧ (dq_run a8 a9 a10 ac a m).2 = (dq_run a8 a9 a10 ac' a m).2 ∧ (t ≠ 0 → (dq_run a8 a9 a10 ac a m).1 = (dq_run a8 a9 a10 ac' a m).1) ∧ (t = 2 → dq_Q (dq_run a8 a9 a10 ac a m).1) ∧ (∀ j, 42 ≤ j → (dq_run a8 a9 a10 ac a m).2 j = a j) := by
  intro m
  induction m with
  | zero => exact fun t h => ⟨ha, rfl, fun z => absurd h z, fun z => absurd (show t = 0 from h) (by omega), fun _ _ => rfl⟩
  | succ m ih =>
    intro t' h
    obtain ⟨t, h1, h2⟩ := h
    obtain ⟨i1, i2, i3, i4, i5⟩ := ih t h1
    obtain ⟨j1, j2, j3, j4⟩ := dq_step h2 i1 i3 i4
    refine ⟨j1, ?_, ?_, j4, ?_⟩
    · show dq_ce _ _ _ _ = dq_ce _ _ _ (dq_run a8 a9 a10 ac' a m).2
      rw [← i2]
      exact j2
    · intro z
      show dq_ac _ _ _ _ = dq_ac _ ((dq_run a8 a9 a10 ac' a m).2 _) _ _
      rw [← i2]
      exact j3 z
    · intro j hj
      obtain ⟨c, hc, e⟩ := h2.1
      show dq_ce _ (a10 m).toNatClampNeg _ _ j = _
      rw [dq_ce_out (by rw [e, nI_clamp (by omega)]; omega)]
      exact i5 j hj
/-- a byte that holds a cell's number -/
theorem dq_nb : ∀ j, j < 42 → (nI j).toInt8.toInt32 = nI j := by decide +kernel
/-! Bits of an int, and how many of the first k are set. (The first five rows are turned from the kit's paste rows on bits.) -/
def dq_bt (x : Int32) (i : Nat) : Bool := x.toBitVec.getLsbD i
theorem dq_bor (x y : Int32) (i : Nat) : dq_bt (x ||| y) i = (dq_bt x i || dq_bt y i) := by unfold dq_bt; rw [Int32.toBitVec_or, BitVec.getLsbD_or]
theorem dq_band (x y : Int32) (i : Nat) : dq_bt (x &&& y) i = (dq_bt x i && dq_bt y i) := by unfold dq_bt; rw [Int32.toBitVec_and, BitVec.getLsbD_and]
theorem dq_sl : ∀ n, n < 32 → ((nI n &&& 31).toBitVec.smod 32).toNat = n := by decide +kernel
theorem dq_bsshr (n : Nat) (hn : n < 32) (x : Int32) {i : Nat} (hi : i < 32) : dq_bt (x >>> (nI n &&& 31)) i = if n + i < 32 then dq_bt x (n + i) else dq_bt x 31 := by
  unfold dq_bt
  rw [Int32.toBitVec_shiftRight]
  show (x.toBitVec.sshiftRight ((nI n &&& 31).toBitVec.smod 32).toNat).getLsbD i = _
  rw [dq_sl n hn, BitVec.getLsbD_sshiftRight, BitVec.msb_eq_getLsbD_last]
  simp [hi]
theorem dq_b1 : ∀ n, n < 32 → ∀ i, i < 32 → dq_bt ((1 : Int32) <<< (nI n &&& 31)) i = decide (i = n) := by decide +kernel
theorem dq_bit {x : Int32} {i : Nat} (hi : i < 32) (h : ((x >>> (nI i &&& 31)) &&& 1) = 0) : dq_bt x i = false := by
  have e : dq_bt ((x >>> (nI i &&& 31)) &&& 1) 0 = false := by
    rw [h]
    decide
  rw [dq_band, dq_bsshr i hi x (by omega), if_pos (by omega), show dq_bt 1 0 = true by decide, Bool.and_true] at e
  exact e
theorem dq_bset {x : Int32} {i j : Nat} (hi : i < 32) (hj : j < 32) : dq_bt (x ||| ((1 : Int32) <<< (nI i &&& 31))) j = (dq_bt x j || decide (j = i)) := by
  rw [dq_bor, dq_b1 i hi j hj]
def dq_cnt (x : Int32) : Nat → Nat
  | 0 => 0
  | k + 1 => dq_cnt x k + (if dq_bt x k = true then 1 else 0)
theorem dq_cnt_0 : ∀ k, dq_cnt 0 k = 0 := by
  intro k
  induction k with
  | zero => rfl
  | succ k ih =>
    show dq_cnt 0 k + (if dq_bt 0 k = true then 1 else 0) = 0
    rw [ih, show dq_bt 0 k = false from BitVec.getLsbD_zero]
    rfl
theorem dq_cnt_le (x : Int32) : ∀ k, dq_cnt x k ≤ k := by
  intro k
  induction k with
  | zero => exact Nat.le_refl 0
  | succ k ih =>
    show dq_cnt x k + (if dq_bt x k = true then 1 else 0) ≤ k + 1
    by_cases e : dq_bt x k = true
    · rw [if_pos e]
      omega
    · rw [if_neg e]
      omega
theorem dq_cnt_lt {x : Int32} {i : Nat} (h : dq_bt x i = false) : ∀ k, i < k → dq_cnt x k < k := by
  intro k
  induction k with
  | zero => exact fun z => absurd z (by omega)
  | succ k ih =>
    intro hk
    show dq_cnt x k + (if dq_bt x k = true then 1 else 0) < k + 1
    by_cases g : i = k
    · rw [← g, h, if_neg (by decide)]
      have := dq_cnt_le x i
      omega
    · have := ih (by omega)
      by_cases e : dq_bt x k = true
      · rw [if_pos e]
        omega
      · rw [if_neg e]
        omega
theorem dq_cnt_same {x y : Int32} : ∀ k, (∀ j, j < k → dq_bt x j = dq_bt y j) → dq_cnt x k = dq_cnt y k := by
  intro k
  induction k with
  | zero => exact fun _ => rfl
  | succ k ih =>
    intro h
    show dq_cnt x k + (if dq_bt x k = true then 1 else 0) = dq_cnt y k + (if dq_bt y k = true then 1 else 0)
    rw [ih (fun j hj => h j (by omega)), h k (by omega)]
theorem dq_cnt_set {x : Int32} {i : Nat} (h : dq_bt x i = false) : ∀ k, i < k → k ≤ 32 → dq_cnt (x ||| ((1 : Int32) <<< (nI i &&& 31))) k = dq_cnt x k + 1 := by
  intro k
  induction k with
  | zero => exact fun z => absurd z (by omega)
  | succ k ih =>
    intro hk h32
    show dq_cnt _ k + (if dq_bt (x ||| ((1 : Int32) <<< (nI i &&& 31))) k = true then 1 else 0) = dq_cnt x k + (if dq_bt x k = true then 1 else 0) + 1
    rw [dq_bset (by omega) (by omega)]
    by_cases g : i = k
    · rw [dq_cnt_same (y := x) k (fun j hj => by rw [dq_bset (by omega) (by omega), decide_eq_false (by omega), Bool.or_false]), ← g, h, decide_eq_true rfl]
      rfl
    · rw [ih (by omega) (by omega), decide_eq_false (by omega), Bool.or_false]
      omega
end
section
/-! Emission: what write, load, store, copy, compileNode leave is well typed. -/
/-- the code so far: m operations, type t; a held cell is held only behind a store -/
def dq_C (m t : Nat) (hc : Int32) (a8 a9 a10 : Nat → Int32) : Prop := dq_cd a8 a9 a10 m t ∧ (hc = -1 ∨ t = 2)
theorem dq_nm1 : ∀ j, j < 42 → ¬ (-1 : Int32) = nI j := by decide +kernel
theorem dq_write {m t t' j : Nat} {op num hc : Int32} {a8 a9 a10 : Nat → Int32} (hm : m < 300) (hj : j < 42) (h : dq_C m t hc a8 a9 a10) (hs : dq_st op num (nI j) t t') (hop : op.toInt8.toInt32 = op := by decide) :
    ∃ a8' a9' a10', dq_C (m + 1) t' (-1) a8' a9' a10' ∧ ∀ {nc cp so pl : Int32} {ac : Int64} {sc : Int32} {a1 a2 a3 a4 a5 a6 a7 a11 : Nat → Int32} (post : St1 → Prop), post (nc, cp, so, pl, nI (m + 1), -1, ac, sc, a1, a2, a3, a4, a5, a6, a7, a8', a9', a10', a11) → wpX_write post (nc, cp, so, pl, nI m, hc, ac, sc, a1, a2, a3, a4, a5, a6, a7, a8, a9, a10, a11) op (nI j) num := by
  refine ⟨upd a8 m op, upd a9 m num, upd a10 m (nI j), ⟨dq_cd_add h.1 hs, Or.inl rfl⟩, ?_⟩
  intro nc cp so pl ac sc a1 a2 a3 a4 a5 a6 a7 a11 post hp
  exact ⟨pk_in m 300 hm, nm_r (by rw [nI_clamp (by omega), hop]) ⟨pk_in m 300 hm, nm_r (by rw [nI_clamp (by omega), dq_nb j hj]) ⟨pk_in m 300 hm, nm_r (by rw [nI_clamp (by omega)]) (nm_r (nI_1 m) hp)⟩⟩⟩
theorem dq_load {m t j : Nat} {hc : Int32} {a8 a9 a10 : Nat → Int32} (hm : m < 300) (hj : j < 42) (h : dq_C m t hc a8 a9 a10) :
    ∃ m' hc' a8' a9' a10', m' ≤ m + 1 ∧ dq_C m' 2 hc' a8' a9' a10' ∧ ∀ {nc cp so pl : Int32} {ac : Int64} {sc : Int32} {a1 a2 a3 a4 a5 a6 a7 a11 : Nat → Int32} (post : St1 → Prop), post (nc, cp, so, pl, nI m', hc', ac, sc, a1, a2, a3, a4, a5, a6, a7, a8', a9', a10', a11) → wpX_load post (nc, cp, so, pl, nI m, hc, ac, sc, a1, a2, a3, a4, a5, a6, a7, a8, a9, a10, a11) (nI j) := by
  by_cases e : hc = nI j
  · have ht : t = 2 := by
      rcases h.2 with z | z
      · exact absurd (z.symm.trans e) (dq_nm1 j hj)
      · exact z
    subst ht
    refine ⟨m, hc, a8, a9, a10, by omega, h, ?_⟩
    intro nc cp so pl ac sc a1 a2 a3 a4 a5 a6 a7 a11 post hp
    exact br_t e hp
  · obtain ⟨a8', a9', a10', h1, k⟩ := dq_write (op := 0) (num := 0) hm hj h (dq_s0 hj)
    refine ⟨m + 1, -1, a8', a9', a10', by omega, h1, ?_⟩
    intro nc cp so pl ac sc a1 a2 a3 a4 a5 a6 a7 a11 post hp
    exact br_f e (k _ hp)
theorem dq_store {m j : Nat} {hc : Int32} {a8 a9 a10 : Nat → Int32} (hm : m < 300) (hj : j < 42) (h : dq_C m 2 hc a8 a9 a10) :
    ∃ a8' a9' a10', dq_C (m + 1) 2 (nI j) a8' a9' a10' ∧ ∀ {nc cp so pl : Int32} {ac : Int64} {sc : Int32} {a1 a2 a3 a4 a5 a6 a7 a11 : Nat → Int32} (post : St1 → Prop), post (nc, cp, so, pl, nI (m + 1), nI j, ac, sc, a1, a2, a3, a4, a5, a6, a7, a8', a9', a10', a11) → wpX_store post (nc, cp, so, pl, nI m, hc, ac, sc, a1, a2, a3, a4, a5, a6, a7, a8, a9, a10, a11) (nI j) := by
  obtain ⟨a8', a9', a10', h1, k⟩ := dq_write (op := 2) (num := 0) hm hj h (dq_s2 hj)
  refine ⟨a8', a9', a10', ⟨h1.1, Or.inr rfl⟩, ?_⟩
  intro nc cp so pl ac sc a1 a2 a3 a4 a5 a6 a7 a11 post hp
  unfold wpX_store
  dsimp only
  exact k _ hp
theorem dq_copy {m t i j : Nat} {hc : Int32} {a8 a9 a10 : Nat → Int32} (hm : m + 2 ≤ 300) (hi : i < 42) (hj : j < 42) (h : dq_C m t hc a8 a9 a10) :
    ∃ m' hc' a8' a9' a10', m' ≤ m + 2 ∧ dq_C m' 2 hc' a8' a9' a10' ∧ ∀ {nc cp so pl : Int32} {ac : Int64} {sc : Int32} {a1 a2 a3 a4 a5 a6 a7 a11 : Nat → Int32} (post : St1 → Prop), post (nc, cp, so, pl, nI m', hc', ac, sc, a1, a2, a3, a4, a5, a6, a7, a8', a9', a10', a11) → wpX_copy post (nc, cp, so, pl, nI m, hc, ac, sc, a1, a2, a3, a4, a5, a6, a7, a8, a9, a10, a11) (nI i) (nI j) := by
  obtain ⟨m1, hc1, b8, b9, b10, hm1, h1, k1⟩ := dq_load (by omega) hi h
  obtain ⟨c8, c9, c10, h2, k2⟩ := dq_store (by omega) hj h1
  refine ⟨m1 + 1, nI j, c8, c9, c10, by omega, h2, ?_⟩
  intro nc cp so pl ac sc a1 a2 a3 a4 a5 a6 a7 a11 post hp
  unfold wpX_copy
  dsimp only
  exact k1 _ (k2 _ hp)
/-- a place's cell: a node's own, or the zero -/
theorem dq_cellFor (nc : Int32) {j : Nat} (hj : j < 20) : ∃ c, c < 42 ∧ ∀ {cp so pl ce hc : Int32} {ac : Int64} {sc : Int32} {a1 a2 a3 a4 a5 a6 a7 a8 a9 a10 a11 : Nat → Int32} (post : Int32 → Prop), post (nI c) → wpX_cellFor post (nc, cp, so, pl, ce, hc, ac, sc, a1, a2, a3, a4, a5, a6, a7, a8, a9, a10, a11) (nI j) := by
  by_cases e : nc ≤ nI j
  · refine ⟨40, by omega, ?_⟩
    intro cp so pl ce hc ac sc a1 a2 a3 a4 a5 a6 a7 a8 a9 a10 a11 post hp
    exact br_t e hp
  · refine ⟨j, by omega, ?_⟩
    intro cp so pl ce hc ac sc a1 a2 a3 a4 a5 a6 a7 a8 a9 a10 a11 post hp
    exact br_f e hp
/-- the source: n nodes -/
def dq_N1 (i : Nat) (a1 a2 a3 a4 a5 : Nat → Int32) : Prop := ∃ k : Nat, k ≤ 10 ∧ a1 i = nI k ∧ (k = 1 → dq_R (a2 i)) ∧ (2 ≤ k → k ≤ 9 → ∃ j : Nat, j < 20 ∧ a2 i = nI j) ∧ (3 ≤ k → k ≤ 5 → ∃ j : Nat, j < 20 ∧ a3 i = nI j) ∧ (k = 10 → ∃ q : Nat, q ≤ 6 ∧ a4 i = nI q ∧ ∀ s, s < q → ∃ j : Nat, j < 20 ∧ a5 (6 * i + s) = nI j)
def dq_N (n : Nat) (a1 a2 a3 a4 a5 : Nat → Int32) : Prop := n ≤ 20 ∧ ∀ i, i < n → dq_N1 i a1 a2 a3 a4 a5
theorem dq_one (nc cp so pl : Int32) (ac : Int64) (sc : Int32) (a1 a2 a3 a4 a5 a6 a7 a11 : Nat → Int32) {m t i k j : Nat} {hc : Int32} {a8 a9 a10 : Nat → Int32} (hm : m + 3 ≤ 300) (hi : i < 20) (h : dq_C m t hc a8 a9 a10) (hk : a1 i = nI k) (k6 : 6 ≤ k) (k9 : k ≤ 9) (hj : j < 20) (h2 : a2 i = nI j) :
    ∃ m' hc' a8' a9' a10', m' ≤ m + 3 ∧ dq_C m' 2 hc' a8' a9' a10' ∧ ∀ (post : St1 → Prop), post (nc, cp, so, pl, nI m', hc', ac, sc, a1, a2, a3, a4, a5, a6, a7, a8', a9', a10', a11) → wpX_compileOne post (nc, cp, so, pl, nI m, hc, ac, sc, a1, a2, a3, a4, a5, a6, a7, a8, a9, a10, a11) (nI i) := by
  obtain ⟨c, hc42, kc⟩ := dq_cellFor nc hj
  obtain ⟨m1, hc1, b8, b9, b10, hm1, h1, k1⟩ := dq_load (by omega) hc42 h
  have hk' : ∀ l : Nat, l < 2 ^ 31 → k ≠ l → ¬ nI k = nI l := fun l hl z e => z ((nI_eq (by omega) hl).mp e)
  have ei : (nI i).toNatClampNeg = i := nI_clamp (by omega)
  by_cases e9 : k = 9
  · subst e9
    obtain ⟨c8, c9, c10, h3, k3⟩ := dq_write (op := 9) (num := a3 i) (j := 40) (by omega) (by omega) h1 (dq_s9 (by omega))
    refine ⟨m1 + 1, -1, c8, c9, c10, by omega, h3, ?_⟩
    intro post hp
    refine ⟨pk_in i 20 hi, nm_r (by rw [ei, hk]) ⟨pk_in i 20 hi, ?_⟩⟩
    rw [ei, h2]
    refine kc _ (k1 _ ?_)
    refine br_f (hk' 6 (by omega) (by omega)) (br_f (hk' 7 (by omega) (by omega)) (br_f (hk' 8 (by omega) (by omega)) ⟨pk_in i 20 hi, ?_⟩))
    rw [ei]
    exact k3 _ (br_t rfl hp)
  · have fin : ∀ {m2 : Nat} {c8 c9 c10 : Nat → Int32}, m2 ≤ m + 2 → dq_C m2 1 (-1) c8 c9 c10 → ∃ d8 d9 d10, dq_C (m2 + 1) 2 (-1) d8 d9 d10 ∧ ∀ (post : St1 → Prop), post (nc, cp, so, pl, nI (m2 + 1), -1, ac, sc, a1, a2, a3, a4, a5, a6, a7, d8, d9, d10, a11) → wX_compileOne_84 post (nI k) nc cp so pl (nI m2) (-1) ac sc a1 a2 a3 a4 a5 a6 a7 c8 c9 c10 a11 := by
      intro m2 c8 c9 c10 hm2 h3
      obtain ⟨d8, d9, d10, h4, k4⟩ := dq_write (op := 12) (num := 0) (j := 40) (by omega) (by omega) h3 (dq_s12 (by omega) (by omega))
      exact ⟨d8, d9, d10, h4, fun post hp => br_f (hk' 9 (by omega) e9) (k4 _ hp)⟩
    by_cases e6 : k = 6
    · obtain ⟨c8, c9, c10, h3, k3⟩ := dq_write (op := 6) (num := 0) (j := 40) (by omega) (by omega) h1 (dq_sB (by omega) (by omega))
      obtain ⟨d8, d9, d10, h4, k4⟩ := fin (by omega) h3
      refine ⟨m1 + 1 + 1, -1, d8, d9, d10, by omega, h4, ?_⟩
      intro post hp
      refine ⟨pk_in i 20 hi, nm_r (by rw [ei, hk]) ⟨pk_in i 20 hi, ?_⟩⟩
      rw [ei, h2]
      refine kc _ (k1 _ ?_)
      exact br_t (by rw [e6]; rfl) (k3 _ (k4 _ hp))
    · by_cases e7 : k = 7
      · obtain ⟨c8, c9, c10, h3, k3⟩ := dq_write (op := 7) (num := 0) (j := 40) (by omega) (by omega) h1 (dq_sB (by omega) (by omega))
        obtain ⟨d8, d9, d10, h4, k4⟩ := fin (by omega) h3
        refine ⟨m1 + 1 + 1, -1, d8, d9, d10, by omega, h4, ?_⟩
        intro post hp
        refine ⟨pk_in i 20 hi, nm_r (by rw [ei, hk]) ⟨pk_in i 20 hi, ?_⟩⟩
        rw [ei, h2]
        refine kc _ (k1 _ ?_)
        exact br_f (hk' 6 (by omega) e6) (br_t (by rw [e7]; rfl) (k3 _ (k4 _ hp)))
      · have e8 : k = 8 := by omega
        obtain ⟨c8, c9, c10, h3, k3⟩ := dq_write (op := 8) (num := a3 i) (j := 40) (by omega) (by omega) h1 (dq_sB (by omega) (by omega))
        obtain ⟨d8, d9, d10, h4, k4⟩ := fin (by omega) h3
        refine ⟨m1 + 1 + 1, -1, d8, d9, d10, by omega, h4, ?_⟩
        intro post hp
        refine ⟨pk_in i 20 hi, nm_r (by rw [ei, hk]) ⟨pk_in i 20 hi, ?_⟩⟩
        rw [ei, h2]
        refine kc _ (k1 _ ?_)
        refine br_f (hk' 6 (by omega) e6) (br_f (hk' 7 (by omega) e7) (br_t (by rw [e8]; rfl) ⟨pk_in i 20 hi, ?_⟩))
        rw [ei]
        exact k3 _ (k4 _ hp)
theorem dq_two (nc cp so pl : Int32) (ac : Int64) (sc : Int32) (a1 a2 a3 a4 a5 a6 a7 a11 : Nat → Int32) {m t i k j l : Nat} {hc : Int32} {a8 a9 a10 : Nat → Int32} (hm : m + 3 ≤ 300) (hi : i < 20) (h : dq_C m t hc a8 a9 a10) (hk : a1 i = nI k) (k3 : 3 ≤ k) (k5 : k ≤ 5) (hj : j < 20) (h2 : a2 i = nI j) (hl : l < 20) (h3 : a3 i = nI l) :
    ∃ m' hc' a8' a9' a10', m' ≤ m + 3 ∧ dq_C m' 2 hc' a8' a9' a10' ∧ ∀ (post : St1 → Prop), post (nc, cp, so, pl, nI m', hc', ac, sc, a1, a2, a3, a4, a5, a6, a7, a8', a9', a10', a11) → wpX_compileTwo post (nc, cp, so, pl, nI m, hc, ac, sc, a1, a2, a3, a4, a5, a6, a7, a8, a9, a10, a11) (nI i) := by
  obtain ⟨c, hc42, kc⟩ := dq_cellFor nc hj
  obtain ⟨d, hd42, kd⟩ := dq_cellFor nc hl
  obtain ⟨m1, hc1, b8, b9, b10, hm1, h1, k1⟩ := dq_load (by omega) hc42 h
  have hk' : ∀ l : Nat, l < 2 ^ 31 → k ≠ l → ¬ nI k = nI l := fun l hl z e => z ((nI_eq (by omega) hl).mp e)
  have ei : (nI i).toNatClampNeg = i := nI_clamp (by omega)
  have go : ∀ {m' : Nat} {hc' : Int32} {a8' a9' a10' : Nat → Int32}, (∀ post : St1 → Prop, post (nc, cp, so, pl, nI m', hc', ac, sc, a1, a2, a3, a4, a5, a6, a7, a8', a9', a10', a11) → ((nI k = 3 → wX_compileTwo_55 post (nI k) (nI d) 3 nc cp so pl (nI m1) hc1 ac sc a1 a2 a3 a4 a5 a6 a7 b8 b9 b10 a11) ∧ (¬ nI k = 3 → ((nI k = 4 → wX_compileTwo_55 post (nI k) (nI d) 4 nc cp so pl (nI m1) hc1 ac sc a1 a2 a3 a4 a5 a6 a7 b8 b9 b10 a11) ∧ (¬ nI k = 4 → wX_compileTwo_55 post (nI k) (nI d) 5 nc cp so pl (nI m1) hc1 ac sc a1 a2 a3 a4 a5 a6 a7 b8 b9 b10 a11))))) → ∀ (post : St1 → Prop), post (nc, cp, so, pl, nI m', hc', ac, sc, a1, a2, a3, a4, a5, a6, a7, a8', a9', a10', a11) → wpX_compileTwo post (nc, cp, so, pl, nI m, hc, ac, sc, a1, a2, a3, a4, a5, a6, a7, a8, a9, a10, a11) (nI i) := by
    intro m' hc' a8' a9' a10' hh post hp
    refine ⟨pk_in i 20 hi, nm_r (by rw [ei, hk]) ⟨pk_in i 20 hi, ?_⟩⟩
    rw [ei, h2]
    refine kc _ ⟨pk_in i 20 hi, ?_⟩
    rw [h3]
    exact kd _ (k1 _ (hh post hp))
  by_cases e5 : k = 5
  · obtain ⟨c8, c9, c10, h4, k4⟩ := dq_write (op := 5) (num := 0) (by omega) hd42 h1 (dq_s5 hd42)
    refine ⟨m1 + 1, -1, c8, c9, c10, by omega, h4, go ?_⟩
    intro post hp
    exact br_f (hk' 3 (by omega) (by omega)) (br_f (hk' 4 (by omega) (by omega)) (k4 _ (br_t (by rw [e5]; rfl) hp)))
  · by_cases e3 : k = 3
    · obtain ⟨c8, c9, c10, h4, k4⟩ := dq_write (op := 3) (num := 0) (by omega) hd42 h1 (dq_sB hd42 (by omega))
      obtain ⟨d8, d9, d10, h6, k6⟩ := dq_write (op := 12) (num := 0) (j := 40) (by omega) (by omega) h4 (dq_s12 (by omega) (by omega))
      refine ⟨m1 + 1 + 1, -1, d8, d9, d10, by omega, h6, go ?_⟩
      intro post hp
      exact br_t (by rw [e3]; rfl) (k4 _ (br_f (hk' 5 (by omega) (by omega)) (k6 _ hp)))
    · obtain ⟨c8, c9, c10, h4, k4⟩ := dq_write (op := 4) (num := 0) (by omega) hd42 h1 (dq_sB hd42 (by omega))
      obtain ⟨d8, d9, d10, h6, k6⟩ := dq_write (op := 12) (num := 0) (j := 40) (by omega) (by omega) h4 (dq_s12 (by omega) (by omega))
      refine ⟨m1 + 1 + 1, -1, d8, d9, d10, by omega, h6, go ?_⟩
      intro post hp
      exact br_f (hk' 3 (by omega) e3) (br_t (by rw [show k = 4 by omega]; rfl) (k4 _ (br_f (hk' 5 (by omega) (by omega)) (k6 _ hp))))
theorem dq_sum10 (nc cp so pl : Int32) (ac : Int64) (sc : Int32) (a1 a2 a3 a4 a5 a6 a7 a11 : Nat → Int32) {i q : Nat} (hi : i < 20) (hq : q ≤ 6) (h4 : a4 i = nI q) (h5 : ∀ s, s < q → ∃ j : Nat, j < 20 ∧ a5 (6 * i + s) = nI j) :
    ∀ (d s m t : Nat) (hc : Int32) (a8 a9 a10 : Nat → Int32), s + d = q → m + d + 2 ≤ 300 → t ≠ 0 → dq_C m t hc a8 a9 a10 →
    ∃ m' hc' a8' a9' a10', m' ≤ m + d + 2 ∧ dq_C m' 2 hc' a8' a9' a10' ∧ ∀ (post : St1 → Prop), post (nc, cp, so, pl, nI m', hc', ac, sc, a1, a2, a3, a4, a5, a6, a7, a8', a9', a10', a11) → ∃ fu, wX_compileSum_10 post (nI i) fu (nI s) nc cp so pl (nI m) hc ac sc a1 a2 a3 a4 a5 a6 a7 a8 a9 a10 a11 := by
  have ei : (nI i).toNatClampNeg = i := nI_clamp (by omega)
  intro d
  induction d with
  | zero =>
    intro s m t hc a8 a9 a10 hs hm ht h
    obtain ⟨b8, b9, b10, h1, k1⟩ := dq_write (op := 11) (num := 0) (j := 40) (by omega) (by omega) h (dq_sB (by omega) ht)
    obtain ⟨c8, c9, c10, h2, k2⟩ := dq_write (op := 12) (num := 0) (j := 40) (by omega) (by omega) h1 (dq_s12 (by omega) (by omega))
    refine ⟨m + 1 + 1, -1, c8, c9, c10, by omega, h2, ?_⟩
    intro post hp
    refine ⟨1, pk_in i 20 hi, ?_⟩
    rw [ei, h4]
    exact pk_le q s (fun _ => k1 _ (k2 _ hp)) (fun z => absurd z (by omega))
  | succ d ih =>
    intro s m t hc a8 a9 a10 hs hm ht h
    obtain ⟨j, hj, ej⟩ := h5 s (by omega)
    obtain ⟨c, hc42, kc⟩ := dq_cellFor nc hj
    obtain ⟨b8, b9, b10, h1, k1⟩ := dq_write (op := 10) (num := a6 (6 * i + s)) (by omega) hc42 h (dq_sB hc42 ht)
    obtain ⟨m', hc', a8', a9', a10', hm', h2, k2⟩ := ih (s + 1) (m + 1) 1 (-1) b8 b9 b10 (by omega) (by omega) (by omega) h1
    refine ⟨m', hc', a8', a9', a10', by omega, h2, ?_⟩
    intro post hp
    obtain ⟨fu, hf⟩ := k2 post hp
    refine ⟨fu + 1, pk_in i 20 hi, ?_⟩
    rw [ei, h4]
    refine pk_le q s (fun z => absurd z (by omega)) (fun _ => nm_r (e' := nI (6 * i + s)) (by rw [← nI_add, ← pk_mul]; rfl) ⟨pk_in (6 * i + s) 120 (by omega), ?_⟩)
    rw [nI_clamp (show 6 * i + s < 2 ^ 31 by omega), ej]
    exact kc _ ⟨pk_in (6 * i + s) 120 (by omega), k1 _ (nm_r (nI_1 s) hf)⟩
theorem dq_sum (nc cp so pl : Int32) (ac : Int64) (sc : Int32) (a1 a2 a3 a4 a5 a6 a7 a11 : Nat → Int32) {i q m t : Nat} {hc : Int32} {a8 a9 a10 : Nat → Int32} (hm : m + 9 ≤ 300) (h : dq_C m t hc a8 a9 a10) (hi : i < 20) (hq : q ≤ 6) (h4 : a4 i = nI q) (h5 : ∀ s, s < q → ∃ j : Nat, j < 20 ∧ a5 (6 * i + s) = nI j) :
    ∃ m' hc' a8' a9' a10', m' ≤ m + 9 ∧ dq_C m' 2 hc' a8' a9' a10' ∧ ∀ (post : St1 → Prop), post (nc, cp, so, pl, nI m', hc', ac, sc, a1, a2, a3, a4, a5, a6, a7, a8', a9', a10', a11) → wpX_compileSum post (nc, cp, so, pl, nI m, hc, ac, sc, a1, a2, a3, a4, a5, a6, a7, a8, a9, a10, a11) (nI i) := by
  obtain ⟨b8, b9, b10, h1, k1⟩ := dq_write (op := 1) (num := 0) (j := 40) (by omega) (by omega) h (dq_s1 (by omega) dq_R0)
  obtain ⟨m', hc', a8', a9', a10', hm', h2, k2⟩ := dq_sum10 nc cp so pl ac sc a1 a2 a3 a4 a5 a6 a7 a11 hi hq h4 h5 q 0 (m + 1) 2 (-1) b8 b9 b10 (by omega) (by omega) (by omega) h1
  refine ⟨m', hc', a8', a9', a10', by omega, h2, ?_⟩
  intro post hp
  unfold wpX_compileSum
  dsimp only
  exact k1 _ (k2 post hp)
/-- one node: at most ten operations, the last of them a store -/
theorem dq_node (nc cp so pl : Int32) (ac : Int64) (sc : Int32) (a1 a2 a3 a4 a5 a6 a7 a11 : Nat → Int32) {n i m t : Nat} {hc : Int32} {a8 a9 a10 : Nat → Int32} (hm : m + 10 ≤ 300) (h : dq_C m t hc a8 a9 a10) (hN : dq_N n a1 a2 a3 a4 a5) (hi : i < n) (hd : ¬ a1 i = 2) :
    ∃ m' hc' a8' a9' a10', m' ≤ m + 10 ∧ dq_C m' 2 hc' a8' a9' a10' ∧ ∀ (post : St1 → Prop), post (nc, cp, so, pl, nI m', hc', ac, sc, a1, a2, a3, a4, a5, a6, a7, a8', a9', a10', a11) → wpX_compileNode post (nc, cp, so, pl, nI m, hc, ac, sc, a1, a2, a3, a4, a5, a6, a7, a8, a9, a10, a11) (nI i) := by
  obtain ⟨hn, hN⟩ := hN
  have hi20 : i < 20 := by omega
  obtain ⟨k, k10, hk, c1, c2, c3, c4⟩ := hN i hi
  have ei : (nI i).toNatClampNeg = i := nI_clamp (by omega)
  have hk' : ∀ l : Nat, l < 2 ^ 31 → k ≠ l → ¬ nI k = nI l := fun l hl z e => z ((nI_eq (by omega) hl).mp e)
  have fin : ∀ {m2 : Nat} {hc2 : Int32} {c8 c9 c10 : Nat → Int32}, m2 ≤ m + 9 → dq_C m2 2 hc2 c8 c9 c10 → ∃ d8 d9 d10, dq_C (m2 + 1) 2 (nI i) d8 d9 d10 ∧ ∀ (post : St1 → Prop), post (nc, cp, so, pl, nI (m2 + 1), nI i, ac, sc, a1, a2, a3, a4, a5, a6, a7, d8, d9, d10, a11) → wX_compileNode_73 post (nI i) nc cp so pl (nI m2) hc2 ac sc a1 a2 a3 a4 a5 a6 a7 c8 c9 c10 a11 := by
    intro m2 hc2 c8 c9 c10 hm2 h3
    obtain ⟨d8, d9, d10, h4, k4⟩ := dq_store (j := i) (by omega) (by omega) h3
    exact ⟨d8, d9, d10, h4, fun post hp => k4 _ hp⟩
  by_cases e0 : k = 0
  · obtain ⟨m1, hc1, b8, b9, b10, hm1, h1, k1⟩ := dq_load (j := 41) (by omega) (by omega) h
    obtain ⟨d8, d9, d10, h4, k4⟩ := fin (by omega) h1
    refine ⟨m1 + 1, nI i, d8, d9, d10, by omega, h4, ?_⟩
    intro post hp
    exact ⟨pk_in i 20 hi20, nm_r (by rw [ei, hk]) (br_t (by rw [e0]; rfl) (k1 _ (k4 _ hp)))⟩
  · by_cases e1 : k = 1
    · obtain ⟨b8, b9, b10, h1, k1⟩ := dq_write (op := 1) (num := a2 i) (j := 40) (by omega) (by omega) h (dq_s1 (by omega) (c1 e1))
      obtain ⟨d8, d9, d10, h4, k4⟩ := fin (by omega) h1
      refine ⟨m + 1 + 1, nI i, d8, d9, d10, by omega, h4, ?_⟩
      intro post hp
      refine ⟨pk_in i 20 hi20, nm_r (by rw [ei, hk]) (br_f (hk' 0 (by omega) e0) (br_t (by rw [e1]; rfl) ⟨pk_in i 20 hi20, ?_⟩))⟩
      rw [ei]
      exact k1 _ (k4 _ hp)
    · by_cases e10 : k = 10
      · obtain ⟨q, hq, q4, q5⟩ := c4 e10
        obtain ⟨m1, hc1, b8, b9, b10, hm1, h1, k1⟩ := dq_sum nc cp so pl ac sc a1 a2 a3 a4 a5 a6 a7 a11 (by omega) h hi20 hq q4 q5
        obtain ⟨d8, d9, d10, h4, k4⟩ := fin (by omega) h1
        refine ⟨m1 + 1, nI i, d8, d9, d10, by omega, h4, ?_⟩
        intro post hp
        exact ⟨pk_in i 20 hi20, nm_r (by rw [ei, hk]) (br_f (hk' 0 (by omega) e0) (br_f (hk' 1 (by omega) e1) (br_t (by rw [e10]; rfl) (k1 _ (k4 _ hp)))))⟩
      · have e2 : k ≠ 2 := fun z => hd (by rw [hk, z]; rfl)
        obtain ⟨j, hj, ej⟩ := c2 (by omega) (by omega)
        by_cases e5 : 5 < k
        · obtain ⟨m1, hc1, b8, b9, b10, hm1, h1, k1⟩ := dq_one nc cp so pl ac sc a1 a2 a3 a4 a5 a6 a7 a11 (by omega) hi20 h hk (by omega) (by omega) hj ej
          obtain ⟨d8, d9, d10, h4, k4⟩ := fin (by omega) h1
          refine ⟨m1 + 1, nI i, d8, d9, d10, by omega, h4, ?_⟩
          intro post hp
          exact ⟨pk_in i 20 hi20, nm_r (by rw [ei, hk]) (br_f (hk' 0 (by omega) e0) (br_f (hk' 1 (by omega) e1) (br_f (hk' 10 (by omega) e10) (br_t (nI_lt (a := 5) e5 (by omega)) (k1 _ (k4 _ hp))))))⟩
        · obtain ⟨l, hl, el⟩ := c3 (by omega) (by omega)
          obtain ⟨m1, hc1, b8, b9, b10, hm1, h1, k1⟩ := dq_two nc cp so pl ac sc a1 a2 a3 a4 a5 a6 a7 a11 (by omega) hi20 h hk (by omega) (by omega) hj ej hl el
          obtain ⟨d8, d9, d10, h4, k4⟩ := fin (by omega) h1
          refine ⟨m1 + 1, nI i, d8, d9, d10, by omega, h4, ?_⟩
          intro post hp
          exact ⟨pk_in i 20 hi20, nm_r (by rw [ei, hk]) (br_f (hk' 0 (by omega) e0) (br_f (hk' 1 (by omega) e1) (br_f (hk' 10 (by omega) e10) (br_f (nI_nlt (a := 5) (b := k) (by omega) (by omega)) (k1 _ (k4 _ hp))))))⟩
end
section
/-! namedBy and orderNodes: they end; the answer of namedBy is some set, and the order holds nodes that are no delays, no more than there are. -/
theorem dq_nb98 (nc cp so pl ce hc : Int32) (ac : Int64) (sc : Int32) (a1 a2 a3 a4 a5 a6 a7 a8 a9 a10 a11 : Nat → Int32) : ∀ (d i : Nat) (x3 : Int32), i + d = 20 → ∃ r, ∀ post : Int32 → Prop, post r → ∃ fu, wX_namedBy_98 post nc cp so pl ce hc ac sc a1 a2 a3 a4 a5 a6 a7 a8 a9 a10 a11 fu x3 (nI i) := by
  intro d
  induction d with
  | zero =>
    intro i x3 hi
    exact ⟨x3, fun post hp => ⟨1, pk_le 20 i (fun _ => hp) (fun z => absurd z (by omega))⟩⟩
  | succ d ih =>
    intro i x3 hi
    have ei : (nI i).toNatClampNeg = i := nI_clamp (by omega)
    by_cases h : nc ≤ nI i
    · obtain ⟨r, k⟩ := ih (i + 1) (x3 &&& (((1 : Int32) <<< (nI i &&& 31)) ^^^ (-1))) (by omega)
      refine ⟨r, fun post hp => ?_⟩
      obtain ⟨fu, hf⟩ := k post hp
      exact ⟨fu + 1, pk_le 20 i (fun z => absurd z (by omega)) (fun _ => br_t h (nm_e (nm_r (nI_1 i) hf)))⟩
    · by_cases g : a1 i = 2
      · obtain ⟨r, k⟩ := ih (i + 1) (x3 &&& (((1 : Int32) <<< (nI i &&& 31)) ^^^ (-1))) (by omega)
        refine ⟨r, fun post hp => ?_⟩
        obtain ⟨fu, hf⟩ := k post hp
        exact ⟨fu + 1, pk_le 20 i (fun z => absurd z (by omega)) (fun _ => br_f h ⟨pk_in i 20 (by omega), br_t (by rw [ei]; exact g) (nm_e (nm_r (nI_1 i) hf))⟩)⟩
      · obtain ⟨r, k⟩ := ih (i + 1) x3 (by omega)
        refine ⟨r, fun post hp => ?_⟩
        obtain ⟨fu, hf⟩ := k post hp
        exact ⟨fu + 1, pk_le 20 i (fun z => absurd z (by omega)) (fun _ => br_f h ⟨pk_in i 20 (by omega), br_f (by rw [ei]; exact g) (nm_r (nI_1 i) hf)⟩)⟩
theorem dq_nb61 (nc cp so pl ce hc : Int32) (ac : Int64) (sc : Int32) (a1 a2 a3 a4 a5 a6 a7 a8 a9 a10 a11 : Nat → Int32) {i q : Nat} (hi : i < 20) (hq : q ≤ 6) (h4 : a4 i = nI q) : ∀ (d s : Nat) (x3 : Int32), s + d = q → ∃ r, ∀ post : Int32 → Prop, post r → ∃ fu, wX_namedBy_61 post (nI i) nc cp so pl ce hc ac sc a1 a2 a3 a4 a5 a6 a7 a8 a9 a10 a11 fu x3 (nI s) := by
  have ei : (nI i).toNatClampNeg = i := nI_clamp (by omega)
  intro d
  induction d with
  | zero =>
    intro s x3 hs
    obtain ⟨r, k⟩ := dq_nb98 nc cp so pl ce hc ac sc a1 a2 a3 a4 a5 a6 a7 a8 a9 a10 a11 20 0 x3 (by omega)
    refine ⟨r, fun post hp => ⟨1, pk_in i 20 hi, ?_⟩⟩
    rw [ei, h4]
    exact pk_le q s (fun _ => k post hp) (fun z => absurd z (by omega))
  | succ d ih =>
    intro s x3 hs
    obtain ⟨r, k⟩ := ih (s + 1) (x3 ||| ((1 : Int32) <<< ((a5 (6 * nI i + nI s).toNatClampNeg) &&& 31))) (by omega)
    refine ⟨r, fun post hp => ?_⟩
    obtain ⟨fu, hf⟩ := k post hp
    refine ⟨fu + 1, pk_in i 20 hi, ?_⟩
    rw [ei, h4]
    exact pk_le q s (fun z => absurd z (by omega)) (fun _ => ⟨pk_in (6 * i + s) 120 (by omega) (by rw [← nI_add, ← pk_mul]; rfl), nm_e (nm_r (nI_1 s) hf)⟩)
theorem dq_nb52 (nc cp so pl ce hc : Int32) (ac : Int64) (sc : Int32) (a1 a2 a3 a4 a5 a6 a7 a8 a9 a10 a11 : Nat → Int32) {i k : Nat} (hi : i < 20) (hk : k ≤ 10) (h4 : k = 10 → ∃ q : Nat, q ≤ 6 ∧ a4 i = nI q) (x3 : Int32) : ∃ r, ∀ post : Int32 → Prop, post r → wX_namedBy_52 post (nI i) (nI k) x3 nc cp so pl ce hc ac sc a1 a2 a3 a4 a5 a6 a7 a8 a9 a10 a11 := by
  by_cases e : k = 10
  · obtain ⟨q, hq, e4⟩ := h4 e
    obtain ⟨r, kk⟩ := dq_nb61 nc cp so pl ce hc ac sc a1 a2 a3 a4 a5 a6 a7 a8 a9 a10 a11 hi hq e4 q 0 x3 (by omega)
    exact ⟨r, fun post hp => br_t (by rw [e]; rfl) (kk post hp)⟩
  · obtain ⟨r, kk⟩ := dq_nb98 nc cp so pl ce hc ac sc a1 a2 a3 a4 a5 a6 a7 a8 a9 a10 a11 20 0 x3 (by omega)
    exact ⟨r, fun post hp => br_f (fun z => e ((nI_eq (b := 10) (by omega) (by omega)).mp z)) (kk post hp)⟩
theorem dq_nb31 (nc cp so pl ce hc : Int32) (ac : Int64) (sc : Int32) (a1 a2 a3 a4 a5 a6 a7 a8 a9 a10 a11 : Nat → Int32) {i k : Nat} (hi : i < 20) (hk : k ≤ 10) (h4 : k = 10 → ∃ q : Nat, q ≤ 6 ∧ a4 i = nI q) (x3 : Int32) : ∃ r, ∀ post : Int32 → Prop, post r → wX_namedBy_31 post (nI i) (nI k) x3 nc cp so pl ce hc ac sc a1 a2 a3 a4 a5 a6 a7 a8 a9 a10 a11 := by
  by_cases e : nI k < 3
  · obtain ⟨r, kk⟩ := dq_nb52 nc cp so pl ce hc ac sc a1 a2 a3 a4 a5 a6 a7 a8 a9 a10 a11 hi hk h4 x3
    exact ⟨r, fun post hp => br_t e (kk post hp)⟩
  · by_cases g : 5 < nI k
    · obtain ⟨r, kk⟩ := dq_nb52 nc cp so pl ce hc ac sc a1 a2 a3 a4 a5 a6 a7 a8 a9 a10 a11 hi hk h4 x3
      exact ⟨r, fun post hp => br_f e (br_t g (kk post hp))⟩
    · obtain ⟨r, kk⟩ := dq_nb52 nc cp so pl ce hc ac sc a1 a2 a3 a4 a5 a6 a7 a8 a9 a10 a11 hi hk h4 (x3 ||| ((1 : Int32) <<< ((a3 (nI i).toNatClampNeg) &&& 31)))
      exact ⟨r, fun post hp => br_f e (br_f g ⟨pk_in i 20 hi, nm_e (kk post hp)⟩)⟩
theorem dq_named (nc cp so pl ce hc : Int32) (ac : Int64) (sc : Int32) (a1 a2 a3 a4 a5 a6 a7 a8 a9 a10 a11 : Nat → Int32) {n i : Nat} (hN : dq_N n a1 a2 a3 a4 a5) (hi : i < n) : ∃ r, ∀ post : Int32 → Prop, post r → wpX_namedBy post (nc, cp, so, pl, ce, hc, ac, sc, a1, a2, a3, a4, a5, a6, a7, a8, a9, a10, a11) (nI i) := by
  obtain ⟨hn, hN⟩ := hN
  have hi20 : i < 20 := by omega
  obtain ⟨k, k10, hk, c1, c2, c3, c4⟩ := hN i hi
  have ei : (nI i).toNatClampNeg = i := nI_clamp (by omega)
  have h4 : k = 10 → ∃ q : Nat, q ≤ 6 ∧ a4 i = nI q := fun z => by
    obtain ⟨q, hq, e, _⟩ := c4 z
    exact ⟨q, hq, e⟩
  by_cases e : nI k < 3
  · obtain ⟨r, kk⟩ := dq_nb31 nc cp so pl ce hc ac sc a1 a2 a3 a4 a5 a6 a7 a8 a9 a10 a11 hi20 k10 h4 0
    exact ⟨r, fun post hp => ⟨pk_in i 20 hi20, nm_r (by rw [ei, hk]) (br_t e (kk post hp))⟩⟩
  · by_cases g : 9 < nI k
    · obtain ⟨r, kk⟩ := dq_nb31 nc cp so pl ce hc ac sc a1 a2 a3 a4 a5 a6 a7 a8 a9 a10 a11 hi20 k10 h4 0
      exact ⟨r, fun post hp => ⟨pk_in i 20 hi20, nm_r (by rw [ei, hk]) (br_f e (br_t g (kk post hp)))⟩⟩
    · obtain ⟨r, kk⟩ := dq_nb31 nc cp so pl ce hc ac sc a1 a2 a3 a4 a5 a6 a7 a8 a9 a10 a11 hi20 k10 h4 (0 ||| ((1 : Int32) <<< ((a2 (nI i).toNatClampNeg) &&& 31)))
      exact ⟨r, fun post hp => ⟨pk_in i 20 hi20, nm_r (by rw [ei, hk]) (br_f e (br_f g ⟨pk_in i 20 hi20, nm_e (kk post hp)⟩))⟩⟩
/-- the order so far: as many as done has bits, each a node that is no delay -/
def dq_O (n : Nat) (a1 : Nat → Int32) (x1 : Int32) (p : Nat) (a7 : Nat → Int32) : Prop := p = dq_cnt x1 n ∧ ∀ q, q < p → ∃ i : Nat, i < n ∧ a7 q = nI i ∧ ¬ a1 i = 2
theorem dq_O0 {n : Nat} {a1 a7 : Nat → Int32} : dq_O n a1 0 0 a7 := ⟨(dq_cnt_0 n).symm, fun q hq => absurd hq (by omega)⟩
theorem dq_Oadd {n p i : Nat} {a1 a7 : Nat → Int32} {x1 : Int32} (h : dq_O n a1 x1 p a7) (hn : n ≤ 20) (hi : i < n) (hd : ¬ a1 i = 2) (hb : ((x1 >>> (nI i &&& 31)) &&& 1) = 0) :
    p < 20 ∧ dq_O n a1 (x1 ||| ((1 : Int32) <<< (nI i &&& 31))) (p + 1) (upd a7 p (nI i)) := by
  obtain ⟨h1, h2⟩ := h
  have b := dq_bit (by omega) hb
  have lt := dq_cnt_lt b n hi
  refine ⟨by omega, ?_, ?_⟩
  · rw [dq_cnt_set b n hi (by omega), h1]
  · intro q hq
    by_cases e : q = p
    · exact ⟨i, hi, by rw [e, pk_us], hd⟩
    · rw [pk_un e]
      exact h2 q (by omega)
theorem dq_o51 (nc cp so ce hc : Int32) (ac : Int64) (sc : Int32) (a1 a2 a3 a4 a5 a6 a8 a9 a10 a11 : Nat → Int32) {n : Nat} (hN : dq_N n a1 a2 a3 a4 a5) (hnc : nc = nI n) (x2 x3 : Int32) : ∀ (d i : Nat) (x1 : Int32) (p : Nat) (a7 : Nat → Int32), i + d = n → dq_O n a1 x1 p a7 →
    ∃ x1' p' a7', dq_O n a1 x1' p' a7' ∧ ∀ (post : Int32 → St1 → Prop) (J : Int32 → Int32 → Int32 → (Nat → Int32) → (Nat → Int32) → (Nat → Int32) → (Nat → Int32) → (Nat → Int32) → (Nat → Int32) → (Nat → Int32) → (Nat → Int32) → (Nat → Int32) → (Nat → Int32) → (Nat → Int32) → Prop), J x1' (x3 + 1) (nI p') a1 a2 a3 a4 a5 a6 a7' a8 a9 a10 a11 → ∃ fu, wX_orderNodes_51 post J x2 x3 nc cp so ce hc ac sc fu x1 (nI i) (nI p) a1 a2 a3 a4 a5 a6 a7 a8 a9 a10 a11 := by
  subst hnc
  have hn := hN.1
  intro d
  induction d with
  | zero =>
    intro i x1 p a7 hi hO
    exact ⟨x1, p, a7, hO, fun post J hJ => ⟨1, pk_le n i (fun _ => nm_e hJ) (fun z => absurd z (by omega))⟩⟩
  | succ d ih =>
    intro i x1 p a7 hi hO
    have ei : (nI i).toNatClampNeg = i := nI_clamp (by omega)
    have hin : i < n := by omega
    by_cases hd : a1 i = 2
    · obtain ⟨x1', p', a7', h1, k⟩ := ih (i + 1) x1 p a7 (by omega) hO
      refine ⟨x1', p', a7', h1, fun post J hJ => ?_⟩
      obtain ⟨fu, hf⟩ := k post J hJ
      exact ⟨fu + 1, pk_le n i (fun z => absurd z (by omega)) (fun _ => ⟨pk_in i 20 (by omega), br_t (by rw [ei]; exact hd) (nm_r (nI_1 i) hf)⟩)⟩
    · by_cases hb : ((x1 >>> (nI i &&& 31)) &&& 1) = 0
      · obtain ⟨r, kr⟩ := dq_named (nI n) cp so (nI p) ce hc ac sc a1 a2 a3 a4 a5 a6 a7 a8 a9 a10 a11 hN hin
        by_cases hr : (r &&& (x1 ^^^ (-1))) = 0
        · obtain ⟨hp20, hO'⟩ := dq_Oadd hO hn hin hd hb
          obtain ⟨x1', p', a7', h1, k⟩ := ih (i + 1) _ (p + 1) _ (by omega) hO'
          refine ⟨x1', p', a7', h1, fun post J hJ => ?_⟩
          obtain ⟨fu, hf⟩ := k post J hJ
          refine ⟨fu + 1, pk_le n i (fun z => absurd z (by omega)) (fun _ => ⟨pk_in i 20 (by omega), br_f (by rw [ei]; exact hd) (br_t hb (kr _ (br_t hr ?_)))⟩)⟩
          exact nm_e ⟨pk_in p 20 hp20, nm_r (by rw [nI_clamp (by omega), dq_nb i (by omega)]) (nm_r (nI_1 p) (nm_r (nI_1 i) hf))⟩
        · obtain ⟨x1', p', a7', h1, k⟩ := ih (i + 1) x1 p a7 (by omega) hO
          refine ⟨x1', p', a7', h1, fun post J hJ => ?_⟩
          obtain ⟨fu, hf⟩ := k post J hJ
          exact ⟨fu + 1, pk_le n i (fun z => absurd z (by omega)) (fun _ => ⟨pk_in i 20 (by omega), br_f (by rw [ei]; exact hd) (br_t hb (kr _ (br_f hr (nm_r (nI_1 i) hf))))⟩)⟩
      · obtain ⟨x1', p', a7', h1, k⟩ := ih (i + 1) x1 p a7 (by omega) hO
        refine ⟨x1', p', a7', h1, fun post J hJ => ?_⟩
        obtain ⟨fu, hf⟩ := k post J hJ
        exact ⟨fu + 1, pk_le n i (fun z => absurd z (by omega)) (fun _ => ⟨pk_in i 20 (by omega), br_f (by rw [ei]; exact hd) (br_f hb (nm_r (nI_1 i) hf))⟩)⟩
/-- what orderNodes leaves: the placed ones -/
def dq_P (n : Nat) (a1 : Nat → Int32) (p : Nat) (a7 : Nat → Int32) : Prop := p ≤ n ∧ ∀ q, q < p → ∃ i : Nat, i < n ∧ a7 q = nI i ∧ ¬ a1 i = 2
theorem dq_o40 (nc cp so ce hc : Int32) (ac : Int64) (sc : Int32) (a1 a2 a3 a4 a5 a6 a8 a9 a10 a11 : Nat → Int32) {n : Nat} (hN : dq_N n a1 a2 a3 a4 a5) (hnc : nc = nI n) (x2 : Int32) : ∀ (d i : Nat) (x1 : Int32) (p : Nat) (a7 : Nat → Int32), i + d = n → dq_O n a1 x1 p a7 →
    ∃ r p' a7', dq_P n a1 p' a7' ∧ (r = 0 ∨ r = 1) ∧ ∀ (post : Int32 → St1 → Prop), post r (nc, cp, so, nI p', ce, hc, ac, sc, a1, a2, a3, a4, a5, a6, a7', a8, a9, a10, a11) → ∃ fu, wX_orderNodes_40 post x2 nc cp so ce hc ac sc fu x1 (nI i) (nI p) a1 a2 a3 a4 a5 a6 a7 a8 a9 a10 a11 := by
  have hn := hN.1
  intro d
  induction d with
  | zero =>
    intro i x1 p a7 hi hO
    have hP : dq_P n a1 p a7 := ⟨by rw [hO.1]; exact dq_cnt_le x1 n, hO.2⟩
    subst hnc
    by_cases g : (nI p + x2) = nI n
    · exact ⟨1, p, a7, hP, Or.inr rfl, fun post hp => ⟨1, pk_le n i (fun _ => br_t g hp) (fun z => absurd z (by omega))⟩⟩
    · exact ⟨0, p, a7, hP, Or.inl rfl, fun post hp => ⟨1, pk_le n i (fun _ => br_f g hp) (fun z => absurd z (by omega))⟩⟩
  | succ d ih =>
    intro i x1 p a7 hi hO
    obtain ⟨x1', p1, b7, hO1, k1⟩ := dq_o51 nc cp so ce hc ac sc a1 a2 a3 a4 a5 a6 a8 a9 a10 a11 hN hnc x2 (nI i) n 0 x1 p a7 (by omega) hO
    obtain ⟨r, p', a7', hP, hr, k2⟩ := ih (i + 1) x1' p1 b7 (by omega) hO1
    refine ⟨r, p', a7', hP, hr, fun post hp => ?_⟩
    obtain ⟨fu, hf⟩ := k2 post hp
    rw [← nI_1] at hf
    exact ⟨fu + 1, pk_le n i (fun z => absurd z (by omega)) (fun _ => k1 post _ hf) hnc⟩
theorem dq_o11 (nc cp so ce hc : Int32) (ac : Int64) (sc : Int32) (a1 a2 a3 a4 a5 a6 a7 a8 a9 a10 a11 : Nat → Int32) {n : Nat} (hN : dq_N n a1 a2 a3 a4 a5) (hnc : nc = nI n) : ∀ (d i : Nat) (x2 : Int32), i + d = n →
    ∃ r p' a7', dq_P n a1 p' a7' ∧ (r = 0 ∨ r = 1) ∧ ∀ (post : Int32 → St1 → Prop), post r (nc, cp, so, nI p', ce, hc, ac, sc, a1, a2, a3, a4, a5, a6, a7', a8, a9, a10, a11) → ∃ fu, wX_orderNodes_11 post 0 nc cp so 0 ce hc ac sc a1 a2 a3 a4 a5 a6 a7 a8 a9 a10 a11 fu x2 (nI i) := by
  have hn := hN.1
  intro d
  induction d with
  | zero =>
    intro i x2 hi
    obtain ⟨r, p', a7', hP, hr, k⟩ := dq_o40 nc cp so ce hc ac sc a1 a2 a3 a4 a5 a6 a8 a9 a10 a11 hN hnc x2 n 0 0 0 a7 (by omega) dq_O0
    exact ⟨r, p', a7', hP, hr, fun post hp => ⟨1, pk_le n i (fun _ => k post hp) (fun z => absurd z (by omega)) hnc⟩⟩
  | succ d ih =>
    intro i x2 hi
    have ei : (nI i).toNatClampNeg = i := nI_clamp (by omega)
    by_cases hd : a1 i = 2
    · obtain ⟨r, p', a7', hP, hr, k⟩ := ih (i + 1) (x2 + 1) (by omega)
      refine ⟨r, p', a7', hP, hr, fun post hp => ?_⟩
      obtain ⟨fu, hf⟩ := k post hp
      exact ⟨fu + 1, pk_le n i (fun z => absurd z (by omega)) (fun _ => ⟨pk_in i 20 (by omega), br_t (by rw [ei]; exact hd) (nm_e (nm_r (nI_1 i) hf))⟩) hnc⟩
    · obtain ⟨r, p', a7', hP, hr, k⟩ := ih (i + 1) x2 (by omega)
      refine ⟨r, p', a7', hP, hr, fun post hp => ?_⟩
      obtain ⟨fu, hf⟩ := k post hp
      exact ⟨fu + 1, pk_le n i (fun z => absurd z (by omega)) (fun _ => ⟨pk_in i 20 (by omega), br_f (by rw [ei]; exact hd) (nm_r (nI_1 i) hf)⟩) hnc⟩
theorem dq_order (nc cp so pl ce hc : Int32) (ac : Int64) (sc : Int32) (a1 a2 a3 a4 a5 a6 a7 a8 a9 a10 a11 : Nat → Int32) {n : Nat} (hN : dq_N n a1 a2 a3 a4 a5) (hnc : nc = nI n) :
    ∃ r p' a7', dq_P n a1 p' a7' ∧ (r = 0 ∨ r = 1) ∧ ∀ (post : Int32 → St1 → Prop), post r (nc, cp, so, nI p', ce, hc, ac, sc, a1, a2, a3, a4, a5, a6, a7', a8, a9, a10, a11) → wpX_orderNodes post (nc, cp, so, pl, ce, hc, ac, sc, a1, a2, a3, a4, a5, a6, a7, a8, a9, a10, a11) := by
  obtain ⟨r, p', a7', hP, hr, k⟩ := dq_o11 nc cp so ce hc ac sc a1 a2 a3 a4 a5 a6 a7 a8 a9 a10 a11 hN hnc n 0 0 (by omega)
  exact ⟨r, p', a7', hP, hr, fun post hp => k post hp⟩
/-! compile -/
theorem dq_c102 (nc cp so pl : Int32) (ac : Int64) (sc : Int32) (a1 a2 a3 a4 a5 a6 a7 a11 : Nat → Int32) {n : Nat} (hN : dq_N n a1 a2 a3 a4 a5) (hnc : nc = nI n) : ∀ (d i m t : Nat) (hc : Int32) (a8 a9 a10 : Nat → Int32), i + d = n → m + 2 * d ≤ 300 → dq_C m t hc a8 a9 a10 →
    ∃ m' t' hc' a8' a9' a10', m' ≤ 300 ∧ dq_C m' t' hc' a8' a9' a10' ∧ ∀ (post : St1 → Prop), post (nc, cp, so, pl, nI m', hc', ac, sc, a1, a2, a3, a4, a5, a6, a7, a8', a9', a10', a11) → ∃ fu, wX_compile_102 post fu (nI i) nc cp so pl (nI m) hc ac sc a1 a2 a3 a4 a5 a6 a7 a8 a9 a10 a11 := by
  have hn := hN.1
  intro d
  induction d with
  | zero =>
    intro i m t hc a8 a9 a10 hi hm h
    exact ⟨m, t, hc, a8, a9, a10, by omega, h, fun post hp => ⟨1, pk_le n i (fun _ => hp) (fun z => absurd z (by omega)) hnc⟩⟩
  | succ d ih =>
    intro i m t hc a8 a9 a10 hi hm h
    have ei : (nI i).toNatClampNeg = i := nI_clamp (by omega)
    by_cases hd : a1 i = 2
    · obtain ⟨k, k10, hk, c1, c2, c3, c4⟩ := hN.2 i (by omega)
      have k2 : k = 2 := (nI_eq (b := 2) (by omega) (by omega)).mp (hk.symm.trans hd)
      obtain ⟨j, hj, ej⟩ := c2 (by omega) (by omega)
      obtain ⟨c, hc42, kc⟩ := dq_cellFor nc hj
      obtain ⟨m1, hc1, b8, b9, b10, hm1, h1, k1⟩ := dq_copy (i := c) (j := 20 + i) (by omega) hc42 (by omega) h
      obtain ⟨m', t', hc', a8', a9', a10', hm', h', kk⟩ := ih (i + 1) m1 2 hc1 b8 b9 b10 (by omega) (by omega) h1
      refine ⟨m', t', hc', a8', a9', a10', hm', h', fun post hp => ?_⟩
      obtain ⟨fu, hf⟩ := kk post hp
      refine ⟨fu + 1, pk_le n i (fun z => absurd z (by omega)) (fun _ => ⟨pk_in i 20 (by omega), ?_⟩) hnc⟩
      rw [ei, ej]
      refine kc _ ⟨pk_in i 20 (by omega), br_t hd ?_⟩
      rw [show (20 : Int32) + nI i = nI (20 + i) from nI_add 20 i]
      exact k1 _ (nm_r (nI_1 i) hf)
    · obtain ⟨m', t', hc', a8', a9', a10', hm', h', kk⟩ := ih (i + 1) m t hc a8 a9 a10 (by omega) (by omega) h
      refine ⟨m', t', hc', a8', a9', a10', hm', h', fun post hp => ?_⟩
      obtain ⟨fu, hf⟩ := kk post hp
      refine ⟨fu + 1, pk_le n i (fun z => absurd z (by omega)) (fun _ => ⟨pk_in i 20 (by omega), ?_⟩) hnc⟩
      rw [ei]
      exact br_c (fun _ => ⟨pk_in i 20 (by omega), br_f hd (nm_r (nI_1 i) hf)⟩) (fun _ => ⟨pk_in i 20 (by omega), br_f hd (nm_r (nI_1 i) hf)⟩)
theorem dq_c76 (nc cp so pl : Int32) (ac : Int64) (sc : Int32) (a1 a2 a3 a4 a5 a6 a7 a11 : Nat → Int32) {n p : Nat} (hN : dq_N n a1 a2 a3 a4 a5) (hnc : nc = nI n) (hP : dq_P n a1 p a7) (hpl : pl = nI p) : ∀ (d i m t : Nat) (hc : Int32) (a8 a9 a10 : Nat → Int32), i + d = p → m + 10 * d + 2 * n ≤ 300 → dq_C m t hc a8 a9 a10 →
    ∃ m' t' hc' a8' a9' a10', m' ≤ 300 ∧ dq_C m' t' hc' a8' a9' a10' ∧ ∀ (post : St1 → Prop), post (nc, cp, so, pl, nI m', hc', ac, sc, a1, a2, a3, a4, a5, a6, a7, a8', a9', a10', a11) → ∃ fu, wX_compile_76 post fu (nI i) nc cp so pl (nI m) hc ac sc a1 a2 a3 a4 a5 a6 a7 a8 a9 a10 a11 := by
  have hn := hN.1
  have hp := hP.1
  intro d
  induction d with
  | zero =>
    intro i m t hc a8 a9 a10 hi hm h
    obtain ⟨m', t', hc', a8', a9', a10', hm', h', kk⟩ := dq_c102 nc cp so pl ac sc a1 a2 a3 a4 a5 a6 a7 a11 hN hnc n 0 m t hc a8 a9 a10 (by omega) (by omega) h
    exact ⟨m', t', hc', a8', a9', a10', hm', h', fun post hp => ⟨1, pk_le p i (fun _ => kk post hp) (fun z => absurd z (by omega)) hpl⟩⟩
  | succ d ih =>
    intro i m t hc a8 a9 a10 hi hm h
    have ei : (nI i).toNatClampNeg = i := nI_clamp (by omega)
    obtain ⟨j, hj, ej, hd⟩ := hP.2 i (by omega)
    obtain ⟨m1, hc1, b8, b9, b10, hm1, h1, k1⟩ := dq_node nc cp so pl ac sc a1 a2 a3 a4 a5 a6 a7 a11 (by omega) h hN hj hd
    obtain ⟨m', t', hc', a8', a9', a10', hm', h', kk⟩ := ih (i + 1) m1 2 hc1 b8 b9 b10 (by omega) (by omega) h1
    refine ⟨m', t', hc', a8', a9', a10', hm', h', fun post hp => ?_⟩
    obtain ⟨fu, hf⟩ := kk post hp
    refine ⟨fu + 1, pk_le p i (fun z => absurd z (by omega)) (fun _ => ⟨pk_in i 20 (by omega), ?_⟩) hpl⟩
    rw [ei, ej]
    exact k1 _ (nm_r (nI_1 i) hf)
theorem dq_c41 (nc cp so pl : Int32) (ac : Int64) (sc : Int32) (a1 a2 a3 a4 a5 a6 a7 a11 : Nat → Int32) {n p : Nat} (hN : dq_N n a1 a2 a3 a4 a5) (hnc : nc = nI n) (hP : dq_P n a1 p a7) (hpl : pl = nI p) : ∀ (d i m t : Nat) (hc : Int32) (a8 a9 a10 : Nat → Int32), i + d = n → m + 2 * d + 10 * p + 2 * n ≤ 300 → dq_C m t hc a8 a9 a10 →
    ∃ m' t' hc' a8' a9' a10', m' ≤ 300 ∧ dq_C m' t' hc' a8' a9' a10' ∧ ∀ (post : St1 → Prop), post (nc, cp, so, pl, nI m', hc', ac, sc, a1, a2, a3, a4, a5, a6, a7, a8', a9', a10', a11) → ∃ fu, wX_compile_41 post fu (nI i) nc cp so pl (nI m) hc ac sc a1 a2 a3 a4 a5 a6 a7 a8 a9 a10 a11 := by
  have hn := hN.1
  have hp := hP.1
  intro d
  induction d with
  | zero =>
    intro i m t hc a8 a9 a10 hi hm h
    obtain ⟨m', t', hc', a8', a9', a10', hm', h', kk⟩ := dq_c76 nc cp so pl ac sc a1 a2 a3 a4 a5 a6 a7 a11 hN hnc hP hpl p 0 m t hc a8 a9 a10 (by omega) (by omega) h
    exact ⟨m', t', hc', a8', a9', a10', hm', h', fun post hp => ⟨1, pk_le n i (fun _ => kk post hp) (fun z => absurd z (by omega)) hnc⟩⟩
  | succ d ih =>
    intro i m t hc a8 a9 a10 hi hm h
    have ei : (nI i).toNatClampNeg = i := nI_clamp (by omega)
    by_cases hd : a1 i = 2
    · obtain ⟨m1, hc1, b8, b9, b10, hm1, h1, k1⟩ := dq_copy (i := 20 + i) (j := i) (by omega) (by omega) (by omega) h
      obtain ⟨m', t', hc', a8', a9', a10', hm', h', kk⟩ := ih (i + 1) m1 2 hc1 b8 b9 b10 (by omega) (by omega) h1
      refine ⟨m', t', hc', a8', a9', a10', hm', h', fun post hp => ?_⟩
      obtain ⟨fu, hf⟩ := kk post hp
      refine ⟨fu + 1, pk_le n i (fun z => absurd z (by omega)) (fun _ => ⟨pk_in i 20 (by omega), ?_⟩) hnc⟩
      rw [ei]
      refine br_t hd ?_
      rw [show (20 : Int32) + nI i = nI (20 + i) from nI_add 20 i]
      exact k1 _ (nm_r (nI_1 i) hf)
    · obtain ⟨m', t', hc', a8', a9', a10', hm', h', kk⟩ := ih (i + 1) m t hc a8 a9 a10 (by omega) (by omega) h
      refine ⟨m', t', hc', a8', a9', a10', hm', h', fun post hp => ?_⟩
      obtain ⟨fu, hf⟩ := kk post hp
      refine ⟨fu + 1, pk_le n i (fun z => absurd z (by omega)) (fun _ => ⟨pk_in i 20 (by omega), ?_⟩) hnc⟩
      rw [ei]
      exact br_f hd (nm_r (nI_1 i) hf)
/-- the code of a compiled state -/
def dq_K (so ce : Int32) (a8 a9 a10 : Nat → Int32) : Prop := so = 0 ∨ (so = 1 ∧ ∃ m t : Nat, m ≤ 300 ∧ ce = nI m ∧ dq_cd a8 a9 a10 m t)
/-- compile, from a source that isn't compiled: some compiled state, the source and the machine as they were -/
theorem dq_compile (nc cp so pl ce hc : Int32) (ac : Int64) (sc : Int32) (a1 a2 a3 a4 a5 a6 a7 a8 a9 a10 a11 : Nat → Int32) {n : Nat} (hN : dq_N n a1 a2 a3 a4 a5) (hnc : nc = nI n) (hcp : cp = 0) :
    ∃ so' pl' ce' hc' a7' a8' a9' a10', dq_K so' ce' a8' a9' a10' ∧ ∀ (post : St1 → Prop), post (nc, 1, so', pl', ce', hc', ac, sc, a1, a2, a3, a4, a5, a6, a7', a8', a9', a10', a11) → wpX_compile post (nc, cp, so, pl, ce, hc, ac, sc, a1, a2, a3, a4, a5, a6, a7, a8, a9, a10, a11) := by
  have hn := hN.1
  obtain ⟨r, p, b7, hP, hr, k⟩ := dq_order nc 1 so pl 0 (-1) ac sc a1 a2 a3 a4 a5 a6 a7 a8 a9 a10 a11 hN hnc
  have hp := hP.1
  rcases hr with e | e
  · subst e
    exact ⟨0, nI p, 0, -1, b7, a8, a9, a10, Or.inl rfl, fun post hp => br_t hcp (k _ ⟨rfl, rfl, br_t rfl hp⟩)⟩
  · subst e
    obtain ⟨m', t', hc', a8', a9', a10', hm', h', kk⟩ := dq_c41 nc 1 1 (nI p) ac sc a1 a2 a3 a4 a5 a6 b7 a11 hN hnc hP rfl n 0 0 0 (-1) a8 a9 a10 (by omega) (by omega) ⟨rfl, Or.inl rfl⟩
    exact ⟨1, nI p, nI m', hc', b7, a8', a9', a10', Or.inr ⟨rfl, m', t', hm', rfl, h'.1⟩, fun post hp => br_t hcp (k _ ⟨rfl, rfl, br_f (by decide) (kk post hp)⟩)⟩
end
section
/-! Running: saturated, performSpecial, perform, feed; restart; value, sound, same. -/
theorem dq_satu {nc cp so pl ce hc : Int32} {ac : Int64} {sc : Int32} {a1 a2 a3 a4 a5 a6 a7 a8 a9 a10 a11 : Nat → Int32} {a : Int64} (post : Int64 → Prop) (hp : post (dq_sat a)) : wpX_saturated post (nc, cp, so, pl, ce, hc, ac, sc, a1, a2, a3, a4, a5, a6, a7, a8, a9, a10, a11) a := by
  unfold dq_sat at hp
  by_cases h : a ≤ 32767
  · rw [if_pos h] at hp
    by_cases g : (-32768) ≤ a
    · rw [if_pos g] at hp
      exact br_t h (br_t g hp)
    · rw [if_neg g] at hp
      exact br_t h (br_f g hp)
  · rw [if_neg h] at hp
    exact br_f h hp
theorem dq_spec {nc cp so pl ce hc : Int32} {ac : Int64} {sc : Int32} {a1 a2 a3 a4 a5 a6 a7 a8 a9 a10 a11 : Nat → Int32} {op cell num : Int32} (post : St1 → Prop) (hp : post (nc, cp, so, pl, ce, hc, dq_sp op cell num ac, sc, a1, a2, a3, a4, a5, a6, a7, a8, a9, a10, a11)) : wpX_performSpecial post (nc, cp, so, pl, ce, hc, ac, sc, a1, a2, a3, a4, a5, a6, a7, a8, a9, a10, a11) op cell num := by
  unfold dq_sp at hp
  by_cases h5 : op = 5
  · rw [if_pos h5] at hp
    by_cases g : cell.toInt64 ≤ ac
    · rw [if_pos g] at hp
      exact br_t h5 (br_t g hp)
    · rw [if_neg g] at hp
      exact br_t h5 (br_f g hp)
  · rw [if_neg h5] at hp
    by_cases h6 : op = 6
    · rw [if_pos h6] at hp
      exact br_f h5 (br_t h6 (nm_e hp))
    · rw [if_neg h6] at hp
      by_cases h7 : op = 7
      · rw [if_pos h7] at hp
        by_cases g : 0 ≤ ac
        · rw [if_pos g] at hp
          exact br_f h5 (br_f h6 (br_t h7 (br_t g hp)))
        · rw [if_neg g] at hp
          exact br_f h5 (br_f h6 (br_t h7 (br_f g (nm_e hp))))
      · rw [if_neg h7] at hp
        by_cases h8 : op = 8
        · rw [if_pos h8] at hp
          exact br_f h5 (br_f h6 (br_f h7 (br_t h8 (nm_e hp))))
        · rw [if_neg h8] at hp
          by_cases h9 : op = 9
          · rw [if_pos h9] at hp
            exact br_f h5 (br_f h6 (br_f h7 (br_f h8 (br_t h9 (nm_e hp)))))
          · rw [if_neg h9] at hp
            exact br_f h5 (br_f h6 (br_f h7 (br_f h8 (br_f h9 (nm_e hp)))))
theorem dq_perf {nc cp so pl ce hc : Int32} {ac : Int64} {sc : Int32} {a1 a2 a3 a4 a5 a6 a7 a8 a9 a10 a11 : Nat → Int32} {k j : Nat} (hk : k < 300) (hj : j < 42) (hc10 : a10 k = nI j) (post : St1 → Prop) (hp : post (nc, cp, so, pl, ce, hc, dq_ac (a8 k) (a11 (a10 k).toNatClampNeg) (a9 k) ac, sc, a1, a2, a3, a4, a5, a6, a7, a8, a9, a10, dq_ce (a8 k) (a10 k).toNatClampNeg ac a11)) : wpX_perform post (nc, cp, so, pl, ce, hc, ac, sc, a1, a2, a3, a4, a5, a6, a7, a8, a9, a10, a11) (nI k) := by
  have ek : (nI k).toNatClampNeg = k := nI_clamp (by omega)
  have hin : vp_in (a10 k) 42 := by
    rw [hc10]
    exact vp_in_nI hj (by omega)
  refine ⟨pk_in k 300 hk, nm_r (e' := a8 k) (by rw [ek]) ⟨pk_in k 300 hk, ?_⟩⟩
  rw [ek]
  refine ⟨hin, nm_e ⟨pk_in k 300 hk, nm_e ?_⟩⟩
  by_cases h0 : a8 k = 0
  · have e1 : dq_ac (a8 k) (a11 (a10 k).toNatClampNeg) (a9 k) ac = (a11 (a10 k).toNatClampNeg).toInt64 := by unfold dq_ac; rw [if_pos h0]
    have e2 : dq_ce (a8 k) (a10 k).toNatClampNeg ac a11 = a11 := by unfold dq_ce; rw [if_neg (by rw [h0]; decide)]
    rw [e1, e2] at hp
    exact br_t h0 hp
  · refine br_f h0 ?_
    by_cases h1 : a8 k = 1
    · have e1 : dq_ac (a8 k) (a11 (a10 k).toNatClampNeg) (a9 k) ac = (a9 k).toInt64 := by unfold dq_ac; rw [if_neg h0, if_pos h1]
      have e2 : dq_ce (a8 k) (a10 k).toNatClampNeg ac a11 = a11 := by unfold dq_ce; rw [if_neg (by rw [h1]; decide)]
      rw [e1, e2] at hp
      exact br_t h1 hp
    · refine br_f h1 ?_
      by_cases h2 : a8 k = 2
      · have e1 : dq_ac (a8 k) (a11 (a10 k).toNatClampNeg) (a9 k) ac = ac := by unfold dq_ac; rw [if_neg h0, if_neg h1, if_pos h2]
        have e2 : dq_ce (a8 k) (a10 k).toNatClampNeg ac a11 = upd a11 (a10 k).toNatClampNeg ac.toInt32 := by unfold dq_ce; rw [if_pos h2]
        rw [e1, e2] at hp
        exact br_t h2 ⟨pk_in k 300 hk, hin, nm_e hp⟩
      · refine br_f h2 ?_
        have e2 : dq_ce (a8 k) (a10 k).toNatClampNeg ac a11 = a11 := by unfold dq_ce; rw [if_neg h2]
        rw [e2] at hp
        by_cases h3 : a8 k = 3
        · have e1 : dq_ac (a8 k) (a11 (a10 k).toNatClampNeg) (a9 k) ac = ac + (a11 (a10 k).toNatClampNeg).toInt64 := by unfold dq_ac; rw [if_neg h0, if_neg h1, if_neg h2, if_pos h3]
          rw [e1] at hp
          exact br_t h3 (nm_e hp)
        · refine br_f h3 ?_
          by_cases h4 : a8 k = 4
          · have e1 : dq_ac (a8 k) (a11 (a10 k).toNatClampNeg) (a9 k) ac = ac - (a11 (a10 k).toNatClampNeg).toInt64 := by unfold dq_ac; rw [if_neg h0, if_neg h1, if_neg h2, if_neg h3, if_pos h4]
            rw [e1] at hp
            exact br_t h4 (nm_e hp)
          · refine br_f h4 ?_
            by_cases h10 : a8 k = 10
            · have e1 : dq_ac (a8 k) (a11 (a10 k).toNatClampNeg) (a9 k) ac = ac + (a9 k).toInt64 * (a11 (a10 k).toNatClampNeg).toInt64 := by unfold dq_ac; rw [if_neg h0, if_neg h1, if_neg h2, if_neg h3, if_neg h4, if_pos h10]
              rw [e1] at hp
              exact br_t h10 (nm_e hp)
            · refine br_f h10 ?_
              by_cases h12 : a8 k = 12
              · have e1 : dq_ac (a8 k) (a11 (a10 k).toNatClampNeg) (a9 k) ac = dq_sat ac := by unfold dq_ac; rw [if_neg h0, if_neg h1, if_neg h2, if_neg h3, if_neg h4, if_neg h10, if_pos h12]
                rw [e1] at hp
                exact br_t h12 (dq_satu _ hp)
              · have e1 : dq_ac (a8 k) (a11 (a10 k).toNatClampNeg) (a9 k) ac = dq_sp (a8 k) (a11 (a10 k).toNatClampNeg) (a9 k) ac := by unfold dq_ac; rw [if_neg h0, if_neg h1, if_neg h2, if_neg h3, if_neg h4, if_neg h10, if_neg h12]
                rw [e1] at hp
                exact br_f h12 (dq_spec _ hp)
theorem dq_f29 (nc cp so pl hc : Int32) (ac : Int64) (sc : Int32) (a1 a2 a3 a4 a5 a6 a7 a8 a9 a10 a11 : Nat → Int32) {m : Nat} (hm : m ≤ 300) (hk : ∀ k, k < m → ∃ j : Nat, j < 42 ∧ a10 k = nI j) : ∀ (d k : Nat), k + d = m → ∀ (post : Int32 → St1 → Prop), post 1 (nc, cp, so, pl, nI m, hc, (dq_run a8 a9 a10 ac a11 m).1, sc + 1, a1, a2, a3, a4, a5, a6, a7, a8, a9, a10, (dq_run a8 a9 a10 ac a11 m).2) → ∃ fu, wX_feed_29 post fu (nI k) nc cp so pl (nI m) hc ((dq_run a8 a9 a10 ac a11 k).1) sc a1 a2 a3 a4 a5 a6 a7 a8 a9 a10 ((dq_run a8 a9 a10 ac a11 k).2) := by
  intro d
  induction d with
  | zero =>
    intro k e post hp
    have e' : k = m := by omega
    subst e'
    exact ⟨1, pk_le k k (fun _ => nm_e hp) (fun z => absurd z (by omega))⟩
  | succ d ih =>
    intro k e post hp
    obtain ⟨fu, hf⟩ := ih (k + 1) (by omega) post hp
    obtain ⟨j, hj, ej⟩ := hk k (by omega)
    exact ⟨fu + 1, pk_le m k (fun z => absurd z (by omega)) (fun _ => dq_perf (by omega) hj ej _ (nm_r (nI_1 k) hf))⟩
/-- the machine's cells: in range, and nothing behind the last -/
def dq_G (a : Nat → Int32) : Prop := (∀ j, dq_R (a j)) ∧ ∀ j, 42 ≤ j → a j = 0
theorem dq_G0 : dq_G (fun _ => 0) := ⟨fun _ => dq_R0, fun _ _ => rfl⟩
/-- feed over a compiled state: the answer, the count and the cells that it leaves don't depend on the accumulator -/
theorem dq_feed (nc cp so pl ce hc sc : Int32) (a1 a2 a3 a4 a5 a6 a7 a8 a9 a10 a11 : Nat → Int32) (hcp : ¬ cp = 0) (hK : dq_K so ce a8 a9 a10) (hG : dq_G a11) (x : Int32) :
    ∃ r sc' b11, dq_G b11 ∧ ∀ ac : Int64, ∃ ac' : Int64, ∀ post : Int32 → St1 → Prop, post r (nc, cp, so, pl, ce, hc, ac', sc', a1, a2, a3, a4, a5, a6, a7, a8, a9, a10, b11) → wpX_feed post (nc, cp, so, pl, ce, hc, ac, sc, a1, a2, a3, a4, a5, a6, a7, a8, a9, a10, a11) x := by
  rcases hK with e | ⟨e, m, t, hm, ec, hcd⟩
  · exact ⟨0, sc, a11, hG, fun ac => ⟨ac, fun post hp => br_f hcp (br_t e hp)⟩⟩
  · subst e
    subst ec
    have hR : ∀ j, dq_R (upd a11 41 (dq_sat x.toInt64).toInt32 j) := by
      intro j
      by_cases g : j = 41
      · rw [g, pk_us]
        exact dq_QR (dq_Qsat _)
      · rw [pk_un g]
        exact hG.1 j
    refine ⟨1, sc + 1, (dq_run a8 a9 a10 0 (upd a11 41 (dq_sat x.toInt64).toInt32) m).2, ?_, fun ac => ?_⟩
    · obtain ⟨l1, _, _, _, l5⟩ := dq_law (ac := 0) (ac' := 0) hR m t hcd
      refine ⟨l1, fun j hj => ?_⟩
      rw [l5 j hj, pk_un (by omega)]
      exact hG.2 j hj
    · refine ⟨(dq_run a8 a9 a10 ac (upd a11 41 (dq_sat x.toInt64).toInt32) m).1, fun post hp => ?_⟩
      obtain ⟨_, l2, _, _, _⟩ := dq_law (ac := ac) (ac' := 0) hR m t hcd
      rw [← l2] at hp
      refine br_f hcp (br_f (by decide) (dq_satu _ (nm_e ?_)))
      exact dq_f29 nc cp 1 pl hc ac sc a1 a2 a3 a4 a5 a6 a7 a8 a9 a10 _ hm (dq_cd_c m t hcd) m 0 (by omega) post hp
theorem dq_restart {nc cp so pl ce hc : Int32} {ac : Int64} {sc : Int32} {a1 a2 a3 a4 a5 a6 a7 a8 a9 a10 a11 : Nat → Int32} (h : ∀ j, 42 ≤ j → a11 j = 0) (post : St1 → Prop) (hp : post (nc, cp, so, pl, ce, hc, ac, 0, a1, a2, a3, a4, a5, a6, a7, a8, a9, a10, fun _ => 0)) : wpX_restart post (nc, cp, so, pl, ce, hc, ac, sc, a1, a2, a3, a4, a5, a6, a7, a8, a9, a10, a11) :=
  pk_loop (fun n i s => wX_restart_2 post nc cp so pl ce hc ac sc n (nI i) a1 a2 a3 a4 a5 a6 a7 a8 a9 a10 s) (fun i s => ∀ j, j < i ∨ 42 ≤ j → s j = 0) 42 0 a11 (by omega) (fun j hj => h j (by omega))
    (fun n s hs => pk_le 42 42 (fun _ => by
      have e : s = fun _ => 0 := funext (fun j => hs j (by omega))
      rw [e]
      exact hp) (fun z => absurd z (by omega)))
    (fun n i s hi hs hw => pk_le 42 i (fun z => absurd z (by omega)) (fun _ => ⟨pk_in i 42 hi, nm_r (e' := upd s i 0) (by rw [nI_clamp (by omega)]) (nm_r (nI_1 i) (hw _ (fun j hj => by
      by_cases e : j = i
      · rw [e, pk_us]
      · rw [pk_un e]
        exact hs j (by omega))))⟩))
/-- a state's compiled state -/
def dq_Cp (u w : St1) : Prop := ∀ post : St1 → Prop, post w → wpX_compile post u
theorem dq_Cp1 {nc cp so pl ce hc : Int32} {ac : Int64} {sc : Int32} {a1 a2 a3 a4 a5 a6 a7 a8 a9 a10 a11 : Nat → Int32} (h : ¬ cp = 0) : dq_Cp (nc, cp, so, pl, ce, hc, ac, sc, a1, a2, a3, a4, a5, a6, a7, a8, a9, a10, a11) (nc, cp, so, pl, ce, hc, ac, sc, a1, a2, a3, a4, a5, a6, a7, a8, a9, a10, a11) := fun post hp => br_f h hp
theorem dq_Cpfeed {nc cp so pl ce hc : Int32} {ac : Int64} {sc : Int32} {a1 a2 a3 a4 a5 a6 a7 a8 a9 a10 a11 : Nat → Int32} {ncw cpw sow plw cew hcw : Int32} {acw : Int64} {scw : Int32} {a1w a2w a3w a4w a5w a6w a7w a8w a9w a10w a11w : Nat → Int32} (h : dq_Cp (nc, cp, so, pl, ce, hc, ac, sc, a1, a2, a3, a4, a5, a6, a7, a8, a9, a10, a11) (ncw, cpw, sow, plw, cew, hcw, acw, scw, a1w, a2w, a3w, a4w, a5w, a6w, a7w, a8w, a9w, a10w, a11w)) (hw : ¬ cpw = 0) {x : Int32} {post : Int32 → St1 → Prop} (hp : wpX_feed post (ncw, cpw, sow, plw, cew, hcw, acw, scw, a1w, a2w, a3w, a4w, a5w, a6w, a7w, a8w, a9w, a10w, a11w) x) : wpX_feed post (nc, cp, so, pl, ce, hc, ac, sc, a1, a2, a3, a4, a5, a6, a7, a8, a9, a10, a11) x := by
  have hp' := hp
  unfold wpX_feed at hp'
  unfold wpX_feed
  dsimp only
  exact h _ (hp'.2 hw)
theorem dq_sound {nc cp so pl ce hc : Int32} {ac : Int64} {sc : Int32} {a1 a2 a3 a4 a5 a6 a7 a8 a9 a10 a11 : Nat → Int32} {ncw cpw sow plw cew hcw : Int32} {acw : Int64} {scw : Int32} {a1w a2w a3w a4w a5w a6w a7w a8w a9w a10w a11w : Nat → Int32} (h : dq_Cp (nc, cp, so, pl, ce, hc, ac, sc, a1, a2, a3, a4, a5, a6, a7, a8, a9, a10, a11) (ncw, cpw, sow, plw, cew, hcw, acw, scw, a1w, a2w, a3w, a4w, a5w, a6w, a7w, a8w, a9w, a10w, a11w)) (hs : sow = 0 ∨ sow = 1) (post : Int32 → St1 → Prop) (hp : post sow (ncw, cpw, sow, plw, cew, hcw, acw, scw, a1w, a2w, a3w, a4w, a5w, a6w, a7w, a8w, a9w, a10w, a11w)) : wpX_sound post (nc, cp, so, pl, ce, hc, ac, sc, a1, a2, a3, a4, a5, a6, a7, a8, a9, a10, a11) := by
  have hn : narrow .boolean (.int sow) = .int sow := by
    rcases hs with e | e
    · rw [e]; rfl
    · rw [e]; rfl
  unfold wpX_sound
  dsimp only
  exact h _ ⟨hn, hp⟩
theorem dq_value (nc cp so pl ce hc sc : Int32) (a1 a2 a3 a4 a5 a6 a7 a8 a9 a10 a11 : Nat → Int32) (hG : dq_G a11) {i : Nat} (hi : i < 42) : ∃ r, dq_R r ∧ ∀ (ac : Int64) (post : Int32 → Prop), post r → wpX_value post (nc, cp, so, pl, ce, hc, ac, sc, a1, a2, a3, a4, a5, a6, a7, a8, a9, a10, a11) (nI i) := by
  have h0 : ¬ nI i < 0 := nI_pos (by omega)
  by_cases h1 : nc ≤ nI i
  · exact ⟨0, dq_R0, fun ac post hp => br_f h0 (br_t h1 hp)⟩
  · by_cases h2 : sc = 0
    · exact ⟨0, dq_R0, fun ac post hp => br_f h0 (br_f h1 (br_t h2 hp))⟩
    · exact ⟨a11 (nI i).toNatClampNeg, hG.1 _, fun ac post hp => br_f h0 (br_f h1 (br_f h2 ⟨pk_in i 42 hi, hp⟩))⟩
theorem dq_s26 (nc cp so pl ce hc : Int32) (ac : Int64) (sc : Int32) (a1 a2 a3 a4 a5 a6 a7 a8 a9 a10 a11 : Nat → Int32) (ac' : Int64) (hG : dq_G a11) (post : Int32 → St3 → Prop) (hp : post 1 (nc, cp, so, pl, ce, hc, ac, sc, a1, a2, a3, a4, a5, a6, a7, a8, a9, a10, a11, nc, cp, so, pl, ce, hc, ac', sc, a1, a2, a3, a4, a5, a6, a7, a8, a9, a10, a11)) : ∀ (d i : Nat), i + d = 20 → ∃ fu, wL_same_26 post nc cp so pl ce hc ac sc a1 a2 a3 a4 a5 a6 a7 a8 a9 a10 a11 nc cp so pl ce hc ac' sc a1 a2 a3 a4 a5 a6 a7 a8 a9 a10 a11 fu (nI i) := by
  intro d
  induction d with
  | zero =>
    intro i hi
    exact ⟨1, pk_le 20 i (fun _ => hp) (fun z => absurd z (by omega))⟩
  | succ d ih =>
    intro i hi
    obtain ⟨fu, hf⟩ := ih (i + 1) (by omega)
    obtain ⟨r, hr, k⟩ := dq_value nc cp so pl ce hc sc a1 a2 a3 a4 a5 a6 a7 a8 a9 a10 a11 hG (i := i) (by omega)
    exact ⟨fu + 1, pk_le 20 i (fun z => absurd z (by omega)) (fun _ => k ac _ (k ac' _ (br_t rfl (br_f (dq_Rlo hr) (br_t (dq_Rhi hr) (nm_r (nI_1 i) hf))))))⟩
/-- same, of two states whose compiled states differ in the accumulator alone -/
theorem dq_same {ncx cpx sox plx cex hcx : Int32} {acx : Int64} {scx : Int32} {a1x a2x a3x a4x a5x a6x a7x a8x a9x a10x a11x : Nat → Int32} {ncy cpy soy ply cey hcy : Int32} {acy : Int64} {scy : Int32} {a1y a2y a3y a4y a5y a6y a7y a8y a9y a10y a11y : Nat → Int32} (nc cp so pl ce hc : Int32) (ac : Int64) (sc : Int32) (a1 a2 a3 a4 a5 a6 a7 a8 a9 a10 a11 : Nat → Int32) (ac' : Int64) (hx : dq_Cp (ncx, cpx, sox, plx, cex, hcx, acx, scx, a1x, a2x, a3x, a4x, a5x, a6x, a7x, a8x, a9x, a10x, a11x) (nc, cp, so, pl, ce, hc, ac, sc, a1, a2, a3, a4, a5, a6, a7, a8, a9, a10, a11)) (hy : dq_Cp (ncy, cpy, soy, ply, cey, hcy, acy, scy, a1y, a2y, a3y, a4y, a5y, a6y, a7y, a8y, a9y, a10y, a11y) (nc, cp, so, pl, ce, hc, ac', sc, a1, a2, a3, a4, a5, a6, a7, a8, a9, a10, a11)) (hsc : scx = scy) (hs : so = 0 ∨ so = 1) (hG : dq_G a11) (post : Int32 → St3 → Prop) (hp : post 1 (nc, cp, so, pl, ce, hc, ac, sc, a1, a2, a3, a4, a5, a6, a7, a8, a9, a10, a11, nc, cp, so, pl, ce, hc, ac', sc, a1, a2, a3, a4, a5, a6, a7, a8, a9, a10, a11)) : wpL_same post (ncx, cpx, sox, plx, cex, hcx, acx, scx, a1x, a2x, a3x, a4x, a5x, a6x, a7x, a8x, a9x, a10x, a11x, ncy, cpy, soy, ply, cey, hcy, acy, scy, a1y, a2y, a3y, a4y, a5y, a6y, a7y, a8y, a9y, a10y, a11y) :=
  br_t hsc (dq_sound hx hs _ (dq_sound hy hs _ (br_t rfl (dq_s26 nc cp so pl ce hc ac sc a1 a2 a3 a4 a5 a6 a7 a8 a9 a10 a11 ac' hG post hp 20 0 (by omega)))))
theorem dq_Kso {so ce : Int32} {a8 a9 a10 : Nat → Int32} (h : dq_K so ce a8 a9 a10) : so = 0 ∨ so = 1 := by
  rcases h with e | ⟨e, _⟩
  · exact Or.inl e
  · exact Or.inr e
end
section
/-! Building: node, tap, build. They leave a source that is valid and not compiled; what they do is a matter of the state and the arguments alone. -/
/-- a state that is being built -/
def dq_B (u : St1) : Prop := match u with
  | (nc, cp, so, pl, ce, hc, ac, sc, a1, a2, a3, a4, a5, a6, a7, a8, a9, a10, a11) => ∃ n : Nat, dq_N n a1 a2 a3 a4 a5 ∧ nc = nI n ∧ cp = 0 ∧ sc = 0 ∧ a11 = (fun _ => 0)
theorem dq_19 {p : Int32} (h : nI 20 ≤ p) : 19 < p := by
  rw [Int32.le_iff_toInt_le, nI_toInt (by omega)] at h
  rw [Int32.lt_iff_toInt_lt, show (19 : Int32).toInt = 19 by decide]
  omega
theorem dq_isN (p : Int32) : ((∃ j : Nat, j < 20 ∧ p = nI j) ∧ ∀ (u : St1) (post : Int32 → Prop), post 1 → wpX_isNumber post u p) ∨ (∀ (u : St1) (post : Int32 → Prop), post 0 → wpX_isNumber post u p) := by
  rcases pk_ix p (n := 20) (by omega) with h | h | ⟨j, hj, e⟩
  · right
    intro ⟨nc, cp, so, pl, ce, hc, ac, sc, a1, a2, a3, a4, a5, a6, a7, a8, a9, a10, a11⟩ post hp
    exact br_t h hp
  · right
    intro ⟨nc, cp, so, pl, ce, hc, ac, sc, a1, a2, a3, a4, a5, a6, a7, a8, a9, a10, a11⟩ post hp
    exact br_c (fun _ => hp) (fun _ => br_t (dq_19 h) hp)
  · left
    refine ⟨⟨j, hj, e⟩, ?_⟩
    intro ⟨nc, cp, so, pl, ce, hc, ac, sc, a1, a2, a3, a4, a5, a6, a7, a8, a9, a10, a11⟩ post hp
    subst e
    exact br_f (nI_pos (by omega)) (br_f (nI_nlt (b := j) (a := 19) (by omega) (by omega)) hp)
theorem dq_Nnode {n k : Nat} {a1 a2 a3 a4 a5 : Nat → Int32} {a b : Int32} (hN : dq_N n a1 a2 a3 a4 a5) (hn : n < 20) (hk : k ≤ 10) (c1 : k = 1 → dq_R a) (c2 : 2 ≤ k → k ≤ 9 → ∃ j : Nat, j < 20 ∧ a = nI j) (c3 : 3 ≤ k → k ≤ 5 → ∃ j : Nat, j < 20 ∧ b = nI j) :
    dq_N (n + 1) (upd a1 n (nI k)) (upd a2 n a) (upd a3 n b.toInt8.toInt32) (upd a4 n 0) a5 := by
  refine ⟨by omega, fun i hi => ?_⟩
  by_cases e : i = n
  · subst e
    refine ⟨k, hk, pk_us, fun z => ?_, fun z w => ?_, fun z w => ?_, fun z => ⟨0, by omega, pk_us, fun s hs => absurd hs (by omega)⟩⟩
    · rw [pk_us]
      exact c1 z
    · rw [pk_us]
      exact c2 z w
    · obtain ⟨j, hj, ej⟩ := c3 z w
      refine ⟨j, hj, ?_⟩
      rw [pk_us, ej, dq_nb j (by omega)]
  · unfold dq_N1
    rw [pk_un e, pk_un e, pk_un e, pk_un e]
    exact hN.2 i (by omega)
theorem dq_n122 (nc cp so pl ce hc : Int32) (ac : Int64) (sc : Int32) (a1 a2 a3 a4 a5 a6 a7 a8 a9 a10 a11 : Nat → Int32) {n k : Nat} {a b : Int32} (hB : dq_B (nc, cp, so, pl, ce, hc, ac, sc, a1, a2, a3, a4, a5, a6, a7, a8, a9, a10, a11)) (hnc : nc = nI n) (hn : n < 20) (hk : k ≤ 10) (c1 : k = 1 → dq_R a) (c2 : 2 ≤ k → k ≤ 9 → ∃ j : Nat, j < 20 ∧ a = nI j) (c3 : 3 ≤ k → k ≤ 5 → ∃ j : Nat, j < 20 ∧ b = nI j) :
    ∃ r v, dq_B v ∧ ∀ post : Int32 → St1 → Prop, post r v → wX_node_122 post (nI k) a b nc cp so pl ce hc ac sc a1 a2 a3 a4 a5 a6 a7 a8 a9 a10 a11 := by
  obtain ⟨n', hN, e1, e2, e3, e4⟩ := hB
  have en : n' = n := (nI_eq (by have := hN.1; omega) (by omega)).mp (e1.symm.trans hnc)
  subst en
  subst e1
  subst e4
  refine ⟨nI n', (nI (n' + 1), 0, so, pl, ce, hc, ac, 0, upd a1 n' (nI k), upd a2 n' a, upd a3 n' b.toInt8.toInt32, upd a4 n' 0, a5, a6, a7, a8, a9, a10, fun _ => 0), ⟨n' + 1, dq_Nnode hN hn hk c1 c2 c3, rfl, rfl, rfl, rfl⟩, fun post hp => ?_⟩
  have ei : (nI n').toNatClampNeg = n' := nI_clamp (by omega)
  exact ⟨pk_in n' 20 hn, nm_r (by rw [ei, dq_nb k (by omega)]) ⟨pk_in n' 20 hn, nm_r (by rw [ei]) ⟨pk_in n' 20 hn, nm_r (by rw [ei]) ⟨pk_in n' 20 hn, nm_r (by rw [ei]) (nm_r (nI_1 n') (dq_restart (fun _ _ => rfl) _ hp))⟩⟩⟩⟩
theorem dq_n86 (nc cp so pl ce hc : Int32) (ac : Int64) (sc : Int32) (a1 a2 a3 a4 a5 a6 a7 a8 a9 a10 a11 : Nat → Int32) {n k : Nat} {a b : Int32} (hB : dq_B (nc, cp, so, pl, ce, hc, ac, sc, a1, a2, a3, a4, a5, a6, a7, a8, a9, a10, a11)) (hnc : nc = nI n) (hn : n < 20) (hk : k ≤ 10) (c1 : k = 1 → dq_R a) (c2 : 2 ≤ k → k ≤ 9 → ∃ j : Nat, j < 20 ∧ a = nI j) (c3 : 3 ≤ k → k ≤ 5 → ∃ j : Nat, j < 20 ∧ b = nI j) :
    ∃ r v, dq_B v ∧ ∀ post : Int32 → St1 → Prop, post r v → wX_node_86 post (nI k) a b nc cp so pl ce hc ac sc a1 a2 a3 a4 a5 a6 a7 a8 a9 a10 a11 := by
  obtain ⟨r, v, hv, kk⟩ := dq_n122 nc cp so pl ce hc ac sc a1 a2 a3 a4 a5 a6 a7 a8 a9 a10 a11 hB hnc hn hk c1 c2 c3
  have h104 : ∃ r v, dq_B v ∧ ∀ post : Int32 → St1 → Prop, post r v → wX_node_104 post (nI k) a b nc cp so pl ce hc ac sc a1 a2 a3 a4 a5 a6 a7 a8 a9 a10 a11 := by
    by_cases e : nI k = 9
    · by_cases g : b < 0
      · exact ⟨-1, (nc, cp, so, pl, ce, hc, ac, sc, a1, a2, a3, a4, a5, a6, a7, a8, a9, a10, a11), hB, fun post hp => br_t e (br_t g hp)⟩
      · by_cases g2 : b ≤ 15
        · exact ⟨r, v, hv, fun post hp => br_t e (br_f g (br_t g2 (kk post hp)))⟩
        · exact ⟨-1, (nc, cp, so, pl, ce, hc, ac, sc, a1, a2, a3, a4, a5, a6, a7, a8, a9, a10, a11), hB, fun post hp => br_t e (br_f g (br_f g2 hp))⟩
    · exact ⟨r, v, hv, fun post hp => br_f e (kk post hp)⟩
  obtain ⟨r, v, hv, kk⟩ := h104
  by_cases e : nI k = 8
  · by_cases g : b < 0
    · exact ⟨-1, (nc, cp, so, pl, ce, hc, ac, sc, a1, a2, a3, a4, a5, a6, a7, a8, a9, a10, a11), hB, fun post hp => br_t e (br_t g hp)⟩
    · by_cases g2 : b ≤ 7
      · exact ⟨r, v, hv, fun post hp => br_t e (br_f g (br_t g2 (kk post hp)))⟩
      · exact ⟨-1, (nc, cp, so, pl, ce, hc, ac, sc, a1, a2, a3, a4, a5, a6, a7, a8, a9, a10, a11), hB, fun post hp => br_t e (br_f g (br_f g2 hp))⟩
  · exact ⟨r, v, hv, fun post hp => br_f e (kk post hp)⟩
theorem dq_n66 (nc cp so pl ce hc : Int32) (ac : Int64) (sc : Int32) (a1 a2 a3 a4 a5 a6 a7 a8 a9 a10 a11 : Nat → Int32) {n k : Nat} {a b : Int32} (hB : dq_B (nc, cp, so, pl, ce, hc, ac, sc, a1, a2, a3, a4, a5, a6, a7, a8, a9, a10, a11)) (hnc : nc = nI n) (hn : n < 20) (hk : k ≤ 10) (c1 : k = 1 → dq_R a) (c2 : 2 ≤ k → k ≤ 9 → ∃ j : Nat, j < 20 ∧ a = nI j) :
    ∃ r v, dq_B v ∧ ∀ post : Int32 → St1 → Prop, post r v → wX_node_66 post (nI k) a b nc cp so pl ce hc ac sc a1 a2 a3 a4 a5 a6 a7 a8 a9 a10 a11 := by
  by_cases e : k < 3
  · obtain ⟨r, v, hv, kk⟩ := dq_n86 nc cp so pl ce hc ac sc a1 a2 a3 a4 a5 a6 a7 a8 a9 a10 a11 (b := b) hB hnc hn hk c1 c2 (fun z _ => absurd z (by omega))
    exact ⟨r, v, hv, fun post hp => br_t (nI_lt (b := 3) e (by omega)) (kk post hp)⟩
  · by_cases g : 5 < k
    · obtain ⟨r, v, hv, kk⟩ := dq_n86 nc cp so pl ce hc ac sc a1 a2 a3 a4 a5 a6 a7 a8 a9 a10 a11 (b := b) hB hnc hn hk c1 c2 (fun _ z => absurd z (by omega))
      exact ⟨r, v, hv, fun post hp => br_f (nI_nlt (b := 3) (by omega) (by omega)) (br_t (nI_lt (a := 5) g (by omega)) (kk post hp))⟩
    · have h3 : ¬ nI k < 3 := nI_nlt (b := 3) (by omega) (by omega)
      have h5 : ¬ 5 < nI k := nI_nlt (a := 5) (by omega) (by omega)
      rcases dq_isN b with ⟨hb, kb⟩ | kb
      · obtain ⟨r, v, hv, kk⟩ := dq_n86 nc cp so pl ce hc ac sc a1 a2 a3 a4 a5 a6 a7 a8 a9 a10 a11 (b := b) hB hnc hn hk c1 c2 (fun _ _ => hb)
        exact ⟨r, v, hv, fun post hp => br_f h3 (br_f h5 (kb _ _ (br_f (by decide) (kk post hp))))⟩
      · exact ⟨-1, (nc, cp, so, pl, ce, hc, ac, sc, a1, a2, a3, a4, a5, a6, a7, a8, a9, a10, a11), hB, fun post hp => br_f h3 (br_f h5 (kb _ _ (br_t rfl hp)))⟩
theorem dq_n45 (nc cp so pl ce hc : Int32) (ac : Int64) (sc : Int32) (a1 a2 a3 a4 a5 a6 a7 a8 a9 a10 a11 : Nat → Int32) {n k : Nat} {a b : Int32} (hB : dq_B (nc, cp, so, pl, ce, hc, ac, sc, a1, a2, a3, a4, a5, a6, a7, a8, a9, a10, a11)) (hnc : nc = nI n) (hn : n < 20) (hk : k ≤ 10) (c1 : k = 1 → dq_R a) :
    ∃ r v, dq_B v ∧ ∀ post : Int32 → St1 → Prop, post r v → wX_node_45 post (nI k) a b nc cp so pl ce hc ac sc a1 a2 a3 a4 a5 a6 a7 a8 a9 a10 a11 := by
  by_cases e : k < 2
  · obtain ⟨r, v, hv, kk⟩ := dq_n66 nc cp so pl ce hc ac sc a1 a2 a3 a4 a5 a6 a7 a8 a9 a10 a11 (b := b) hB hnc hn hk c1 (fun z _ => absurd z (by omega))
    exact ⟨r, v, hv, fun post hp => br_t (nI_lt (b := 2) e (by omega)) (kk post hp)⟩
  · by_cases g : 9 < k
    · obtain ⟨r, v, hv, kk⟩ := dq_n66 nc cp so pl ce hc ac sc a1 a2 a3 a4 a5 a6 a7 a8 a9 a10 a11 (b := b) hB hnc hn hk c1 (fun _ z => absurd z (by omega))
      exact ⟨r, v, hv, fun post hp => br_f (nI_nlt (b := 2) (by omega) (by omega)) (br_t (nI_lt (a := 9) g (by omega)) (kk post hp))⟩
    · have h3 : ¬ nI k < 2 := nI_nlt (b := 2) (by omega) (by omega)
      have h5 : ¬ 9 < nI k := nI_nlt (a := 9) (by omega) (by omega)
      rcases dq_isN a with ⟨ha, ka⟩ | ka
      · obtain ⟨r, v, hv, kk⟩ := dq_n66 nc cp so pl ce hc ac sc a1 a2 a3 a4 a5 a6 a7 a8 a9 a10 a11 (b := b) hB hnc hn hk c1 (fun _ _ => ha)
        exact ⟨r, v, hv, fun post hp => br_f h3 (br_f h5 (ka _ _ (br_f (by decide) (kk post hp))))⟩
      · exact ⟨-1, (nc, cp, so, pl, ce, hc, ac, sc, a1, a2, a3, a4, a5, a6, a7, a8, a9, a10, a11), hB, fun post hp => br_f h3 (br_f h5 (ka _ _ (br_t rfl hp)))⟩
/-- node, with any arguments -/
theorem dq_mknode (u : St1) (hB : dq_B u) (p a b : Int32) : ∃ r v, dq_B v ∧ ∀ post : Int32 → St1 → Prop, post r v → wpX_node post u p a b := by
  obtain ⟨nc, cp, so, pl, ce, hc, ac, sc, a1, a2, a3, a4, a5, a6, a7, a8, a9, a10, a11⟩ := u
  have hB' := hB
  obtain ⟨n, hN, e1, e2, e3, e4⟩ := hB'
  have hn20 := hN.1
  by_cases hn : n < 20
  · have hlt : nc < 20 := by
      rw [e1]
      exact nI_lt (b := 20) hn (by omega)
    by_cases g0 : p < 0
    · exact ⟨-1, (nc, cp, so, pl, ce, hc, ac, sc, a1, a2, a3, a4, a5, a6, a7, a8, a9, a10, a11), hB, fun post hp => br_t hlt (br_t g0 hp)⟩
    · by_cases g10 : p ≤ 10
      · obtain ⟨k, hk, ek⟩ := nI_of2 (n := 10) (by decide) g0 g10
        subst ek
        by_cases h1 : k = 1
        · have h1' : nI k = 1 := by rw [h1]; rfl
          by_cases ga : a < (-32768)
          · exact ⟨-1, (nc, cp, so, pl, ce, hc, ac, sc, a1, a2, a3, a4, a5, a6, a7, a8, a9, a10, a11), hB, fun post hp => br_t hlt (br_f g0 (br_t g10 (br_t h1' (br_t ga hp))))⟩
          · by_cases gb : a ≤ 32767
            · obtain ⟨r, v, hv, kk⟩ := dq_n45 nc cp so pl ce hc ac sc a1 a2 a3 a4 a5 a6 a7 a8 a9 a10 a11 (b := b) hB e1 hn hk (fun _ => dq_Rof ga gb)
              exact ⟨r, v, hv, fun post hp => br_t hlt (br_f g0 (br_t g10 (br_t h1' (br_f ga (br_t gb (kk post hp))))))⟩
            · exact ⟨-1, (nc, cp, so, pl, ce, hc, ac, sc, a1, a2, a3, a4, a5, a6, a7, a8, a9, a10, a11), hB, fun post hp => br_t hlt (br_f g0 (br_t g10 (br_t h1' (br_f ga (br_f gb hp)))))⟩
        · obtain ⟨r, v, hv, kk⟩ := dq_n45 nc cp so pl ce hc ac sc a1 a2 a3 a4 a5 a6 a7 a8 a9 a10 a11 (a := a) (b := b) hB e1 hn hk (fun z => absurd z h1)
          exact ⟨r, v, hv, fun post hp => br_t hlt (br_f g0 (br_t g10 (br_f (fun z => h1 ((nI_eq (b := 1) (by omega) (by omega)).mp z)) (kk post hp))))⟩
      · exact ⟨-1, (nc, cp, so, pl, ce, hc, ac, sc, a1, a2, a3, a4, a5, a6, a7, a8, a9, a10, a11), hB, fun post hp => br_t hlt (br_f g0 (br_f g10 hp))⟩
  · have hge : ¬ nc < 20 := by
      rw [e1]
      exact nI_nlt (b := 20) (by omega) (by omega)
    exact ⟨-2, (nc, cp, so, pl, ce, hc, ac, sc, a1, a2, a3, a4, a5, a6, a7, a8, a9, a10, a11), hB, fun post hp => br_f hge hp⟩
theorem dq_Ntap {n j q l : Nat} {a1 a2 a3 a4 a5 : Nat → Int32} (hN : dq_N n a1 a2 a3 a4 a5) (hj : j < n) (hq : q < 6) (hl : l < 20) (e4 : a4 j = nI q) (h1 : a1 j = 10) :
    dq_N n a1 a2 a3 (upd a4 j (nI (q + 1))) (upd a5 (6 * j + q) (nI l)) := by
  refine ⟨hN.1, fun i hi => ?_⟩
  obtain ⟨k, hk, ek, c1, c2, c3, c4⟩ := hN.2 i hi
  refine ⟨k, hk, ek, c1, c2, c3, fun z => ?_⟩
  obtain ⟨q', hq', e', c5⟩ := c4 z
  by_cases e : i = j
  · subst e
    have eq : q' = q := (nI_eq (by omega) (by omega)).mp (e'.symm.trans e4)
    subst eq
    refine ⟨q' + 1, by omega, pk_us, fun s hs => ?_⟩
    by_cases g : s = q'
    · subst g
      exact ⟨l, hl, pk_us⟩
    · rw [pk_un (by omega)]
      exact c5 s (by omega)
  · refine ⟨q', hq', ?_, fun s hs => ?_⟩
    · rw [pk_un e]
      exact e'
    · rw [pk_un (by omega)]
      exact c5 s hs
/-- tap, with any arguments -/
theorem dq_mktap (u : St1) (hB : dq_B u) (p a c : Int32) : ∃ r v, dq_B v ∧ ∀ post : Int32 → St1 → Prop, post r v → wpX_tap post u p a c := by
  obtain ⟨nc, cp, so, pl, ce, hc, ac, sc, a1, a2, a3, a4, a5, a6, a7, a8, a9, a10, a11⟩ := u
  have hB' := hB
  obtain ⟨n, hN, e1, e2, e3, e11⟩ := hB'
  have hn20 := hN.1
  by_cases g0 : p < 0
  · exact ⟨-1, (nc, cp, so, pl, ce, hc, ac, sc, a1, a2, a3, a4, a5, a6, a7, a8, a9, a10, a11), hB, fun post hp => br_t g0 hp⟩
  · by_cases gn : nc ≤ p
    · exact ⟨-1, (nc, cp, so, pl, ce, hc, ac, sc, a1, a2, a3, a4, a5, a6, a7, a8, a9, a10, a11), hB, fun post hp => br_f g0 (br_t gn hp)⟩
    · obtain ⟨j, hj31, ej⟩ := nI_of g0
      subst ej
      have hj : j < n := by
        rcases Nat.lt_or_ge j n with z | z
        · exact z
        · exact absurd (by rw [e1]; exact nI_le z hj31) gn
      have hj20 : j < 20 := by omega
      have cj : (nI j).toNatClampNeg = j := nI_clamp hj31
      have inj : vp_in (nI j) 20 := pk_in j 20 hj20
      by_cases h1 : a1 j = 10
      · have h1' : a1 (nI j).toNatClampNeg = 10 := by rw [cj]; exact h1
        rcases dq_isN a with ⟨⟨l, hl, el⟩, ka⟩ | ka
        · by_cases ga : c < (-32768)
          · exact ⟨-1, (nc, cp, so, pl, ce, hc, ac, sc, a1, a2, a3, a4, a5, a6, a7, a8, a9, a10, a11), hB, fun post hp => br_f g0 (br_f gn ⟨inj, br_t h1' (ka _ _ (br_f (by decide) (br_t ga hp)))⟩)⟩
          · by_cases gb : c ≤ 32767
            · obtain ⟨k, hk, ek, _, _, _, c4⟩ := hN.2 j hj
              have k10 : k = 10 := (nI_eq (b := 10) (by omega) (by omega)).mp (ek.symm.trans h1)
              obtain ⟨q, hq, e4, c5⟩ := c4 k10
              by_cases gq : q < 6
              · refine ⟨nI (q + 1), (nc, 0, so, pl, ce, hc, ac, 0, a1, a2, a3, upd a4 j (nI (q + 1)), upd a5 (6 * j + q) (nI l), upd a6 (6 * j + q) c, a7, a8, a9, a10, fun _ => 0), ⟨n, dq_Ntap hN hj gq hl e4 h1, e1, rfl, rfl, rfl⟩, fun post hp => ?_⟩
                subst e11
                subst el
                refine br_f g0 (br_f gn ⟨inj, br_t h1' (ka _ _ (br_f (by decide) (br_f ga (br_t gb ⟨inj, ?_⟩))))⟩)
                rw [cj, e4]
                refine br_t (nI_lt (b := 6) gq (by omega)) ⟨inj, nm_r (e' := nI (6 * j + q)) (by rw [← nI_add, ← pk_mul]; rfl) ⟨pk_in (6 * j + q) 120 (by omega), ?_⟩⟩
                rw [nI_clamp (show 6 * j + q < 2 ^ 31 by omega)]
                refine nm_r (e' := upd a5 (6 * j + q) (nI l)) (by rw [dq_nb l (by omega)]) ⟨pk_in (6 * j + q) 120 (by omega), nm_e ⟨inj, inj, nm_r (e' := upd a4 j (nI (q + 1))) (by rw [nI_1, dq_nb (q + 1) (by omega)]) (dq_restart (fun _ _ => rfl) _ ⟨inj, ?_⟩)⟩⟩
                rw [pk_us]
                exact hp
              · refine ⟨-2, (nc, cp, so, pl, ce, hc, ac, sc, a1, a2, a3, a4, a5, a6, a7, a8, a9, a10, a11), hB, fun post hp => br_f g0 (br_f gn ⟨inj, br_t h1' (ka _ _ (br_f (by decide) (br_f ga (br_t gb ⟨inj, ?_⟩))))⟩)⟩
                rw [cj, e4]
                exact br_f (nI_nlt (b := 6) (by omega) (by omega)) hp
            · exact ⟨-1, (nc, cp, so, pl, ce, hc, ac, sc, a1, a2, a3, a4, a5, a6, a7, a8, a9, a10, a11), hB, fun post hp => br_f g0 (br_f gn ⟨inj, br_t h1' (ka _ _ (br_f (by decide) (br_f ga (br_f gb hp))))⟩)⟩
        · exact ⟨-1, (nc, cp, so, pl, ce, hc, ac, sc, a1, a2, a3, a4, a5, a6, a7, a8, a9, a10, a11), hB, fun post hp => br_f g0 (br_f gn ⟨inj, br_t h1' (ka _ _ (br_t rfl hp))⟩)⟩
      · have h1' : ¬ a1 (nI j).toNatClampNeg = 10 := by rw [cj]; exact h1
        exact ⟨-1, (nc, cp, so, pl, ce, hc, ac, sc, a1, a2, a3, a4, a5, a6, a7, a8, a9, a10, a11), hB, fun post hp => br_f g0 (br_f gn ⟨inj, br_f h1' hp⟩)⟩
/-- build, of two like states: true, and they stay alike -/
theorem dq_mkbuild (nc cp so pl ce hc : Int32) (ac : Int64) (sc : Int32) (a1 a2 a3 a4 a5 a6 a7 a8 a9 a10 a11 : Nat → Int32) (hB : dq_B (nc, cp, so, pl, ce, hc, ac, sc, a1, a2, a3, a4, a5, a6, a7, a8, a9, a10, a11)) (p a b : Int32) : ∃ ncv cpv sov plv cev hcv acv scv a1v a2v a3v a4v a5v a6v a7v a8v a9v a10v a11v, dq_B (ncv, cpv, sov, plv, cev, hcv, acv, scv, a1v, a2v, a3v, a4v, a5v, a6v, a7v, a8v, a9v, a10v, a11v) ∧ ∀ post : Int32 → St3 → Prop, post 1 (ncv, cpv, sov, plv, cev, hcv, acv, scv, a1v, a2v, a3v, a4v, a5v, a6v, a7v, a8v, a9v, a10v, a11v, ncv, cpv, sov, plv, cev, hcv, acv, scv, a1v, a2v, a3v, a4v, a5v, a6v, a7v, a8v, a9v, a10v, a11v) → wpL_build post (nc, cp, so, pl, ce, hc, ac, sc, a1, a2, a3, a4, a5, a6, a7, a8, a9, a10, a11, nc, cp, so, pl, ce, hc, ac, sc, a1, a2, a3, a4, a5, a6, a7, a8, a9, a10, a11) p a b := by
  obtain ⟨r, ⟨ncn, cpn, son, pln, cen, hcn, acn, scn, a1n, a2n, a3n, a4n, a5n, a6n, a7n, a8n, a9n, a10n, a11n⟩, hn, kn⟩ := dq_mknode (nc, cp, so, pl, ce, hc, ac, sc, a1, a2, a3, a4, a5, a6, a7, a8, a9, a10, a11) hB p a b
  by_cases e : p = 10
  · by_cases g : 0 ≤ r
    · obtain ⟨r1, ⟨nct, cpt, sot, plt, cet, hct, act, sct, a1t, a2t, a3t, a4t, a5t, a6t, a7t, a8t, a9t, a10t, a11t⟩, ht, kt⟩ := dq_mktap _ hn r a b
      obtain ⟨r2, ⟨ncv, cpv, sov, plv, cev, hcv, acv, scv, a1v, a2v, a3v, a4v, a5v, a6v, a7v, a8v, a9v, a10v, a11v⟩, hv, kv⟩ := dq_mktap _ ht r ((a + 1) &&& 15) 20000
      refine ⟨ncv, cpv, sov, plv, cev, hcv, acv, scv, a1v, a2v, a3v, a4v, a5v, a6v, a7v, a8v, a9v, a10v, a11v, hv, fun post hp => ?_⟩
      unfold wpL_build
      dsimp only
      exact kn _ (kn _ (br_t rfl (br_t e (br_t g (kt _ (kt _ (br_t rfl (kv _ (kv _ (br_t rfl hp))))))))))
    · refine ⟨ncn, cpn, son, pln, cen, hcn, acn, scn, a1n, a2n, a3n, a4n, a5n, a6n, a7n, a8n, a9n, a10n, a11n, hn, fun post hp => ?_⟩
      unfold wpL_build
      dsimp only
      exact kn _ (kn _ (br_t rfl (br_t e (br_f g hp))))
  · refine ⟨ncn, cpn, son, pln, cen, hcn, acn, scn, a1n, a2n, a3n, a4n, a5n, a6n, a7n, a8n, a9n, a10n, a11n, hn, fun post hp => ?_⟩
    unfold wpL_build
    dsimp only
    exact kn _ (kn _ (br_t rfl (br_f e hp)))
end
section
/-! The law: its second loop, its first loop, its top. -/
theorem dq_l257 (nc cp so pl ce hc : Int32) (a1 a2 a3 a4 a5 a6 a7 a8 a9 a10 : Nat → Int32) (hcp : ¬ cp = 0) (hK : dq_K so ce a8 a9 a10) {post : Int32 → Prop} (hp : post 1) {L : Nat} (hL : L ≤ 260) (xs : Nat → Int32) (kc ks : Nat) :
    ∀ (d i : Nat), i + d = L → ∀ (ac ac' : Int64) (sc : Int32) (a11 : Nat → Int32), dq_G a11 → ∃ fu, wL_law_257 post L xs kc ks fu (nI i) nc cp so pl ce hc ac sc a1 a2 a3 a4 a5 a6 a7 a8 a9 a10 a11 nc cp so pl ce hc ac' sc a1 a2 a3 a4 a5 a6 a7 a8 a9 a10 a11 := by
  intro d
  induction d with
  | zero =>
    intro i hi ac ac' sc a11 hG
    exact ⟨1, pk_le L i (fun _ => hp) (fun z => absurd z (by omega))⟩
  | succ d ih =>
    intro i hi ac ac' sc a11 hG
    have go : ∀ z0 : Int32, ∃ fu, wL_law_286 post L xs (wL_law_257 post L xs kc ks fu) (nI i) z0 kc ks nc cp so pl ce hc ac sc a1 a2 a3 a4 a5 a6 a7 a8 a9 a10 a11 nc cp so pl ce hc ac' sc a1 a2 a3 a4 a5 a6 a7 a8 a9 a10 a11 := by
      intro z0
      obtain ⟨r, sc', b11, hG', k⟩ := dq_feed nc cp so pl ce hc sc a1 a2 a3 a4 a5 a6 a7 a8 a9 a10 a11 hcp hK hG z0
      obtain ⟨ac1, k1⟩ := k ac
      obtain ⟨ac2, k2⟩ := k ac'
      obtain ⟨fu, hf⟩ := ih (i + 1) (by omega) ac1 ac2 sc' b11 hG'
      exact ⟨fu, k1 _ (k2 _ (br_t rfl (dq_same nc cp so pl ce hc ac1 sc' a1 a2 a3 a4 a5 a6 a7 a8 a9 a10 b11 ac2 (dq_Cp1 hcp) (dq_Cp1 hcp) rfl (dq_Kso hK) hG' _ (br_f (by decide) (nm_r (nI_1 i) hf)))))⟩
    by_cases g : (nI i - nI i / 3 * 3) = 0
    · obtain ⟨fu, hf⟩ := go (xs (nI i).toNatClampNeg * 999)
      exact ⟨fu + 1, pk_le L i (fun z => absurd z (by omega)) (fun _ => ⟨by decide, br_t g ⟨pk_in i L (by omega), hf⟩⟩)⟩
    · obtain ⟨fu, hf⟩ := go (xs (nI i).toNatClampNeg)
      exact ⟨fu + 1, pk_le L i (fun z => absurd z (by omega)) (fun _ => ⟨by decide, br_f g ⟨pk_in i L (by omega), hf⟩⟩)⟩
/-- the one that is fed between: a compiled state of the other's, but for the machine -/
def dq_Y (u v : St1) : Prop := match u with
  | (nc, cp, so, pl, ce, hc, ac, sc, a1, a2, a3, a4, a5, a6, a7, a8, a9, a10, a11) => match v with
    | (ncy, cpy, soy, ply, cey, hcy, acy, scy, a1y, a2y, a3y, a4y, a5y, a6y, a7y, a8y, a9y, a10y, a11y) => ncy = nc ∧ cpy = 1 ∧ a1y = a1 ∧ a2y = a2 ∧ a3y = a3 ∧ a4y = a4 ∧ a5y = a5 ∧ a6y = a6 ∧ dq_K soy cey a8y a9y a10y ∧ dq_G a11y ∧ dq_Cp (nc, cp, so, pl, ce, hc, ac, sc, a1, a2, a3, a4, a5, a6, a7, a8, a9, a10, a11) (nc, 1, soy, ply, cey, hcy, ac, sc, a1, a2, a3, a4, a5, a6, a7y, a8y, a9y, a10y, a11)
/-- the first loop over two states -/
def dq_34 (post : Int32 → Prop) (L : Nat) (xs : Nat → Int32) (x4 : Int32) (kc ks n : Nat) (x3 x5 : Int32) (u v : St1) : Prop := match u with
  | (nc, cp, so, pl, ce, hc, ac, sc, a1, a2, a3, a4, a5, a6, a7, a8, a9, a10, a11) => match v with
    | (ncy, cpy, soy, ply, cey, hcy, acy, scy, a1y, a2y, a3y, a4y, a5y, a6y, a7y, a8y, a9y, a10y, a11y) => wL_law_34 post L xs x4 kc ks n x3 x5 nc cp so pl ce hc ac sc a1 a2 a3 a4 a5 a6 a7 a8 a9 a10 a11 ncy cpy soy ply cey hcy acy scy a1y a2y a3y a4y a5y a6y a7y a8y a9y a10y a11y
/-- behind the first loop: same, then the second loop -/
theorem dq_exit {nc cp so pl ce hc : Int32} {ac : Int64} {sc : Int32} {a1 a2 a3 a4 a5 a6 a7 a8 a9 a10 a11 : Nat → Int32} {ncy cpy soy ply cey hcy : Int32} {acy : Int64} {scy : Int32} {a1y a2y a3y a4y a5y a6y a7y a8y a9y a10y a11y : Nat → Int32} (ac' : Int64) {so' pl' ce' hc' : Int32} {a7' a8' a9' a10' : Nat → Int32} {post : Int32 → Prop} (hp : post 1) {L : Nat} (hL : L ≤ 260) (xs : Nat → Int32) (kc ks : Nat) (hK : dq_K so' ce' a8' a9' a10') (hsc : sc = 0) (hscy : scy = 0) (h11 : a11 = (fun _ => 0))
    (hx : dq_Cp (nc, cp, so, pl, ce, hc, ac, sc, a1, a2, a3, a4, a5, a6, a7, a8, a9, a10, a11) (nc, 1, so', pl', ce', hc', ac, sc, a1, a2, a3, a4, a5, a6, a7', a8', a9', a10', a11)) (hy : dq_Cp (ncy, cpy, soy, ply, cey, hcy, acy, scy, a1y, a2y, a3y, a4y, a5y, a6y, a7y, a8y, a9y, a10y, a11y) (nc, 1, so', pl', ce', hc', ac', sc, a1, a2, a3, a4, a5, a6, a7', a8', a9', a10', a11)) :
    wpL_same (fun r_142 u => match u with | (ncp, cpp, sop, plp, cep, hcp, acp, scp, a1p, a2p, a3p, a4p, a5p, a6p, a7p, a8p, a9p, a10p, a11p, ncq, cpq, soq, plq, ceq, hcq, acq, scq, a1q, a2q, a3q, a4q, a5q, a6q, a7q, a8q, a9q, a10q, a11q) => ((r_142 = 0 → (post 0)) ∧ (¬ r_142 = 0 → (∃ fu257 : Nat, wL_law_257 post L xs kc ks fu257 0 ncp cpp sop plp cep hcp acp scp a1p a2p a3p a4p a5p a6p a7p a8p a9p a10p a11p ncq cpq soq plq ceq hcq acq scq a1q a2q a3q a4q a5q a6q a7q a8q a9q a10q a11q)))) (nc, cp, so, pl, ce, hc, ac, sc, a1, a2, a3, a4, a5, a6, a7, a8, a9, a10, a11, ncy, cpy, soy, ply, cey, hcy, acy, scy, a1y, a2y, a3y, a4y, a5y, a6y, a7y, a8y, a9y, a10y, a11y) := by
  have hG : dq_G a11 := by
    rw [h11]
    exact dq_G0
  exact dq_same nc 1 so' pl' ce' hc' ac sc a1 a2 a3 a4 a5 a6 a7' a8' a9' a10' a11 ac' hx hy (hsc.trans hscy.symm) (dq_Kso hK) hG _ (br_f (by decide) (dq_l257 nc 1 so' pl' ce' hc' a1 a2 a3 a4 a5 a6 a7' a8' a9' a10' (by decide) hK hp hL xs kc ks L 0 (by omega) ac ac' sc a11 hG))
theorem dq_i2 (i : Nat) : nI i + 2 = nI (i + 2) := nI_add i 2
theorem dq_i3 (i : Nat) : nI i + 3 = nI (i + 3) := nI_add i 3
theorem dq_x5 {L i : Nat} (hL : L ≤ 260) (hi : i ≤ 300) : (Int32.ofNat L - 3) < nI i ↔ L < i + 3 := by
  have e : (Int32.ofNat L - 3).toInt = (L : Int) - 3 := pk_sub_toInt (a := L) (b := 3) (by omega) (by omega)
  rw [Int32.lt_iff_toInt_lt, e, nI_toInt (by omega)]
  omega
theorem dq_l120 (nc cp so pl ce hc : Int32) (ac : Int64) (sc : Int32) (a1 a2 a3 a4 a5 a6 a7 a8 a9 a10 a11 : Nat → Int32) {post : Int32 → Prop} {L : Nat} {xs : Nat → Int32} {x4 x3 : Int32} {kc ks i : Nat} (hi : i + 3 ≤ L) (hL : L ≤ 260)
    (H : ∀ p a b : Int32, ∃ fu, wL_law_196 post L xs (wL_law_34 post L xs x4 kc ks fu) x3 x4 (nI i) p a b kc ks nc cp so pl ce hc ac sc a1 a2 a3 a4 a5 a6 a7 a8 a9 a10 a11 nc cp so pl ce hc ac sc a1 a2 a3 a4 a5 a6 a7 a8 a9 a10 a11) (p a : Int32) :
    ∃ fu, wL_law_120 post L xs (wL_law_34 post L xs x4 kc ks fu) x3 x4 (nI i) p a kc ks nc cp so pl ce hc ac sc a1 a2 a3 a4 a5 a6 a7 a8 a9 a10 a11 nc cp so pl ce hc ac sc a1 a2 a3 a4 a5 a6 a7 a8 a9 a10 a11 := by
  have hin : vp_in (nI i + 2) L := pk_in (i + 2) L (by omega) (dq_i2 i)
  have h163 : ∀ b : Int32, ∃ fu, wL_law_163 post L xs (wL_law_34 post L xs x4 kc ks fu) x3 x4 (nI i) p a b kc ks nc cp so pl ce hc ac sc a1 a2 a3 a4 a5 a6 a7 a8 a9 a10 a11 nc cp so pl ce hc ac sc a1 a2 a3 a4 a5 a6 a7 a8 a9 a10 a11 := by
    intro b
    by_cases e8 : p = 8
    · obtain ⟨fu, hf⟩ := H p a (b &&& 7)
      exact ⟨fu, br_t e8 (nm_e hf)⟩
    · by_cases e9 : p = 9
      · obtain ⟨fu, hf⟩ := H p a (b &&& 7)
        exact ⟨fu, br_f e8 (br_t e9 (nm_e hf))⟩
      · obtain ⟨fu, hf⟩ := H p a (b * 2047).toInt16.toInt32
        exact ⟨fu, br_f e8 (br_f e9 (nm_e hf))⟩
  by_cases e3 : p < 3
  · obtain ⟨fu, hf⟩ := h163 (xs (nI i + 2).toNatClampNeg)
    exact ⟨fu, hin, nm_e (br_t e3 hf)⟩
  · by_cases e5 : 5 < p
    · obtain ⟨fu, hf⟩ := h163 (xs (nI i + 2).toNatClampNeg)
      exact ⟨fu, hin, nm_e (br_f e3 (br_t e5 hf))⟩
    · by_cases e0 : x3 = 0
      · obtain ⟨fu, hf⟩ := H p a 0
        exact ⟨fu, hin, nm_e (br_f e3 (br_f e5 (br_t e0 hf)))⟩
      · obtain ⟨fu, hf⟩ := H p a ((xs (nI i + 2).toNatClampNeg &&& 255) - (xs (nI i + 2).toNatClampNeg &&& 255) / x3 * x3)
        exact ⟨fu, hin, nm_e (br_f e3 (br_f e5 (br_f e0 ⟨e0, hf⟩)))⟩
theorem dq_l68 (nc cp so pl ce hc : Int32) (ac : Int64) (sc : Int32) (a1 a2 a3 a4 a5 a6 a7 a8 a9 a10 a11 : Nat → Int32) {post : Int32 → Prop} {L : Nat} {xs : Nat → Int32} {x4 x3 : Int32} {kc ks i : Nat} (hi : i + 3 ≤ L) (hL : L ≤ 260)
    (H : ∀ p a b : Int32, ∃ fu, wL_law_196 post L xs (wL_law_34 post L xs x4 kc ks fu) x3 x4 (nI i) p a b kc ks nc cp so pl ce hc ac sc a1 a2 a3 a4 a5 a6 a7 a8 a9 a10 a11 nc cp so pl ce hc ac sc a1 a2 a3 a4 a5 a6 a7 a8 a9 a10 a11) (p : Int32) :
    ∃ fu, wL_law_68 post L xs (wL_law_34 post L xs x4 kc ks fu) x3 x4 (nI i) p kc ks nc cp so pl ce hc ac sc a1 a2 a3 a4 a5 a6 a7 a8 a9 a10 a11 nc cp so pl ce hc ac sc a1 a2 a3 a4 a5 a6 a7 a8 a9 a10 a11 := by
  have hin : vp_in (nI i + 1) L := pk_in (i + 1) L (by omega) (nI_1 i)
  have h120 := dq_l120 nc cp so pl ce hc ac sc a1 a2 a3 a4 a5 a6 a7 a8 a9 a10 a11 hi hL H p
  by_cases e1 : p = 1
  · obtain ⟨fu, hf⟩ := h120 (xs (nI i + 1).toNatClampNeg).toInt16.toInt32
    exact ⟨fu, hin, nm_e (br_t e1 ⟨hin, hf⟩)⟩
  · by_cases e59 : 59 < (xs (nI i + 1).toNatClampNeg &&& 63)
    · obtain ⟨fu, hf⟩ := h120 ((xs (nI i + 1).toNatClampNeg &&& 63) &&& 15)
      exact ⟨fu, hin, nm_e (br_f e1 (br_t e59 hf))⟩
    · by_cases e0 : x3 = 0
      · obtain ⟨fu, hf⟩ := h120 ((xs (nI i + 1).toNatClampNeg &&& 63) &&& 15)
        exact ⟨fu, hin, nm_e (br_f e1 (br_f e59 (br_t e0 hf)))⟩
      · obtain ⟨fu, hf⟩ := h120 ((xs (nI i + 1).toNatClampNeg &&& 63) - (xs (nI i + 1).toNatClampNeg &&& 63) / x3 * x3)
        exact ⟨fu, hin, nm_e (br_f e1 (br_f e59 (br_f e0 ⟨e0, hf⟩)))⟩
/-- the first loop's end -/
theorem dq_l34x (nc cp so pl ce hc : Int32) (ac : Int64) (sc : Int32) (a1 a2 a3 a4 a5 a6 a7 a8 a9 a10 a11 : Nat → Int32) (v : St1) {post : Int32 → Prop} (hp : post 1) {L : Nat} (hL : L ≤ 260) (xs : Nat → Int32) (x4 x3 : Int32) (kc ks n : Nat) {i : Nat} (hi : i ≤ 300) (hx : L < i + 3) (hB : dq_B (nc, cp, so, pl, ce, hc, ac, sc, a1, a2, a3, a4, a5, a6, a7, a8, a9, a10, a11)) (hv : v = (nc, cp, so, pl, ce, hc, ac, sc, a1, a2, a3, a4, a5, a6, a7, a8, a9, a10, a11) ∨ dq_Y (nc, cp, so, pl, ce, hc, ac, sc, a1, a2, a3, a4, a5, a6, a7, a8, a9, a10, a11) v) : dq_34 post L xs x4 kc ks (n + 1) x3 (nI i) (nc, cp, so, pl, ce, hc, ac, sc, a1, a2, a3, a4, a5, a6, a7, a8, a9, a10, a11) v := by
  obtain ⟨m, hN, e1, e2, e3, e4⟩ := hB
  have hx' := (dq_x5 hL hi).mpr hx
  rcases hv with e | hY
  · subst e
    obtain ⟨so', pl', ce', hc', a7', a8', a9', a10', hK, k⟩ := dq_compile nc cp so pl ce hc ac sc a1 a2 a3 a4 a5 a6 a7 a8 a9 a10 a11 hN e1 e2
    refine br_t hx' (dq_restart (fun j _ => by rw [e4]) _ ?_)
    exact dq_exit ac hp hL xs kc ks hK e3 rfl e4 k (by rw [← e4, ← e3]; exact k)
  · obtain ⟨ncy, cpy, soy, ply, cey, hcy, acy, scy, a1y, a2y, a3y, a4y, a5y, a6y, a7y, a8y, a9y, a10y, a11y⟩ := v
    obtain ⟨f1, f2, f3, f4, f5, f6, f7, f8, hK, hG, k⟩ := hY
    subst f1 f2 f3 f4 f5 f6 f7 f8
    refine br_t hx' (dq_restart hG.2 _ ?_)
    exact dq_exit acy hp hL xs kc ks hK e3 rfl e4 k (by rw [e3, e4]; exact dq_Cp1 (by decide))
/-- the first loop's feed -/
theorem dq_l34f (nc cp so pl ce hc : Int32) (ac : Int64) (sc : Int32) (a1 a2 a3 a4 a5 a6 a7 a8 a9 a10 a11 : Nat → Int32) (v : St1) (hB : dq_B (nc, cp, so, pl, ce, hc, ac, sc, a1, a2, a3, a4, a5, a6, a7, a8, a9, a10, a11)) (hv : v = (nc, cp, so, pl, ce, hc, ac, sc, a1, a2, a3, a4, a5, a6, a7, a8, a9, a10, a11) ∨ dq_Y (nc, cp, so, pl, ce, hc, ac, sc, a1, a2, a3, a4, a5, a6, a7, a8, a9, a10, a11) v) (x : Int32) : ∃ w, dq_Y (nc, cp, so, pl, ce, hc, ac, sc, a1, a2, a3, a4, a5, a6, a7, a8, a9, a10, a11) w ∧ ∃ r, ∀ post : Int32 → St1 → Prop, post r w → wpX_feed post v x := by
  obtain ⟨m, hN, e1, e2, e3, e4⟩ := hB
  rcases hv with e | hY
  · subst e
    obtain ⟨so', pl', ce', hc', a7', a8', a9', a10', hK, k⟩ := dq_compile nc cp so pl ce hc ac sc a1 a2 a3 a4 a5 a6 a7 a8 a9 a10 a11 hN e1 e2
    obtain ⟨r, sc', b11, hG', kf⟩ := dq_feed nc 1 so' pl' ce' hc' sc a1 a2 a3 a4 a5 a6 a7' a8' a9' a10' a11 (by decide) hK (by rw [e4]; exact dq_G0) x
    obtain ⟨ac', kf⟩ := kf ac
    exact ⟨(nc, 1, so', pl', ce', hc', ac', sc', a1, a2, a3, a4, a5, a6, a7', a8', a9', a10', b11), ⟨rfl, rfl, rfl, rfl, rfl, rfl, rfl, rfl, hK, hG', k⟩, r, fun post hp => dq_Cpfeed k (by decide) (kf post hp)⟩
  · obtain ⟨ncy, cpy, soy, ply, cey, hcy, acy, scy, a1y, a2y, a3y, a4y, a5y, a6y, a7y, a8y, a9y, a10y, a11y⟩ := v
    obtain ⟨f1, f2, f3, f4, f5, f6, f7, f8, hK, hG, k⟩ := hY
    subst f1 f2 f3 f4 f5 f6 f7 f8
    obtain ⟨r, sc', b11, hG', kf⟩ := dq_feed ncy 1 soy ply cey hcy scy a1y a2y a3y a4y a5y a6y a7y a8y a9y a10y a11y (by decide) hK hG x
    obtain ⟨ac', kf⟩ := kf acy
    exact ⟨(ncy, 1, soy, ply, cey, hcy, ac', sc', a1y, a2y, a3y, a4y, a5y, a6y, a7y, a8y, a9y, a10y, b11), ⟨rfl, rfl, rfl, rfl, rfl, rfl, rfl, rfl, hK, hG', k⟩, r, fun post hp => kf post hp⟩
theorem dq_l34 {post : Int32 → Prop} (hp : post 1) {L : Nat} (hL : L ≤ 260) (xs : Nat → Int32) (x4 : Int32) (kc ks : Nat) : ∀ (d i : Nat) (x3 : Int32) (u v : St1), L < i + 3 + 3 * d → i ≤ 300 → dq_B u → (v = u ∨ (x4 ≤ x3 ∧ dq_Y u v)) → ∃ fu, dq_34 post L xs x4 kc ks fu x3 (nI i) u v := by
  intro d
  induction d with
  | zero =>
    intro i x3 u v hd hi hB hv
    obtain ⟨nc, cp, so, pl, ce, hc, ac, sc, a1, a2, a3, a4, a5, a6, a7, a8, a9, a10, a11⟩ := u
    refine ⟨1, dq_l34x nc cp so pl ce hc ac sc a1 a2 a3 a4 a5 a6 a7 a8 a9 a10 a11 v hp hL xs x4 x3 kc ks 0 hi (by omega) hB ?_⟩
    rcases hv with e | e
    · exact Or.inl e
    · exact Or.inr e.2
  | succ d ih =>
    intro i x3 u v hd hi hB hv
    obtain ⟨nc, cp, so, pl, ce, hc, ac, sc, a1, a2, a3, a4, a5, a6, a7, a8, a9, a10, a11⟩ := u
    by_cases hx : L < i + 3
    · refine ⟨1, dq_l34x nc cp so pl ce hc ac sc a1 a2 a3 a4 a5 a6 a7 a8 a9 a10 a11 v hp hL xs x4 x3 kc ks 0 hi hx hB ?_⟩
      rcases hv with e | e
      · exact Or.inl e
      · exact Or.inr e.2
    · have hx' : ¬ (Int32.ofNat L - 3) < nI i := fun z => hx ((dq_x5 hL hi).mp z)
      by_cases h4 : x4 ≤ x3
      · have hv' : v = (nc, cp, so, pl, ce, hc, ac, sc, a1, a2, a3, a4, a5, a6, a7, a8, a9, a10, a11) ∨ dq_Y (nc, cp, so, pl, ce, hc, ac, sc, a1, a2, a3, a4, a5, a6, a7, a8, a9, a10, a11) v := by
          rcases hv with e | e
          · exact Or.inl e
          · exact Or.inr e.2
        obtain ⟨w, hw, r, k⟩ := dq_l34f nc cp so pl ce hc ac sc a1 a2 a3 a4 a5 a6 a7 a8 a9 a10 a11 v hB hv' (xs (nI i).toNatClampNeg ^^^ xs (nI i + 2).toNatClampNeg)
        obtain ⟨fu, hf⟩ := ih (i + 3) x3 (nc, cp, so, pl, ce, hc, ac, sc, a1, a2, a3, a4, a5, a6, a7, a8, a9, a10, a11) w (by omega) (by omega) hB (Or.inr ⟨h4, hw⟩)
        rw [← dq_i3] at hf
        obtain ⟨ncy, cpy, soy, ply, cey, hcy, acy, scy, a1y, a2y, a3y, a4y, a5y, a6y, a7y, a8y, a9y, a10y, a11y⟩ := v
        obtain ⟨ncw, cpw, sow, plw, cew, hcw, acw, scw, a1w, a2w, a3w, a4w, a5w, a6w, a7w, a8w, a9w, a10w, a11w⟩ := w
        exact ⟨fu + 1, br_f hx' (br_t h4 ⟨pk_in i L (by omega), pk_in (i + 2) L (by omega) (dq_i2 i), k _ (nm_e hf)⟩)⟩
      · rcases hv with e | e
        · subst e
          have H : ∀ p a b : Int32, ∃ fu, wL_law_196 post L xs (wL_law_34 post L xs x4 kc ks fu) x3 x4 (nI i) p a b kc ks nc cp so pl ce hc ac sc a1 a2 a3 a4 a5 a6 a7 a8 a9 a10 a11 nc cp so pl ce hc ac sc a1 a2 a3 a4 a5 a6 a7 a8 a9 a10 a11 := by
            intro p a b
            obtain ⟨ncv, cpv, sov, plv, cev, hcv, acv, scv, a1v, a2v, a3v, a4v, a5v, a6v, a7v, a8v, a9v, a10v, a11v, hv, k⟩ := dq_mkbuild nc cp so pl ce hc ac sc a1 a2 a3 a4 a5 a6 a7 a8 a9 a10 a11 hB p a b
            obtain ⟨fu, hf⟩ := ih (i + 3) (x3 + 1) (ncv, cpv, sov, plv, cev, hcv, acv, scv, a1v, a2v, a3v, a4v, a5v, a6v, a7v, a8v, a9v, a10v, a11v) (ncv, cpv, sov, plv, cev, hcv, acv, scv, a1v, a2v, a3v, a4v, a5v, a6v, a7v, a8v, a9v, a10v, a11v) (by omega) (by omega) hv (Or.inl rfl)
            exact ⟨fu, k _ (br_f (by decide) (nm_e (nm_r (dq_i3 i) hf)))⟩
          have h68 := dq_l68 nc cp so pl ce hc ac sc a1 a2 a3 a4 a5 a6 a7 a8 a9 a10 a11 (by omega) hL H
          by_cases e0 : x3 = 0
          · obtain ⟨fu, hf⟩ := h68 0
            exact ⟨fu + 1, br_f hx' (br_f h4 (br_t e0 hf))⟩
          · obtain ⟨fu, hf⟩ := h68 ((xs (nI i).toNatClampNeg &&& 255) - (xs (nI i).toNatClampNeg &&& 255) / 11 * 11)
            exact ⟨fu + 1, br_f hx' (br_f h4 (br_f e0 ⟨pk_in i L (by omega), by decide, hf⟩))⟩
        · exact absurd e.1 h4
theorem dq_top {L : Nat} (hL : L ≤ 260) (xs : Nat → Int32) (x4 : Int32) (kc ks : Nat) : ∃ fu, wL_law_34 (fun r => r = 1) L xs x4 kc ks fu 0 1 0 0 0 0 0 (-1) 0 0 (fun _ => 0) (fun _ => 0) (fun _ => 0) (fun _ => 0) (fun _ => 0) (fun _ => 0) (fun _ => 0) (fun _ => 0) (fun _ => 0) (fun _ => 0) (fun _ => 0) 0 0 0 0 0 (-1) 0 0 (fun _ => 0) (fun _ => 0) (fun _ => 0) (fun _ => 0) (fun _ => 0) (fun _ => 0) (fun _ => 0) (fun _ => 0) (fun _ => 0) (fun _ => 0) (fun _ => 0) := by
  obtain ⟨fu, hf⟩ := dq_l34 (post := fun r => r = 1) rfl hL xs x4 kc ks 260 1 0 (0, 0, 0, 0, 0, -1, 0, 0, (fun _ => 0), (fun _ => 0), (fun _ => 0), (fun _ => 0), (fun _ => 0), (fun _ => 0), (fun _ => 0), (fun _ => 0), (fun _ => 0), (fun _ => 0), (fun _ => 0)) _ (by omega) (by omega) ⟨0, ⟨by omega, fun i hi => absurd hi (by omega)⟩, rfl, rfl, rfl, rfl⟩ (Or.inl rfl)
  exact ⟨fu, hf⟩
theorem i_vc (xs : Nat → Int32) (L : Nat) (hL : L ≤ 260) : wpL_law (fun r => r = 1) L xs := by
  refine ⟨11, 1282, by decide, by decide, ?_⟩
  refine ⟨by decide, by decide, by decide, by decide, by decide, by decide, by decide, by decide, by decide, by decide, by decide, by decide, by decide, by decide, by decide, by decide, by decide, by decide, by decide, by decide, by decide, by decide, ?_⟩
  refine ⟨by decide, by decide, 11, 1282, by decide, by decide, ?_⟩
  refine ⟨by decide, by decide, by decide, by decide, by decide, by decide, by decide, by decide, by decide, by decide, by decide, by decide, by decide, by decide, by decide, by decide, by decide, by decide, by decide, by decide, by decide, by decide, ?_⟩
  refine pk_le L 0 (fun _ => nm_e (dq_top hL xs _ _ _)) (fun z => ⟨pk_in 0 L z, nm_e (dq_top hL xs _ _ _)⟩)
end
