section
/-! rows of the kit's rows to paste, as they stand there (a starting text) -/
theorem pk_us {f : Nat → Int32} {k : Nat} {x : Int32} : upd f k x k = x := if_pos rfl
theorem pk_un {f : Nat → Int32} {k j : Nat} {x : Int32} (h : j ≠ k) : upd f k x j = f j := if_neg h
theorem pk_sub {a b : Nat} (h : b ≤ a) : nI a - nI b = nI (a - b) := by
  obtain ⟨c, rfl⟩ : ∃ c, a = c + b := ⟨a - b, by omega⟩
  rw [← nI_add, Int32.add_sub_cancel, Nat.add_sub_cancel]
theorem pk_m1 (n : Nat) : nI (n + 1) + (-1) = nI n := by
  rw [← nI_1, Int32.add_assoc, show (1 : Int32) + (-1) = 0 from rfl, Int32.add_zero]
theorem pk_mul (a b : Nat) : nI a * nI b = nI (a * b) := (Int32.ofNat_mul a b).symm
theorem pk_sub_toInt {a b : Nat} (ha : a < 2 ^ 30) (hb : b < 2 ^ 30) : (nI a - nI b).toInt = (a : Int) - b := by
  rw [Int32.toInt_sub, nI_toInt (by omega), nI_toInt (by omega)]
  exact Int.bmod_eq_of_le (by omega) (by omega)
theorem pk_sneg {a b : Nat} (hb : b < 2 ^ 30) (h : a < b) : nI a - nI b < 0 := by
  rw [Int32.lt_iff_toInt_lt, pk_sub_toInt (by omega) hb, show (0 : Int32).toInt = 0 from by decide]
  omega
theorem pk_ix (x : Int32) {n : Nat} (hn : n < 2 ^ 31) : x < 0 ∨ nI n ≤ x ∨ ∃ j : Nat, j < n ∧ x = nI j := by
  by_cases h : x < 0
  · exact Or.inl h
  · obtain ⟨j, hj, rfl⟩ := nI_of h
    by_cases h2 : j < n
    · exact Or.inr (Or.inr ⟨j, h2, rfl⟩)
    · exact Or.inr (Or.inl (nI_le (by omega) hj))
theorem pk_le {x y : Int32} {A B : Prop} (a b : Nat) (f : a ≤ b → A) (g : b < a → B) (hx : x = nI a := by rfl) (hy : y = nI b := by rfl) (ha : a < 2 ^ 31 := by omega) (hb : b < 2 ^ 31 := by omega) : (x ≤ y → A) ∧ (¬ x ≤ y → B) := by
  subst hx hy
  rw [nI_leI ha hb]
  exact ⟨f, fun z => g (by omega)⟩
theorem pk_lt {x y : Int32} {A B : Prop} (a b : Nat) (f : a < b → A) (g : b ≤ a → B) (hx : x = nI a := by rfl) (hy : y = nI b := by rfl) (ha : a < 2 ^ 31 := by omega) (hb : b < 2 ^ 31 := by omega) : (x < y → A) ∧ (¬ x < y → B) := by
  subst hx hy
  rw [nI_ltI ha hb]
  exact ⟨f, fun z => g (by omega)⟩
theorem pk_eq {x y : Int32} {A B : Prop} (a b : Nat) (f : a = b → A) (g : a ≠ b → B) (hx : x = nI a := by rfl) (hy : y = nI b := by rfl) (ha : a < 2 ^ 31 := by omega) (hb : b < 2 ^ 31 := by omega) : (x = y → A) ∧ (¬ x = y → B) := by
  subst hx hy
  rw [nI_eq ha hb]
  exact ⟨f, g⟩
theorem pk_in {x : Int32} (n N : Nat) (h : n < N) (hx : x = nI n := by rfl) (hN : N < 2 ^ 31 := by omega) : vp_in x N := by
  subst hx
  exact vp_in_nI h hN
theorem pk_cl {x : Int32} (n : Nat) (hx : x = nI n := by rfl) (h : n < 2 ^ 31 := by omega) : x.toNatClampNeg = n := by
  subst hx
  exact nI_clamp h
theorem pk_tn {n : Nat} (h : n < 2 ^ 32) : (nI n).toBitVec.toNat = n := Nat.mod_eq_of_lt h
theorem pk_and (x : Int32) {m : Int32} (k : Nat) (hm : m.toBitVec.toNat = 2 ^ k - 1) : x &&& m = nI (x.toBitVec.toNat % 2 ^ k) := by
  apply Int32.toBitVec_inj.mp
  apply BitVec.eq_of_toNat_eq
  rw [Int32.toBitVec_and, BitVec.toNat_and, hm, Nat.and_two_pow_sub_one_eq_mod]
  show _ = (BitVec.ofNat 32 _).toNat
  rw [BitVec.toNat_ofNat]
  exact (Nat.mod_eq_of_lt (Nat.lt_of_le_of_lt (Nat.mod_le _ _) x.toBitVec.isLt)).symm
theorem pk_andN {n : Nat} (h : n < 2 ^ 32) {m : Int32} (k : Nat) (hm : m.toBitVec.toNat = 2 ^ k - 1) : nI n &&& m = nI (n % 2 ^ k) := by
  rw [pk_and _ k hm, pk_tn h]
theorem pk_andE (x : Int32) {m : Int32} (k : Nat) (hm : m.toBitVec.toNat = 2 ^ k - 1) : ∃ j : Nat, j < 2 ^ k ∧ x &&& m = nI j := ⟨_, Nat.mod_lt _ (Nat.two_pow_pos k), pk_and x k hm⟩
theorem pk_shl (a s : Int32) (k : Nat) (hs : (s.toBitVec.smod 32).toNat = k) : (a <<< s).toBitVec.toNat = a.toBitVec.toNat * 2 ^ k % 2 ^ 32 := by
  show (a.toBitVec <<< (s.toBitVec.smod 32).toNat).toNat = _
  rw [hs, BitVec.toNat_shiftLeft, Nat.shiftLeft_eq]
theorem pk_shlN {n : Nat} (s : Int32) (k : Nat) (hs : (s.toBitVec.smod 32).toNat = k) (h : n * 2 ^ k < 2 ^ 32) : nI n <<< s = nI (n * 2 ^ k) := by
  apply Int32.toBitVec_inj.mp
  apply BitVec.eq_of_toNat_eq
  have hn : n < 2 ^ 32 := Nat.lt_of_le_of_lt (Nat.le_mul_of_pos_right n (Nat.two_pow_pos k)) h
  rw [pk_shl _ _ k hs, pk_tn hn, pk_tn h, Nat.mod_eq_of_lt h]
theorem pk_shr (a s : Int32) (k : Nat) (hs : (s.toBitVec.smod 32).toNat = k) : (a >>> s).toInt = a.toInt >>> k := by
  show (a.toBitVec.sshiftRight (s.toBitVec.smod 32).toNat).toInt = _
  rw [hs, BitVec.toInt_sshiftRight]
  rfl
theorem pk_shrN {n : Nat} (h : n < 2 ^ 31) (s : Int32) (k : Nat) (hs : (s.toBitVec.smod 32).toNat = k) : nI n >>> s = nI (n / 2 ^ k) := by
  apply Int32.toInt_inj.mp
  have h2 : n / 2 ^ k ≤ n := Nat.div_le_self _ _
  rw [pk_shr _ _ k hs, nI_toInt h, nI_toInt (by omega), Int.shiftRight_eq_div_pow]
  rfl
theorem pk_least (P : Nat → Prop) (h : ∃ k, P k) : ∃ k, P k ∧ ∀ j, j < k → ¬ P j := by
  obtain ⟨k, hk⟩ := h
  induction k using Nat.strongRecOn with
  | ind k ih =>
    by_cases e : ∃ j, j < k ∧ P j
    · obtain ⟨j, hj, pj⟩ := e
      exact ih j hj pj
    · exact ⟨k, hk, fun j hj pj => e ⟨j, hj, pj⟩⟩
theorem ek_if {c d A B : Prop} (e : c ↔ d) (f : d → A) (g : ¬ d → B) : (c → A) ∧ (¬ c → B) :=
  ⟨fun z => f (e.mp z), fun z => g (fun y => z (e.mpr y))⟩
theorem ek_v {α : Sort _} {P : α → Prop} {a b : α} (e : a = b) (h : P b) : P a := e ▸ h
theorem pk_mu {x : Int32} {L : Nat} (h0 : ¬ x < 0) (h : ¬ nI L ≤ x) (hL : L < 2 ^ 31) : ∃ j : Nat, j < L ∧ x = nI j ∧ x + 1 = nI (j + 1) ∧ x.toNatClampNeg = j ∧ L - (x + 1).toNatClampNeg < L - x.toNatClampNeg := by
  obtain ⟨j, hj, rfl⟩ := nI_of h0
  have hl : j < L := Nat.not_le.mp fun q => h (nI_le q hj)
  refine ⟨j, hl, rfl, nI_1 j, nI_clamp hj, ?_⟩
  rw [nI_1, nI_clamp (by omega), nI_clamp hj]
  omega
theorem sb_at {P : Int32 → Prop} {x y : Int32} (e : x = y) (h : P y) : P x := e ▸ h
def bt (x : Int32) (i : Nat) : Bool := x.toBitVec.getLsbD i
theorem b_ext {x y : Int32} (h : ∀ i, i < 32 → bt x i = bt y i) : x = y := Int32.toBitVec_inj.mp (BitVec.eq_of_getLsbD_eq (fun i hi => h i hi))
theorem b_or (x y : Int32) (i : Nat) : bt (x ||| y) i = (bt x i || bt y i) := by unfold bt; rw [Int32.toBitVec_or, BitVec.getLsbD_or]
theorem b_and (x y : Int32) (i : Nat) : bt (x &&& y) i = (bt x i && bt y i) := by unfold bt; rw [Int32.toBitVec_and, BitVec.getLsbD_and]
theorem b_xor (x y : Int32) (i : Nat) : bt (x ^^^ y) i = (bt x i ^^ bt y i) := by unfold bt; rw [Int32.toBitVec_xor, BitVec.getLsbD_xor]
theorem b_big {x : Int32} {i : Nat} (h : 32 ≤ i) : bt x i = false := BitVec.getLsbD_of_ge _ _ h
theorem b_m1 : ∀ i, i < 32 → bt (-1) i = true := by decide +kernel
theorem b_0 (i : Nat) : bt 0 i = false := BitVec.getLsbD_zero
theorem s_l : ∀ n, n < 32 → ((nI n &&& 31).toBitVec.smod 32).toNat = n := by decide +kernel
theorem b_shl (n : Nat) (hn : n < 32) (x : Int32) {i : Nat} (hi : i < 32) : bt (x <<< (nI n &&& 31)) i = (decide (n ≤ i) && bt x (i - n)) := by
  unfold bt
  rw [Int32.toBitVec_shiftLeft]
  show (x.toBitVec <<< ((nI n &&& 31).toBitVec.smod 32).toNat).getLsbD i = _
  rw [s_l n hn, BitVec.getLsbD_shiftLeft]
  rcases Nat.lt_or_ge i n with h | h
  · simp [h, Nat.not_le.mpr h]
  · simp [hi, h, Nat.not_lt.mpr h]
theorem nx_and (a b : Nat) : nI a &&& nI b = nI (a &&& b) := by
  apply Int32.toBitVec_inj.1
  show BitVec.ofNat 32 a &&& BitVec.ofNat 32 b = BitVec.ofNat 32 (a &&& b)
  apply BitVec.eq_of_getLsbD_eq
  intro i hi
  simp [hi]
theorem nx_xor (a b : Nat) : nI a ^^^ nI b = nI (a ^^^ b) := by
  apply Int32.toBitVec_inj.1
  show BitVec.ofNat 32 a ^^^ BitVec.ofNat 32 b = BitVec.ofNat 32 (a ^^^ b)
  apply BitVec.eq_of_getLsbD_eq
  intro i hi
  simp [hi]
end
section
/-! numbers, bits, wrapping, first hits -/
theorem cb_n1 {n : Nat} (h : n < 2 ^ 31) : ¬ nI n = -1 := by
  intro e
  have e1 := congrArg Int32.toInt e
  rw [nI_toInt h, show (-1 : Int32).toInt = -1 from by decide] at e1
  omega
theorem cb_m1 : (-1 : Int32) < 0 := by decide
theorem cb_m1le : ¬ (0 : Int32) ≤ -1 := by decide
theorem cb_t {c A B : Prop} (h : c) (a : A) : (c → A) ∧ (¬ c → B) := ⟨fun _ => a, fun z => absurd h z⟩
def cb_oi : Option Nat → Int32
  | none => -1
  | some i => nI i
def cb_sm (o : Option Nat) : Prop := ∀ i, o = some i → i < 2 ^ 31
theorem cb_sm_n : cb_sm none := fun _ e => (nomatch e)
theorem cb_sm_s {i : Nat} (h : i < 2 ^ 31) : cb_sm (some i) := fun _ e => Option.some.inj e ▸ h
theorem cb_oi_n {o : Option Nat} (h : cb_sm o) : cb_oi o = -1 ↔ o = none := by
  cases o with
  | none => exact ⟨fun _ => rfl, fun _ => rfl⟩
  | some i => exact ⟨fun e => absurd e (cb_n1 (h i rfl)), fun e => (nomatch e)⟩
theorem cb_oi_s {o : Option Nat} {i : Nat} (h : cb_sm o) (hi : i < 2 ^ 31) : cb_oi o = nI i ↔ o = some i := by
  cases o with
  | none => exact ⟨fun e => absurd e.symm (cb_n1 hi), fun e => (nomatch e)⟩
  | some k =>
    constructor
    · intro e
      exact congrArg some ((nI_eq (h k rfl) hi).mp e)
    · intro e
      cases e
      rfl
theorem cb_oi_neg {o : Option Nat} (h : cb_sm o) : cb_oi o < 0 ↔ o = none := by
  cases o with
  | none => exact ⟨fun _ => rfl, fun _ => cb_m1⟩
  | some i => exact ⟨fun e => absurd e (nI_pos (h i rfl)), fun e => (nomatch e)⟩
theorem cb_oi_nn {o : Option Nat} (h : cb_sm o) : 0 ≤ cb_oi o ↔ ¬ o = none := by
  cases o with
  | none => exact ⟨fun e => absurd e cb_m1le, fun e => absurd rfl e⟩
  | some i => exact ⟨fun _ e => (nomatch e), fun _ => nI_pos' (h i rfl)⟩
theorem cb_oi_inj {o o' : Option Nat} (h : cb_sm o) (h' : cb_sm o') : cb_oi o = cb_oi o' ↔ o = o' := by
  cases o' with
  | none => exact cb_oi_n h
  | some i => exact cb_oi_s h (h' i rfl)
/-! bits -/
theorem cb_b1 : ∀ k, k < 32 → bt 1 k = decide (k = 0) := by decide +kernel
theorem cb_sh {j b : Nat} (hj : j < 32) (hb : b < 32) : bt ((1 : Int32) <<< (nI j &&& 31)) b = decide (b = j) := by
  rw [b_shl j hj _ hb, cb_b1 _ (by omega)]
  by_cases h : b = j
  · subst h
    simp
  · rcases Nat.lt_or_ge b j with h2 | h2
    · rw [decide_eq_false (show ¬ j ≤ b by omega), decide_eq_false h]
      rfl
    · rw [decide_eq_false (show ¬ b - j = 0 by omega), decide_eq_false h, Bool.and_false]
theorem cb_bit (x : Int32) {j : Nat} (hj : j < 32) : (x &&& ((1 : Int32) <<< (nI j &&& 31))) = 0 ↔ bt x j = false := by
  constructor
  · intro e
    have e1 : bt (x &&& ((1 : Int32) <<< (nI j &&& 31))) j = bt 0 j := by rw [e]
    rw [b_and, cb_sh hj hj, b_0, decide_eq_true rfl, Bool.and_true] at e1
    exact e1
  · intro e
    apply b_ext
    intro b hb
    rw [b_and, cb_sh hj hb, b_0]
    by_cases h : b = j
    · subst h
      rw [e]
      rfl
    · rw [decide_eq_false h, Bool.and_false]
theorem cb_not (x : Int32) {b : Nat} (hb : b < 32) : bt (x ^^^ (-1)) b = !bt x b := by
  rw [b_xor, b_m1 b hb]
  cases bt x b <;> rfl
theorem cb_zero {x : Int32} : x = 0 ↔ ∀ b, b < 32 → bt x b = false := by
  constructor
  · intro e b _
    rw [e, b_0]
  · intro h
    apply b_ext
    intro b hb
    rw [h b hb, b_0]
theorem cb_shr {c : Nat} (h : c < 2 ^ 31) : nI c >>> ((1 : Int32) &&& 31) = nI (c / 2) := pk_shrN h _ 1 (by decide)
theorem cb_odd {c : Nat} (h : c < 2 ^ 31) : (nI c &&& 1) = 0 ↔ c % 2 = 0 := by
  have e : nI c &&& 1 = nI (c % 2) := pk_andN (n := c) (m := 1) (by omega) 1 (by decide)
  rw [e, ← nI_0, nI_eq (by omega) (by omega)]
theorem cb_qi (i v p : Nat) : (((nI i * 9) + nI v) * 2) + nI p = nI ((i * 9 + v) * 2 + p) := by
  rw [show (9 : Int32) = nI 9 from rfl, show (2 : Int32) = nI 2 from rfl, pk_mul, nI_add, pk_mul, nI_add]
theorem cb_i8 (p j : Nat) : (nI p * 8) + nI j = nI (p * 8 + j) := by
  rw [show (8 : Int32) = nI 8 from rfl, pk_mul, nI_add]
theorem cb_i2 (p j : Nat) : (nI p * 2) + nI j = nI (p * 2 + j) := by
  rw [show (2 : Int32) = nI 2 from rfl, pk_mul, nI_add]
theorem cb_xor4 : ∀ a, a < 4 → ∀ k, k < 2 → a ^^^ k < 4 ∧ (a ^^^ k) ^^^ k = a := by decide
theorem cb_nb0 : vp_nar .boolean 0 = 0 := rfl
theorem cb_nb1 : vp_nar .boolean 1 = 1 := by decide
/-! the wrapped place and the first hit from a place on -/
def cb_wr (N x : Nat) : Nat := if x < N then x else x - N
theorem cb_wr_lt {N x : Nat} (h : x < 2 * N) : cb_wr N x < N := by
  unfold cb_wr
  split <;> omega
theorem cb_wr_id {N x : Nat} (h : x < N) : cb_wr N x = x := if_pos h
theorem cb_wr_next {N a k : Nat} (ha : a < N) (hk : k < N) : cb_wr N (cb_wr N (a + k) + 1) = cb_wr N (a + (k + 1)) := by
  unfold cb_wr
  repeat' split
  all_goals omega
theorem cb_wr_cov {N a j : Nat} (ha : a < N) (hj : j < N) : ∃ k, k < N ∧ cb_wr N (a + k) = j := by
  by_cases h : a ≤ j
  · refine ⟨j - a, by omega, ?_⟩
    rw [cb_wr_id (by omega)]
    omega
  · refine ⟨j + N - a, by omega, ?_⟩
    rw [cb_wr, if_neg (by omega)]
    omega
theorem cb_wr_inj {N a k k' : Nat} (ha : a < N) (hk : k < N) (hk' : k' < N) (h : cb_wr N (a + k) = cb_wr N (a + k')) : k = k' := by
  unfold cb_wr at h
  split at h <;> split at h <;> omega
def cb_ff (P : Nat → Bool) (N a : Nat) : Nat → Nat → Option Nat
  | 0, _ => none
  | d + 1, k => if P (cb_wr N (a + k)) = true then some (cb_wr N (a + k)) else cb_ff P N a d (k + 1)
theorem cb_ff_t {P : Nat → Bool} {N a d k : Nat} (h : P (cb_wr N (a + k)) = true) : cb_ff P N a (d + 1) k = some (cb_wr N (a + k)) := by
  rw [cb_ff, if_pos h]
theorem cb_ff_f {P : Nat → Bool} {N a d k : Nat} (h : P (cb_wr N (a + k)) = false) : cb_ff P N a (d + 1) k = cb_ff P N a d (k + 1) := by
  rw [cb_ff, if_neg (by rw [h]; decide)]
theorem cb_ff_some {P : Nat → Bool} {N a i : Nat} : ∀ (d k : Nat), cb_ff P N a d k = some i → P i = true ∧ ∃ k', k ≤ k' ∧ k' < k + d ∧ i = cb_wr N (a + k') := by
  intro d
  induction d with
  | zero => intro k h; exact nomatch h
  | succ d ih =>
    intro k h
    cases hp : P (cb_wr N (a + k)) with
    | true =>
      rw [cb_ff_t hp] at h
      have e := Option.some.inj h
      exact ⟨e ▸ hp, k, by omega, by omega, e.symm⟩
    | false =>
      rw [cb_ff_f hp] at h
      obtain ⟨h1, k', h2, h3, h4⟩ := ih (k + 1) h
      exact ⟨h1, k', by omega, by omega, h4⟩
theorem cb_ff_none {P : Nat → Bool} {N a : Nat} : ∀ (d k : Nat), cb_ff P N a d k = none → ∀ k', k ≤ k' → k' < k + d → P (cb_wr N (a + k')) = false := by
  intro d
  induction d with
  | zero => intro k h k' h1 h2; omega
  | succ d ih =>
    intro k h k' h1 h2
    cases hp : P (cb_wr N (a + k)) with
    | true =>
      rw [cb_ff_t hp] at h
      exact nomatch h
    | false =>
      rw [cb_ff_f hp] at h
      by_cases e : k' = k
      · rw [e]
        exact hp
      · exact ih (k + 1) h k' (by omega) (by omega)
theorem cb_ff_lt {P : Nat → Bool} {N a i : Nat} (ha : a < N) (h : cb_ff P N a N 0 = some i) : i < N ∧ P i = true := by
  obtain ⟨h1, k', _, h3, h4⟩ := cb_ff_some N 0 h
  exact ⟨h4 ▸ cb_wr_lt (by omega), h1⟩
theorem cb_ff_all {P : Nat → Bool} {N a : Nat} (ha : a < N) (h : cb_ff P N a N 0 = none) {j : Nat} (hj : j < N) : P j = false := by
  obtain ⟨k, hk, e⟩ := cb_wr_cov ha hj
  exact e ▸ cb_ff_none N 0 h k (by omega) (by omega)
theorem cb_ff_sm {P : Nat → Bool} {N a : Nat} (ha : a < N) (hN : N ≤ 8) : cb_sm (cb_ff P N a N 0) := fun i e => by
  have h := (cb_ff_lt ha e).1
  omega
theorem cb_ff_sm' {P : Nat → Bool} {N a : Nat} (ha : a < N) (hN : N ≤ 8) {d k : Nat} (hd : k + d = N) : cb_sm (cb_ff P N a d k) := fun i e => by
  obtain ⟨_, k', _, h3, h4⟩ := cb_ff_some d k e
  have h := cb_wr_lt (N := N) (x := a + k') (by omega)
  omega
/-! counting -/
def cb_cnt (P : Nat → Bool) : Nat → Nat
  | 0 => 0
  | n + 1 => cb_cnt P n + (if P n = true then 1 else 0)
theorem cb_cnt_le (P : Nat → Bool) : ∀ n, cb_cnt P n ≤ n := by
  intro n
  induction n with
  | zero => exact Nat.le_refl _
  | succ n ih =>
    rw [cb_cnt]
    split <;> omega
theorem cb_cnt_add {P A B : Nat → Bool} : ∀ n, (∀ j, j < n → P j = (A j || B j) ∧ ¬ (A j = true ∧ B j = true)) → cb_cnt P n = cb_cnt A n + cb_cnt B n := by
  intro n
  induction n with
  | zero => intro _; rfl
  | succ n ih =>
    intro h
    have e := ih (fun j hj => h j (by omega))
    obtain ⟨h1, h2⟩ := h n (by omega)
    rw [cb_cnt, cb_cnt, cb_cnt, e, h1]
    cases hA : A n <;> cases hB : B n
    · simp
    · simp
      omega
    · simp
      omega
    · exact absurd ⟨hA, hB⟩ h2
theorem cb_cnt_eq {P A : Nat → Bool} : ∀ n, (∀ j, j < n → P j = A j) → cb_cnt P n = cb_cnt A n := by
  intro n
  induction n with
  | zero => intro _; rfl
  | succ n ih =>
    intro h
    rw [cb_cnt, cb_cnt, ih (fun j hj => h j (by omega)), h n (by omega)]
theorem cb_cnt_f {P : Nat → Bool} : ∀ n, (∀ j, j < n → P j = false) → cb_cnt P n = 0 := by
  intro n
  induction n with
  | zero => intro _; rfl
  | succ n ih =>
    intro h
    rw [cb_cnt, ih (fun j hj => h j (by omega)), h n (by omega)]
    rfl
end
section
/-! the matching, pure: (kind of each input, input of each output, round of each output) -/
abbrev CbS : Type := (Nat → Option Nat) × (Nat → Option Nat) × (Nat → Option Nat)
def cb_up (f : Nat → Option Nat) (k : Nat) (x : Option Nat) : Nat → Option Nat := fun j => if j = k then x else f j
theorem cb_up_s {f : Nat → Option Nat} {k : Nat} {x : Option Nat} : cb_up f k x k = x := if_pos rfl
theorem cb_up_n {f : Nat → Option Nat} {k j : Nat} {x : Option Nat} (h : j ≠ k) : cb_up f k x j = f j := if_neg h
def cb_rq (N : Nat) (Q : Nat → Nat → Nat → Bool) (Rs : Nat → Nat → Int32) (cls : Nat → Option Nat) (j c i : Nat) : Bool :=
  if c % 2 = 0 then decide (cls i = none) && Q i j (c / 2)
  else (decide (cls i = none) || decide (cls i = some c)) && (Q i N (c / 2) && bt (Rs i (c / 2)) j)
theorem cb_rq_0 {N : Nat} {Q : Nat → Nat → Nat → Bool} {Rs : Nat → Nat → Int32} {cls : Nat → Option Nat} {j c i : Nat} (h : c % 2 = 0) : cb_rq N Q Rs cls j c i = (decide (cls i = none) && Q i j (c / 2)) := by
  rw [cb_rq, if_pos h]
theorem cb_rq_1 {N : Nat} {Q : Nat → Nat → Nat → Bool} {Rs : Nat → Nat → Int32} {cls : Nat → Option Nat} {j c i : Nat} (h : ¬ c % 2 = 0) : cb_rq N Q Rs cls j c i = ((decide (cls i = none) || decide (cls i = some c)) && (Q i N (c / 2) && bt (Rs i (c / 2)) j)) := by
  rw [cb_rq, if_neg h]
def cb_sp (g : Nat → Nat → Nat) (m : Nat → Nat) (j c : Nat) : Nat := if c % 2 = 0 then g j (c / 2) else m (c / 2)
def cb_PB (N : Nat) (g a : Nat → Nat → Nat) (m : Nat → Nat) : Prop := ∀ j p, j < N → p < 2 → g j p < N ∧ a j p < N ∧ m p < N
theorem cb_sp_lt {N : Nat} {g a : Nat → Nat → Nat} {m : Nat → Nat} (h : cb_PB N g a m) {j c : Nat} (hj : j < N) (hc : c < 4) : cb_sp g m j c < N := by
  have h1 := h j (c / 2) hj (by omega)
  unfold cb_sp
  split
  · exact h1.1
  · exact h1.2.2
def cb_fr (N : Nat) (Q : Nat → Nat → Nat → Bool) (Rs : Nat → Nat → Int32) (g : Nat → Nat → Nat) (m : Nat → Nat) (cls : Nat → Option Nat) (j c : Nat) : Option Nat :=
  cb_ff (cb_rq N Q Rs cls j c) N (cb_sp g m j c) N 0
def cb_go (fr : Nat → Option Nat) (kd : Nat) : Nat → Nat → Option (Nat × Nat)
  | 0, _ => none
  | d + 1, r => if fr (r ^^^ kd) = none then cb_go fr kd d (r + 1) else (fr (r ^^^ kd)).map (fun i => (i, r ^^^ kd))
theorem cb_go_n {fr : Nat → Option Nat} {kd d r : Nat} (h : fr (r ^^^ kd) = none) : cb_go fr kd (d + 1) r = cb_go fr kd d (r + 1) := by
  rw [cb_go, if_pos h]
theorem cb_go_s {fr : Nat → Option Nat} {kd d r i : Nat} (h : fr (r ^^^ kd) = some i) : cb_go fr kd (d + 1) r = some (i, r ^^^ kd) := by
  rw [cb_go, if_neg (by rw [h]; exact fun e => (nomatch e)), h]
  rfl
theorem cb_go_ok {fr : Nat → Option Nat} {kd i c : Nat} (hk : kd < 2) : ∀ d r, r + d = 4 → cb_go fr kd d r = some (i, c) → c < 4 ∧ fr c = some i := by
  intro d
  induction d with
  | zero => intro r _ h; exact nomatch h
  | succ d ih =>
    intro r hr h
    cases hf : fr (r ^^^ kd) with
    | none =>
      rw [cb_go_n hf] at h
      exact ih (r + 1) (by omega) h
    | some i' =>
      rw [cb_go_s hf] at h
      have e := Option.some.inj h
      have e1 : i' = i := congrArg Prod.fst e
      have e2 : r ^^^ kd = c := congrArg Prod.snd e
      subst e1 e2
      exact ⟨(cb_xor4 r (by omega) kd hk).1, hf⟩
def cb_G (N : Nat) (Q : Nat → Nat → Nat → Bool) (Rs : Nat → Nat → Int32) (g : Nat → Nat → Nat) (m : Nat → Nat) (bl : Nat → Int32) (kd : Nat) (s : CbS) (j : Nat) : Option (Nat × Nat) :=
  if s.2.1 j = none ∧ bl j = 0 then cb_go (cb_fr N Q Rs g m s.1 j) kd 4 0 else none
def cb_Gd (N : Nat) (Q : Nat → Nat → Nat → Bool) (Rs : Nat → Nat → Int32) (s : CbS) (G : Nat → Option (Nat × Nat)) : Prop :=
  ∀ j i c, j < N → G j = some (i, c) → i < N ∧ c < 4 ∧ cb_rq N Q Rs s.1 j c i = true ∧ s.2.1 j = none
theorem cb_G_ok {N : Nat} {Q : Nat → Nat → Nat → Bool} {Rs : Nat → Nat → Int32} {g a : Nat → Nat → Nat} {m : Nat → Nat} {bl : Nat → Int32} {kd : Nat} {s : CbS} (hB : cb_PB N g a m) (hk : kd < 2) : cb_Gd N Q Rs s (cb_G N Q Rs g m bl kd s) := by
  intro j i c hj h
  unfold cb_G at h
  split at h
  · rename_i hc
    obtain ⟨h1, h2⟩ := cb_go_ok hk 4 0 rfl h
    obtain ⟨h3, h4⟩ := cb_ff_lt (cb_sp_lt hB hj h1) h2
    exact ⟨h3, h1, h4, hc.1⟩
  · exact nomatch h
def cb_o1 : Option (Nat × Nat) → Int32
  | none => -1
  | some q => nI q.1
def cb_o2 : Option (Nat × Nat) → Int32
  | none => -1
  | some q => nI q.2
def cb_gsm (G : Nat → Option (Nat × Nat)) (N : Nat) : Prop := ∀ j i c, j < N → G j = some (i, c) → i < N ∧ c < 4
theorem cb_o1_eq {G : Nat → Option (Nat × Nat)} {N j i : Nat} (hN : N ≤ 8) (h : cb_gsm G N) (hj : j < N) (hi : i < N) : cb_o1 (G j) = nI i ↔ ∃ c, c < 4 ∧ G j = some (i, c) := by
  cases hG : G j with
  | none => exact ⟨fun e => absurd e.symm (cb_n1 (by omega)), fun ⟨_, _, e⟩ => (nomatch e)⟩
  | some q =>
    have hq := h j q.1 q.2 hj hG
    constructor
    · intro e
      have e1 : q.1 = i := (nI_eq (by omega) (by omega)).mp e
      exact ⟨q.2, hq.2, by rw [← e1]⟩
    · intro ⟨c, _, e⟩
      cases e
      rfl
theorem cb_o2_eq {G : Nat → Option (Nat × Nat)} {j i c c' : Nat} (h : G j = some (i, c')) (hc : c < 2 ^ 31) (hc' : c' < 2 ^ 31) : cb_o2 (G j) = nI c ↔ c' = c := by
  rw [h]
  exact nI_eq hc' hc
/-! the best rank granted to an input -/
def cb_bs (o : Option (Nat × Nat)) (kd i b : Nat) : Nat := match o with
  | none => b
  | some q => if q.1 = i then (if b ≤ q.2 ^^^ kd then b else q.2 ^^^ kd) else b
def cb_bm (G : Nat → Option (Nat × Nat)) (kd i : Nat) : Nat → Nat → Nat → Nat
  | 0, _, b => b
  | d + 1, j, b => cb_bm G kd i d (j + 1) (cb_bs (G j) kd i b)
def cb_Best (G : Nat → Option (Nat × Nat)) (kd i j b : Nat) : Prop :=
  b ≤ 4 ∧ (∀ j', j' < j → ∀ c, G j' = some (i, c) → b ≤ c ^^^ kd) ∧ (b < 4 → ∃ j', j' < j ∧ ∃ c, c < 4 ∧ G j' = some (i, c) ∧ c ^^^ kd = b)
theorem cb_bs_other {o : Option (Nat × Nat)} {kd i b : Nat} (h : ∀ c, o ≠ some (i, c)) : cb_bs o kd i b = b := by
  cases o with
  | none => rfl
  | some q =>
    show (if q.1 = i then _ else b) = b
    rw [if_neg]
    intro e
    exact h q.2 (by rw [← e])
theorem cb_bs_this {kd i c b : Nat} : cb_bs (some (i, c)) kd i b = if b ≤ c ^^^ kd then b else c ^^^ kd := by
  show (if i = i then _ else b) = _
  rw [if_pos rfl]
theorem cb_Best_s {G : Nat → Option (Nat × Nat)} {N kd i j b : Nat} (hG : cb_gsm G N) (hk : kd < 2) (hj : j < N) (h : cb_Best G kd i j b) : cb_Best G kd i (j + 1) (cb_bs (G j) kd i b) := by
  obtain ⟨h1, h2, h3⟩ := h
  by_cases e : ∃ c, G j = some (i, c)
  · obtain ⟨c, e⟩ := e
    have hc := (hG j i c hj e).2
    have hx := cb_xor4 c hc kd hk
    rw [e, cb_bs_this]
    by_cases hb : b ≤ c ^^^ kd
    · rw [if_pos hb]
      refine ⟨h1, fun j' hj' c' e' => ?_, fun hb4 => ?_⟩
      · by_cases ej : j' = j
        · rw [ej, e] at e'
          cases e'
          exact hb
        · exact h2 j' (by omega) c' e'
      · obtain ⟨j', hj', r⟩ := h3 hb4
        exact ⟨j', by omega, r⟩
    · rw [if_neg hb]
      refine ⟨by omega, fun j' hj' c' e' => ?_, fun _ => ⟨j, by omega, c, hc, e, rfl⟩⟩
      by_cases ej : j' = j
      · rw [ej, e] at e'
        cases e'
        exact Nat.le_refl _
      · have := h2 j' (by omega) c' e'
        omega
  · rw [cb_bs_other (fun c z => e ⟨c, z⟩)]
    refine ⟨h1, fun j' hj' c' e' => ?_, fun hb4 => ?_⟩
    · by_cases ej : j' = j
      · rw [ej] at e'
        exact absurd ⟨c', e'⟩ e
      · exact h2 j' (by omega) c' e'
    · obtain ⟨j', hj', r⟩ := h3 hb4
      exact ⟨j', by omega, r⟩
theorem cb_Best_m {G : Nat → Option (Nat × Nat)} {N kd i : Nat} (hG : cb_gsm G N) (hk : kd < 2) : ∀ d j b, j + d = N → cb_Best G kd i j b → cb_Best G kd i N (cb_bm G kd i d j b) := by
  intro d
  induction d with
  | zero =>
    intro j b hj h
    have e : j = N := by omega
    exact e ▸ h
  | succ d ih =>
    intro j b hj h
    exact ih (j + 1) _ (by omega) (cb_Best_s hG hk (by omega) h)
def cb_bst (G : Nat → Option (Nat × Nat)) (kd N i : Nat) : Nat := cb_bm G kd i N 0 4
theorem cb_bst_ok {G : Nat → Option (Nat × Nat)} {N kd i : Nat} (hG : cb_gsm G N) (hk : kd < 2) : cb_Best G kd i N (cb_bst G kd N i) :=
  cb_Best_m hG hk N 0 4 (by omega) ⟨Nat.le_refl _, fun j' h => absurd h (Nat.not_lt_zero j'), fun h => absurd h (Nat.lt_irrefl 4)⟩
/-! one input accepts -/
def cb_mt (G : Nat → Option (Nat × Nat)) (r i c : Nat) (s : CbS) : CbS :=
  (cb_up s.1 i (some c), (fun j => if G j = some (i, c) then some i else s.2.1 j), (fun j => if G j = some (i, c) then some r else s.2.2 j))
def cb_u1 (r i c j : Nat) (s : CbS) : CbS := (cb_up s.1 i (some c), cb_up s.2.1 j (some i), cb_up s.2.2 j (some r))
def cb_uf (N : Nat) (G : Nat → Option (Nat × Nat)) (a : Nat → Nat → Nat) (i c : Nat) : Option Nat := cb_ff (fun j => decide (G j = some (i, c))) N (a i (c / 2)) N 0
def cb_un (N : Nat) (G : Nat → Option (Nat × Nat)) (a : Nat → Nat → Nat) (r i c : Nat) (s : CbS) : CbS := match cb_uf N G a i c with
  | none => s
  | some j => cb_u1 r i c j s
def cb_ac (N kd : Nat) (G : Nat → Option (Nat × Nat)) (a : Nat → Nat → Nat) (r i : Nat) (s : CbS) : CbS :=
  if cb_bst G kd N i = 4 then s
  else if (cb_bst G kd N i ^^^ kd) % 2 = 0 then cb_un N G a r i (cb_bst G kd N i ^^^ kd) s
  else cb_mt G r i (cb_bst G kd N i ^^^ kd) s
def cb_acs (N kd : Nat) (G : Nat → Option (Nat × Nat)) (a : Nat → Nat → Nat) (r : Nat) : Nat → CbS → CbS
  | 0, s => s
  | k + 1, s => cb_ac N kd G a r k (cb_acs N kd G a r k s)
def cb_ms (N kd : Nat) (Gf : CbS → Nat → Option (Nat × Nat)) (a : Nat → Nat → Nat) : Nat → CbS
  | 0 => (fun _ => none, fun _ => none, fun _ => none)
  | r + 1 => cb_acs N kd (Gf (cb_ms N kd Gf a r)) a r N (cb_ms N kd Gf a r)
/-- what a match rests on: its queue has a head, and a multicast head wants the output -/
def cb_ok (N : Nat) (Q : Nat → Nat → Nat → Bool) (Rs : Nat → Nat → Int32) (j c i : Nat) : Prop :=
  (c % 2 = 0 → Q i j (c / 2) = true) ∧ (¬ c % 2 = 0 → Q i N (c / 2) = true ∧ bt (Rs i (c / 2)) j = true)
def cb_I (N : Nat) (Q : Nat → Nat → Nat → Bool) (Rs : Nat → Nat → Int32) (s : CbS) : Prop :=
  (∀ i c, i < N → s.1 i = some c → c < 4 ∧ ∃ j, j < N ∧ s.2.1 j = some i) ∧
  (∀ j i, j < N → s.2.1 j = some i → i < N ∧ ∃ c, s.1 i = some c ∧ cb_ok N Q Rs j c i) ∧
  (∀ i c j j', i < N → s.1 i = some c → c % 2 = 0 → j < N → j' < N → s.2.1 j = some i → s.2.1 j' = some i → j = j') ∧
  (∀ j, j < N → cb_sm (s.2.2 j))
def cb_D (N : Nat) (G : Nat → Option (Nat × Nat)) (s0 : CbS) (i : Nat) (s : CbS) : Prop :=
  (∀ i', i ≤ i' → s.1 i' = s0.1 i') ∧ (∀ j, j < N → s.2.1 j = s0.2.1 j ∨ ∃ i' c, i' < i ∧ G j = some (i', c))
theorem cb_rq_ok {N : Nat} {Q : Nat → Nat → Nat → Bool} {Rs : Nat → Nat → Int32} {cls : Nat → Option Nat} {j c i : Nat} (h : cb_rq N Q Rs cls j c i = true) : cb_ok N Q Rs j c i ∧ (cls i = none ∨ (¬ c % 2 = 0 ∧ cls i = some c)) := by
  by_cases hc : c % 2 = 0
  · rw [cb_rq_0 hc, Bool.and_eq_true, decide_eq_true_eq] at h
    exact ⟨⟨fun _ => h.2, fun z => absurd hc z⟩, Or.inl h.1⟩
  · rw [cb_rq_1 hc, Bool.and_eq_true, Bool.and_eq_true, Bool.or_eq_true, decide_eq_true_eq, decide_eq_true_eq] at h
    refine ⟨⟨fun z => absurd z hc, fun _ => h.2⟩, ?_⟩
    rcases h.1 with h1 | h1
    · exact Or.inl h1
    · exact Or.inr ⟨hc, h1⟩
theorem cb_free {N : Nat} {Q : Nat → Nat → Nat → Bool} {Rs : Nat → Nat → Int32} {G : Nat → Option (Nat × Nat)} {s0 s : CbS} {i c j : Nat} (hG : cb_Gd N Q Rs s0 G) (hD : cb_D N G s0 i s) (hj : j < N) (h : G j = some (i, c)) : s.2.1 j = none := by
  rcases hD.2 j hj with e | ⟨i', c', h1, h2⟩
  · rw [e]
    exact (hG j i c hj h).2.2.2
  · rw [h] at h2
    cases h2
    omega
theorem cb_gsm_of {N : Nat} {Q : Nat → Nat → Nat → Bool} {Rs : Nat → Nat → Int32} {G : Nat → Option (Nat × Nat)} {s0 : CbS} (hG : cb_Gd N Q Rs s0 G) : cb_gsm G N :=
  fun j i c hj h => ⟨(hG j i c hj h).1, (hG j i c hj h).2.1⟩
theorem cb_mt_inv {N : Nat} {Q : Nat → Nat → Nat → Bool} {Rs : Nat → Nat → Int32} {G : Nat → Option (Nat × Nat)} {s0 s : CbS} {r i c j0 : Nat} (hr : r < 2 ^ 31) (hG : cb_Gd N Q Rs s0 G) (hI : cb_I N Q Rs s) (hD : cb_D N G s0 i s) (hi : i < N) (hc4 : c < 4) (hc : ¬ c % 2 = 0) (hj0 : j0 < N) (h0 : G j0 = some (i, c)) :
    cb_I N Q Rs (cb_mt G r i c s) ∧ cb_D N G s0 (i + 1) (cb_mt G r i c s) := by
  obtain ⟨I1, I2, I3, I4⟩ := hI
  have hf := fun (j : Nat) (hj : j < N) (h : G j = some (i, c)) => cb_free hG hD hj h
  have hrq := cb_rq_ok (hG j0 i c hj0 h0).2.2.1
  have hcls : s.1 i = none ∨ s.1 i = some c := by
    rw [hD.1 i (Nat.le_refl _)]
    rcases hrq.2 with h | h
    · exact Or.inl h
    · exact Or.inr h.2
  refine ⟨⟨?_, ?_, ?_, ?_⟩, ?_, ?_⟩
  · intro i' c' hi' e
    by_cases h : i' = i
    · subst h
      have e1 : cb_up s.1 i' (some c) i' = some c' := e
      rw [cb_up_s] at e1
      cases e1
      exact ⟨hc4, j0, hj0, if_pos h0⟩
    · have e1 : cb_up s.1 i (some c) i' = some c' := e
      rw [cb_up_n h] at e1
      obtain ⟨h1, j, h2, h3⟩ := I1 i' c' hi' e1
      refine ⟨h1, j, h2, ?_⟩
      show (if G j = some (i, c) then some i else s.2.1 j) = some i'
      rw [if_neg, h3]
      intro z
      rw [hf j h2 z] at h3
      exact nomatch h3
  · intro j i' hj e
    have e1 : (if G j = some (i, c) then some i else s.2.1 j) = some i' := e
    by_cases h : G j = some (i, c)
    · rw [if_pos h] at e1
      cases e1
      exact ⟨hi, c, cb_up_s, (cb_rq_ok (hG j i c hj h).2.2.1).1⟩
    · rw [if_neg h] at e1
      obtain ⟨h1, c', h2, h3⟩ := I2 j i' hj e1
      refine ⟨h1, ?_⟩
      by_cases hii : i' = i
      · subst hii
        rcases hcls with z | z
        · rw [z] at h2
          exact nomatch h2
        · rw [z] at h2
          cases h2
          exact ⟨c, cb_up_s, h3⟩
      · exact ⟨c', (cb_up_n hii).trans h2, h3⟩
  · intro i' c' j j' hi' e1 h2 hj hj' e3 e4
    by_cases h : i' = i
    · subst h
      have e5 : cb_up s.1 i' (some c) i' = some c' := e1
      rw [cb_up_s] at e5
      cases e5
      exact absurd h2 hc
    · have e5 : cb_up s.1 i (some c) i' = some c' := e1
      rw [cb_up_n h] at e5
      have e6 : (if G j = some (i, c) then some i else s.2.1 j) = some i' := e3
      have e7 : (if G j' = some (i, c) then some i else s.2.1 j') = some i' := e4
      have k1 : ¬ G j = some (i, c) := by
        intro z
        rw [if_pos z] at e6
        exact h (Option.some.inj e6).symm
      have k2 : ¬ G j' = some (i, c) := by
        intro z
        rw [if_pos z] at e7
        exact h (Option.some.inj e7).symm
      rw [if_neg k1] at e6
      rw [if_neg k2] at e7
      exact I3 i' c' j j' hi' e5 h2 hj hj' e6 e7
  · intro j hj
    show cb_sm (if G j = some (i, c) then some r else s.2.2 j)
    split
    · exact cb_sm_s hr
    · exact I4 j hj
  · intro i' hi'
    exact (cb_up_n (by omega)).trans (hD.1 i' (by omega))
  · intro j hj
    by_cases h : G j = some (i, c)
    · exact Or.inr ⟨i, c, by omega, h⟩
    · have e : (cb_mt G r i c s).2.1 j = s.2.1 j := if_neg h
      rw [e]
      rcases hD.2 j hj with z | ⟨i', c', z1, z2⟩
      · exact Or.inl z
      · exact Or.inr ⟨i', c', by omega, z2⟩
theorem cb_u1_inv {N : Nat} {Q : Nat → Nat → Nat → Bool} {Rs : Nat → Nat → Int32} {G : Nat → Option (Nat × Nat)} {s0 s : CbS} {r i c j0 : Nat} (hr : r < 2 ^ 31) (hG : cb_Gd N Q Rs s0 G) (hI : cb_I N Q Rs s) (hD : cb_D N G s0 i s) (hi : i < N) (hc4 : c < 4) (hc : c % 2 = 0) (hj0 : j0 < N) (h0 : G j0 = some (i, c)) :
    cb_I N Q Rs (cb_u1 r i c j0 s) ∧ cb_D N G s0 (i + 1) (cb_u1 r i c j0 s) := by
  obtain ⟨I1, I2, I3, I4⟩ := hI
  have hf := cb_free hG hD hj0 h0
  have hrq := cb_rq_ok (hG j0 i c hj0 h0).2.2.1
  have hcls : s.1 i = none := by
    rw [hD.1 i (Nat.le_refl _)]
    rcases hrq.2 with h | h
    · exact h
    · exact absurd hc h.1
  have hno : ∀ j, j < N → ¬ s.2.1 j = some i := by
    intro j hj e
    obtain ⟨_, c', h2, _⟩ := I2 j i hj e
    rw [hcls] at h2
    exact nomatch h2
  refine ⟨⟨?_, ?_, ?_, ?_⟩, ?_, ?_⟩
  · intro i' c' hi' e
    by_cases h : i' = i
    · subst h
      have e1 : cb_up s.1 i' (some c) i' = some c' := e
      rw [cb_up_s] at e1
      cases e1
      exact ⟨hc4, j0, hj0, cb_up_s⟩
    · have e1 : cb_up s.1 i (some c) i' = some c' := e
      rw [cb_up_n h] at e1
      obtain ⟨h1, j, h2, h3⟩ := I1 i' c' hi' e1
      refine ⟨h1, j, h2, (cb_up_n ?_).trans h3⟩
      intro z
      rw [z, hf] at h3
      exact nomatch h3
  · intro j i' hj e
    have e1 : cb_up s.2.1 j0 (some i) j = some i' := e
    by_cases h : j = j0
    · subst h
      rw [cb_up_s] at e1
      cases e1
      exact ⟨hi, c, cb_up_s, hrq.1⟩
    · rw [cb_up_n h] at e1
      obtain ⟨h1, c', h2, h3⟩ := I2 j i' hj e1
      refine ⟨h1, c', (cb_up_n ?_).trans h2, h3⟩
      intro z
      rw [z, hcls] at h2
      exact nomatch h2
  · intro i' c' j j' hi' e1 h2 hj hj' e3 e4
    have e6 : cb_up s.2.1 j0 (some i) j = some i' := e3
    have e7 : cb_up s.2.1 j0 (some i) j' = some i' := e4
    by_cases h : i' = i
    · subst h
      have k1 : j = j0 := by
        refine Classical.byContradiction (fun z => ?_)
        rw [cb_up_n z] at e6
        exact hno j hj e6
      have k2 : j' = j0 := by
        refine Classical.byContradiction (fun z => ?_)
        rw [cb_up_n z] at e7
        exact hno j' hj' e7
      rw [k1, k2]
    · have e5 : cb_up s.1 i (some c) i' = some c' := e1
      rw [cb_up_n h] at e5
      have k1 : ¬ j = j0 := by
        intro z
        rw [z, cb_up_s] at e6
        exact h (Option.some.inj e6).symm
      have k2 : ¬ j' = j0 := by
        intro z
        rw [z, cb_up_s] at e7
        exact h (Option.some.inj e7).symm
      rw [cb_up_n k1] at e6
      rw [cb_up_n k2] at e7
      exact I3 i' c' j j' hi' e5 h2 hj hj' e6 e7
  · intro j hj
    show cb_sm (cb_up s.2.2 j0 (some r) j)
    by_cases h : j = j0
    · rw [h, cb_up_s]
      exact cb_sm_s hr
    · rw [cb_up_n h]
      exact I4 j hj
  · intro i' hi'
    exact (cb_up_n (by omega)).trans (hD.1 i' (by omega))
  · intro j hj
    by_cases h : j = j0
    · exact Or.inr ⟨i, c, by omega, h ▸ h0⟩
    · have e : (cb_u1 r i c j0 s).2.1 j = s.2.1 j := cb_up_n h
      rw [e]
      rcases hD.2 j hj with z | ⟨i', c', z1, z2⟩
      · exact Or.inl z
      · exact Or.inr ⟨i', c', by omega, z2⟩
theorem cb_D_next {N : Nat} {G : Nat → Option (Nat × Nat)} {s0 s : CbS} {i : Nat} (hD : cb_D N G s0 i s) : cb_D N G s0 (i + 1) s := by
  refine ⟨fun i' h => hD.1 i' (by omega), fun j hj => ?_⟩
  rcases hD.2 j hj with z | ⟨i', c', z1, z2⟩
  · exact Or.inl z
  · exact Or.inr ⟨i', c', by omega, z2⟩
/-- the three ways of one input's accept -/
theorem cb_ac_cases {N kd : Nat} {G : Nat → Option (Nat × Nat)} {a : Nat → Nat → Nat} {r i : Nat} (hk : kd < 2) (hG : cb_gsm G N) (hi : i < N) (ha : ∀ p, p < 2 → a i p < N) :
    (cb_bst G kd N i = 4 ∧ ∀ s, cb_ac N kd G a r i s = s) ∨
    (∃ b c j0, b < 4 ∧ cb_bst G kd N i = b ∧ c = b ^^^ kd ∧ c < 4 ∧ c % 2 = 0 ∧ j0 < N ∧ cb_uf N G a i c = some j0 ∧ G j0 = some (i, c) ∧ ∀ s, cb_ac N kd G a r i s = cb_u1 r i c j0 s) ∨
    (∃ b c j0, b < 4 ∧ cb_bst G kd N i = b ∧ c = b ^^^ kd ∧ c < 4 ∧ ¬ c % 2 = 0 ∧ j0 < N ∧ G j0 = some (i, c) ∧ ∀ s, cb_ac N kd G a r i s = cb_mt G r i c s) := by
  have hB := cb_bst_ok (i := i) hG hk
  by_cases h4 : cb_bst G kd N i = 4
  · exact Or.inl ⟨h4, fun s => by rw [cb_ac, if_pos h4]⟩
  · refine Or.inr ?_
    have hlt : cb_bst G kd N i < 4 := by
      have := hB.1
      omega
    obtain ⟨j0, hj0, c, hc4, hg, he⟩ := hB.2.2 hlt
    have hcx : c = cb_bst G kd N i ^^^ kd := by rw [← he, (cb_xor4 c hc4 kd hk).2]
    by_cases h2 : c % 2 = 0
    · refine Or.inl ?_
      have hap := ha (c / 2) (by omega)
      cases hu : cb_uf N G a i c with
      | none =>
        have := cb_ff_all hap hu hj0
        rw [decide_eq_false_iff_not] at this
        exact absurd hg this
      | some j1 =>
        obtain ⟨k1, k2⟩ := cb_ff_lt hap hu
        refine ⟨cb_bst G kd N i, c, j1, hlt, rfl, hcx, hc4, h2, k1, hu, of_decide_eq_true k2, fun s => ?_⟩
        rw [cb_ac, if_neg h4, ← hcx, if_pos h2, cb_un, hu]
    · refine Or.inr ⟨cb_bst G kd N i, c, j0, hlt, rfl, hcx, hc4, h2, hj0, hg, fun s => ?_⟩
      rw [cb_ac, if_neg h4, ← hcx, if_neg h2]
theorem cb_ac_inv {N kd : Nat} {Q : Nat → Nat → Nat → Bool} {Rs : Nat → Nat → Int32} {G : Nat → Option (Nat × Nat)} {a : Nat → Nat → Nat} {s0 s : CbS} {r i : Nat} (hk : kd < 2) (hr : r < 2 ^ 31) (ha : ∀ p, p < 2 → a i p < N) (hG : cb_Gd N Q Rs s0 G) (hI : cb_I N Q Rs s) (hD : cb_D N G s0 i s) (hi : i < N) :
    cb_I N Q Rs (cb_ac N kd G a r i s) ∧ cb_D N G s0 (i + 1) (cb_ac N kd G a r i s) := by
  rcases cb_ac_cases (r := r) hk (cb_gsm_of hG) hi ha with ⟨_, h⟩ | ⟨b, c, j0, _, _, _, h4, h2, hj0, _, hg, h⟩ | ⟨b, c, j0, _, _, _, h4, h2, hj0, hg, h⟩
  · rw [h]
    exact ⟨hI, cb_D_next hD⟩
  · rw [h]
    exact cb_u1_inv hr hG hI hD hi h4 h2 hj0 hg
  · rw [h]
    exact cb_mt_inv hr hG hI hD hi h4 h2 hj0 hg
theorem cb_D0 {N : Nat} {G : Nat → Option (Nat × Nat)} {s : CbS} : cb_D N G s 0 s := ⟨fun _ _ => rfl, fun _ _ => Or.inl rfl⟩
theorem cb_acs_inv {N kd : Nat} {Q : Nat → Nat → Nat → Bool} {Rs : Nat → Nat → Int32} {G : Nat → Option (Nat × Nat)} {a : Nat → Nat → Nat} {s : CbS} {r : Nat} (hk : kd < 2) (hr : r < 2 ^ 31) (ha : ∀ i p, i < N → p < 2 → a i p < N) (hG : cb_Gd N Q Rs s G) (hI : cb_I N Q Rs s) : ∀ i, i ≤ N →
    cb_I N Q Rs (cb_acs N kd G a r i s) ∧ cb_D N G s i (cb_acs N kd G a r i s) := by
  intro i
  induction i with
  | zero => intro _; exact ⟨hI, cb_D0⟩
  | succ i ih =>
    intro hi
    obtain ⟨h1, h2⟩ := ih (by omega)
    exact cb_ac_inv hk hr (fun p hp => ha i p (by omega) hp) hG h1 h2 (by omega)
theorem cb_ms_inv {N kd : Nat} {Q : Nat → Nat → Nat → Bool} {Rs : Nat → Nat → Int32} {Gf : CbS → Nat → Option (Nat × Nat)} {a : Nat → Nat → Nat} (hk : kd < 2) (ha : ∀ i p, i < N → p < 2 → a i p < N) (hG : ∀ s, cb_Gd N Q Rs s (Gf s)) : ∀ r, r < 2 ^ 31 → cb_I N Q Rs (cb_ms N kd Gf a r) := by
  intro r
  induction r with
  | zero => intro _; exact ⟨fun _ _ _ e => (nomatch e), fun _ _ _ e => (nomatch e), fun _ _ _ _ _ e => (nomatch e), fun _ _ => cb_sm_n⟩
  | succ r ih =>
    intro hr
    exact (cb_acs_inv hk (by omega) ha (hG _) (ih (by omega)) N (Nat.le_refl _)).1
end
section
/-! X: the walks of the matching -/
def cb_fst (N : Nat) (s : CbS) (i : Nat) : Prop := ∃ j c, j < N ∧ s.2.1 j = some i ∧ s.2.2 j = some 0 ∧ s.1 i = some c ∧ c % 2 = 0
def cb_XM (N : Nat) (s : CbS) (mc mm mf ot : Nat → Int32) : Prop :=
  (∀ i, i < N → mc i = cb_oi (s.1 i)) ∧
  (∀ i b, i < N → b < 32 → bt (mm i) b = decide (b < N ∧ s.2.1 b = some i)) ∧
  (∀ i, i < N → (mf i = 0 ↔ ¬ cb_fst N s i)) ∧
  (∀ j, j < N → (ot j = 0 ↔ s.2.1 j = none))
def cb_XE (N : Nat) (Q : Nat → Nat → Nat → Bool) (Rs : Nat → Nat → Int32) (cr qh qs : Nat → Int32) : Prop :=
  ∀ i v p, i < N → v ≤ N → p < 2 → (Q i v p = false → qs ((i * 9 + v) * 2 + p) = 0) ∧
    (Q i v p = true → (∃ k, k < 64 ∧ qs ((i * 9 + v) * 2 + p) = nI (k + 1)) ∧ ∃ h, h < 64 ∧ qh ((i * 9 + v) * 2 + p) = nI h ∧ (v = N → cr h = Rs i p))
def cb_PX (N : Nat) (g a : Nat → Nat → Nat) (m : Nat → Nat) (gp ap mp : Nat → Int32) : Prop :=
  ∀ j p, j < N → p < 2 → gp (p * 8 + j) = nI (g j p) ∧ ap (p * 8 + j) = nI (a j p) ∧ mp p = nI (m p)
section
variable {N R C M : Nat} {fh uc sl : Int32} {cp cr cn qh qt qs gp ap mp bl wc lf lp lc lr mc mm mf ot gi gc : Nat → Int32}
theorem cx_qi {post : Int32 → Prop} {i v p : Nat} (h : post (nI ((i * 9 + v) * 2 + p))) : wpX_queueIndex post (nI N, nI R, nI C, nI M, fh, uc, sl, cp, cr, cn, qh, qt, qs, gp, ap, mp, bl, wc, lf, lp, lc, lr, mc, mm, mf, ot, gi, gc) (nI i) (nI v) (nI p) := by
  show post ((((nI i * 9) + nI v) * 2) + nI p)
  rw [cb_qi]
  exact h
theorem cx_fol {post : Int32 → Prop} {i : Nat} (hN : N ≤ 8) (hi : i < N) (h : post (nI (cb_wr N (i + 1)))) : wpX_following post (nI N, nI R, nI C, nI M, fh, uc, sl, cp, cr, cn, qh, qt, qs, gp, ap, mp, bl, wc, lf, lp, lc, lr, mc, mm, mf, ot, gi, gc) (nI i) := by
  by_cases e : i + 1 < N
  · rw [cb_wr_id e] at h
    refine br_f ?_ ?_
    · rw [nI_1]
      exact nI_ge e (by omega)
    · rw [nI_1]
      exact h
  · have e0 : cb_wr N (i + 1) = 0 := by
      rw [cb_wr, if_neg e]
      omega
    rw [e0] at h
    refine br_t ?_ h
    rw [nI_1]
    exact nI_le (by omega) (by omega)
theorem cx_mul0 {post : Int32 → Prop} {c : Nat} (hc : c < 4) (h2 : c % 2 = 0) (h : post 0) : wpX_isMulticast post (nI N, nI R, nI C, nI M, fh, uc, sl, cp, cr, cn, qh, qt, qs, gp, ap, mp, bl, wc, lf, lp, lc, lr, mc, mm, mf, ot, gi, gc) (nI c) :=
  br_t ((cb_odd (by omega)).mpr h2) h
theorem cx_mul1 {post : Int32 → Prop} {c : Nat} (hc : c < 4) (h2 : ¬ c % 2 = 0) (h : post 1) : wpX_isMulticast post (nI N, nI R, nI C, nI M, fh, uc, sl, cp, cr, cn, qh, qt, qs, gp, ap, mp, bl, wc, lf, lp, lc, lr, mc, mm, mf, ot, gi, gc) (nI c) :=
  br_f (fun z => h2 ((cb_odd (by omega)).mp z)) h
theorem cx_req35 {post : Int32 → Prop} {Q : Nat → Nat → Nat → Bool} {Rs : Nat → Nat → Int32} {i j p : Nat} (hN : N ≤ 8) (hE : cb_XE N Q Rs cr qh qs) (hi : i < N) (hj : j < N) (hp : p < 2)
    (h1 : Q i N p = true → bt (Rs i p) j = true → post 1) (h0 : (Q i N p && bt (Rs i p) j) = false → post 0) : wX_requests_35 post (nI i) (nI j) (nI p) (nI N) (nI R) (nI C) (nI M) fh uc sl cp cr cn qh qt qs gp ap mp bl wc lf lp lc lr mc mm mf ot gi gc := by
  refine cx_qi ?_
  obtain ⟨k0, k1⟩ := hE i N p hi (Nat.le_refl _) hp
  rw [nI_clamp (show (i * 9 + N) * 2 + p < 2 ^ 31 by omega)]
  have hin : vp_in (nI ((i * 9 + N) * 2 + p)) 144 := vp_in_nI (by omega) (by omega)
  refine And.intro hin ?_
  cases hq : Q i N p with
  | false =>
    rw [k0 hq]
    refine br_t (Int32.le_refl _) (h0 ?_)
    rw [hq]
    rfl
  | true =>
    obtain ⟨⟨k, hk, ek⟩, h, hh, eh, er⟩ := k1 hq
    rw [ek, eh, nI_clamp (show h < 2 ^ 31 by omega), er rfl]
    refine br_f (nI_nle (by omega) (by omega)) (And.intro hin (And.intro (vp_in_nI hh (by omega)) ?_))
    cases hb : bt (Rs i p) j with
    | false =>
      refine br_t ((cb_bit _ (by omega)).mpr hb) (h0 ?_)
      rw [hb, Bool.and_false]
    | true =>
      refine br_f (fun z => ?_) (h1 hq hb)
      rw [cb_bit _ (by omega), hb] at z
      exact nomatch z
theorem cx_req {post : Int32 → Prop} {Q : Nat → Nat → Nat → Bool} {Rs : Nat → Nat → Int32} {cls : Nat → Option Nat} {i j c : Nat} (hN : N ≤ 8) (hE : cb_XE N Q Rs cr qh qs) (hmc : ∀ i, i < N → mc i = cb_oi (cls i)) (hcs : ∀ i, i < N → cb_sm (cls i)) (hi : i < N) (hj : j < N) (hc : c < 4)
    (h1 : cb_rq N Q Rs cls j c i = true → post 1) (h0 : cb_rq N Q Rs cls j c i = false → post 0) : wpX_requests post (nI N, nI R, nI C, nI M, fh, uc, sl, cp, cr, cn, qh, qt, qs, gp, ap, mp, bl, wc, lf, lp, lc, lr, mc, mm, mf, ot, gi, gc) (nI i) (nI j) (nI c) := by
  refine nm_r (cb_shr (by omega)) (And.intro (vp_in_nI (by omega) (by omega)) (nm_r (e' := cb_oi (cls i)) ?_ ?_))
  · rw [nI_clamp (by omega)]
    exact hmc i hi
  · by_cases hc2 : c % 2 = 0
    · rw [cb_rq_0 hc2] at h1 h0
      refine cx_mul0 hc hc2 (br_t rfl (cx_qi (ek_if (cb_oi_n (hcs i hi)) (fun e => ?_) (fun e => h0 ?_))))
      · rw [nI_clamp (show (i * 9 + j) * 2 + c / 2 < 2 ^ 31 by omega)]
        refine And.intro (vp_in_nI (by omega) (by omega)) ?_
        obtain ⟨k0, k1⟩ := hE i j (c / 2) hi (by omega) (by omega)
        cases hq : Q i j (c / 2) with
        | false =>
          rw [k0 hq]
          refine br_t (Int32.le_refl _) (h0 ?_)
          rw [hq, Bool.and_false]
        | true =>
          obtain ⟨⟨k, hk, ek⟩, _⟩ := k1 hq
          rw [ek]
          refine br_f (nI_nle (by omega) (by omega)) (h1 ?_)
          rw [hq, decide_eq_true e]
          rfl
      · rw [decide_eq_false e]
        rfl
    · rw [cb_rq_1 hc2] at h1 h0
      refine cx_mul1 hc hc2 (br_f (by decide) (ek_if (cb_oi_n (hcs i hi)) (fun e => ?_) (fun e => ek_if (cb_oi_s (hcs i hi) (by omega)) (fun e2 => ?_) (fun e2 => h0 ?_))))
      · rw [decide_eq_true e, Bool.true_or, Bool.true_and] at h1 h0
        exact cx_req35 hN hE hi hj (by omega) (fun z1 z2 => h1 (by rw [z1, z2]; rfl)) h0
      · rw [decide_eq_true e2, Bool.or_true, Bool.true_and] at h1 h0
        exact cx_req35 hN hE hi hj (by omega) (fun z1 z2 => h1 (by rw [z1, z2]; rfl)) h0
      · rw [decide_eq_false e, decide_eq_false e2]
        rfl
theorem cx_fr_loop {post : Int32 → Prop} {P : Nat → Bool} {a j c : Nat} (hN : N ≤ 8) (ha : a < N)
    (hreq : ∀ (i : Nat) (post' : Int32 → Prop), i < N → (P i = true → post' 1) → (P i = false → post' 0) → wpX_requests post' (nI N, nI R, nI C, nI M, fh, uc, sl, cp, cr, cn, qh, qt, qs, gp, ap, mp, bl, wc, lf, lp, lc, lr, mc, mm, mf, ot, gi, gc) (nI i) (nI j) (nI c)) :
    ∀ d k n, k + d = N → d < n → post (cb_oi (cb_ff P N a d k)) → wX_firstRequester_37 post (nI j) (nI c) (nI N) (nI R) (nI C) (nI M) fh uc sl cp cr cn qh qt qs gp ap mp bl wc lf lp lc lr mc mm mf ot gi gc n (nI (cb_wr N (a + k))) (nI k) := by
  intro d
  induction d with
  | zero =>
    intro k n hk hn hp
    obtain ⟨n, rfl⟩ : ∃ q, n = q + 1 := ⟨n - 1, by omega⟩
    exact br_t (nI_le (by omega) (by omega)) hp
  | succ d ih =>
    intro k n hk hn hp
    obtain ⟨n, rfl⟩ : ∃ q, n = q + 1 := ⟨n - 1, by omega⟩
    refine br_f (nI_ge (by omega) (by omega)) (hreq _ _ (cb_wr_lt (by omega)) (fun hP => br_f (by decide) ?_) (fun hP => br_t rfl (cx_fol hN (cb_wr_lt (by omega)) (nm_r (nI_1 k) ?_))))
    · rw [cb_ff_t hP] at hp
      exact hp
    · rw [cb_ff_f hP] at hp
      rw [cb_wr_next ha (by omega)]
      exact ih (k + 1) n (by omega) (by omega) hp
theorem cx_fr {post : Int32 → Prop} {Q : Nat → Nat → Nat → Bool} {Rs : Nat → Nat → Int32} {cls : Nat → Option Nat} {g a : Nat → Nat → Nat} {m : Nat → Nat} {j c : Nat} (hN : N ≤ 8) (hE : cb_XE N Q Rs cr qh qs) (hmc : ∀ i, i < N → mc i = cb_oi (cls i)) (hcs : ∀ i, i < N → cb_sm (cls i))
    (hP : cb_PX N g a m gp ap mp) (hB : cb_PB N g a m) (hj : j < N) (hc : c < 4) (h : post (cb_oi (cb_fr N Q Rs g m cls j c))) : wpX_firstRequester post (nI N, nI R, nI C, nI M, fh, uc, sl, cp, cr, cn, qh, qt, qs, gp, ap, mp, bl, wc, lf, lp, lc, lr, mc, mm, mf, ot, gi, gc) (nI j) (nI c) := by
  have hb := cb_sp_lt hB hj hc
  have hp := hP j (c / 2) hj (by omega)
  have hL := cx_fr_loop (post := post) (P := cb_rq N Q Rs cls j c) (a := cb_sp g m j c) (j := j) (c := c) (R := R) (C := C) (M := M) (fh := fh) (uc := uc) (sl := sl) (cp := cp) (cr := cr) (cn := cn) (qh := qh) (qt := qt) (qs := qs) (gp := gp) (ap := ap) (mp := mp) (bl := bl) (wc := wc) (lf := lf) (lp := lp) (lc := lc) (lr := lr) (mc := mc) (mm := mm) (mf := mf) (ot := ot) (gi := gi) (gc := gc) hN hb
    (fun i post' hi h1 h0 => cx_req hN hE hmc hcs hi hj hc h1 h0) N 0 (N + 1) (by omega) (by omega) h
  rw [show cb_wr N (cb_sp g m j c + 0) = cb_sp g m j c from cb_wr_id hb] at hL
  refine nm_r (cb_shr (by omega)) ?_
  by_cases hc2 : c % 2 = 0
  · rw [cb_sp, if_pos hc2] at hL
    refine cx_mul0 hc hc2 (br_t rfl ?_)
    rw [cb_i8, nI_clamp (show c / 2 * 8 + j < 2 ^ 31 by omega), hp.1]
    exact And.intro (vp_in_nI (by omega) (by omega)) (nm_e ⟨_, hL⟩)
  · rw [cb_sp, if_neg hc2] at hL
    refine cx_mul1 hc hc2 (br_f (by decide) ?_)
    rw [nI_clamp (show c / 2 < 2 ^ 31 by omega), hp.2.2]
    exact And.intro (vp_in_nI (by omega) (by omega)) (nm_e ⟨_, hL⟩)
theorem cx_go_loop {post : SX → Prop} {fr : Nat → Option Nat} {j kd : Nat} (hj : j < 8) (hk : kd < 2)
    (hfr : ∀ (c : Nat) (post' : Int32 → Prop), c < 4 → post' (cb_oi (fr c)) → wpX_firstRequester post' (nI N, nI R, nI C, nI M, fh, uc, sl, cp, cr, cn, qh, qt, qs, gp, ap, mp, bl, wc, lf, lp, lc, lr, mc, mm, mf, ot, gi, gc) (nI j) (nI c)) (hsm : ∀ c, c < 4 → cb_sm (fr c)) :
    ∀ d r n, r + d = 4 → d < n → (cb_go fr kd d r = none → post (nI N, nI R, nI C, nI M, fh, uc, sl, cp, cr, cn, qh, qt, qs, gp, ap, mp, bl, wc, lf, lp, lc, lr, mc, mm, mf, ot, gi, gc)) → (∀ i c, cb_go fr kd d r = some (i, c) → post (nI N, nI R, nI C, nI M, fh, uc, sl, cp, cr, cn, qh, qt, qs, gp, ap, mp, bl, wc, lf, lp, lc, lr, mc, mm, mf, ot, upd gi j (nI i), upd gc j (nI c))) → wX_grantOutput_2 post (nI j) (nI kd) (nI N) (nI R) (nI C) (nI M) fh uc sl cp cr cn qh qt qs gp ap mp bl wc lf lp lc lr mc mm mf ot gi gc n (nI r) := by
  intro d
  induction d with
  | zero =>
    intro r n hr hn hp _
    obtain ⟨n, rfl⟩ : ∃ q, n = q + 1 := ⟨n - 1, by omega⟩
    exact br_t (nI_le (a := 4) (by omega) (by omega)) (hp rfl)
  | succ d ih =>
    intro r n hr hn hp hs
    obtain ⟨n, rfl⟩ : ∃ q, n = q + 1 := ⟨n - 1, by omega⟩
    have hx := (cb_xor4 r (by omega) kd hk).1
    refine br_f (nI_ge (b := 4) (by omega) (by omega)) (nm_r (nx_xor r kd) (hfr _ _ hx ?_))
    cases hf : fr (r ^^^ kd) with
    | none =>
      rw [cb_go_n hf] at hp hs
      exact br_t cb_m1 (nm_r (nI_1 r) (ih (r + 1) n (by omega) (by omega) hp hs))
    | some i =>
      have hin : vp_in (nI j) 8 := vp_in_nI hj (by omega)
      have e := nI_clamp (show j < 2 ^ 31 by omega)
      have h2 := hs i _ (cb_go_s hf)
      show (nI i < 0 → _) ∧ (¬ nI i < 0 → _)
      rw [e]
      exact br_f (nI_pos (hsm _ hx i hf)) (And.intro hin (nm_e (And.intro hin (nm_e h2))))
theorem cx_ga {post : SX → Prop} {fr : Nat → Nat → Option Nat} {G : Nat → Option (Nat × Nat)} {kd : Nat} (hN : N ≤ 8) (hk : kd < 2)
    (hG1 : ∀ j, j < N → ot j = 0 → bl j = 0 → G j = cb_go (fr j) kd 4 0) (hG0 : ∀ j, j < N → ¬ (ot j = 0 ∧ bl j = 0) → G j = none)
    (hfr : ∀ (gi gc : Nat → Int32) (j c : Nat) (post' : Int32 → Prop), j < N → c < 4 → post' (cb_oi (fr j c)) → wpX_firstRequester post' (nI N, nI R, nI C, nI M, fh, uc, sl, cp, cr, cn, qh, qt, qs, gp, ap, mp, bl, wc, lf, lp, lc, lr, mc, mm, mf, ot, gi, gc) (nI j) (nI c)) (hsm : ∀ j c, j < N → c < 4 → cb_sm (fr j c))
    (hp : ∀ gi gc : Nat → Int32, (∀ j, j < N → gi j = cb_o1 (G j) ∧ gc j = cb_o2 (G j)) → post (nI N, nI R, nI C, nI M, fh, uc, sl, cp, cr, cn, qh, qt, qs, gp, ap, mp, bl, wc, lf, lp, lc, lr, mc, mm, mf, ot, gi, gc)) :
    ∀ d j n (gi gc : Nat → Int32), j + d = N → d < n → (∀ j', j' < j → gi j' = cb_o1 (G j') ∧ gc j' = cb_o2 (G j')) → wX_grantAll_2 post (nI kd) n (nI j) (nI N) (nI R) (nI C) (nI M) fh uc sl cp cr cn qh qt qs gp ap mp bl wc lf lp lc lr mc mm mf ot gi gc := by
  intro d
  induction d with
  | zero =>
    intro j n gi gc hj hn hI
    obtain ⟨n, rfl⟩ : ∃ q, n = q + 1 := ⟨n - 1, by omega⟩
    exact br_t (nI_le (by omega) (by omega)) (hp gi gc (fun j' h => hI j' (by omega)))
  | succ d ih =>
    intro j n gi gc hj hn hI
    obtain ⟨n, rfl⟩ : ∃ q, n = q + 1 := ⟨n - 1, by omega⟩
    have hin : vp_in (nI j) 8 := vp_in_nI (by omega) (by omega)
    have e := nI_clamp (show j < 2 ^ 31 by omega)
    have hnx : ∀ (gi' gc' : Nat → Int32), (∀ j', j' < j → gi' j' = gi j' ∧ gc' j' = gc j') → gi' j = cb_o1 (G j) → gc' j = cb_o2 (G j) → wX_grantAll_2 post (nI kd) n (nI (j + 1)) (nI N) (nI R) (nI C) (nI M) fh uc sl cp cr cn qh qt qs gp ap mp bl wc lf lp lc lr mc mm mf ot gi' gc' := by
      intro gi' gc' h1 h2 h3
      refine ih (j + 1) n gi' gc' (by omega) (by omega) (fun j' h => ?_)
      by_cases ej : j' = j
      · rw [ej]
        exact ⟨h2, h3⟩
      · have k1 := h1 j' (by omega)
        have k2 := hI j' (by omega)
        exact ⟨k1.1.trans k2.1, k1.2.trans k2.2⟩
    refine br_f (nI_ge (by omega) (by omega)) ?_
    rw [e]
    refine And.intro hin (nm_e (And.intro hin (nm_e (And.intro hin ?_))))
    have hno : G j = none → wX_grantAll_2 post (nI kd) n (nI (j + 1)) (nI N) (nI R) (nI C) (nI M) fh uc sl cp cr cn qh qt qs gp ap mp bl wc lf lp lc lr mc mm mf ot (upd gi j (-1)) (upd gc j (-1)) := by
      intro z
      refine hnx _ _ (fun j' h => ⟨pk_un (by omega), pk_un (by omega)⟩) ?_ ?_
      · rw [pk_us, z]
        rfl
      · rw [pk_us, z]
        rfl
    by_cases h1 : ot j = 0
    · refine br_t h1 (And.intro hin ?_)
      by_cases h2 : bl j = 0
      · refine br_t h2 ⟨5, ?_⟩
        refine cx_go_loop (post := _) (fr := fr j) (by omega) hk (fun c post' hc => hfr _ _ j c post' (by omega) hc) (fun c hc => hsm j c (by omega) hc) 4 0 5 (by omega) (by omega) (fun z => ?_) (fun i c z => ?_)
        · exact nm_r (nI_1 j) (hno ((hG1 j (by omega) h1 h2).trans z))
        · refine nm_r (nI_1 j) (hnx _ _ (fun j' h => ⟨?_, ?_⟩) ?_ ?_)
          · rw [pk_un (by omega), pk_un (by omega)]
          · rw [pk_un (by omega), pk_un (by omega)]
          · rw [pk_us, hG1 j (by omega) h1 h2, z]
            rfl
          · rw [pk_us, hG1 j (by omega) h1 h2, z]
            rfl
      · exact br_f h2 (nm_r (nI_1 j) (hno (hG0 j (by omega) (fun z => h2 z.2))))
    · exact br_f h1 (nm_r (nI_1 j) (hno (hG0 j (by omega) (fun z => h1 z.1))))
theorem cx_best {post : Int32 → Prop} {G : Nat → Option (Nat × Nat)} {kd i : Nat} (hN : N ≤ 8) (hk : kd < 2) (hi : i < N) (hG : cb_gsm G N) (hg : ∀ j, j < N → gi j = cb_o1 (G j) ∧ gc j = cb_o2 (G j)) :
    ∀ d j b n, j + d = N → d < n → b ≤ 4 → (cb_bm G kd i d j b = 4 → post (-1)) → (¬ cb_bm G kd i d j b = 4 → post (nI (cb_bm G kd i d j b ^^^ kd))) → wX_bestGrantedClass_5 post (nI i) (nI kd) (nI N) (nI R) (nI C) (nI M) fh uc sl cp cr cn qh qt qs gp ap mp bl wc lf lp lc lr mc mm mf ot gi gc n (nI b) (nI j) := by
  intro d
  induction d with
  | zero =>
    intro j b n hj hn hb h4 hs
    obtain ⟨n, rfl⟩ : ∃ q, n = q + 1 := ⟨n - 1, by omega⟩
    refine br_t (nI_le (by omega) (by omega)) (pk_eq b 4 (fun e => h4 e) (fun e => ?_))
    rw [nx_xor]
    exact hs e
  | succ d ih =>
    intro j b n hj hn hb h4 hs
    obtain ⟨n, rfl⟩ : ∃ q, n = q + 1 := ⟨n - 1, by omega⟩
    have hin : vp_in (nI j) 8 := vp_in_nI (by omega) (by omega)
    refine br_f (nI_ge (by omega) (by omega)) ?_
    rw [nI_clamp (show j < 2 ^ 31 by omega), (hg j (by omega)).1, (hg j (by omega)).2]
    refine And.intro hin ?_
    by_cases e : ∃ c, c < 4 ∧ G j = some (i, c)
    · obtain ⟨c, hc, e⟩ := e
      have hx := (cb_xor4 c hc kd hk).1
      have eb : cb_bm G kd i (d + 1) j b = cb_bm G kd i d (j + 1) (if b ≤ c ^^^ kd then b else c ^^^ kd) := by
        rw [cb_bm, e, cb_bs_this]
      rw [eb] at h4 hs
      rw [e]
      refine br_t rfl (And.intro hin (nm_r (nx_xor c kd) (pk_le b (c ^^^ kd) (fun z => ?_) (fun z => ?_))))
      · rw [if_pos z] at h4 hs
        exact nm_r (nI_1 j) (ih (j + 1) b n (by omega) (by omega) hb h4 hs)
      · rw [if_neg (by omega)] at h4 hs
        exact nm_r (nI_1 j) (ih (j + 1) _ n (by omega) (by omega) (by omega) h4 hs)
    · have eb : cb_bm G kd i (d + 1) j b = cb_bm G kd i d (j + 1) b := by
        rw [cb_bm, cb_bs_other (fun c z => e ⟨c, (hG j i c (by omega) z).2, z⟩)]
      rw [eb] at h4 hs
      exact br_f (fun z => e ((cb_o1_eq hN hG (by omega) hi).mp z)) (nm_r (nI_1 j) (ih (j + 1) b n (by omega) (by omega) hb h4 hs))
theorem cx_match {post : SX → Prop} {i j c : Nat} (hi : i < 8) (hj : j < 8) (h : post (nI N, nI R, nI C, nI M, fh, uc, sl, cp, cr, cn, qh, qt, qs, gp, ap, mp, bl, wc, lf, lp, lc, lr, upd mc i (nI c), upd mm i (mm i ||| ((1 : Int32) <<< (nI j &&& 31))), mf, upd ot j 1, gi, gc)) : wpX_match post (nI N, nI R, nI C, nI M, fh, uc, sl, cp, cr, cn, qh, qt, qs, gp, ap, mp, bl, wc, lf, lp, lc, lr, mc, mm, mf, ot, gi, gc) (nI i) (nI j) (nI c) := by
  have h1 : vp_in (nI i) 8 := vp_in_nI hi (by omega)
  have h2 : vp_in (nI j) 8 := vp_in_nI hj (by omega)
  refine And.intro h1 ?_
  rw [nI_clamp (show i < 2 ^ 31 by omega), nI_clamp (show j < 2 ^ 31 by omega)]
  exact nm_e (And.intro h1 (And.intro h1 (nm_e (And.intro h2 (nm_r (by rw [cb_nb1]) h)))))
end
end
section
/-! X: accept, begin -/
/-- while input i takes all grants of kind c below j -/
def cb_AM (N : Nat) (G : Nat → Option (Nat × Nat)) (i c : Nat) (mc0 mm0 ot0 : Nat → Int32) (j : Nat) (mc mm ot : Nat → Int32) : Prop :=
  (∀ i', i' ≠ i → mc i' = mc0 i' ∧ mm i' = mm0 i') ∧
  (mc i = nI c ∨ (mc i = mc0 i ∧ ∀ j', j' < j → ¬ G j' = some (i, c))) ∧
  (∀ b, b < 32 → bt (mm i) b = (bt (mm0 i) b || decide (b < j ∧ G b = some (i, c)))) ∧
  (∀ j', (ot j' = 0 ↔ ot0 j' = 0 ∧ ¬ (j' < j ∧ G j' = some (i, c))))
theorem cb_AM_0 {N : Nat} {G : Nat → Option (Nat × Nat)} {i c : Nat} {mc mm ot : Nat → Int32} : cb_AM N G i c mc mm ot 0 mc mm ot := by
  refine ⟨fun _ _ => ⟨rfl, rfl⟩, Or.inr ⟨rfl, fun j' h => absurd h (Nat.not_lt_zero j')⟩, fun b _ => ?_, fun j' => ?_⟩
  · rw [decide_eq_false (fun z => Nat.not_lt_zero b z.1), Bool.or_false]
  · exact ⟨fun z => ⟨z, fun y => Nat.not_lt_zero j' y.1⟩, fun z => z.1⟩
theorem cb_AM_n {N : Nat} {G : Nat → Option (Nat × Nat)} {i c j : Nat} {mc0 mm0 ot0 mc mm ot : Nat → Int32} (h : cb_AM N G i c mc0 mm0 ot0 j mc mm ot) (hg : ¬ G j = some (i, c)) : cb_AM N G i c mc0 mm0 ot0 (j + 1) mc mm ot := by
  obtain ⟨h1, h2, h3, h4⟩ := h
  have hb : ∀ b, (b < j + 1 ∧ G b = some (i, c)) ↔ (b < j ∧ G b = some (i, c)) := by
    intro b
    constructor
    · intro z
      by_cases e : b = j
      · rw [e] at z
        exact absurd z.2 hg
      · exact ⟨by omega, z.2⟩
    · exact fun z => ⟨by omega, z.2⟩
  refine ⟨h1, ?_, fun b hb32 => ?_, fun j' => ?_⟩
  · rcases h2 with z | ⟨z1, z2⟩
    · exact Or.inl z
    · refine Or.inr ⟨z1, fun j' hj' y => ?_⟩
      exact z2 j' ((hb j').mp ⟨hj', y⟩).1 y
  · rw [h3 b hb32, decide_eq_decide.mpr (hb b)]
  · rw [h4 j', hb j']
theorem cb_AM_y {N : Nat} {G : Nat → Option (Nat × Nat)} {i c j : Nat} {mc0 mm0 ot0 mc mm ot : Nat → Int32} (hj : j < 32) (h : cb_AM N G i c mc0 mm0 ot0 j mc mm ot) (hg : G j = some (i, c)) :
    cb_AM N G i c mc0 mm0 ot0 (j + 1) (upd mc i (nI c)) (upd mm i (mm i ||| ((1 : Int32) <<< (nI j &&& 31)))) (upd ot j 1) := by
  obtain ⟨h1, h2, h3, h4⟩ := h
  refine ⟨fun i' hi' => ⟨(pk_un hi').trans (h1 i' hi').1, (pk_un hi').trans (h1 i' hi').2⟩, Or.inl pk_us, fun b hb32 => ?_, fun j' => ?_⟩
  · rw [pk_us, b_or, cb_sh hj hb32, h3 b hb32, Bool.or_assoc]
    congr 1
    by_cases e : b = j
    · subst e
      rw [decide_eq_true rfl, Bool.or_true, decide_eq_true ⟨by omega, hg⟩]
    · rw [decide_eq_false e, Bool.or_false]
      exact decide_eq_decide.mpr ⟨fun z => ⟨by omega, z.2⟩, fun z => ⟨by omega, z.2⟩⟩
  · by_cases e : j' = j
    · subst e
      rw [pk_us]
      exact ⟨fun z => absurd z (by decide), fun z => absurd ⟨by omega, hg⟩ z.2⟩
    · rw [pk_un e, h4 j']
      exact ⟨fun z => ⟨z.1, fun y => z.2 ⟨by omega, y.2⟩⟩, fun z => ⟨z.1, fun y => z.2 ⟨by omega, y.2⟩⟩⟩
/-- the picture after all grants of an odd kind were taken -/
theorem cb_XM_mt {N : Nat} {Q : Nat → Nat → Nat → Bool} {Rs : Nat → Nat → Int32} {G : Nat → Option (Nat × Nat)} {s0 s : CbS} {r i c j0 : Nat} {mc mm mf ot mc' mm' ot' : Nat → Int32} (hG : cb_Gd N Q Rs s0 G) (hD : cb_D N G s0 i s) (hX : cb_XM N s mc mm mf ot) (hc : ¬ c % 2 = 0) (hj0 : j0 < N) (h0 : G j0 = some (i, c))
    (hA : cb_AM N G i c mc mm ot N mc' mm' ot') : cb_XM N (cb_mt G r i c s) mc' mm' mf ot' := by
  obtain ⟨X1, X2, X3, X4⟩ := hX
  obtain ⟨A1, A2, A3, A4⟩ := hA
  have hf := fun (j : Nat) (hj : j < N) (h : G j = some (i, c)) => cb_free hG hD hj h
  have hcls : s.1 i = none ∨ s.1 i = some c := by
    rw [hD.1 i (Nat.le_refl _)]
    rcases (cb_rq_ok (hG j0 i c hj0 h0).2.2.1).2 with h | h
    · exact Or.inl h
    · exact Or.inr h.2
  refine ⟨fun i' hi' => ?_, fun i' b hi' hb => ?_, fun i' hi' => ?_, fun j hj => ?_⟩
  · show mc' i' = cb_oi (cb_up s.1 i (some c) i')
    by_cases e : i' = i
    · rw [e, cb_up_s]
      rcases A2 with z | ⟨_, z⟩
      · exact z
      · exact absurd h0 (z j0 hj0)
    · rw [cb_up_n e, (A1 i' e).1]
      exact X1 i' hi'
  · show bt (mm' i') b = decide (b < N ∧ (if G b = some (i, c) then some i else s.2.1 b) = some i')
    by_cases e : i' = i
    · subst e
      rw [A3 b hb, X2 i' b hi' hb]
      by_cases z : b < N ∧ G b = some (i', c)
      · rw [if_pos z.2, decide_eq_true z, Bool.or_true, decide_eq_true ⟨z.1, rfl⟩]
      · rw [decide_eq_false z, Bool.or_false]
        refine decide_eq_decide.mpr ⟨fun y => ⟨y.1, ?_⟩, fun y => ⟨y.1, ?_⟩⟩
        · rw [if_neg (fun x => z ⟨y.1, x⟩)]
          exact y.2
        · have y2 := y.2
          rw [if_neg (fun x => z ⟨y.1, x⟩)] at y2
          exact y2
    · rw [(A1 i' e).2, X2 i' b hi' hb]
      refine decide_eq_decide.mpr ⟨fun y => ⟨y.1, ?_⟩, fun y => ⟨y.1, ?_⟩⟩
      · rw [if_neg]
        · exact y.2
        · intro x
          have y2 := y.2
          rw [hf b y.1 x] at y2
          exact nomatch y2
      · have y2 := y.2
        by_cases x : G b = some (i, c)
        · rw [if_pos x] at y2
          exact absurd (Option.some.inj y2).symm e
        · rw [if_neg x] at y2
          exact y2
  · rw [X3 i' hi']
    refine not_congr ?_
    by_cases e : i' = i
    · subst e
      constructor
      · intro ⟨j, c', _, _, _, k4, k5⟩
        rcases hcls with z | z
        · rw [z] at k4
          exact nomatch k4
        · rw [z] at k4
          cases k4
          exact absurd k5 hc
      · intro ⟨j, c', _, _, _, k4, k5⟩
        have k6 : cb_up s.1 i' (some c) i' = some c' := k4
        rw [cb_up_s] at k6
        cases k6
        exact absurd k5 hc
    · constructor
      · intro ⟨j, c', k1, k2, k3, k4, k5⟩
        have ng : ¬ G j = some (i, c) := by
          intro x
          rw [hf j k1 x] at k2
          exact nomatch k2
        exact ⟨j, c', k1, (if_neg ng).trans k2, (if_neg ng).trans k3, (cb_up_n e).trans k4, k5⟩
      · intro ⟨j, c', k1, k2, k3, k4, k5⟩
        have k2' : (if G j = some (i, c) then some i else s.2.1 j) = some i' := k2
        have k3' : (if G j = some (i, c) then some r else s.2.2 j) = some 0 := k3
        have ng : ¬ G j = some (i, c) := by
          intro x
          rw [if_pos x] at k2'
          exact e (Option.some.inj k2').symm
        rw [if_neg ng] at k2' k3'
        exact ⟨j, c', k1, k2', k3', (cb_up_n e).symm.trans k4, k5⟩
  · show ot' j = 0 ↔ (if G j = some (i, c) then some i else s.2.1 j) = none
    rw [A4 j, X4 j hj]
    by_cases x : G j = some (i, c)
    · rw [if_pos x]
      exact ⟨fun z => absurd ⟨hj, x⟩ z.2, fun z => (nomatch z)⟩
    · rw [if_neg x]
      exact ⟨fun z => z.1, fun z => ⟨z, fun y => x y.2⟩⟩
/-- the picture after one unicast grant was taken -/
theorem cb_XM_u1 {N : Nat} {Q : Nat → Nat → Nat → Bool} {Rs : Nat → Nat → Int32} {G : Nat → Option (Nat × Nat)} {s0 s : CbS} {r i c j0 : Nat} {mc mm mf ot : Nat → Int32} {fi : Int32} (hN : N ≤ 8) (hfi : fi = 0 ↔ ¬ r = 0) (hG : cb_Gd N Q Rs s0 G) (hI : cb_I N Q Rs s) (hD : cb_D N G s0 i s) (hX : cb_XM N s mc mm mf ot) (hc : c % 2 = 0) (hj0 : j0 < N) (h0 : G j0 = some (i, c)) :
    cb_XM N (cb_u1 r i c j0 s) (upd mc i (nI c)) (upd mm i (mm i ||| ((1 : Int32) <<< (nI j0 &&& 31)))) (upd mf i fi) (upd ot j0 1) := by
  obtain ⟨X1, X2, X3, X4⟩ := hX
  have hf := cb_free hG hD hj0 h0
  have hcls : s.1 i = none := by
    rw [hD.1 i (Nat.le_refl _)]
    rcases (cb_rq_ok (hG j0 i c hj0 h0).2.2.1).2 with h | h
    · exact h
    · exact absurd hc h.1
  have hno : ∀ j, j < N → ¬ s.2.1 j = some i := by
    intro j hj e
    obtain ⟨_, c', h2, _⟩ := hI.2.1 j i hj e
    rw [hcls] at h2
    exact nomatch h2
  refine ⟨fun i' hi' => ?_, fun i' b hi' hb => ?_, fun i' hi' => ?_, fun j hj => ?_⟩
  · show upd mc i (nI c) i' = cb_oi (cb_up s.1 i (some c) i')
    by_cases e : i' = i
    · rw [e, cb_up_s, pk_us]
      rfl
    · rw [cb_up_n e, pk_un e]
      exact X1 i' hi'
  · show bt (upd mm i (mm i ||| ((1 : Int32) <<< (nI j0 &&& 31))) i') b = decide (b < N ∧ cb_up s.2.1 j0 (some i) b = some i')
    by_cases e : i' = i
    · subst e
      rw [pk_us, b_or, cb_sh (by omega) hb, X2 i' b hi' hb]
      by_cases z : b = j0
      · subst z
        rw [decide_eq_true rfl, Bool.or_true, cb_up_s, decide_eq_true ⟨hj0, rfl⟩]
      · rw [decide_eq_false z, Bool.or_false, cb_up_n z]
    · rw [pk_un e, X2 i' b hi' hb]
      by_cases z : b = j0
      · subst z
        rw [cb_up_s, hf]
        exact decide_eq_decide.mpr ⟨fun y => (nomatch y.2), fun y => absurd (Option.some.inj y.2).symm e⟩
      · rw [cb_up_n z]
  · by_cases e : i' = i
    · subst e
      rw [pk_us, hfi]
      refine not_congr ?_
      constructor
      · intro z
        exact ⟨j0, c, hj0, cb_up_s, by rw [← z]; exact cb_up_s, cb_up_s, hc⟩
      · intro ⟨j, c', k1, k2, k3, _, _⟩
        have k2' : cb_up s.2.1 j0 (some i') j = some i' := k2
        have k3' : cb_up s.2.2 j0 (some r) j = some 0 := k3
        by_cases z : j = j0
        · rw [z, cb_up_s] at k3'
          exact Option.some.inj k3'
        · rw [cb_up_n z] at k2'
          exact absurd k2' (hno j k1)
    · rw [pk_un e, X3 i' hi']
      refine not_congr ?_
      constructor
      · intro ⟨j, c', k1, k2, k3, k4, k5⟩
        have z : j ≠ j0 := by
          intro z
          rw [z, hf] at k2
          exact nomatch k2
        exact ⟨j, c', k1, (cb_up_n z).trans k2, (cb_up_n z).trans k3, (cb_up_n e).trans k4, k5⟩
      · intro ⟨j, c', k1, k2, k3, k4, k5⟩
        have k2' : cb_up s.2.1 j0 (some i) j = some i' := k2
        have z : j ≠ j0 := by
          intro z
          rw [z, cb_up_s] at k2'
          exact e (Option.some.inj k2').symm
        exact ⟨j, c', k1, (cb_up_n z).symm.trans k2, (cb_up_n z).symm.trans k3, (cb_up_n e).symm.trans k4, k5⟩
  · show upd ot j0 1 j = 0 ↔ cb_up s.2.1 j0 (some i) j = none
    by_cases z : j = j0
    · rw [z, cb_up_s, pk_us]
      exact ⟨fun y => absurd y (by decide), fun y => (nomatch y)⟩
    · rw [cb_up_n z, pk_un z]
      exact X4 j hj
section
variable {N R C M : Nat} {fh uc sl : Int32} {cp cr cn qh qt qs gp ap mp bl wc lf lp lc lr mc mm mf ot gi gc : Nat → Int32}
theorem cx_am {post : SX → Prop} {G : Nat → Option (Nat × Nat)} {i c : Nat} {mc0 mm0 ot0 : Nat → Int32} (hN : N ≤ 8) (hi : i < N) (hc : c < 4) (hG : cb_gsm G N) (hg : ∀ j, j < N → gi j = cb_o1 (G j) ∧ gc j = cb_o2 (G j))
    (hp : ∀ mc mm ot : Nat → Int32, cb_AM N G i c mc0 mm0 ot0 N mc mm ot → post (nI N, nI R, nI C, nI M, fh, uc, sl, cp, cr, cn, qh, qt, qs, gp, ap, mp, bl, wc, lf, lp, lc, lr, mc, mm, mf, ot, gi, gc)) :
    ∀ d j n (mc mm ot : Nat → Int32), j + d = N → d < n → cb_AM N G i c mc0 mm0 ot0 j mc mm ot → wX_acceptMulticast_2 post (nI i) (nI c) n (nI j) (nI N) (nI R) (nI C) (nI M) fh uc sl cp cr cn qh qt qs gp ap mp bl wc lf lp lc lr mc mm mf ot gi gc := by
  intro d
  induction d with
  | zero =>
    intro j n mc mm ot hj hn hA
    obtain ⟨n, rfl⟩ : ∃ q, n = q + 1 := ⟨n - 1, by omega⟩
    have e : j = N := by omega
    subst e
    exact br_t (nI_le (by omega) (by omega)) (hp mc mm ot hA)
  | succ d ih =>
    intro j n mc mm ot hj hn hA
    obtain ⟨n, rfl⟩ : ∃ q, n = q + 1 := ⟨n - 1, by omega⟩
    have hin : vp_in (nI j) 8 := vp_in_nI (by omega) (by omega)
    refine br_f (nI_ge (by omega) (by omega)) ?_
    rw [nI_clamp (show j < 2 ^ 31 by omega), (hg j (by omega)).1, (hg j (by omega)).2]
    refine And.intro hin ?_
    by_cases e : ∃ c, c < 4 ∧ G j = some (i, c)
    · obtain ⟨c', hc', e⟩ := e
      rw [e]
      refine br_t rfl (And.intro hin (pk_eq c' c (fun z => ?_) (fun z => ?_)))
      · subst z
        exact cx_match (by omega) (by omega) (nm_r (nI_1 j) (ih (j + 1) n _ _ _ (by omega) (by omega) (cb_AM_y (by omega) hA e)))
      · refine nm_r (nI_1 j) (ih (j + 1) n mc mm ot (by omega) (by omega) (cb_AM_n hA ?_))
        rw [e]
        intro y
        cases y
        exact z rfl
    · exact br_f (fun z => e ((cb_o1_eq hN hG (by omega) hi).mp z)) (nm_r (nI_1 j) (ih (j + 1) n mc mm ot (by omega) (by omega) (cb_AM_n hA (fun z => e ⟨c, hc, z⟩))))
theorem cx_au {post : SX → Prop} {G : Nat → Option (Nat × Nat)} {i c a : Nat} {fi : Int32} (hN : N ≤ 8) (ha : a < N) (hi : i < N) (hc : c < 4) (hG : cb_gsm G N) (hg : ∀ j, j < N → gi j = cb_o1 (G j) ∧ gc j = cb_o2 (G j)) :
    ∀ d k n, k + d = N → d < n → (∃ j0, cb_ff (fun j => decide (G j = some (i, c))) N a d k = some j0 ∧ post (nI N, nI R, nI C, nI M, fh, uc, sl, cp, cr, cn, qh, qt, qs, gp, ap, mp, bl, wc, lf, lp, lc, lr, upd mc i (nI c), upd mm i (mm i ||| ((1 : Int32) <<< (nI j0 &&& 31))), upd mf i (vp_nar .boolean fi), upd ot j0 1, gi, gc)) → wX_acceptUnicast_18 post (nI i) (nI c) fi (nI N) (nI R) (nI C) (nI M) fh uc sl cp cr cn qh qt qs gp ap mp bl wc lf lp lc lr mc mm mf ot gi gc n (nI (cb_wr N (a + k))) (nI k) := by
  intro d
  induction d with
  | zero =>
    intro k n hk hn ⟨j0, h, _⟩
    exact nomatch h
  | succ d ih =>
    intro k n hk hn hp
    obtain ⟨n, rfl⟩ : ∃ q, n = q + 1 := ⟨n - 1, by omega⟩
    have hj := cb_wr_lt (N := N) (x := a + k) (by omega)
    have hin : vp_in (nI (cb_wr N (a + k))) 8 := vp_in_nI (by omega) (by omega)
    have hii : vp_in (nI i) 8 := vp_in_nI (by omega) (by omega)
    refine br_f (nI_ge (by omega) (by omega)) ?_
    have hnx : ¬ G (cb_wr N (a + k)) = some (i, c) → wX_acceptUnicast_65 post (wX_acceptUnicast_18 post (nI i) (nI c) fi (nI N) (nI R) (nI C) (nI M) fh uc sl cp cr cn qh qt qs gp ap mp bl wc lf lp lc lr mc mm mf ot gi gc n) (nI i) (nI c) fi (nI (cb_wr N (a + k))) (nI k) (nI N) (nI R) (nI C) (nI M) fh uc sl cp cr cn qh qt qs gp ap mp bl wc lf lp lc lr mc mm mf ot gi gc := by
      intro ng
      refine cx_fol hN hj (nm_r (nI_1 k) ?_)
      rw [cb_wr_next ha (by omega)]
      rw [cb_ff_f (decide_eq_false ng)] at hp
      exact ih (k + 1) n (by omega) (by omega) hp
    rw [nI_clamp (show cb_wr N (a + k) < 2 ^ 31 by omega), (hg _ hj).1, (hg _ hj).2]
    refine And.intro hin ?_
    by_cases e : ∃ c, c < 4 ∧ G (cb_wr N (a + k)) = some (i, c)
    · obtain ⟨c', hc', e⟩ := e
      refine br_t ((cb_o1_eq hN hG hj hi).mpr ⟨c', hc', e⟩) (And.intro hin (ek_if (cb_o2_eq e (by omega) (by omega)) (fun z => ?_) (fun z => ?_)))
      · subst z
        obtain ⟨j0, h1, h2⟩ := hp
        rw [cb_ff_t (decide_eq_true e)] at h1
        have h3 := Option.some.inj h1
        subst h3
        refine cx_match (by omega) (by omega) ?_
        rw [nI_clamp (show i < 2 ^ 31 by omega)]
        exact And.intro hii (nm_e h2)
      · refine hnx ?_
        rw [e]
        intro y
        cases y
        exact z rfl
    · exact br_f (fun z => e ((cb_o1_eq hN hG hj hi).mp z)) (hnx (fun z => e ⟨c, hc, z⟩))
theorem cx_aa {post : SX → Prop} {Q : Nat → Nat → Nat → Bool} {Rs : Nat → Nat → Int32} {G : Nat → Option (Nat × Nat)} {g a : Nat → Nat → Nat} {m : Nat → Nat} {s : CbS} {kd r : Nat} {fi : Int32} (hN : N ≤ 8) (hk : kd < 2) (hr : r < 2 ^ 31) (hfi : vp_nar .boolean fi = 0 ↔ ¬ r = 0) (hP : cb_PX N g a m gp ap mp) (hB : cb_PB N g a m)
    (hG : cb_Gd N Q Rs s G) (hI : cb_I N Q Rs s) (hg : ∀ j, j < N → gi j = cb_o1 (G j) ∧ gc j = cb_o2 (G j))
    (hp : ∀ mc mm mf ot : Nat → Int32, cb_XM N (cb_acs N kd G a r N s) mc mm mf ot → post (nI N, nI R, nI C, nI M, fh, uc, sl, cp, cr, cn, qh, qt, qs, gp, ap, mp, bl, wc, lf, lp, lc, lr, mc, mm, mf, ot, gi, gc)) :
    ∀ d i n (mc mm mf ot : Nat → Int32), i + d = N → d < n → cb_XM N (cb_acs N kd G a r i s) mc mm mf ot → wX_acceptAll_2 post (nI kd) fi n (nI i) (nI N) (nI R) (nI C) (nI M) fh uc sl cp cr cn qh qt qs gp ap mp bl wc lf lp lc lr mc mm mf ot gi gc := by
  have hS := cb_gsm_of hG
  have ha : ∀ i p, i < N → p < 2 → a i p < N := fun i p hi h2 => (hB i p hi h2).2.1
  intro d
  induction d with
  | zero =>
    intro i n mc mm mf ot hi hn hX
    obtain ⟨n, rfl⟩ : ∃ q, n = q + 1 := ⟨n - 1, by omega⟩
    have e : i = N := by omega
    rw [e] at hX
    exact br_t (nI_le (by omega) (by omega)) (hp mc mm mf ot hX)
  | succ d ih =>
    intro i n mc mm mf ot hi hn hX
    obtain ⟨n, rfl⟩ : ∃ q, n = q + 1 := ⟨n - 1, by omega⟩
    have hiN : i < N := by omega
    obtain ⟨hIi, hDi⟩ := cb_acs_inv hk hr ha hG hI i (by omega)
    have hacs : cb_acs N kd G a r (i + 1) s = cb_ac N kd G a r i (cb_acs N kd G a r i s) := rfl
    refine br_f (nI_ge (by omega) (by omega)) ⟨N + 1, ?_⟩
    rcases cb_ac_cases (r := r) hk hS hiN (fun p hp2 => ha i p hiN hp2) with ⟨hb, h⟩ | ⟨b, c, j0, hb4, hb, hcb, h4, h2, hj0, hu, hgj, h⟩ | ⟨b, c, j0, hb4, hb, hcb, h4, h2, hj0, hgj, h⟩
    · refine cx_best hN hk hiN hS hg N 0 4 (N + 1) (by omega) (by omega) (by omega) (fun _ => ?_) (fun z => absurd hb z)
      refine br_t rfl (nm_r (nI_1 i) (ih (i + 1) n mc mm mf ot (by omega) (by omega) ?_))
      rw [hacs, h]
      exact hX
    · refine cx_best hN hk hiN hS hg N 0 4 (N + 1) (by omega) (by omega) (by omega) (fun z => ?_) (fun z => ?_)
      · have z' : cb_bst G kd N i = 4 := z
        omega
      · have e1 : cb_bm G kd i N 0 4 ^^^ kd = c := by
          rw [hcb, ← hb]
          rfl
        rw [e1]
        refine br_f (cb_n1 (by omega)) (cx_mul0 h4 h2 (br_t rfl ?_))
        refine And.intro ?_ ?_
        · rw [cb_shr (by omega), cb_i8]
          exact vp_in_nI (by omega) (by omega)
        · have hap := ha i (c / 2) hiN (by omega)
          refine nm_r (e' := nI (cb_wr N (a i (c / 2) + 0))) ?_ ⟨N + 1, ?_⟩
          · rw [cb_shr (by omega), cb_i8, nI_clamp (by omega), (hP i (c / 2) hiN (by omega)).2.1, Nat.add_zero, cb_wr_id hap]
          · refine cx_au hN hap hiN h4 hS hg N 0 (N + 1) (by omega) (by omega) ⟨j0, hu, ?_⟩
            refine nm_r (nI_1 i) (ih (i + 1) n _ _ _ _ (by omega) (by omega) ?_)
            rw [hacs, h]
            exact cb_XM_u1 hN hfi hG hIi hDi hX h2 hj0 hgj
    · refine cx_best hN hk hiN hS hg N 0 4 (N + 1) (by omega) (by omega) (by omega) (fun z => ?_) (fun z => ?_)
      · have z' : cb_bst G kd N i = 4 := z
        omega
      · have e1 : cb_bm G kd i N 0 4 ^^^ kd = c := by
          rw [hcb, ← hb]
          rfl
        rw [e1]
        refine br_f (cb_n1 (by omega)) (cx_mul1 h4 h2 (br_f (by decide) ⟨N + 1, ?_⟩))
        refine cx_am hN hiN h4 hS hg (fun mc' mm' ot' hA => ?_) N 0 (N + 1) mc mm ot (by omega) (by omega) cb_AM_0
        refine nm_r (nI_1 i) (ih (i + 1) n _ _ _ _ (by omega) (by omega) ?_)
        rw [hacs, h]
        exact cb_XM_mt hG hDi hX h2 hj0 hgj hA
theorem cx_bg {post : SX → Prop} (hN : N ≤ 8) (hp : ∀ mc mm mf ot : Nat → Int32, cb_XM N (fun _ => none, fun _ => none, fun _ => none) mc mm mf ot → post (nI N, nI R, nI C, nI M, fh, uc, sl, cp, cr, cn, qh, qt, qs, gp, ap, mp, bl, wc, lf, lp, lc, lr, mc, mm, mf, ot, gi, gc)) :
    ∀ d j n (mc mm mf ot : Nat → Int32), j + d = N → d < n → (∀ j', j' < j → mc j' = -1 ∧ mm j' = 0 ∧ mf j' = 0 ∧ ot j' = 0) → wX_beginMatching_2 post (nI N) (nI R) (nI C) (nI M) fh uc sl n (nI j) cp cr cn qh qt qs gp ap mp bl wc lf lp lc lr mc mm mf ot gi gc := by
  intro d
  induction d with
  | zero =>
    intro j n mc mm mf ot hj hn hI
    obtain ⟨n, rfl⟩ : ∃ q, n = q + 1 := ⟨n - 1, by omega⟩
    refine br_t (nI_le (by omega) (by omega)) (hp mc mm mf ot ⟨fun i hi => ?_, fun i b hi hb => ?_, fun i hi => ?_, fun i hi => ?_⟩)
    · exact (hI i (by omega)).1
    · rw [(hI i (by omega)).2.1, b_0]
      exact (decide_eq_false (fun z => (nomatch z.2))).symm
    · rw [(hI i (by omega)).2.2.1]
      exact ⟨fun _ ⟨j, c, _, z, _⟩ => (nomatch z), fun _ => rfl⟩
    · rw [(hI i (by omega)).2.2.2]
      exact ⟨fun _ => rfl, fun _ => rfl⟩
  | succ d ih =>
    intro j n mc mm mf ot hj hn hI
    obtain ⟨n, rfl⟩ : ∃ q, n = q + 1 := ⟨n - 1, by omega⟩
    have hin : vp_in (nI j) 8 := vp_in_nI (by omega) (by omega)
    refine br_f (nI_ge (by omega) (by omega)) ?_
    rw [nI_clamp (show j < 2 ^ 31 by omega)]
    refine And.intro hin (nm_e (And.intro hin (nm_e (And.intro hin (nm_e (And.intro hin (nm_e (nm_r (nI_1 j) (ih (j + 1) n _ _ _ _ (by omega) (by omega) (fun j' hj' => ?_))))))))))
    by_cases e : j' = j
    · rw [e, pk_us, pk_us, pk_us, pk_us]
      exact ⟨rfl, rfl, rfl, rfl⟩
    · rw [pk_un e, pk_un e, pk_un e, pk_un e]
      exact hI j' (by omega)
end
end
section
/-! Y: find, requests, grants -/
def cb_B (ci cq cy : Nat → Int32) (a1 a2 a3 : Int32) : Nat → Bool := fun x => decide (ci x = a1 ∧ cq x = a2 ∧ cy x = a3)
def cb_fd (B : Nat → Bool) : Nat → Nat → Nat → Option Nat
  | 0, _, _ => none
  | d + 1, x, k => if B x = true then (if k = 0 then some x else cb_fd B d (x + 1) (k - 1)) else cb_fd B d (x + 1) k
theorem cb_fd_f {B : Nat → Bool} {d x k : Nat} (h : B x = false) : cb_fd B (d + 1) x k = cb_fd B d (x + 1) k := by
  rw [cb_fd, if_neg (by rw [h]; decide)]
theorem cb_fd_0 {B : Nat → Bool} {d x : Nat} (h : B x = true) : cb_fd B (d + 1) x 0 = some x := by
  rw [cb_fd, if_pos h, if_pos rfl]
theorem cb_fd_s {B : Nat → Bool} {d x k : Nat} (h : B x = true) (hk : ¬ k = 0) : cb_fd B (d + 1) x k = cb_fd B d (x + 1) (k - 1) := by
  rw [cb_fd, if_pos h, if_neg hk]
theorem cb_fd_lt {B : Nat → Bool} {y : Nat} : ∀ d x k, cb_fd B d x k = some y → x ≤ y ∧ y < x + d ∧ B y = true := by
  intro d
  induction d with
  | zero => intro x k h; exact nomatch h
  | succ d ih =>
    intro x k h
    cases hb : B x with
    | false =>
      rw [cb_fd_f hb] at h
      have := ih _ _ h
      exact ⟨by omega, by omega, this.2.2⟩
    | true =>
      by_cases hk : k = 0
      · rw [hk, cb_fd_0 hb] at h
        cases h
        exact ⟨by omega, by omega, hb⟩
      · rw [cb_fd_s hb hk] at h
        have := ih _ _ h
        exact ⟨by omega, by omega, this.2.2⟩
def cb_YM (N : Nat) (s : CbS) (ic ou rd : Nat → Int32) : Prop := ∀ i, i < N → ic i = cb_oi (s.1 i) ∧ ou i = cb_oi (s.2.1 i) ∧ rd i = cb_oi (s.2.2 i)
def cb_PY (N : Nat) (g a : Nat → Nat → Nat) (m : Nat → Nat) (yg ya ym : Nat → Int32) : Prop :=
  ∀ j p, j < N → p < 2 → yg (j * 2 + p) = nI (g j p) ∧ ya (j * 2 + p) = nI (a j p) ∧ ym p = nI (m p)
def cb_YF (N K : Nat) (Q : Nat → Nat → Nat → Bool) (fx : Nat → Nat → Nat → Option Nat) (ci cq cy : Nat → Int32) : Prop :=
  ∀ i v p, i < N → v ≤ N → p < 2 → cb_fd (cb_B ci cq cy (nI i) (nI v) (nI p)) K 0 0 = fx i v p ∧ Q i v p = (fx i v p).isSome ∧ (∀ x, fx i v p = some x → x < 64)
def cb_YR (N : Nat) (Rs : Nat → Nat → Int32) (fx : Nat → Nat → Nat → Option Nat) (yr : Nat → Int32) : Prop :=
  ∀ i p x, i < N → p < 2 → fx i N p = some x → yr x = Rs i p
section
variable {N R C M K : Nat} {sl : Int32} {ci cq cy yp yr bl yg ya ym yw oi op oc os ic ou rd jg jc : Nat → Int32}
theorem cy_find_loop {post : Int32 → Prop} {a1 a2 a3 : Int32} {k : Nat} (hK : K ≤ 64) (hk : k < 2 ^ 31) :
    ∀ d x t n, x + d = K → d < n → t ≤ k → t ≤ x → post (cb_oi (cb_fd (cb_B ci cq cy a1 a2 a3) d x (k - t))) → wY_find_6 post a1 a2 a3 (nI k) (nI N) (nI R) (nI C) (nI M) sl (nI K) ci cq cy yp yr bl yg ya ym yw oi op oc os ic ou rd jg jc n (nI t) (nI x) := by
  intro d
  induction d with
  | zero =>
    intro x t n hx hn ht htx hp
    obtain ⟨n, rfl⟩ : ∃ q, n = q + 1 := ⟨n - 1, by omega⟩
    exact br_t (nI_le (by omega) (by omega)) hp
  | succ d ih =>
    intro x t n hx hn ht htx hp
    obtain ⟨n, rfl⟩ : ∃ q, n = q + 1 := ⟨n - 1, by omega⟩
    have hin : vp_in (nI x) 64 := vp_in_nI (by omega) (by omega)
    have hnx : ¬ (ci x = a1 ∧ cq x = a2 ∧ cy x = a3) → wY_find_6 post a1 a2 a3 (nI k) (nI N) (nI R) (nI C) (nI M) sl (nI K) ci cq cy yp yr bl yg ya ym yw oi op oc os ic ou rd jg jc n (nI t) (nI (x + 1)) := by
      intro z
      rw [cb_fd_f (B := cb_B ci cq cy a1 a2 a3) (decide_eq_false z)] at hp
      exact ih (x + 1) t n (by omega) (by omega) ht (by omega) hp
    refine br_f (nI_ge (by omega) (by omega)) ?_
    rw [nI_clamp (show x < 2 ^ 31 by omega)]
    refine And.intro hin (br_c (fun h1 => And.intro hin (br_c (fun h2 => And.intro hin (br_c (fun h3 => ?_) (fun z => nm_r (nI_1 x) (hnx (fun y => z y.2.2))))) (fun z => nm_r (nI_1 x) (hnx (fun y => z y.2.1))))) (fun z => nm_r (nI_1 x) (hnx (fun y => z y.1))))
    have hB : cb_B ci cq cy a1 a2 a3 x = true := decide_eq_true ⟨h1, h2, h3⟩
    refine pk_eq t k (fun e => ?_) (fun e => nm_r (nI_1 t) (nm_r (nI_1 x) ?_))
    · rw [show k - t = 0 by omega, cb_fd_0 hB] at hp
      exact hp
    · rw [cb_fd_s hB (by omega), show k - t - 1 = k - (t + 1) by omega] at hp
      exact ih (x + 1) (t + 1) n (by omega) (by omega) (by omega) (by omega) hp
theorem cy_find {post : Int32 → Prop} {a1 a2 a3 : Int32} {k : Nat} (hK : K ≤ 64) (hk : k < 2 ^ 31) (hp : post (cb_oi (cb_fd (cb_B ci cq cy a1 a2 a3) K 0 k))) : wpY_find post (nI N, nI R, nI C, nI M, sl, nI K, ci, cq, cy, yp, yr, bl, yg, ya, ym, yw, oi, op, oc, os, ic, ou, rd, jg, jc) a1 a2 a3 (nI k) :=
  ⟨K + 1, cy_find_loop hK hk K 0 0 (K + 1) (by omega) (by omega) (by omega) (by omega) hp⟩
theorem cy_findn_loop {post : Int32 → Prop} {a1 a2 a3 a4 : Int32} (hK : K ≤ 64) (hk : a4 < 0) (hp : post (-1)) :
    ∀ d x t n, x + d = K → d < n → t ≤ x → wY_find_6 post a1 a2 a3 a4 (nI N) (nI R) (nI C) (nI M) sl (nI K) ci cq cy yp yr bl yg ya ym yw oi op oc os ic ou rd jg jc n (nI t) (nI x) := by
  intro d
  induction d with
  | zero =>
    intro x t n hx hn htx
    obtain ⟨n, rfl⟩ : ∃ q, n = q + 1 := ⟨n - 1, by omega⟩
    exact br_t (nI_le (by omega) (by omega)) hp
  | succ d ih =>
    intro x t n hx hn htx
    obtain ⟨n, rfl⟩ : ∃ q, n = q + 1 := ⟨n - 1, by omega⟩
    have hin : vp_in (nI x) 64 := vp_in_nI (by omega) (by omega)
    have hnx := ih (x + 1) t n (by omega) (by omega) (by omega)
    have hny := ih (x + 1) (t + 1) n (by omega) (by omega) (by omega)
    refine br_f (nI_ge (by omega) (by omega)) ?_
    refine And.intro hin (br_c (fun h1 => And.intro hin (br_c (fun h2 => And.intro hin (br_c (fun h3 => ?_) (fun z => nm_r (nI_1 x) hnx))) (fun z => nm_r (nI_1 x) hnx))) (fun z => nm_r (nI_1 x) hnx))
    refine br_f (fun e => ?_) (nm_r (nI_1 t) (nm_r (nI_1 x) hny))
    rw [← e] at hk
    exact nI_pos (by omega) hk
theorem cy_findn {post : Int32 → Prop} {a1 a2 a3 a4 : Int32} (hK : K ≤ 64) (hk : a4 < 0) (hp : post (-1)) : wpY_find post (nI N, nI R, nI C, nI M, sl, nI K, ci, cq, cy, yp, yr, bl, yg, ya, ym, yw, oi, op, oc, os, ic, ou, rd, jg, jc) a1 a2 a3 a4 :=
  ⟨K + 1, cy_findn_loop hK hk hp K 0 0 (K + 1) (by omega) (by omega) (by omega)⟩
theorem cy_f0 {post : Int32 → Prop} {Q : Nat → Nat → Nat → Bool} {fx : Nat → Nat → Nat → Option Nat} {i v p : Nat} (hK : K ≤ 64) (hF : cb_YF N K Q fx ci cq cy) (hi : i < N) (hv : v ≤ N) (hp : p < 2)
    (h0 : Q i v p = false → post (-1)) (h1 : ∀ x, fx i v p = some x → Q i v p = true → x < 64 → post (nI x)) : wpY_find post (nI N, nI R, nI C, nI M, sl, nI K, ci, cq, cy, yp, yr, bl, yg, ya, ym, yw, oi, op, oc, os, ic, ou, rd, jg, jc) (nI i) (nI v) (nI p) 0 := by
  obtain ⟨e1, e2, e3⟩ := hF i v p hi hv hp
  refine cy_find (k := 0) hK (by omega) ?_
  rw [e1]
  cases hx : fx i v p with
  | none =>
    refine h0 ?_
    rw [e2, hx]
    rfl
  | some x =>
    refine h1 x hx ?_ (e3 x hx)
    rw [e2, hx]
    rfl
theorem cy_wrap {post : Int32 → Prop} {x : Nat} (hN : N ≤ 8) (hx : x < 2 * N) (h : post (nI (cb_wr N x))) : wpY_wrap post (nI N, nI R, nI C, nI M, sl, nI K, ci, cq, cy, yp, yr, bl, yg, ya, ym, yw, oi, op, oc, os, ic, ou, rd, jg, jc) (nI x) := by
  by_cases e : x < N
  · rw [cb_wr_id e] at h
    exact br_t (nI_lt e (by omega)) h
  · rw [cb_wr, if_neg e] at h
    refine br_f (nI_nlt (by omega) (by omega)) ?_
    rw [pk_sub (by omega)]
    exact h
theorem cy_uni0 {post : Int32 → Prop} {c : Nat} (hc : c < 4) (h2 : c % 2 = 0) (h : post 1) : wpY_isUnicast post (nI N, nI R, nI C, nI M, sl, nI K, ci, cq, cy, yp, yr, bl, yg, ya, ym, yw, oi, op, oc, os, ic, ou, rd, jg, jc) (nI c) :=
  br_t ((cb_odd (by omega)).mpr h2) h
theorem cy_uni1 {post : Int32 → Prop} {c : Nat} (hc : c < 4) (h2 : ¬ c % 2 = 0) (h : post 0) : wpY_isUnicast post (nI N, nI R, nI C, nI M, sl, nI K, ci, cq, cy, yp, yr, bl, yg, ya, ym, yw, oi, op, oc, os, ic, ou, rd, jg, jc) (nI c) :=
  br_f (fun z => h2 ((cb_odd (by omega)).mp z)) h
theorem cy_cls {post : Int32 → Prop} {r kd : Nat} {us : Int32} (hus : (kd = 0 ∧ us = 1) ∨ (kd = 1 ∧ us = 0)) (h : post (nI (r ^^^ kd))) : wpY_classAt post (nI N, nI R, nI C, nI M, sl, nI K, ci, cq, cy, yp, yr, bl, yg, ya, ym, yw, oi, op, oc, os, ic, ou, rd, jg, jc) (nI r) us := by
  rcases hus with ⟨e1, e2⟩ | ⟨e1, e2⟩
  · subst e1 e2
    rw [Nat.xor_zero] at h
    exact br_f (by decide) h
  · subst e1 e2
    rw [← nx_xor] at h
    exact br_t rfl h
theorem cy_req {post : Int32 → Prop} {Q : Nat → Nat → Nat → Bool} {Rs : Nat → Nat → Int32} {fx : Nat → Nat → Nat → Option Nat} {s : CbS} {i j c : Nat} (hN : N ≤ 8) (hK : K ≤ 64) (hF : cb_YF N K Q fx ci cq cy) (hR : cb_YR N Rs fx yr) (hM : cb_YM N s ic ou rd) (hcs : ∀ i, i < N → cb_sm (s.1 i)) (hos : ∀ j, j < N → cb_sm (s.2.1 j)) (hi : i < N) (hj : j < N) (hc : c < 4)
    (h1 : (decide (s.2.1 j = none ∧ bl j = 0) && cb_rq N Q Rs s.1 j c i) = true → post 1) (h0 : (decide (s.2.1 j = none ∧ bl j = 0) && cb_rq N Q Rs s.1 j c i) = false → post 0) : wpY_requests post (nI N, nI R, nI C, nI M, sl, nI K, ci, cq, cy, yp, yr, bl, yg, ya, ym, yw, oi, op, oc, os, ic, ou, rd, jg, jc) (nI i) (nI j) (nI c) := by
  have hinj : vp_in (nI j) 8 := vp_in_nI (by omega) (by omega)
  have hini : vp_in (nI i) 8 := vp_in_nI (by omega) (by omega)
  refine And.intro hinj ?_
  rw [nI_clamp (show j < 2 ^ 31 by omega), nI_clamp (show i < 2 ^ 31 by omega), (hM j hj).2.1, (hM i hi).1]
  refine ek_if (cb_oi_n (hos j hj)) (fun e1 => And.intro hinj (br_c (fun e2 => ?_) (fun e2 => h0 ?_))) (fun e1 => h0 ?_)
  · rw [decide_eq_true ⟨e1, e2⟩, Bool.true_and] at h1 h0
    refine nm_r (cb_shr (by omega)) ?_
    by_cases hc2 : c % 2 = 0
    · rw [cb_rq_0 hc2] at h1 h0
      refine cy_uni0 hc hc2 (br_f (by decide) (And.intro hini (ek_if (cb_oi_n (hcs i hi)) (fun e3 => ?_) (fun e3 => h0 ?_))))
      · refine cy_f0 hK hF hi (by omega) (by omega) (fun z => br_t cb_m1 (h0 ?_)) (fun x hx z hx64 => br_f (nI_pos (by omega)) (h1 ?_))
        · rw [z, Bool.and_false]
        · rw [z, decide_eq_true e3]
          rfl
      · rw [decide_eq_false e3]
        rfl
    · rw [cb_rq_1 hc2] at h1 h0
      refine cy_uni1 hc hc2 (br_t rfl (cy_f0 hK hF hi (Nat.le_refl _) (by omega) (fun z => br_t cb_m1 (h0 ?_)) (fun x hx z hx64 => br_f (nI_pos (by omega)) ?_)))
      · rw [z, Bool.false_and, Bool.and_false]
      · rw [nI_clamp (show x < 2 ^ 31 by omega), hR i (c / 2) x hi (by omega) hx]
        refine And.intro (vp_in_nI hx64 (by omega)) ?_
        rw [z, Bool.true_and] at h1 h0
        cases hb : bt (Rs i (c / 2)) j with
        | false =>
          refine br_t ((cb_bit _ (by omega)).mpr hb) (h0 ?_)
          rw [hb, Bool.and_false]
        | true =>
          rw [hb, Bool.and_true] at h1 h0
          refine br_f (fun z => ?_) (And.intro hini (ek_if (cb_oi_n (hcs i hi)) (fun e3 => h1 ?_) (fun e3 => And.intro hini (ek_if (cb_oi_s (hcs i hi) (by omega)) (fun e4 => h1 ?_) (fun e4 => h0 ?_)))))
          · rw [cb_bit _ (by omega), hb] at z
            exact nomatch z
          · rw [decide_eq_true e3]
            rfl
          · rw [decide_eq_true e4, Bool.or_true]
          · rw [decide_eq_false e3, decide_eq_false e4]
            rfl
  · rw [decide_eq_false (fun z => e2 z.2)]
    rfl
  · rw [decide_eq_false (fun z => e1 z.1)]
    rfl
theorem cy_g80s {post : SY → Prop} {J2 J26 : Int32 → (Nat → Int32) → (Nat → Int32) → (Nat → Int32) → (Nat → Int32) → (Nat → Int32) → (Nat → Int32) → (Nat → Int32) → (Nat → Int32) → (Nat → Int32) → (Nat → Int32) → (Nat → Int32) → (Nat → Int32) → (Nat → Int32) → (Nat → Int32) → (Nat → Int32) → (Nat → Int32) → (Nat → Int32) → (Nat → Int32) → (Nat → Int32) → Prop} {us : Int32} {a c j r : Nat} (hN : N ≤ 8) (ha : a < N) (hj : j < N) (hset : ¬ jg j = -1) (hJ : J26 (nI (r + 1)) ci cq cy yp yr bl yg ya ym yw oi op oc os ic ou rd jg jc) :
    ∀ d k n, k + d = N → d < n → wY_grantStep_80 post J2 J26 us (nI j) (nI r) (nI c) (nI a) (nI N) (nI R) (nI C) (nI M) sl (nI K) n (nI k) ci cq cy yp yr bl yg ya ym yw oi op oc os ic ou rd jg jc := by
  intro d
  induction d with
  | zero =>
    intro k n hk hn
    obtain ⟨n, rfl⟩ : ∃ q, n = q + 1 := ⟨n - 1, by omega⟩
    exact br_t (nI_le (by omega) (by omega)) (nm_r (nI_1 r) hJ)
  | succ d ih =>
    intro k n hk hn
    obtain ⟨n, rfl⟩ : ∃ q, n = q + 1 := ⟨n - 1, by omega⟩
    refine br_f (nI_ge (by omega) (by omega)) ?_
    rw [nI_add]
    refine cy_wrap hN (by omega) (And.intro (vp_in_nI (by omega) (by omega)) (br_f ?_ (nm_r (nI_1 k) (ih (k + 1) n (by omega) (by omega)))))
    rw [nI_clamp (show j < 2 ^ 31 by omega)]
    exact hset
theorem cy_g80 {post : SY → Prop} {J2 J26 : Int32 → (Nat → Int32) → (Nat → Int32) → (Nat → Int32) → (Nat → Int32) → (Nat → Int32) → (Nat → Int32) → (Nat → Int32) → (Nat → Int32) → (Nat → Int32) → (Nat → Int32) → (Nat → Int32) → (Nat → Int32) → (Nat → Int32) → (Nat → Int32) → (Nat → Int32) → (Nat → Int32) → (Nat → Int32) → (Nat → Int32) → (Nat → Int32) → Prop} {us : Int32} {P : Nat → Bool} {a c j r : Nat} (hN : N ≤ 8) (ha : a < N) (hj : j < N) (h1 : jg j = -1)
    (hreq : ∀ (i : Nat) (post' : Int32 → Prop), i < N → (P i = true → post' 1) → (P i = false → post' 0) → wpY_requests post' (nI N, nI R, nI C, nI M, sl, nI K, ci, cq, cy, yp, yr, bl, yg, ya, ym, yw, oi, op, oc, os, ic, ou, rd, jg, jc) (nI i) (nI j) (nI c)) :
    ∀ d k n, k + d = N → d < n → (cb_ff P N a d k = none → J26 (nI (r + 1)) ci cq cy yp yr bl yg ya ym yw oi op oc os ic ou rd jg jc) → (∀ i, cb_ff P N a d k = some i → J26 (nI (r + 1)) ci cq cy yp yr bl yg ya ym yw oi op oc os ic ou rd (upd jg j (nI i)) (upd jc j (nI c))) →
      wY_grantStep_80 post J2 J26 us (nI j) (nI r) (nI c) (nI a) (nI N) (nI R) (nI C) (nI M) sl (nI K) n (nI k) ci cq cy yp yr bl yg ya ym yw oi op oc os ic ou rd jg jc := by
  intro d
  induction d with
  | zero =>
    intro k n hk hn hJ _
    obtain ⟨n, rfl⟩ : ∃ q, n = q + 1 := ⟨n - 1, by omega⟩
    exact br_t (nI_le (by omega) (by omega)) (nm_r (nI_1 r) (hJ rfl))
  | succ d ih =>
    intro k n hk hn hJ hS
    obtain ⟨n, rfl⟩ : ∃ q, n = q + 1 := ⟨n - 1, by omega⟩
    have hin : vp_in (nI j) 8 := vp_in_nI (by omega) (by omega)
    have e := nI_clamp (show j < 2 ^ 31 by omega)
    have hw := cb_wr_lt (N := N) (x := a + k) (by omega)
    refine br_f (nI_ge (by omega) (by omega)) ?_
    rw [nI_add, e]
    refine cy_wrap hN (by omega) (And.intro hin (br_t h1 (hreq _ _ hw (fun hP => br_f (by decide) ?_) (fun hP => br_t rfl (nm_r (nI_1 k) ?_)))))
    · refine And.intro hin (nm_e (And.intro hin (nm_e (nm_r (nI_1 k) ?_))))
      refine cy_g80s hN ha hj ?_ (hS _ (cb_ff_t hP)) d (k + 1) n (by omega) (by omega)
      rw [pk_us]
      exact cb_n1 (by omega)
    · rw [cb_ff_f hP] at hJ hS
      exact ih (k + 1) n (by omega) (by omega) hJ hS
theorem cy_g26s {post : SY → Prop} {J2 : Int32 → (Nat → Int32) → (Nat → Int32) → (Nat → Int32) → (Nat → Int32) → (Nat → Int32) → (Nat → Int32) → (Nat → Int32) → (Nat → Int32) → (Nat → Int32) → (Nat → Int32) → (Nat → Int32) → (Nat → Int32) → (Nat → Int32) → (Nat → Int32) → (Nat → Int32) → (Nat → Int32) → (Nat → Int32) → (Nat → Int32) → (Nat → Int32) → Prop} {us : Int32} {kd j : Nat} {g a : Nat → Nat → Nat} {m : Nat → Nat} (hN : N ≤ 8) (hk : kd < 2) (hus : (kd = 0 ∧ us = 1) ∨ (kd = 1 ∧ us = 0)) (hP : cb_PY N g a m yg ya ym) (hB : cb_PB N g a m) (hj : j < N) (hset : ¬ jg j = -1) (hJ : J2 (nI (j + 1)) ci cq cy yp yr bl yg ya ym yw oi op oc os ic ou rd jg jc) :
    ∀ d r n, r + d = 4 → d < n → wY_grantStep_26 post J2 us (nI j) (nI N) (nI R) (nI C) (nI M) sl (nI K) n (nI r) ci cq cy yp yr bl yg ya ym yw oi op oc os ic ou rd jg jc := by
  intro d
  induction d with
  | zero =>
    intro r n hr hn
    obtain ⟨n, rfl⟩ : ∃ q, n = q + 1 := ⟨n - 1, by omega⟩
    exact br_t (nI_le (a := 4) (by omega) (by omega)) (nm_r (nI_1 j) hJ)
  | succ d ih =>
    intro r n hr hn
    obtain ⟨n, rfl⟩ : ∃ q, n = q + 1 := ⟨n - 1, by omega⟩
    have hx := (cb_xor4 r (by omega) kd hk).1
    have hb := cb_sp_lt hB hj hx
    have hp := hP j ((r ^^^ kd) / 2) hj (by omega)
    have hL : wY_grantStep_80 post J2 (wY_grantStep_26 post J2 us (nI j) (nI N) (nI R) (nI C) (nI M) sl (nI K) n) us (nI j) (nI r) (nI (r ^^^ kd)) (nI (cb_sp g m j (r ^^^ kd))) (nI N) (nI R) (nI C) (nI M) sl (nI K) (N + 1) (nI 0) ci cq cy yp yr bl yg ya ym yw oi op oc os ic ou rd jg jc :=
      cy_g80s hN hb hj hset (ih (r + 1) n (by omega) (by omega)) N 0 (N + 1) (by omega) (by omega)
    refine br_f (nI_ge (b := 4) (by omega) (by omega)) (cy_cls hus (nm_r (cb_shr (by omega)) ?_))
    by_cases hc2 : (r ^^^ kd) % 2 = 0
    · rw [cb_sp, if_pos hc2] at hL
      refine cy_uni0 hx hc2 (br_f (by decide) ?_)
      rw [cb_i2, nI_clamp (show j * 2 + (r ^^^ kd) / 2 < 2 ^ 31 by omega), hp.1]
      exact And.intro (vp_in_nI (by omega) (by omega)) (nm_e ⟨_, hL⟩)
    · rw [cb_sp, if_neg hc2] at hL
      refine cy_uni1 hx hc2 (br_t rfl ?_)
      rw [nI_clamp (show (r ^^^ kd) / 2 < 2 ^ 31 by omega), hp.2.2]
      exact And.intro (vp_in_nI (by omega) (by omega)) (nm_e ⟨_, hL⟩)
theorem cy_g26 {post : SY → Prop} {J2 : Int32 → (Nat → Int32) → (Nat → Int32) → (Nat → Int32) → (Nat → Int32) → (Nat → Int32) → (Nat → Int32) → (Nat → Int32) → (Nat → Int32) → (Nat → Int32) → (Nat → Int32) → (Nat → Int32) → (Nat → Int32) → (Nat → Int32) → (Nat → Int32) → (Nat → Int32) → (Nat → Int32) → (Nat → Int32) → (Nat → Int32) → (Nat → Int32) → Prop} {us : Int32} {P : Nat → Nat → Bool} {kd j : Nat} {g a : Nat → Nat → Nat} {m : Nat → Nat} (hN : N ≤ 8) (hk : kd < 2) (hus : (kd = 0 ∧ us = 1) ∨ (kd = 1 ∧ us = 0)) (hP : cb_PY N g a m yg ya ym) (hB : cb_PB N g a m) (hj : j < N) (h1 : jg j = -1)
    (hreq : ∀ (c i : Nat) (post' : Int32 → Prop), c < 4 → i < N → (P c i = true → post' 1) → (P c i = false → post' 0) → wpY_requests post' (nI N, nI R, nI C, nI M, sl, nI K, ci, cq, cy, yp, yr, bl, yg, ya, ym, yw, oi, op, oc, os, ic, ou, rd, jg, jc) (nI i) (nI j) (nI c)) :
    ∀ d r n, r + d = 4 → d < n → (cb_go (fun c => cb_ff (P c) N (cb_sp g m j c) N 0) kd d r = none → J2 (nI (j + 1)) ci cq cy yp yr bl yg ya ym yw oi op oc os ic ou rd jg jc) → (∀ i c, cb_go (fun c => cb_ff (P c) N (cb_sp g m j c) N 0) kd d r = some (i, c) → J2 (nI (j + 1)) ci cq cy yp yr bl yg ya ym yw oi op oc os ic ou rd (upd jg j (nI i)) (upd jc j (nI c))) →
      wY_grantStep_26 post J2 us (nI j) (nI N) (nI R) (nI C) (nI M) sl (nI K) n (nI r) ci cq cy yp yr bl yg ya ym yw oi op oc os ic ou rd jg jc := by
  intro d
  induction d with
  | zero =>
    intro r n hr hn hJ _
    obtain ⟨n, rfl⟩ : ∃ q, n = q + 1 := ⟨n - 1, by omega⟩
    exact br_t (nI_le (a := 4) (by omega) (by omega)) (nm_r (nI_1 j) (hJ rfl))
  | succ d ih =>
    intro r n hr hn hJ hS
    obtain ⟨n, rfl⟩ : ∃ q, n = q + 1 := ⟨n - 1, by omega⟩
    have hx := (cb_xor4 r (by omega) kd hk).1
    have hb := cb_sp_lt hB hj hx
    have hp := hP j ((r ^^^ kd) / 2) hj (by omega)
    have hL : wY_grantStep_80 post J2 (wY_grantStep_26 post J2 us (nI j) (nI N) (nI R) (nI C) (nI M) sl (nI K) n) us (nI j) (nI r) (nI (r ^^^ kd)) (nI (cb_sp g m j (r ^^^ kd))) (nI N) (nI R) (nI C) (nI M) sl (nI K) (N + 1) (nI 0) ci cq cy yp yr bl yg ya ym yw oi op oc os ic ou rd jg jc := by
      refine cy_g80 hN hb hj h1 (fun i post' hi => hreq (r ^^^ kd) i post' hx hi) N 0 (N + 1) (by omega) (by omega) (fun z => ?_) (fun i z => ?_)
      · rw [cb_go_n (fr := fun c => cb_ff (P c) N (cb_sp g m j c) N 0) z] at hJ hS
        exact ih (r + 1) n (by omega) (by omega) hJ hS
      · have hi := (cb_ff_lt hb z).1
        refine cy_g26s hN hk hus hP hB hj ?_ (hS i _ (cb_go_s (fr := fun c => cb_ff (P c) N (cb_sp g m j c) N 0) z)) d (r + 1) n (by omega) (by omega)
        rw [pk_us]
        exact cb_n1 (by omega)
    refine br_f (nI_ge (b := 4) (by omega) (by omega)) (cy_cls hus (nm_r (cb_shr (by omega)) ?_))
    by_cases hc2 : (r ^^^ kd) % 2 = 0
    · rw [cb_sp, if_pos hc2] at hL
      refine cy_uni0 hx hc2 (br_f (by decide) ?_)
      rw [cb_i2, nI_clamp (show j * 2 + (r ^^^ kd) / 2 < 2 ^ 31 by omega), hp.1]
      exact And.intro (vp_in_nI (by omega) (by omega)) (nm_e ⟨_, hL⟩)
    · rw [cb_sp, if_neg hc2] at hL
      refine cy_uni1 hx hc2 (br_t rfl ?_)
      rw [nI_clamp (show (r ^^^ kd) / 2 < 2 ^ 31 by omega), hp.2.2]
      exact And.intro (vp_in_nI (by omega) (by omega)) (nm_e ⟨_, hL⟩)
theorem cy_gs {post : SY → Prop} {us : Int32} {G : Nat → Option (Nat × Nat)} {P : Nat → Nat → Nat → Bool} {kd : Nat} {g a : Nat → Nat → Nat} {m : Nat → Nat} (hN : N ≤ 8) (hk : kd < 2) (hus : (kd = 0 ∧ us = 1) ∨ (kd = 1 ∧ us = 0)) (hP : cb_PY N g a m yg ya ym) (hB : cb_PB N g a m)
    (hG : ∀ j, j < N → G j = cb_go (fun c => cb_ff (P j c) N (cb_sp g m j c) N 0) kd 4 0)
    (hreq : ∀ (jg jc : Nat → Int32) (j c i : Nat) (post' : Int32 → Prop), j < N → c < 4 → i < N → (P j c i = true → post' 1) → (P j c i = false → post' 0) → wpY_requests post' (nI N, nI R, nI C, nI M, sl, nI K, ci, cq, cy, yp, yr, bl, yg, ya, ym, yw, oi, op, oc, os, ic, ou, rd, jg, jc) (nI i) (nI j) (nI c))
    (hp : ∀ jg jc : Nat → Int32, (∀ j, j < N → jg j = cb_o1 (G j) ∧ jc j = cb_o2 (G j)) → post (nI N, nI R, nI C, nI M, sl, nI K, ci, cq, cy, yp, yr, bl, yg, ya, ym, yw, oi, op, oc, os, ic, ou, rd, jg, jc)) :
    ∀ d j n (jg jc : Nat → Int32), j + d = N → d < n → (∀ j', j' < j → jg j' = cb_o1 (G j') ∧ jc j' = cb_o2 (G j')) → wY_grantStep_2 post us (nI N) (nI R) (nI C) (nI M) sl (nI K) n (nI j) ci cq cy yp yr bl yg ya ym yw oi op oc os ic ou rd jg jc := by
  intro d
  induction d with
  | zero =>
    intro j n jg jc hj hn hI
    obtain ⟨n, rfl⟩ : ∃ q, n = q + 1 := ⟨n - 1, by omega⟩
    exact br_t (nI_le (by omega) (by omega)) (hp jg jc (fun j' h => hI j' (by omega)))
  | succ d ih =>
    intro j n jg jc hj hn hI
    obtain ⟨n, rfl⟩ : ∃ q, n = q + 1 := ⟨n - 1, by omega⟩
    have hin : vp_in (nI j) 8 := vp_in_nI (by omega) (by omega)
    have e := nI_clamp (show j < 2 ^ 31 by omega)
    have hnx : ∀ (jg' jc' : Nat → Int32), (∀ j', j' < j → jg' j' = jg j' ∧ jc' j' = jc j') → jg' j = cb_o1 (G j) → jc' j = cb_o2 (G j) → wY_grantStep_2 post us (nI N) (nI R) (nI C) (nI M) sl (nI K) n (nI (j + 1)) ci cq cy yp yr bl yg ya ym yw oi op oc os ic ou rd jg' jc' := by
      intro jg' jc' h1 h2 h3
      refine ih (j + 1) n jg' jc' (by omega) (by omega) (fun j' h => ?_)
      by_cases ej : j' = j
      · rw [ej]
        exact ⟨h2, h3⟩
      · have k1 := h1 j' (by omega)
        have k2 := hI j' (by omega)
        exact ⟨k1.1.trans k2.1, k1.2.trans k2.2⟩
    refine br_f (nI_ge (by omega) (by omega)) ?_
    rw [e]
    refine And.intro hin (nm_e (And.intro hin (nm_e ⟨5, ?_⟩)))
    refine cy_g26 (P := P j) hN hk hus hP hB (by omega) pk_us (fun c i post' hc hi => hreq _ _ j c i post' (by omega) hc hi) 4 0 5 (by omega) (by omega) (fun z => ?_) (fun i c z => ?_)
    · have hz : G j = none := (hG j (by omega)).trans z
      refine hnx _ _ (fun j' h => ⟨pk_un (by omega), pk_un (by omega)⟩) ?_ ?_
      · rw [pk_us, hz]
        rfl
      · rw [pk_us, hz]
        rfl
    · have hz : G j = some (i, c) := (hG j (by omega)).trans z
      refine hnx _ _ (fun j' h => ⟨?_, ?_⟩) ?_ ?_
      · rw [pk_un (by omega), pk_un (by omega)]
      · rw [pk_un (by omega), pk_un (by omega)]
      · rw [pk_us, hz]
        rfl
      · rw [pk_us, hz]
        rfl
end
end
section
/-! Y: accept -/
/-- while the reference takes all grants of kind c at the first k places from a on -/
def cb_BM (N : Nat) (G : Nat → Option (Nat × Nat)) (a r i c : Nat) (ic0 ou0 rd0 : Nat → Int32) (k : Nat) (ac : Int32) (ic ou rd : Nat → Int32) : Prop :=
  (∀ i', i' ≠ i → ic i' = ic0 i') ∧
  ((ac = 1 ∧ ic i = nI c) ∨ (ac = 0 ∧ ∀ k', k' < k → ¬ G (cb_wr N (a + k')) = some (i, c))) ∧
  (∀ j, (((∃ k', k' < k ∧ cb_wr N (a + k') = j) ∧ G j = some (i, c)) → ou j = nI i ∧ rd j = nI r) ∧
    (¬ ((∃ k', k' < k ∧ cb_wr N (a + k') = j) ∧ G j = some (i, c)) → ou j = ou0 j ∧ rd j = rd0 j))
theorem cb_BM_0 {N : Nat} {G : Nat → Option (Nat × Nat)} {a r i c : Nat} {ic ou rd : Nat → Int32} : cb_BM N G a r i c ic ou rd 0 0 ic ou rd :=
  ⟨fun _ _ => rfl, Or.inr ⟨rfl, fun k' h => absurd h (Nat.not_lt_zero k')⟩, fun _ => ⟨fun z => absurd z.1 (fun ⟨k', h, _⟩ => Nat.not_lt_zero k' h), fun _ => ⟨rfl, rfl⟩⟩⟩
theorem cb_BM_n {N : Nat} {G : Nat → Option (Nat × Nat)} {a r i c k : Nat} {ac : Int32} {ic0 ou0 rd0 ic ou rd : Nat → Int32} (h : cb_BM N G a r i c ic0 ou0 rd0 k ac ic ou rd) (hg : ¬ G (cb_wr N (a + k)) = some (i, c)) : cb_BM N G a r i c ic0 ou0 rd0 (k + 1) ac ic ou rd := by
  obtain ⟨h1, h2, h3⟩ := h
  have hb : ∀ j, ((∃ k', k' < k + 1 ∧ cb_wr N (a + k') = j) ∧ G j = some (i, c)) ↔ ((∃ k', k' < k ∧ cb_wr N (a + k') = j) ∧ G j = some (i, c)) := by
    intro j
    constructor
    · intro ⟨⟨k', z1, z2⟩, z3⟩
      refine ⟨⟨k', ?_, z2⟩, z3⟩
      by_cases e : k' = k
      · rw [← z2, e] at z3
        exact absurd z3 hg
      · omega
    · intro ⟨⟨k', z1, z2⟩, z3⟩
      exact ⟨⟨k', by omega, z2⟩, z3⟩
  refine ⟨h1, ?_, fun j => ?_⟩
  · rcases h2 with z | ⟨z1, z2⟩
    · exact Or.inl z
    · refine Or.inr ⟨z1, fun k' hk' => ?_⟩
      by_cases e : k' = k
      · rw [e]
        exact hg
      · exact z2 k' (by omega)
  · rw [hb j]
    exact h3 j
theorem cb_BM_y {N : Nat} {G : Nat → Option (Nat × Nat)} {a r i c k : Nat} {ac : Int32} {ic0 ou0 rd0 ic ou rd : Nat → Int32} (h : cb_BM N G a r i c ic0 ou0 rd0 k ac ic ou rd) (hg : G (cb_wr N (a + k)) = some (i, c)) :
    cb_BM N G a r i c ic0 ou0 rd0 (k + 1) 1 (upd ic i (nI c)) (upd ou (cb_wr N (a + k)) (nI i)) (upd rd (cb_wr N (a + k)) (nI r)) := by
  obtain ⟨h1, h2, h3⟩ := h
  refine ⟨fun i' hi' => (pk_un hi').trans (h1 i' hi'), Or.inl ⟨rfl, pk_us⟩, fun j => ?_⟩
  by_cases e : j = cb_wr N (a + k)
  · rw [e, pk_us, pk_us]
    exact ⟨fun _ => ⟨rfl, rfl⟩, fun z => absurd ⟨⟨k, by omega, rfl⟩, hg⟩ z⟩
  · rw [pk_un e, pk_un e]
    constructor
    · intro ⟨⟨k', z1, z2⟩, z3⟩
      refine (h3 j).1 ⟨⟨k', ?_, z2⟩, z3⟩
      by_cases e2 : k' = k
      · rw [e2] at z2
        exact absurd z2.symm e
      · omega
    · intro z
      exact (h3 j).2 (fun ⟨⟨k', z1, z2⟩, z3⟩ => z ⟨⟨k', by omega, z2⟩, z3⟩)
theorem cb_YM_mt {N : Nat} {G : Nat → Option (Nat × Nat)} {s : CbS} {a r i c j0 : Nat} {ac : Int32} {ic ou rd ic' ou' rd' : Nat → Int32} (ha : a < N) (hj0 : j0 < N) (h0 : G j0 = some (i, c)) (hM : cb_YM N s ic ou rd) (hA : cb_BM N G a r i c ic ou rd N ac ic' ou' rd') : ac = 1 ∧ cb_YM N (cb_mt G r i c s) ic' ou' rd' := by
  obtain ⟨A1, A2, A3⟩ := hA
  have hac : ac = 1 ∧ ic' i = nI c := by
    rcases A2 with z | ⟨_, z⟩
    · exact z
    · obtain ⟨k, hk, e⟩ := cb_wr_cov ha hj0
      exact absurd (e ▸ h0) (z k hk)
  refine ⟨hac.1, fun j hj => ⟨?_, ?_⟩⟩
  · show ic' j = cb_oi (cb_up s.1 i (some c) j)
    by_cases e : j = i
    · rw [e, cb_up_s]
      exact hac.2
    · rw [cb_up_n e, A1 j e]
      exact (hM j hj).1
  · show ou' j = cb_oi (if G j = some (i, c) then some i else s.2.1 j) ∧ rd' j = cb_oi (if G j = some (i, c) then some r else s.2.2 j)
    by_cases e : G j = some (i, c)
    · obtain ⟨k, hk, ek⟩ := cb_wr_cov ha hj
      rw [if_pos e, if_pos e]
      exact (A3 j).1 ⟨⟨k, hk, ek⟩, e⟩
    · rw [if_neg e, if_neg e]
      have h := (A3 j).2 (fun z => e z.2)
      exact ⟨h.1.trans (hM j hj).2.1, h.2.trans (hM j hj).2.2⟩
theorem cb_YM_u1 {N : Nat} {s : CbS} {r i c j0 : Nat} {ic ou rd : Nat → Int32} (hM : cb_YM N s ic ou rd) : cb_YM N (cb_u1 r i c j0 s) (upd ic i (nI c)) (upd ou j0 (nI i)) (upd rd j0 (nI r)) := by
  intro j hj
  refine ⟨?_, ?_, ?_⟩
  · show upd ic i (nI c) j = cb_oi (cb_up s.1 i (some c) j)
    by_cases e : j = i
    · rw [e, cb_up_s, pk_us]
      rfl
    · rw [cb_up_n e, pk_un e]
      exact (hM j hj).1
  · show upd ou j0 (nI i) j = cb_oi (cb_up s.2.1 j0 (some i) j)
    by_cases e : j = j0
    · rw [e, cb_up_s, pk_us]
      rfl
    · rw [cb_up_n e, pk_un e]
      exact (hM j hj).2.1
  · show upd rd j0 (nI r) j = cb_oi (cb_up s.2.2 j0 (some r) j)
    by_cases e : j = j0
    · rw [e, cb_up_s, pk_us]
      rfl
    · rw [cb_up_n e, pk_un e]
      exact (hM j hj).2.2
section
variable {N R C M K : Nat} {sl : Int32} {ci cq cy yp yr bl yg ya ym yw oi op oc os ic ou rd jg jc : Nat → Int32}
/-- what a place of the inner loop does: nothing, or the store -/
theorem cy_102n {post : SY → Prop} {J2 : Int32 → (Nat → Int32) → (Nat → Int32) → (Nat → Int32) → (Nat → Int32) → (Nat → Int32) → (Nat → Int32) → (Nat → Int32) → (Nat → Int32) → (Nat → Int32) → (Nat → Int32) → (Nat → Int32) → (Nat → Int32) → (Nat → Int32) → (Nat → Int32) → (Nat → Int32) → (Nat → Int32) → (Nat → Int32) → (Nat → Int32) → (Nat → Int32) → Prop} {J16 J54 : Int32 → Int32 → (Nat → Int32) → (Nat → Int32) → (Nat → Int32) → (Nat → Int32) → (Nat → Int32) → (Nat → Int32) → (Nat → Int32) → (Nat → Int32) → (Nat → Int32) → (Nat → Int32) → (Nat → Int32) → (Nat → Int32) → (Nat → Int32) → (Nat → Int32) → (Nat → Int32) → (Nat → Int32) → (Nat → Int32) → (Nat → Int32) → (Nat → Int32) → Prop} {us rr i ac q c a : Int32} {k x9 : Int32} {k' : Nat} (hk : k + 1 = nI k') (h : J54 ac (nI k') ci cq cy yp yr bl yg ya ym yw oi op oc os ic ou rd jg jc) : wY_acceptStep_101 post J2 J16 J54 us rr i ac q c a k x9 (nI N) (nI R) (nI C) (nI M) sl (nI K) ci cq cy yp yr bl yg ya ym yw oi op oc os ic ou rd jg jc :=
  br_t rfl (nm_r hk h)
theorem cy_123 {post : SY → Prop} {J2 : Int32 → (Nat → Int32) → (Nat → Int32) → (Nat → Int32) → (Nat → Int32) → (Nat → Int32) → (Nat → Int32) → (Nat → Int32) → (Nat → Int32) → (Nat → Int32) → (Nat → Int32) → (Nat → Int32) → (Nat → Int32) → (Nat → Int32) → (Nat → Int32) → (Nat → Int32) → (Nat → Int32) → (Nat → Int32) → (Nat → Int32) → (Nat → Int32) → Prop} {J16 J54 : Int32 → Int32 → (Nat → Int32) → (Nat → Int32) → (Nat → Int32) → (Nat → Int32) → (Nat → Int32) → (Nat → Int32) → (Nat → Int32) → (Nat → Int32) → (Nat → Int32) → (Nat → Int32) → (Nat → Int32) → (Nat → Int32) → (Nat → Int32) → (Nat → Int32) → (Nat → Int32) → (Nat → Int32) → (Nat → Int32) → (Nat → Int32) → (Nat → Int32) → Prop} {us q c a : Int32} {i j r k : Nat} (hi : i < 8) (hj : j < 8) (h : J54 1 (nI (k + 1)) ci cq cy yp yr bl yg ya ym yw oi op oc os (upd ic i c) (upd ou j (nI i)) (upd rd j (nI r)) jg jc) : wY_acceptStep_123 post J2 J16 J54 us (nI r) (nI i) q c a (nI k) (nI j) (nI N) (nI R) (nI C) (nI M) sl (nI K) ci cq cy yp yr bl yg ya ym yw oi op oc os ic ou rd jg jc := by
  have h1 : vp_in (nI i) 8 := vp_in_nI hi (by omega)
  have h2 : vp_in (nI j) 8 := vp_in_nI hj (by omega)
  refine And.intro h1 ?_
  rw [nI_clamp (show i < 2 ^ 31 by omega), nI_clamp (show j < 2 ^ 31 by omega)]
  exact nm_e (And.intro h2 (nm_e (And.intro h2 (nm_e (nm_r (nI_1 k) h)))))
/-- no grant of the kind: the inner loop does nothing -/
theorem cy_54n {post : SY → Prop} {J2 : Int32 → (Nat → Int32) → (Nat → Int32) → (Nat → Int32) → (Nat → Int32) → (Nat → Int32) → (Nat → Int32) → (Nat → Int32) → (Nat → Int32) → (Nat → Int32) → (Nat → Int32) → (Nat → Int32) → (Nat → Int32) → (Nat → Int32) → (Nat → Int32) → (Nat → Int32) → (Nat → Int32) → (Nat → Int32) → (Nat → Int32) → (Nat → Int32) → Prop} {J16 : Int32 → Int32 → (Nat → Int32) → (Nat → Int32) → (Nat → Int32) → (Nat → Int32) → (Nat → Int32) → (Nat → Int32) → (Nat → Int32) → (Nat → Int32) → (Nat → Int32) → (Nat → Int32) → (Nat → Int32) → (Nat → Int32) → (Nat → Int32) → (Nat → Int32) → (Nat → Int32) → (Nat → Int32) → (Nat → Int32) → (Nat → Int32) → (Nat → Int32) → Prop} {us rr ac : Int32} {G : Nat → Option (Nat × Nat)} {a c i r : Nat} (hN : N ≤ 8) (ha : a < N) (hi : i < N) (hc : c < 4) (hG : cb_gsm G N) (hg : ∀ j, j < N → jg j = cb_o1 (G j) ∧ jc j = cb_o2 (G j)) (hno : ∀ j, j < N → ¬ G j = some (i, c)) (hJ : J16 ac (nI (r + 1)) ci cq cy yp yr bl yg ya ym yw oi op oc os ic ou rd jg jc) :
    ∀ d k n, k + d = N → d < n → wY_acceptStep_54 post J2 J16 us rr (nI i) (nI r) (nI c) (nI a) (nI N) (nI R) (nI C) (nI M) sl (nI K) n ac (nI k) ci cq cy yp yr bl yg ya ym yw oi op oc os ic ou rd jg jc := by
  intro d
  induction d with
  | zero =>
    intro k n hk hn
    obtain ⟨n, rfl⟩ : ∃ q, n = q + 1 := ⟨n - 1, by omega⟩
    exact br_t (nI_le (by omega) (by omega)) (nm_r (nI_1 r) hJ)
  | succ d ih =>
    intro k n hk hn
    obtain ⟨n, rfl⟩ : ∃ q, n = q + 1 := ⟨n - 1, by omega⟩
    have hw := cb_wr_lt (N := N) (x := a + k) (by omega)
    have hin : vp_in (nI (cb_wr N (a + k))) 8 := vp_in_nI (by omega) (by omega)
    refine br_f (nI_ge (by omega) (by omega)) ?_
    rw [nI_add]
    refine cy_wrap hN (by omega) ?_
    rw [nI_clamp (show cb_wr N (a + k) < 2 ^ 31 by omega), (hg _ hw).1, (hg _ hw).2]
    refine And.intro hin ?_
    have hnx := ih (k + 1) n (by omega) (by omega)
    by_cases e : ∃ c, c < 4 ∧ G (cb_wr N (a + k)) = some (i, c)
    · obtain ⟨c', hc', e⟩ := e
      refine br_t ((cb_o1_eq hN hG hw hi).mpr ⟨c', hc', e⟩) (And.intro hin (ek_if (cb_o2_eq e (by omega) (by omega)) (fun z => ?_) (fun z => cy_102n (nI_1 k) hnx)))
      subst z
      exact absurd e (hno _ hw)
    · exact br_f (fun z => e ((cb_o1_eq hN hG hw hi).mp z)) (cy_102n (nI_1 k) hnx)
/-- a unicast kind behind its accept: nothing more -/
theorem cy_54a {post : SY → Prop} {J2 : Int32 → (Nat → Int32) → (Nat → Int32) → (Nat → Int32) → (Nat → Int32) → (Nat → Int32) → (Nat → Int32) → (Nat → Int32) → (Nat → Int32) → (Nat → Int32) → (Nat → Int32) → (Nat → Int32) → (Nat → Int32) → (Nat → Int32) → (Nat → Int32) → (Nat → Int32) → (Nat → Int32) → (Nat → Int32) → (Nat → Int32) → (Nat → Int32) → Prop} {J16 : Int32 → Int32 → (Nat → Int32) → (Nat → Int32) → (Nat → Int32) → (Nat → Int32) → (Nat → Int32) → (Nat → Int32) → (Nat → Int32) → (Nat → Int32) → (Nat → Int32) → (Nat → Int32) → (Nat → Int32) → (Nat → Int32) → (Nat → Int32) → (Nat → Int32) → (Nat → Int32) → (Nat → Int32) → (Nat → Int32) → (Nat → Int32) → (Nat → Int32) → Prop} {us rr : Int32} {a c i r : Nat} (hN : N ≤ 8) (ha : a < N) (hc : c < 4) (h2 : c % 2 = 0) (hJ : J16 1 (nI (r + 1)) ci cq cy yp yr bl yg ya ym yw oi op oc os ic ou rd jg jc) :
    ∀ d k n, k + d = N → d < n → wY_acceptStep_54 post J2 J16 us rr (nI i) (nI r) (nI c) (nI a) (nI N) (nI R) (nI C) (nI M) sl (nI K) n 1 (nI k) ci cq cy yp yr bl yg ya ym yw oi op oc os ic ou rd jg jc := by
  intro d
  induction d with
  | zero =>
    intro k n hk hn
    obtain ⟨n, rfl⟩ : ∃ q, n = q + 1 := ⟨n - 1, by omega⟩
    exact br_t (nI_le (by omega) (by omega)) (nm_r (nI_1 r) hJ)
  | succ d ih =>
    intro k n hk hn
    obtain ⟨n, rfl⟩ : ∃ q, n = q + 1 := ⟨n - 1, by omega⟩
    have hw := cb_wr_lt (N := N) (x := a + k) (by omega)
    have hin : vp_in (nI (cb_wr N (a + k))) 8 := vp_in_nI (by omega) (by omega)
    have hnx := ih (k + 1) n (by omega) (by omega)
    refine br_f (nI_ge (by omega) (by omega)) ?_
    rw [nI_add]
    refine cy_wrap hN (by omega) (And.intro hin (br_c (fun _ => And.intro hin (br_c (fun _ => ?_) (fun _ => cy_102n (nI_1 k) hnx))) (fun _ => cy_102n (nI_1 k) hnx)))
    exact br_f (by decide) (br_f (by decide) (cy_uni0 hc h2 (br_f (by decide) (nm_r (nI_1 k) hnx))))
theorem cy_54u {post : SY → Prop} {J2 : Int32 → (Nat → Int32) → (Nat → Int32) → (Nat → Int32) → (Nat → Int32) → (Nat → Int32) → (Nat → Int32) → (Nat → Int32) → (Nat → Int32) → (Nat → Int32) → (Nat → Int32) → (Nat → Int32) → (Nat → Int32) → (Nat → Int32) → (Nat → Int32) → (Nat → Int32) → (Nat → Int32) → (Nat → Int32) → (Nat → Int32) → (Nat → Int32) → Prop} {J16 : Int32 → Int32 → (Nat → Int32) → (Nat → Int32) → (Nat → Int32) → (Nat → Int32) → (Nat → Int32) → (Nat → Int32) → (Nat → Int32) → (Nat → Int32) → (Nat → Int32) → (Nat → Int32) → (Nat → Int32) → (Nat → Int32) → (Nat → Int32) → (Nat → Int32) → (Nat → Int32) → (Nat → Int32) → (Nat → Int32) → (Nat → Int32) → (Nat → Int32) → Prop} {us : Int32} {G : Nat → Option (Nat × Nat)} {a c i q r : Nat} (hN : N ≤ 8) (ha : a < N) (hi : i < N) (hc : c < 4) (h2 : c % 2 = 0) (hG : cb_gsm G N) (hg : ∀ j, j < N → jg j = cb_o1 (G j) ∧ jc j = cb_o2 (G j)) :
    ∀ d k n, k + d = N → d < n → (∃ j0, cb_ff (fun j => decide (G j = some (i, c))) N a d k = some j0 ∧ J16 1 (nI (q + 1)) ci cq cy yp yr bl yg ya ym yw oi op oc os (upd ic i (nI c)) (upd ou j0 (nI i)) (upd rd j0 (nI r)) jg jc) → wY_acceptStep_54 post J2 J16 us (nI r) (nI i) (nI q) (nI c) (nI a) (nI N) (nI R) (nI C) (nI M) sl (nI K) n 0 (nI k) ci cq cy yp yr bl yg ya ym yw oi op oc os ic ou rd jg jc := by
  intro d
  induction d with
  | zero =>
    intro k n hk hn ⟨j0, h, _⟩
    exact nomatch h
  | succ d ih =>
    intro k n hk hn hp
    obtain ⟨n, rfl⟩ : ∃ q, n = q + 1 := ⟨n - 1, by omega⟩
    have hw := cb_wr_lt (N := N) (x := a + k) (by omega)
    have hin : vp_in (nI (cb_wr N (a + k))) 8 := vp_in_nI (by omega) (by omega)
    have hnx : ¬ G (cb_wr N (a + k)) = some (i, c) → wY_acceptStep_54 post J2 J16 us (nI r) (nI i) (nI q) (nI c) (nI a) (nI N) (nI R) (nI C) (nI M) sl (nI K) n 0 (nI (k + 1)) ci cq cy yp yr bl yg ya ym yw oi op oc os ic ou rd jg jc := by
      intro ng
      rw [cb_ff_f (decide_eq_false ng)] at hp
      exact ih (k + 1) n (by omega) (by omega) hp
    refine br_f (nI_ge (by omega) (by omega)) ?_
    rw [nI_add]
    refine cy_wrap hN (by omega) ?_
    rw [nI_clamp (show cb_wr N (a + k) < 2 ^ 31 by omega), (hg _ hw).1, (hg _ hw).2]
    refine And.intro hin ?_
    by_cases e : ∃ c, c < 4 ∧ G (cb_wr N (a + k)) = some (i, c)
    · obtain ⟨c', hc', e⟩ := e
      refine br_t ((cb_o1_eq hN hG hw hi).mpr ⟨c', hc', e⟩) (And.intro hin (ek_if (cb_o2_eq e (by omega) (by omega)) (fun z => ?_) (fun z => cy_102n (nI_1 k) (hnx ?_))))
      · subst z
        obtain ⟨j0, z1, z2⟩ := hp
        rw [cb_ff_t (decide_eq_true e)] at z1
        have z3 := Option.some.inj z1
        subst z3
        refine br_f (by decide) (br_t rfl (cy_123 (by omega) (by omega) ?_))
        exact cy_54a hN ha hc h2 z2 d (k + 1) n (by omega) (by omega)
      · rw [e]
        intro y
        cases y
        exact z rfl
    · exact br_f (fun z => e ((cb_o1_eq hN hG hw hi).mp z)) (cy_102n (nI_1 k) (hnx (fun z => e ⟨c, hc, z⟩)))
theorem cy_54m {post : SY → Prop} {J2 : Int32 → (Nat → Int32) → (Nat → Int32) → (Nat → Int32) → (Nat → Int32) → (Nat → Int32) → (Nat → Int32) → (Nat → Int32) → (Nat → Int32) → (Nat → Int32) → (Nat → Int32) → (Nat → Int32) → (Nat → Int32) → (Nat → Int32) → (Nat → Int32) → (Nat → Int32) → (Nat → Int32) → (Nat → Int32) → (Nat → Int32) → (Nat → Int32) → Prop} {J16 : Int32 → Int32 → (Nat → Int32) → (Nat → Int32) → (Nat → Int32) → (Nat → Int32) → (Nat → Int32) → (Nat → Int32) → (Nat → Int32) → (Nat → Int32) → (Nat → Int32) → (Nat → Int32) → (Nat → Int32) → (Nat → Int32) → (Nat → Int32) → (Nat → Int32) → (Nat → Int32) → (Nat → Int32) → (Nat → Int32) → (Nat → Int32) → (Nat → Int32) → Prop} {us : Int32} {G : Nat → Option (Nat × Nat)} {a c i q r : Nat} {ic0 ou0 rd0 : Nat → Int32} (hN : N ≤ 8) (ha : a < N) (hi : i < N) (hc : c < 4) (h2 : ¬ c % 2 = 0) (hG : cb_gsm G N) (hg : ∀ j, j < N → jg j = cb_o1 (G j) ∧ jc j = cb_o2 (G j))
    (hJ : ∀ (ac : Int32) (ic ou rd : Nat → Int32), cb_BM N G a r i c ic0 ou0 rd0 N ac ic ou rd → J16 ac (nI (q + 1)) ci cq cy yp yr bl yg ya ym yw oi op oc os ic ou rd jg jc) :
    ∀ d k n (ac : Int32) (ic ou rd : Nat → Int32), k + d = N → d < n → cb_BM N G a r i c ic0 ou0 rd0 k ac ic ou rd → wY_acceptStep_54 post J2 J16 us (nI r) (nI i) (nI q) (nI c) (nI a) (nI N) (nI R) (nI C) (nI M) sl (nI K) n ac (nI k) ci cq cy yp yr bl yg ya ym yw oi op oc os ic ou rd jg jc := by
  intro d
  induction d with
  | zero =>
    intro k n ac ic ou rd hk hn hA
    obtain ⟨n, rfl⟩ : ∃ q, n = q + 1 := ⟨n - 1, by omega⟩
    have e : k = N := by omega
    subst e
    exact br_t (nI_le (by omega) (by omega)) (nm_r (nI_1 q) (hJ ac ic ou rd hA))
  | succ d ih =>
    intro k n ac ic ou rd hk hn hA
    obtain ⟨n, rfl⟩ : ∃ q, n = q + 1 := ⟨n - 1, by omega⟩
    have hw := cb_wr_lt (N := N) (x := a + k) (by omega)
    have hin : vp_in (nI (cb_wr N (a + k))) 8 := vp_in_nI (by omega) (by omega)
    have hnx : ¬ G (cb_wr N (a + k)) = some (i, c) → wY_acceptStep_54 post J2 J16 us (nI r) (nI i) (nI q) (nI c) (nI a) (nI N) (nI R) (nI C) (nI M) sl (nI K) n ac (nI (k + 1)) ci cq cy yp yr bl yg ya ym yw oi op oc os ic ou rd jg jc :=
      fun ng => ih (k + 1) n ac ic ou rd (by omega) (by omega) (cb_BM_n hA ng)
    refine br_f (nI_ge (by omega) (by omega)) ?_
    rw [nI_add]
    refine cy_wrap hN (by omega) ?_
    rw [nI_clamp (show cb_wr N (a + k) < 2 ^ 31 by omega), (hg _ hw).1, (hg _ hw).2]
    refine And.intro hin ?_
    by_cases e : ∃ c, c < 4 ∧ G (cb_wr N (a + k)) = some (i, c)
    · obtain ⟨c', hc', e⟩ := e
      refine br_t ((cb_o1_eq hN hG hw hi).mpr ⟨c', hc', e⟩) (And.intro hin (ek_if (cb_o2_eq e (by omega) (by omega)) (fun z => ?_) (fun z => cy_102n (nI_1 k) (hnx ?_))))
      · subst z
        have hst : wY_acceptStep_123 post J2 J16 (wY_acceptStep_54 post J2 J16 us (nI r) (nI i) (nI q) (nI c') (nI a) (nI N) (nI R) (nI C) (nI M) sl (nI K) n) us (nI r) (nI i) (nI q) (nI c') (nI a) (nI k) (nI (cb_wr N (a + k))) (nI N) (nI R) (nI C) (nI M) sl (nI K) ci cq cy yp yr bl yg ya ym yw oi op oc os ic ou rd jg jc :=
          cy_123 (by omega) (by omega) (ih (k + 1) n 1 _ _ _ (by omega) (by omega) (cb_BM_y hA e))
        exact br_f (by decide) (br_c (fun _ => hst) (fun _ => cy_uni1 hc h2 (br_t rfl hst)))
      · rw [e]
        intro y
        cases y
        exact z rfl
    · exact br_f (fun z => e ((cb_o1_eq hN hG hw hi).mp z)) (cy_102n (nI_1 k) (hnx (fun z => e ⟨c, hc, z⟩)))
theorem cy_16 {post : SY → Prop} {J2 : Int32 → (Nat → Int32) → (Nat → Int32) → (Nat → Int32) → (Nat → Int32) → (Nat → Int32) → (Nat → Int32) → (Nat → Int32) → (Nat → Int32) → (Nat → Int32) → (Nat → Int32) → (Nat → Int32) → (Nat → Int32) → (Nat → Int32) → (Nat → Int32) → (Nat → Int32) → (Nat → Int32) → (Nat → Int32) → (Nat → Int32) → (Nat → Int32) → Prop} {us : Int32} {G : Nat → Option (Nat × Nat)} {g a : Nat → Nat → Nat} {m : Nat → Nat} {s : CbS} {kd i r : Nat} (hN : N ≤ 8) (hk : kd < 2) (hus : (kd = 0 ∧ us = 1) ∨ (kd = 1 ∧ us = 0)) (hP : cb_PY N g a m yg ya ym) (hB : cb_PB N g a m) (hi : i < N) (hG : cb_gsm G N) (hg : ∀ j, j < N → jg j = cb_o1 (G j) ∧ jc j = cb_o2 (G j)) (hM : cb_YM N s ic ou rd)
    (hJ : ∀ ic ou rd : Nat → Int32, cb_YM N (cb_ac N kd G a r i s) ic ou rd → J2 (nI (i + 1)) ci cq cy yp yr bl yg ya ym yw oi op oc os ic ou rd jg jc) :
    ∀ d q n, q + d = 4 → d < n → q ≤ cb_bst G kd N i → wY_acceptStep_16 post J2 us (nI r) (nI i) (nI N) (nI R) (nI C) (nI M) sl (nI K) n 0 (nI q) ci cq cy yp yr bl yg ya ym yw oi op oc os ic ou rd jg jc := by
  have ha : ∀ i p, i < N → p < 2 → a i p < N := fun i p hi h2 => (hB i p hi h2).2.1
  have hBs := cb_bst_ok (i := i) hG hk
  intro d
  induction d with
  | zero =>
    intro q n hq hn hb
    obtain ⟨n, rfl⟩ : ∃ z, n = z + 1 := ⟨n - 1, by omega⟩
    refine br_t (nI_le (a := 4) (by omega) (by omega)) (nm_r (nI_1 i) (hJ ic ou rd ?_))
    have h4 : cb_bst G kd N i = 4 := by
      have := hBs.1
      omega
    rw [cb_ac, if_pos h4]
    exact hM
  | succ d ih =>
    intro q n hq hn hb
    obtain ⟨n, rfl⟩ : ∃ z, n = z + 1 := ⟨n - 1, by omega⟩
    have hx := cb_xor4 q (by omega) kd hk
    have hap := ha i ((q ^^^ kd) / 2) hi (by omega)
    refine br_f (nI_ge (b := 4) (by omega) (by omega)) (br_t rfl (cy_cls hus ?_))
    rw [cb_shr (by omega), cb_i2, nI_clamp (show i * 2 + (q ^^^ kd) / 2 < 2 ^ 31 by omega), (hP i ((q ^^^ kd) / 2) hi (by omega)).2.1]
    refine And.intro (vp_in_nI (by omega) (by omega)) (nm_e ⟨N + 1, ?_⟩)
    rcases cb_ac_cases (r := r) hk hG hi (fun p hp2 => ha i p hi hp2) with ⟨hb4, h⟩ | ⟨b, c, j0, hb4, hbe, hcb, h4, h2, hj0, hu, hgj, h⟩ | ⟨b, c, j0, hb4, hbe, hcb, h4, h2, hj0, hgj, h⟩
    · refine cy_54n hN hap hi hx.1 hG hg (fun j hj e => ?_) (ih (q + 1) n (by omega) (by omega) (by omega)) N 0 (N + 1) (by omega) (by omega)
      have := hBs.2.1 j hj _ e
      rw [hx.2] at this
      omega
    · by_cases eq : q = b
      · rw [eq, ← hcb]
        refine cy_54u hN (ha i (c / 2) hi (by omega)) hi h4 h2 hG hg N 0 (N + 1) (by omega) (by omega) ⟨j0, hu, ?_⟩
        obtain ⟨n, rfl⟩ : ∃ z, n = z + 1 := ⟨n - 1, by omega⟩
        have hJ' := hJ _ _ _ (by rw [h]; exact cb_YM_u1 hM)
        exact br_c (fun _ => nm_r (nI_1 i) hJ') (fun _ => br_f (by decide) (nm_r (nI_1 i) hJ'))
      · refine cy_54n hN hap hi hx.1 hG hg (fun j hj e => ?_) (ih (q + 1) n (by omega) (by omega) (by omega)) N 0 (N + 1) (by omega) (by omega)
        have := hBs.2.1 j hj _ e
        rw [hx.2] at this
        omega
    · by_cases eq : q = b
      · rw [eq, ← hcb]
        refine cy_54m hN (ha i (c / 2) hi (by omega)) hi h4 h2 hG hg (fun ac ic' ou' rd' hA => ?_) N 0 (N + 1) 0 ic ou rd (by omega) (by omega) cb_BM_0
        obtain ⟨hac, hY⟩ := cb_YM_mt (ha i (c / 2) hi (by omega)) hj0 hgj hM hA
        subst hac
        obtain ⟨n, rfl⟩ : ∃ z, n = z + 1 := ⟨n - 1, by omega⟩
        have hJ' := hJ ic' ou' rd' (by rw [h]; exact hY)
        exact br_c (fun _ => nm_r (nI_1 i) hJ') (fun _ => br_f (by decide) (nm_r (nI_1 i) hJ'))
      · refine cy_54n hN hap hi hx.1 hG hg (fun j hj e => ?_) (ih (q + 1) n (by omega) (by omega) (by omega)) N 0 (N + 1) (by omega) (by omega)
        have := hBs.2.1 j hj _ e
        rw [hx.2] at this
        omega
theorem cy_aa {post : SY → Prop} {us : Int32} {G : Nat → Option (Nat × Nat)} {g a : Nat → Nat → Nat} {m : Nat → Nat} {s : CbS} {kd r : Nat} (hN : N ≤ 8) (hk : kd < 2) (hus : (kd = 0 ∧ us = 1) ∨ (kd = 1 ∧ us = 0)) (hP : cb_PY N g a m yg ya ym) (hB : cb_PB N g a m) (hG : cb_gsm G N) (hg : ∀ j, j < N → jg j = cb_o1 (G j) ∧ jc j = cb_o2 (G j))
    (hp : ∀ ic ou rd : Nat → Int32, cb_YM N (cb_acs N kd G a r N s) ic ou rd → post (nI N, nI R, nI C, nI M, sl, nI K, ci, cq, cy, yp, yr, bl, yg, ya, ym, yw, oi, op, oc, os, ic, ou, rd, jg, jc)) :
    ∀ d i n (ic ou rd : Nat → Int32), i + d = N → d < n → cb_YM N (cb_acs N kd G a r i s) ic ou rd → wY_acceptStep_2 post us (nI r) (nI N) (nI R) (nI C) (nI M) sl (nI K) n (nI i) ci cq cy yp yr bl yg ya ym yw oi op oc os ic ou rd jg jc := by
  intro d
  induction d with
  | zero =>
    intro i n ic ou rd hi hn hM
    obtain ⟨n, rfl⟩ : ∃ q, n = q + 1 := ⟨n - 1, by omega⟩
    have e : i = N := by omega
    rw [e] at hM
    exact br_t (nI_le (by omega) (by omega)) (hp ic ou rd hM)
  | succ d ih =>
    intro i n ic ou rd hi hn hM
    obtain ⟨n, rfl⟩ : ∃ q, n = q + 1 := ⟨n - 1, by omega⟩
    refine br_f (nI_ge (by omega) (by omega)) ⟨5, ?_⟩
    exact cy_16 hN hk hus hP hB (by omega) hG hg hM (fun ic' ou' rd' hM' => ih (i + 1) n ic' ou' rd' (by omega) (by omega) hM') 4 0 5 (by omega) (by omega) (by omega)
end
end
section
/-! the effects of a slot on counts and pointers: pure, and X's walks -/
def cb_wt (Q : Nat → Nat → Nat → Bool) (bl : Nat → Int32) (s : CbS) (w : Nat → Nat → Int32) (i j : Nat) : Int32 :=
  if (Q i j 0 = true ∧ bl j = 0) ∧ ¬ (s.1 i = some 0 ∧ s.2.1 j = some i) then w i j + 1 else 0
def cb_WI (N : Nat) (w w' : Nat → Nat → Int32) (i j : Nat) (wc : Nat → Int32) : Prop :=
  ∀ i' j', i' < N → j' < N → ((i' < i ∨ (i' = i ∧ j' < j)) → wc (i' * 8 + j') = w' i' j') ∧ (¬ (i' < i ∨ (i' = i ∧ j' < j)) → wc (i' * 8 + j') = w i' j')
theorem cb_WI_s {N : Nat} {w w' : Nat → Nat → Int32} {i j : Nat} {wc : Nat → Int32} (hN : N ≤ 8) (hj : j < N) (h : cb_WI N w w' i j wc) {x : Int32} (hx : x = w' i j) : cb_WI N w w' i (j + 1) (upd wc (i * 8 + j) x) := by
  intro i' j' hi' hj'
  obtain ⟨h1, h2⟩ := h i' j' hi' hj'
  by_cases e : i' = i ∧ j' = j
  · obtain ⟨e1, e2⟩ := e
    subst e1 e2
    rw [pk_us]
    exact ⟨fun _ => hx, fun z => absurd (Or.inr ⟨rfl, by omega⟩) z⟩
  · rw [pk_un (by omega)]
    refine ⟨fun z => h1 ?_, fun z => h2 ?_⟩
    · omega
    · omega
theorem cb_WI_r {N : Nat} {w w' : Nat → Nat → Int32} {i : Nat} {wc : Nat → Int32} (h : cb_WI N w w' i N wc) : cb_WI N w w' (i + 1) 0 wc := by
  intro i' j' hi' hj'
  obtain ⟨h1, h2⟩ := h i' j' hi' hj'
  exact ⟨fun z => h1 (by omega), fun z => h2 (by omega)⟩
theorem cb_WI_0 {N : Nat} {w w' : Nat → Nat → Int32} {wc : Nat → Int32} (h : ∀ i j, i < N → j < N → wc (i * 8 + j) = w i j) : cb_WI N w w' 0 0 wc :=
  fun i' j' hi' hj' => ⟨fun z => by omega, fun _ => h i' j' hi' hj'⟩
/-- the pointers behind a slot -/
def cb_gn (N : Nat) (s : CbS) (g : Nat → Nat → Nat) (j p : Nat) : Nat := match s.2.1 j with
  | none => g j p
  | some i => if s.2.2 j = some 0 ∧ s.1 i = some (2 * p) then cb_wr N (i + 1) else g j p
theorem cb_gn_y {N : Nat} {s : CbS} {g : Nat → Nat → Nat} {i j p : Nat} (h1 : s.2.1 j = some i) (h2 : s.2.2 j = some 0) (h3 : s.1 i = some (2 * p)) : cb_gn N s g j p = cb_wr N (i + 1) := by
  rw [cb_gn, h1]
  exact if_pos ⟨h2, h3⟩
theorem cb_gn_n {N : Nat} {s : CbS} {g : Nat → Nat → Nat} {j p : Nat} (h : ∀ i, s.2.1 j = some i → s.2.2 j = some 0 → ¬ s.1 i = some (2 * p)) : cb_gn N s g j p = g j p := by
  rw [cb_gn]
  cases e : s.2.1 j with
  | none => rfl
  | some i => exact if_neg (fun z => h i e z.1 z.2)
def cb_pj (s : CbS) (i p j : Nat) : Prop := s.2.1 j = some i ∧ s.2.2 j = some 0 ∧ s.1 i = some (2 * p)
def cb_an (N kd : Nat) (s : CbS) (a : Nat → Nat → Nat) (i p : Nat) : Nat :=
  if kd = 0 then (match cb_ff (fun j => decide (s.2.1 j = some i ∧ s.2.2 j = some 0 ∧ s.1 i = some (2 * p))) N 0 N 0 with
    | none => a i p
    | some j => cb_wr N (j + 1)) else a i p
theorem cb_an_y {N kd : Nat} {Q : Nat → Nat → Nat → Bool} {Rs : Nat → Nat → Int32} {s : CbS} {a : Nat → Nat → Nat} {i j p : Nat} (hI : cb_I N Q Rs s) (hk : kd = 0) (hi : i < N) (hj : j < N) (h : cb_pj s i p j) : cb_an N kd s a i p = cb_wr N (j + 1) := by
  have hN : 0 < N := by omega
  rw [cb_an, if_pos hk]
  cases e : cb_ff (fun j => decide (s.2.1 j = some i ∧ s.2.2 j = some 0 ∧ s.1 i = some (2 * p))) N 0 N 0 with
  | none =>
    have := cb_ff_all hN e hj
    rw [decide_eq_false_iff_not] at this
    exact absurd h this
  | some j' =>
    obtain ⟨h1, h2⟩ := cb_ff_lt hN e
    have h3 := of_decide_eq_true h2
    have e2 := hI.2.2.1 i (2 * p) j' j hi h.2.2 (by omega) h1 hj h3.1 h.1
    rw [e2]
theorem cb_an_n {N kd : Nat} {s : CbS} {a : Nat → Nat → Nat} {i p : Nat} (hN : 0 < N) (h : kd = 0 → ∀ j, j < N → ¬ cb_pj s i p j) : cb_an N kd s a i p = a i p := by
  rw [cb_an]
  by_cases hk : kd = 0
  · rw [if_pos hk]
    cases e : cb_ff (fun j => decide (s.2.1 j = some i ∧ s.2.2 j = some 0 ∧ s.1 i = some (2 * p))) N 0 N 0 with
    | none => rfl
    | some j' =>
      obtain ⟨h1, h2⟩ := cb_ff_lt hN e
      exact absurd (of_decide_eq_true h2) (h hk j' h1)
  · rw [if_neg hk]
def cb_lv (Rs : Nat → Nat → Int32) (s : CbS) (i p : Nat) : Prop := s.1 i = some (2 * p + 1) ∧ ∀ b, b < 32 → bt (Rs i p) b = true → s.2.1 b = some i
def cb_lvb (Rs : Nat → Nat → Int32) (s : CbS) (i p : Nat) : Bool := decide (s.1 i = some (2 * p + 1)) && (List.range 32).all (fun b => !bt (Rs i p) b || decide (s.2.1 b = some i))
theorem cb_lvb_iff {Rs : Nat → Nat → Int32} {s : CbS} {i p : Nat} : cb_lvb Rs s i p = true ↔ cb_lv Rs s i p := by
  rw [cb_lvb, Bool.and_eq_true, decide_eq_true_eq, List.all_eq_true]
  constructor
  · intro ⟨h1, h2⟩
    refine ⟨h1, fun b hb hbt => ?_⟩
    have h3 := h2 b (List.mem_range.mpr hb)
    rw [hbt, Bool.not_true, Bool.false_or, decide_eq_true_eq] at h3
    exact h3
  · intro ⟨h1, h2⟩
    refine ⟨h1, fun b hb => ?_⟩
    cases hbt : bt (Rs i p) b with
    | false => rfl
    | true =>
      rw [Bool.not_true, Bool.false_or, decide_eq_true_eq]
      exact h2 b (List.mem_range.mp hb) hbt
def cb_mn (N : Nat) (Q : Nat → Nat → Nat → Bool) (Rs : Nat → Nat → Int32) (s : CbS) (m : Nat → Nat) (p : Nat) : Nat := match cb_ff (fun i => Q i N p) N (m p) N 0 with
  | none => m p
  | some i => if cb_lvb Rs s i p = true then cb_wr N (i + 1) else m p
theorem cb_PB_n {N kd : Nat} {Q : Nat → Nat → Nat → Bool} {Rs : Nat → Nat → Int32} {s : CbS} {g a : Nat → Nat → Nat} {m : Nat → Nat} (h : cb_PB N g a m) (hI : cb_I N Q Rs s) : cb_PB N (cb_gn N s g) (cb_an N kd s a) (cb_mn N Q Rs s m) := by
  intro j p hj hp
  obtain ⟨h1, h2, h3⟩ := h j p hj hp
  refine ⟨?_, ?_, ?_⟩
  · rw [cb_gn]
    cases e : s.2.1 j with
    | none => exact h1
    | some i =>
      have := (hI.2.1 j i hj e).1
      show (if s.2.2 j = some 0 ∧ s.1 i = some (2 * p) then cb_wr N (i + 1) else g j p) < N
      split
      · exact cb_wr_lt (by omega)
      · exact h1
  · rw [cb_an]
    split
    · split
      · exact h2
      · rename_i j' e
        have := (cb_ff_lt (by omega) e).1
        exact cb_wr_lt (by omega)
    · exact h2
  · rw [cb_mn]
    split
    · exact h3
    · rename_i i e
      have := (cb_ff_lt h3 e).1
      split
      · exact cb_wr_lt (by omega)
      · exact h3
section
variable {N R C M : Nat} {fh uc sl : Int32} {cp cr cn qh qt qs gp ap mp bl wc lf lp lc lr mc mm mf ot gi gc : Nat → Int32}
theorem cx_uw98 {post : SX → Prop} {J2 J12 : Int32 → (Nat → Int32) → (Nat → Int32) → (Nat → Int32) → (Nat → Int32) → (Nat → Int32) → (Nat → Int32) → (Nat → Int32) → (Nat → Int32) → (Nat → Int32) → (Nat → Int32) → (Nat → Int32) → (Nat → Int32) → (Nat → Int32) → (Nat → Int32) → (Nat → Int32) → (Nat → Int32) → (Nat → Int32) → (Nat → Int32) → (Nat → Int32) → (Nat → Int32) → (Nat → Int32) → Prop} {i j : Nat} (hi : i < 8) (hj : j < 8) (h : J12 (nI (j + 1)) cp cr cn qh qt qs gp ap mp bl (upd wc (i * 8 + j) 0) lf lp lc lr mc mm mf ot gi gc) : wX_updateWaiting_98 post J2 J12 (nI i) (nI j) (nI N) (nI R) (nI C) (nI M) fh uc sl cp cr cn qh qt qs gp ap mp bl wc lf lp lc lr mc mm mf ot gi gc := by
  unfold wX_updateWaiting_98
  rw [cb_i8, nI_clamp (show i * 8 + j < 2 ^ 31 by omega)]
  exact And.intro (vp_in_nI (by omega) (by omega)) (nm_e (nm_r (nI_1 j) h))
theorem cx_uw55 {post : SX → Prop} {J2 J12 : Int32 → (Nat → Int32) → (Nat → Int32) → (Nat → Int32) → (Nat → Int32) → (Nat → Int32) → (Nat → Int32) → (Nat → Int32) → (Nat → Int32) → (Nat → Int32) → (Nat → Int32) → (Nat → Int32) → (Nat → Int32) → (Nat → Int32) → (Nat → Int32) → (Nat → Int32) → (Nat → Int32) → (Nat → Int32) → (Nat → Int32) → (Nat → Int32) → (Nat → Int32) → (Nat → Int32) → Prop} {q : Bool} {i j x : Nat} {z : Int32} {S : Prop} (hi : i < 8) (hj : j < 8) (hx : x < 144) (hz : z = 0 ↔ ¬ S) (hq0 : q = false → qs x = 0) (hq1 : q = true → ∃ k, k < 64 ∧ qs x = nI (k + 1))
    (h1 : ((q = true ∧ bl j = 0) ∧ ¬ S) → J12 (nI (j + 1)) cp cr cn qh qt qs gp ap mp bl (upd wc (i * 8 + j) (wc (i * 8 + j) + 1)) lf lp lc lr mc mm mf ot gi gc) (h0 : ¬ ((q = true ∧ bl j = 0) ∧ ¬ S) → J12 (nI (j + 1)) cp cr cn qh qt qs gp ap mp bl (upd wc (i * 8 + j) 0) lf lp lc lr mc mm mf ot gi gc) : wX_updateWaiting_55 post J2 J12 (nI i) (nI j) (nI x) z (nI N) (nI R) (nI C) (nI M) fh uc sl cp cr cn qh qt qs gp ap mp bl wc lf lp lc lr mc mm mf ot gi gc := by
  unfold wX_updateWaiting_55
  rw [nI_clamp (show x < 2 ^ 31 by omega), nI_clamp (show j < 2 ^ 31 by omega), cb_i8, nI_clamp (show i * 8 + j < 2 ^ 31 by omega)]
  have hin : vp_in (nI (i * 8 + j)) 64 := vp_in_nI (by omega) (by omega)
  refine And.intro (vp_in_nI hx (by omega)) ?_
  cases q with
  | false =>
    rw [hq0 rfl]
    exact br_t (Int32.le_refl _) (cx_uw98 hi hj (h0 (fun z => (nomatch z.1.1))))
  | true =>
    obtain ⟨k, hk, ek⟩ := hq1 rfl
    rw [ek]
    refine br_f (nI_nle (by omega) (by omega)) (And.intro (vp_in_nI hj (by omega)) (br_c (fun e => ek_if hz (fun e2 => ?_) (fun e2 => ?_)) (fun e => ?_)))
    · exact And.intro hin (And.intro hin (nm_e (nm_r (nI_1 j) (h1 ⟨⟨rfl, e⟩, e2⟩))))
    · exact cx_uw98 hi hj (h0 (fun z => e2 z.2))
    · exact cx_uw98 hi hj (h0 (fun z => e z.1.2))
theorem cx_uw12 {post : SX → Prop} {J2 : Int32 → (Nat → Int32) → (Nat → Int32) → (Nat → Int32) → (Nat → Int32) → (Nat → Int32) → (Nat → Int32) → (Nat → Int32) → (Nat → Int32) → (Nat → Int32) → (Nat → Int32) → (Nat → Int32) → (Nat → Int32) → (Nat → Int32) → (Nat → Int32) → (Nat → Int32) → (Nat → Int32) → (Nat → Int32) → (Nat → Int32) → (Nat → Int32) → (Nat → Int32) → (Nat → Int32) → Prop} {Q : Nat → Nat → Nat → Bool} {Rs : Nat → Nat → Int32} {s : CbS} {w : Nat → Nat → Int32} {i : Nat} (hN : N ≤ 8) (hE : cb_XE N Q Rs cr qh qs) (hM : cb_XM N s mc mm mf ot) (hcs : ∀ i, i < N → cb_sm (s.1 i)) (hi : i < N)
    (hJ : ∀ wc : Nat → Int32, cb_WI N w (cb_wt Q bl s w) i N wc → J2 (nI (i + 1)) cp cr cn qh qt qs gp ap mp bl wc lf lp lc lr mc mm mf ot gi gc) :
    ∀ d j n (wc : Nat → Int32), j + d = N → d < n → cb_WI N w (cb_wt Q bl s w) i j wc → wX_updateWaiting_12 post J2 (nI i) (nI N) (nI R) (nI C) (nI M) fh uc sl n (nI j) cp cr cn qh qt qs gp ap mp bl wc lf lp lc lr mc mm mf ot gi gc := by
  intro d
  induction d with
  | zero =>
    intro j n wc hj hn hW
    obtain ⟨n, rfl⟩ : ∃ q, n = q + 1 := ⟨n - 1, by omega⟩
    have e : j = N := by omega
    rw [e] at hW ⊢
    exact br_t (nI_le (by omega) (by omega)) (nm_r (nI_1 i) (hJ wc hW))
  | succ d ih =>
    intro j n wc hj hn hW
    obtain ⟨n, rfl⟩ : ∃ q, n = q + 1 := ⟨n - 1, by omega⟩
    have hjN : j < N := by omega
    have hQ := hE i j 0 hi (by omega) (by omega)
    have hwc : wc (i * 8 + j) = w i j := (hW i j hi hjN).2 (by omega)
    have h55 : ∀ z : Int32, (z = 0 ↔ ¬ (s.1 i = some 0 ∧ s.2.1 j = some i)) → wX_updateWaiting_55 post J2 (wX_updateWaiting_12 post J2 (nI i) (nI N) (nI R) (nI C) (nI M) fh uc sl n) (nI i) (nI j) (nI ((i * 9 + j) * 2 + 0)) z (nI N) (nI R) (nI C) (nI M) fh uc sl cp cr cn qh qt qs gp ap mp bl wc lf lp lc lr mc mm mf ot gi gc := by
      intro z hz
      refine cx_uw55 (q := Q i j 0) (by omega) (by omega) (by omega) hz hQ.1 (fun y => (hQ.2 y).1) (fun y => ?_) (fun y => ?_)
      · refine ih (j + 1) n _ (by omega) (by omega) (cb_WI_s hN hjN hW ?_)
        rw [cb_wt, if_pos y, hwc]
      · refine ih (j + 1) n _ (by omega) (by omega) (cb_WI_s hN hjN hW ?_)
        rw [cb_wt, if_neg y]
    refine br_f (nI_ge (by omega) (by omega)) (cx_qi (p := 0) ?_)
    have hin : vp_in (nI i) 8 := vp_in_nI (by omega) (by omega)
    rw [nI_clamp (show i < 2 ^ 31 by omega), hM.1 i hi]
    refine And.intro hin (ek_if (cb_oi_s (i := 0) (hcs i hi) (by omega)) (fun e => And.intro hin ?_) (fun e => ?_))
    · refine ek_if (cb_bit _ (by omega)) (fun e2 => ?_) (fun e2 => ?_)
      · refine h55 0 ⟨fun _ y => ?_, fun _ => rfl⟩
        rw [hM.2.1 i j hi (by omega), decide_eq_false_iff_not] at e2
        exact e2 ⟨hjN, y.2⟩
      · refine h55 1 ⟨fun y => absurd y (by decide), fun y => ?_⟩
        rw [hM.2.1 i j hi (by omega), decide_eq_false_iff_not, Classical.not_not] at e2
        exact absurd ⟨e, e2.2⟩ y
    · exact h55 0 ⟨fun _ y => e y.1, fun _ => rfl⟩
theorem cx_uw2 {post : SX → Prop} {Q : Nat → Nat → Nat → Bool} {Rs : Nat → Nat → Int32} {s : CbS} {w : Nat → Nat → Int32} (hN : N ≤ 8) (hE : cb_XE N Q Rs cr qh qs) (hM : cb_XM N s mc mm mf ot) (hcs : ∀ i, i < N → cb_sm (s.1 i))
    (hp : ∀ wc : Nat → Int32, (∀ i j, i < N → j < N → wc (i * 8 + j) = cb_wt Q bl s w i j) → post (nI N, nI R, nI C, nI M, fh, uc, sl, cp, cr, cn, qh, qt, qs, gp, ap, mp, bl, wc, lf, lp, lc, lr, mc, mm, mf, ot, gi, gc)) :
    ∀ d i n (wc : Nat → Int32), i + d = N → d < n → cb_WI N w (cb_wt Q bl s w) i 0 wc → wX_updateWaiting_2 post (nI N) (nI R) (nI C) (nI M) fh uc sl n (nI i) cp cr cn qh qt qs gp ap mp bl wc lf lp lc lr mc mm mf ot gi gc := by
  intro d
  induction d with
  | zero =>
    intro i n wc hi hn hW
    obtain ⟨n, rfl⟩ : ∃ q, n = q + 1 := ⟨n - 1, by omega⟩
    exact br_t (nI_le (by omega) (by omega)) (hp wc (fun i' j' hi' hj' => (hW i' j' hi' hj').1 (by omega)))
  | succ d ih =>
    intro i n wc hi hn hW
    obtain ⟨n, rfl⟩ : ∃ q, n = q + 1 := ⟨n - 1, by omega⟩
    exact br_f (nI_ge (by omega) (by omega)) ⟨N + 1, cx_uw12 hN hE hM hcs (by omega) (fun wc' hW' => ih (i + 1) n wc' (by omega) (by omega) (cb_WI_r hW')) N 0 (N + 1) wc (by omega) (by omega) hW⟩
theorem cx_low {post : Int32 → Prop} {x : Int32} {j0 : Nat} (hN : N ≤ 8) (hj0 : j0 < N) (h1 : bt x j0 = true) (h0 : ∀ j, j < j0 → bt x j = false) (hp : post (nI j0)) :
    ∀ d j n, j + d = j0 → d < n → wX_lowestOutput_2 post x (nI N) (nI R) (nI C) (nI M) fh uc sl cp cr cn qh qt qs gp ap mp bl wc lf lp lc lr mc mm mf ot gi gc n (nI j) := by
  intro d
  induction d with
  | zero =>
    intro j n hj hn
    obtain ⟨n, rfl⟩ : ∃ q, n = q + 1 := ⟨n - 1, by omega⟩
    have e : j = j0 := by omega
    subst e
    refine br_f (nI_ge (by omega) (by omega)) (br_f (fun z => ?_) hp)
    rw [cb_bit _ (by omega), h1] at z
    exact nomatch z
  | succ d ih =>
    intro j n hj hn
    obtain ⟨n, rfl⟩ : ∃ q, n = q + 1 := ⟨n - 1, by omega⟩
    exact br_f (nI_ge (by omega) (by omega)) (br_t ((cb_bit _ (by omega)).mpr (h0 j (by omega))) (nm_r (nI_1 j) (ih (j + 1) n (by omega) (by omega))))
/-- the one output of an input that is matched in a unicast kind -/
theorem cx_low1 {post : Int32 → Prop} {Q : Nat → Nat → Nat → Bool} {Rs : Nat → Nat → Int32} {s : CbS} {i c j : Nat} (hN : N ≤ 8) (hI : cb_I N Q Rs s) (hM : cb_XM N s mc mm mf ot) (hi : i < N) (hj : j < N) (h1 : s.1 i = some c) (h2 : c % 2 = 0) (h3 : s.2.1 j = some i) (hp : post (nI j)) : wpX_lowestOutput post (nI N, nI R, nI C, nI M, fh, uc, sl, cp, cr, cn, qh, qt, qs, gp, ap, mp, bl, wc, lf, lp, lc, lr, mc, mm, mf, ot, gi, gc) (mm i) := by
  refine ⟨N + 1, cx_low hN hj ?_ (fun j' hj' => ?_) hp j 0 (N + 1) (by omega) (by omega)⟩
  · rw [hM.2.1 i j hi (by omega), decide_eq_true ⟨hj, h3⟩]
  · rw [hM.2.1 i j' hi (by omega), decide_eq_false_iff_not]
    intro z
    have := hI.2.2.1 i c j j' hi h1 h2 hj z.1 h3 z.2
    omega
def cb_MU (N kd : Nat) (s : CbS) (g a : Nat → Nat → Nat) (i : Nat) (gp ap : Nat → Int32) : Prop :=
  ∀ j p, j < N → p < 2 →
    (((∃ i', i' < i ∧ s.2.1 j = some i') → gp (p * 8 + j) = nI (cb_gn N s g j p)) ∧ (¬ (∃ i', i' < i ∧ s.2.1 j = some i') → gp (p * 8 + j) = nI (g j p))) ∧
    ((j < i → ap (p * 8 + j) = nI (cb_an N kd s a j p)) ∧ (¬ j < i → ap (p * 8 + j) = nI (a j p)))
theorem cb_MU_n {N kd : Nat} {s : CbS} {g a : Nat → Nat → Nat} {i : Nat} {gp ap : Nat → Int32} (hN : 0 < N) (h : cb_MU N kd s g a i gp ap) (hf : ¬ cb_fst N s i) : cb_MU N kd s g a (i + 1) gp ap := by
  intro j p hj hp
  obtain ⟨⟨h1, h2⟩, h3, h4⟩ := h j p hj hp
  have hno : ∀ j', j' < N → ¬ cb_pj s i p j' := fun j' hj' z => hf ⟨j', 2 * p, hj', z.1, z.2.1, z.2.2, by omega⟩
  refine ⟨⟨fun z => ?_, fun z => h2 (fun ⟨i', y1, y2⟩ => z ⟨i', by omega, y2⟩)⟩, fun z => ?_, fun z => h4 (by omega)⟩
  · obtain ⟨i', y1, y2⟩ := z
    by_cases e : i' = i
    · subst e
      by_cases ex : ∃ i2, i2 < i' ∧ s.2.1 j = some i2
      · exact h1 ex
      · rw [h2 ex, cb_gn_n]
        intro i2 k1 k2 k3
        rw [y2] at k1
        cases k1
        exact hno j hj ⟨y2, k2, k3⟩
    · exact h1 ⟨i', by omega, y2⟩
  · by_cases e : j = i
    · subst e
      rw [h4 (by omega), cb_an_n hN (fun _ => hno)]
    · exact h3 (by omega)
theorem cb_MU_y {N kd : Nat} {Q : Nat → Nat → Nat → Bool} {Rs : Nat → Nat → Int32} {s : CbS} {g a : Nat → Nat → Nat} {i j0 p0 : Nat} {gp ap ap' : Nat → Int32} (hN : N ≤ 8) (hI : cb_I N Q Rs s) (hi : i < N) (hp0 : p0 < 2) (hj0 : j0 < N) (hpj : cb_pj s i p0 j0) (h : cb_MU N kd s g a i gp ap)
    (hap : (kd = 0 ∧ ap' = upd ap (p0 * 8 + i) (nI (cb_wr N (j0 + 1)))) ∨ (¬ kd = 0 ∧ ap' = ap)) : cb_MU N kd s g a (i + 1) (upd gp (p0 * 8 + j0) (nI (cb_wr N (i + 1)))) ap' := by
  intro j p hj hp
  obtain ⟨⟨h1, h2⟩, h3, h4⟩ := h j p hj hp
  have hun : ∀ j', j' < N → s.2.1 j' = some i → j' = j0 := fun j' hj' z => hI.2.2.1 i (2 * p0) j' j0 hi hpj.2.2 (by omega) hj' hj0 z hpj.1
  constructor
  · by_cases e : p * 8 + j = p0 * 8 + j0
    · have e1 : p = p0 := by omega
      have e2 : j = j0 := by omega
      subst e1 e2
      rw [pk_us, cb_gn_y hpj.1 hpj.2.1 hpj.2.2]
      exact ⟨fun _ => rfl, fun z => absurd ⟨i, by omega, hpj.1⟩ z⟩
    · rw [pk_un e]
      constructor
      · intro ⟨i', y1, y2⟩
        by_cases ei : i' = i
        · subst ei
          have ej := hun j hj y2
          subst ej
          have hnx : ¬ ∃ i2, i2 < i' ∧ s.2.1 j = some i2 := by
            intro ⟨i2, k1, k2⟩
            rw [y2] at k2
            cases k2
            omega
          rw [h2 hnx, cb_gn_n]
          intro i2 k1 k2 k3
          rw [y2] at k1
          cases k1
          rw [hpj.2.2] at k3
          have := Option.some.inj k3
          omega
        · exact h1 ⟨i', by omega, y2⟩
      · intro z
        exact h2 (fun ⟨i', y1, y2⟩ => z ⟨i', by omega, y2⟩)
  · rcases hap with ⟨hk, e⟩ | ⟨hk, e⟩
    · subst e
      by_cases e : p * 8 + j = p0 * 8 + i
      · have e1 : p = p0 := by omega
        have e2 : j = i := by omega
        subst e1 e2
        rw [pk_us, cb_an_y hI hk hi hj0 hpj]
        exact ⟨fun _ => rfl, fun z => absurd (by omega) z⟩
      · rw [pk_un e]
        refine ⟨fun z => ?_, fun z => h4 (by omega)⟩
        by_cases ej : j = i
        · subst ej
          rw [h4 (by omega), cb_an_n (by omega)]
          intro _ j' _ y
          have k3 := y.2.2
          rw [hpj.2.2] at k3
          have := Option.some.inj k3
          omega
        · exact h3 (by omega)
    · subst e
      refine ⟨fun z => ?_, fun z => h4 (by omega)⟩
      by_cases ej : j = i
      · subst ej
        rw [h4 (by omega), cb_an_n (by omega) (fun y => absurd y hk)]
      · exact h3 (by omega)
theorem cx_mu {post : SX → Prop} {Q : Nat → Nat → Nat → Bool} {Rs : Nat → Nat → Int32} {s : CbS} {g a : Nat → Nat → Nat} {kd : Nat} (hN : N ≤ 8) (hk : kd < 2) (hI : cb_I N Q Rs s) (hM : cb_XM N s mc mm mf ot)
    (hp : ∀ gp ap : Nat → Int32, (∀ j p, j < N → p < 2 → gp (p * 8 + j) = nI (cb_gn N s g j p) ∧ ap (p * 8 + j) = nI (cb_an N kd s a j p)) → post (nI N, nI R, nI C, nI M, fh, uc, sl, cp, cr, cn, qh, qt, qs, gp, ap, mp, bl, wc, lf, lp, lc, lr, mc, mm, mf, ot, gi, gc)) :
    ∀ d i n (gp ap : Nat → Int32), i + d = N → d < n → cb_MU N kd s g a i gp ap → wX_moveUnicastPointers_2 post (nI kd) (nI N) (nI R) (nI C) (nI M) fh uc sl n (nI i) cp cr cn qh qt qs gp ap mp bl wc lf lp lc lr mc mm mf ot gi gc := by
  intro d
  induction d with
  | zero =>
    intro i n gp ap hi hn hU
    obtain ⟨n, rfl⟩ : ∃ q, n = q + 1 := ⟨n - 1, by omega⟩
    refine br_t (nI_le (by omega) (by omega)) (hp gp ap (fun j p hj hp2 => ?_))
    obtain ⟨⟨h1, h2⟩, h3, h4⟩ := hU j p hj hp2
    refine ⟨?_, h3 (by omega)⟩
    cases e : s.2.1 j with
    | none =>
      rw [h2 (fun ⟨i', _, z⟩ => by rw [e] at z; exact nomatch z), cb_gn_n]
      intro i' z
      rw [e] at z
      exact nomatch z
    | some i' => exact h1 ⟨i', by have := (hI.2.1 j i' hj e).1; omega, e⟩
  | succ d ih =>
    intro i n gp ap hi hn hU
    obtain ⟨n, rfl⟩ : ∃ q, n = q + 1 := ⟨n - 1, by omega⟩
    have hiN : i < N := by omega
    have hin : vp_in (nI i) 8 := vp_in_nI (by omega) (by omega)
    refine br_f (nI_ge (by omega) (by omega)) ?_
    rw [nI_clamp (show i < 2 ^ 31 by omega)]
    refine And.intro hin (ek_if (hM.2.2.1 i hiN) (fun hf => nm_r (nI_1 i) (ih (i + 1) n gp ap (by omega) (by omega) (cb_MU_n (by omega) hU hf))) (fun hf => ?_))
    rw [Classical.not_not] at hf
    obtain ⟨j0, c, hj0, f1, f2, f3, f4⟩ := hf
    have hc4 := (hI.1 i c hiN f3).1
    have hpj : cb_pj s i (c / 2) j0 := ⟨f1, f2, by rw [f3]; exact congrArg some (by omega)⟩
    refine And.intro hin (nm_r (e' := nI (c / 2)) ?_ (And.intro hin (cx_low1 hN hI hM hiN hj0 f3 f4 f1 (cx_fol hN hiN ?_))))
    · rw [hM.1 i hiN, f3]
      exact cb_shr (by omega)
    · rw [cb_i8, nI_clamp (show c / 2 * 8 + j0 < 2 ^ 31 by omega), cb_i8, nI_clamp (show c / 2 * 8 + i < 2 ^ 31 by omega)]
      refine And.intro (vp_in_nI (by omega) (by omega)) (nm_e (pk_eq kd 0 (fun e => cx_fol hN hj0 (And.intro (vp_in_nI (by omega) (by omega)) (nm_e (nm_r (nI_1 i) (ih (i + 1) n _ _ (by omega) (by omega) ?_))))) (fun e => nm_r (nI_1 i) (ih (i + 1) n _ _ (by omega) (by omega) ?_))))
      · exact cb_MU_y hN hI hiN (by omega) hj0 hpj hU (Or.inl ⟨e, rfl⟩)
      · exact cb_MU_y hN hI hiN (by omega) hj0 hpj hU (Or.inr ⟨e, rfl⟩)
theorem cx_mm {post : SX → Prop} {Q : Nat → Nat → Nat → Bool} {Rs : Nat → Nat → Int32} {s : CbS} {m : Nat → Nat} {p : Nat} (hN : N ≤ 8) (hp2 : p < 2) (hI : cb_I N Q Rs s) (hE : cb_XE N Q Rs cr qh qs) (hM : cb_XM N s mc mm mf ot) (hRb : ∀ i b, i < N → Q i N p = true → b < 32 → bt (Rs i p) b = true → b < N) (hm : m p < N)
    (h0 : cb_mn N Q Rs s m p = m p → post (nI N, nI R, nI C, nI M, fh, uc, sl, cp, cr, cn, qh, qt, qs, gp, ap, mp, bl, wc, lf, lp, lc, lr, mc, mm, mf, ot, gi, gc)) (h1 : post (nI N, nI R, nI C, nI M, fh, uc, sl, cp, cr, cn, qh, qt, qs, gp, ap, upd mp p (nI (cb_mn N Q Rs s m p)), bl, wc, lf, lp, lc, lr, mc, mm, mf, ot, gi, gc)) :
    ∀ d k n, k + d = N → d < n → cb_ff (fun i => Q i N p) N (m p) N 0 = cb_ff (fun i => Q i N p) N (m p) d k → wX_moveMulticastPointer_9 post (nI p) (nI N) (nI R) (nI C) (nI M) fh uc sl cp cr cn qh qt qs gp ap mp bl wc lf lp lc lr mc mm mf ot gi gc n (nI (cb_wr N (m p + k))) (nI k) := by
  intro d
  induction d with
  | zero =>
    intro k n hk hn hf
    obtain ⟨n, rfl⟩ : ∃ q, n = q + 1 := ⟨n - 1, by omega⟩
    refine br_t (nI_le (by omega) (by omega)) (h0 ?_)
    rw [cb_mn, hf]
    rfl
  | succ d ih =>
    intro k n hk hn hf
    obtain ⟨n, rfl⟩ : ∃ q, n = q + 1 := ⟨n - 1, by omega⟩
    have hw := cb_wr_lt (N := N) (x := m p + k) (by omega)
    refine br_f (nI_ge (by omega) (by omega)) (cx_qi ?_)
    generalize hi : cb_wr N (m p + k) = i at hw
    rw [nI_clamp (show (i * 9 + N) * 2 + p < 2 ^ 31 by omega)]
    have hinq : vp_in (nI ((i * 9 + N) * 2 + p)) 144 := vp_in_nI (by omega) (by omega)
    have hini : vp_in (nI i) 8 := vp_in_nI (by omega) (by omega)
    refine And.intro hinq ?_
    obtain ⟨k0, k1⟩ := hE i N p hw (Nat.le_refl _) hp2
    cases hq : Q i N p with
    | false =>
      rw [k0 hq]
      refine br_t (Int32.le_refl _) (cx_fol hN hw (nm_r (nI_1 k) ?_))
      rw [← hi, cb_wr_next hm (by omega)]
      refine ih (k + 1) n (by omega) (by omega) (hf.trans (cb_ff_f ?_))
      show Q (cb_wr N (m p + k)) N p = false
      rw [hi]
      exact hq
    | true =>
      obtain ⟨⟨kk, hkk, ek⟩, h, hh, eh, er⟩ := k1 hq
      have hmn : cb_mn N Q Rs s m p = if cb_lvb Rs s i p = true then cb_wr N (i + 1) else m p := by
        rw [cb_mn, hf, cb_ff_t (by show Q (cb_wr N (m p + k)) N p = true; rw [hi]; exact hq), hi]
      have hcs : cb_sm (s.1 i) := fun c e => by have := (hI.1 i c hw e).1; omega
      rw [ek, nI_clamp (show i < 2 ^ 31 by omega), hM.1 i hw, show (nI p * 2) + 1 = nI (2 * p + 1) from by rw [show (1 : Int32) = nI 1 from rfl, cb_i2, Nat.mul_comm]]
      refine br_f (nI_nle (by omega) (by omega)) (And.intro hini (ek_if (cb_oi_s hcs (by omega)) (fun e => ?_) (fun e => ?_)))
      · unfold wX_moveMulticastPointer_58
        rw [nI_clamp (show (i * 9 + N) * 2 + p < 2 ^ 31 by omega), eh, nI_clamp (show h < 2 ^ 31 by omega), er rfl, nI_clamp (show i < 2 ^ 31 by omega)]
        refine br_f (by decide) (And.intro hini (And.intro hinq (And.intro (vp_in_nI hh (by omega)) ?_)))
        have hiff : mm i = Rs i p ↔ cb_lvb Rs s i p = true := by
          rw [cb_lvb_iff]
          constructor
          · intro z
            refine ⟨e, fun b hb hbt => ?_⟩
            rw [← z, hM.2.1 i b hw hb, decide_eq_true_eq] at hbt
            exact hbt.2
          · intro z
            apply b_ext
            intro b hb
            rw [hM.2.1 i b hw hb]
            cases hbt : bt (Rs i p) b with
            | true => exact decide_eq_true ⟨hRb i b hw hq hb hbt, z.2 b hb hbt⟩
            | false =>
              refine decide_eq_false (fun y => ?_)
              obtain ⟨_, c', y1, y2⟩ := hI.2.1 b i y.1 y.2
              rw [e] at y1
              cases y1
              have y3 := (y2.2 (by omega)).2
              rw [show (2 * p + 1) / 2 = p by omega, hbt] at y3
              exact nomatch y3
        refine ek_if hiff (fun z => cx_fol hN hw ?_) (fun z => h0 ?_)
        · rw [hmn, if_pos z] at h1
          rw [nI_clamp (show p < 2 ^ 31 by omega)]
          exact And.intro (vp_in_nI hp2 (by omega)) (nm_e h1)
        · rw [hmn, if_neg z]
      · refine br_t rfl (h0 ?_)
        rw [hmn, if_neg]
        rw [cb_lvb_iff]
        exact fun z => e z.1
end
end
section
/-! Y: pointers and counts -/
def cb_NU (N kd : Nat) (s : CbS) (g a : Nat → Nat → Nat) (j : Nat) (yg ya : Nat → Int32) : Prop :=
  ∀ j' p, j' < N → p < 2 →
    ((j' < j → yg (j' * 2 + p) = nI (cb_gn N s g j' p)) ∧ (¬ j' < j → yg (j' * 2 + p) = nI (g j' p))) ∧
    (((∃ j2, j2 < j ∧ cb_pj s j' p j2) → ya (j' * 2 + p) = nI (cb_an N kd s a j' p)) ∧ (¬ (∃ j2, j2 < j ∧ cb_pj s j' p j2) → ya (j' * 2 + p) = nI (a j' p)))
theorem cb_NU_n {N kd : Nat} {s : CbS} {g a : Nat → Nat → Nat} {j : Nat} {yg ya : Nat → Int32} (h : cb_NU N kd s g a j yg ya) (hno : ∀ i p, p < 2 → ¬ cb_pj s i p j) : cb_NU N kd s g a (j + 1) yg ya := by
  intro j' p hj' hp
  obtain ⟨⟨h1, h2⟩, h3, h4⟩ := h j' p hj' hp
  refine ⟨⟨fun z => ?_, fun z => h2 (by omega)⟩, fun z => ?_, fun z => h4 (fun ⟨j2, y1, y2⟩ => z ⟨j2, by omega, y2⟩)⟩
  · by_cases e : j' = j
    · subst e
      rw [h2 (by omega), cb_gn_n]
      exact fun i k1 k2 k3 => hno i p hp ⟨k1, k2, k3⟩
    · exact h1 (by omega)
  · obtain ⟨j2, y1, y2⟩ := z
    by_cases e : j2 = j
    · subst e
      exact absurd y2 (hno j' p hp)
    · exact h3 ⟨j2, by omega, y2⟩
theorem cb_NU_y {N kd : Nat} {Q : Nat → Nat → Nat → Bool} {Rs : Nat → Nat → Int32} {s : CbS} {g a : Nat → Nat → Nat} {i j p0 : Nat} {yg ya ya' : Nat → Int32} (hI : cb_I N Q Rs s) (hi : i < N) (hp0 : p0 < 2) (hj : j < N) (hpj : cb_pj s i p0 j) (h : cb_NU N kd s g a j yg ya)
    (hya : (kd = 0 ∧ ya' = upd ya (i * 2 + p0) (nI (cb_wr N (j + 1)))) ∨ (¬ kd = 0 ∧ ya' = ya)) : cb_NU N kd s g a (j + 1) (upd yg (j * 2 + p0) (nI (cb_wr N (i + 1)))) ya' := by
  intro j' p hj' hp
  obtain ⟨⟨h1, h2⟩, h3, h4⟩ := h j' p hj' hp
  constructor
  · by_cases e : j' * 2 + p = j * 2 + p0
    · have e1 : p = p0 := by omega
      have e2 : j' = j := by omega
      subst e1 e2
      rw [pk_us, cb_gn_y hpj.1 hpj.2.1 hpj.2.2]
      exact ⟨fun _ => rfl, fun z => absurd (by omega) z⟩
    · rw [pk_un e]
      refine ⟨fun z => ?_, fun z => h2 (by omega)⟩
      by_cases ej : j' = j
      · subst ej
        rw [h2 (by omega), cb_gn_n]
        intro i2 k1 k2 k3
        rw [hpj.1] at k1
        cases k1
        rw [hpj.2.2] at k3
        have := Option.some.inj k3
        omega
      · exact h1 (by omega)
  · have hsame : ¬ (j' = i ∧ p = p0) → ((∃ j2, j2 < j + 1 ∧ cb_pj s j' p j2) → (∃ j2, j2 < j ∧ cb_pj s j' p j2)) := by
      intro ne ⟨j2, y1, y2⟩
      refine ⟨j2, ?_, y2⟩
      by_cases e : j2 = j
      · subst e
        have k1 := y2.1
        rw [hpj.1] at k1
        cases k1
        have k3 := y2.2.2
        rw [hpj.2.2] at k3
        have := Option.some.inj k3
        exact absurd ⟨rfl, by omega⟩ ne
      · omega
    rcases hya with ⟨hk, e⟩ | ⟨hk, e⟩
    · subst e
      by_cases e : j' * 2 + p = i * 2 + p0
      · have e1 : p = p0 := by omega
        have e2 : j' = i := by omega
        subst e1 e2
        rw [pk_us, cb_an_y hI hk hi hj hpj]
        exact ⟨fun _ => rfl, fun z => absurd ⟨j, by omega, hpj⟩ z⟩
      · rw [pk_un e]
        exact ⟨fun z => h3 (hsame (by omega) z), fun z => h4 (fun ⟨j2, y1, y2⟩ => z ⟨j2, by omega, y2⟩)⟩
    · subst e
      refine ⟨fun z => ?_, fun z => h4 (fun ⟨j2, y1, y2⟩ => z ⟨j2, by omega, y2⟩)⟩
      by_cases ex : ∃ j2, j2 < j ∧ cb_pj s j' p j2
      · exact h3 ex
      · rw [h4 ex, cb_an_n (by omega) (fun y => absurd y hk)]
theorem cb_ois {i : Nat} : cb_oi (some i) = nI i := rfl
section
variable {N R C M K : Nat} {sl : Int32} {ci cq cy yp yr bl yg ya ym yw oi op oc os ic ou rd jg jc : Nat → Int32}
theorem cy_119f {post : SY → Prop} {J101 : Int32 → (Nat → Int32) → (Nat → Int32) → (Nat → Int32) → (Nat → Int32) → (Nat → Int32) → (Nat → Int32) → (Nat → Int32) → (Nat → Int32) → (Nat → Int32) → (Nat → Int32) → (Nat → Int32) → (Nat → Int32) → (Nat → Int32) → (Nat → Int32) → (Nat → Int32) → (Nat → Int32) → (Nat → Int32) → (Nat → Int32) → (Nat → Int32) → Prop} {Q : Nat → Nat → Nat → Bool} {fx : Nat → Nat → Nat → Option Nat} {a p : Nat} (hN : N ≤ 8) (hK : K ≤ 64) (hF : cb_YF N K Q fx ci cq cy) (ha : a < N) (hp2 : p < 2) (hJ : J101 (nI (p + 1)) ci cq cy yp yr bl yg ya ym yw oi op oc os ic ou rd jg jc) :
    ∀ d k n, k + d = N → d < n → wY_movePointers_119 post J101 (nI p) (nI a) (nI N) (nI R) (nI C) (nI M) sl (nI K) n 1 (nI k) ci cq cy yp yr bl yg ya ym yw oi op oc os ic ou rd jg jc := by
  intro d
  induction d with
  | zero =>
    intro k n hk hn
    obtain ⟨n, rfl⟩ : ∃ q, n = q + 1 := ⟨n - 1, by omega⟩
    exact br_t (nI_le (by omega) (by omega)) (nm_r (nI_1 p) hJ)
  | succ d ih =>
    intro k n hk hn
    obtain ⟨n, rfl⟩ : ∃ q, n = q + 1 := ⟨n - 1, by omega⟩
    have hnx := ih (k + 1) n (by omega) (by omega)
    refine br_f (nI_ge (by omega) (by omega)) ?_
    rw [nI_add]
    exact cy_wrap hN (by omega) (cy_f0 hK hF (cb_wr_lt (by omega)) (Nat.le_refl _) hp2 (fun _ => br_f (by decide) (nm_r (nI_1 k) hnx)) (fun x _ _ _ => br_f (by decide) (nm_r (nI_1 k) hnx)))
theorem cy_119 {post : SY → Prop} {J101 : Int32 → (Nat → Int32) → (Nat → Int32) → (Nat → Int32) → (Nat → Int32) → (Nat → Int32) → (Nat → Int32) → (Nat → Int32) → (Nat → Int32) → (Nat → Int32) → (Nat → Int32) → (Nat → Int32) → (Nat → Int32) → (Nat → Int32) → (Nat → Int32) → (Nat → Int32) → (Nat → Int32) → (Nat → Int32) → (Nat → Int32) → (Nat → Int32) → Prop} {Q : Nat → Nat → Nat → Bool} {Rs : Nat → Nat → Int32} {fx : Nat → Nat → Nat → Option Nat} {s : CbS} {m : Nat → Nat} {p : Nat} (hN : N ≤ 8) (hK : K ≤ 64) (hF : cb_YF N K Q fx ci cq cy) (hm : m p < N) (hp2 : p < 2) (hyr : ∀ i x, i < N → fx i N p = some x → (yr x = 0 ↔ cb_lvb Rs s i p = true))
    (h0 : cb_mn N Q Rs s m p = m p → J101 (nI (p + 1)) ci cq cy yp yr bl yg ya ym yw oi op oc os ic ou rd jg jc) (h1 : J101 (nI (p + 1)) ci cq cy yp yr bl yg ya (upd ym p (nI (cb_mn N Q Rs s m p))) yw oi op oc os ic ou rd jg jc) :
    ∀ d k n, k + d = N → d < n → cb_ff (fun i => Q i N p) N (m p) N 0 = cb_ff (fun i => Q i N p) N (m p) d k → wY_movePointers_119 post J101 (nI p) (nI (m p)) (nI N) (nI R) (nI C) (nI M) sl (nI K) n 0 (nI k) ci cq cy yp yr bl yg ya ym yw oi op oc os ic ou rd jg jc := by
  intro d
  induction d with
  | zero =>
    intro k n hk hn hf
    obtain ⟨n, rfl⟩ : ∃ q, n = q + 1 := ⟨n - 1, by omega⟩
    refine br_t (nI_le (by omega) (by omega)) (nm_r (nI_1 p) (h0 ?_))
    rw [cb_mn, hf]
    rfl
  | succ d ih =>
    intro k n hk hn hf
    obtain ⟨n, rfl⟩ : ∃ q, n = q + 1 := ⟨n - 1, by omega⟩
    have hw := cb_wr_lt (N := N) (x := m p + k) (by omega)
    refine br_f (nI_ge (by omega) (by omega)) ?_
    rw [nI_add]
    refine cy_wrap hN (by omega) (cy_f0 hK hF hw (Nat.le_refl _) hp2 (fun hq => br_t rfl (br_t cb_m1 (nm_r (nI_1 k) ?_))) (fun x hx hq hx64 => br_t rfl (br_f (nI_pos (by omega)) ?_)))
    · exact ih (k + 1) n (by omega) (by omega) (hf.trans (cb_ff_f hq))
    · have hmn : cb_mn N Q Rs s m p = if cb_lvb Rs s (cb_wr N (m p + k)) p = true then cb_wr N (cb_wr N (m p + k) + 1) else m p := by
        rw [cb_mn, hf, cb_ff_t hq]
      rw [nI_clamp (show x < 2 ^ 31 by omega), nI_1 (cb_wr N (m p + k)), nI_clamp (show p < 2 ^ 31 by omega)]
      refine And.intro (vp_in_nI hx64 (by omega)) (ek_if (hyr _ x hw hx) (fun z => cy_wrap hN (by omega) ?_) (fun z => nm_r (nI_1 k) ?_))
      · rw [hmn, if_pos z] at h1
        exact And.intro (vp_in_nI hp2 (by omega)) (nm_e (nm_r (nI_1 k) (cy_119f hN hK hF hm hp2 h1 d (k + 1) n (by omega) (by omega))))
      · refine cy_119f hN hK hF hm hp2 (h0 ?_) d (k + 1) n (by omega) (by omega)
        rw [hmn, if_neg z]
theorem cy_101 {post : SY → Prop} {Q : Nat → Nat → Nat → Bool} {Rs : Nat → Nat → Int32} {fx : Nat → Nat → Nat → Option Nat} {s : CbS} {m : Nat → Nat} (hN : N ≤ 8) (hK : K ≤ 64) (hF : cb_YF N K Q fx ci cq cy) (hm : ∀ p, p < 2 → m p < N) (hyr : ∀ i p x, i < N → p < 2 → fx i N p = some x → (yr x = 0 ↔ cb_lvb Rs s i p = true))
    (hp : ∀ ym : Nat → Int32, (∀ p, p < 2 → ym p = nI (cb_mn N Q Rs s m p)) → post (nI N, nI R, nI C, nI M, sl, nI K, ci, cq, cy, yp, yr, bl, yg, ya, ym, yw, oi, op, oc, os, ic, ou, rd, jg, jc)) :
    ∀ d p n (ym : Nat → Int32), p + d = 2 → d < n → (∀ p', p' < 2 → (p' < p → ym p' = nI (cb_mn N Q Rs s m p')) ∧ (¬ p' < p → ym p' = nI (m p'))) → wY_movePointers_101 post (nI N) (nI R) (nI C) (nI M) sl (nI K) n (nI p) ci cq cy yp yr bl yg ya ym yw oi op oc os ic ou rd jg jc := by
  intro d
  induction d with
  | zero =>
    intro p n ym hpd hn hI
    obtain ⟨n, rfl⟩ : ∃ q, n = q + 1 := ⟨n - 1, by omega⟩
    exact br_t (nI_le (a := 2) (by omega) (by omega)) (hp ym (fun p' h => (hI p' h).1 (by omega)))
  | succ d ih =>
    intro p n ym hpd hn hI
    obtain ⟨n, rfl⟩ : ∃ q, n = q + 1 := ⟨n - 1, by omega⟩
    have hp2 : p < 2 := by omega
    have hpp := (hI p hp2).2 (by omega)
    refine br_f (nI_ge (b := 2) (by omega) (by omega)) ?_
    rw [nI_clamp (show p < 2 ^ 31 by omega), hpp]
    refine And.intro (vp_in_nI hp2 (by omega)) (nm_e ⟨N + 1, ?_⟩)
    refine cy_119 (Q := Q) (Rs := Rs) (s := s) (m := m) hN hK hF (hm p hp2) hp2 (fun i x hi hx => hyr i p x hi hp2 hx) (fun z => ih (p + 1) n _ (by omega) (by omega) (fun p' hp' => ?_)) (ih (p + 1) n _ (by omega) (by omega) (fun p' hp' => ?_)) N 0 (N + 1) (by omega) (by omega) rfl
    · by_cases e : p' = p
      · subst e
        exact ⟨fun _ => by rw [hpp, z], fun y => absurd (by omega) y⟩
      · exact ⟨fun y => (hI p' hp').1 (by omega), fun y => (hI p' hp').2 (by omega)⟩
    · by_cases e : p' = p
      · subst e
        rw [pk_us]
        exact ⟨fun _ => rfl, fun y => absurd (by omega) y⟩
      · rw [pk_un e]
        exact ⟨fun y => (hI p' hp').1 (by omega), fun y => (hI p' hp').2 (by omega)⟩
theorem cy_mp {post : SY → Prop} {Q : Nat → Nat → Nat → Bool} {Rs : Nat → Nat → Int32} {fx : Nat → Nat → Nat → Option Nat} {s : CbS} {g a : Nat → Nat → Nat} {m : Nat → Nat} {kd : Nat} {us : Int32} (hN : N ≤ 8) (hK : K ≤ 64) (hus : (kd = 0 ∧ us = 1) ∨ (kd = 1 ∧ us = 0)) (hI : cb_I N Q Rs s) (hM : cb_YM N s ic ou rd) (hF : cb_YF N K Q fx ci cq cy) (hm : ∀ p, p < 2 → m p < N) (hym : ∀ p, p < 2 → ym p = nI (m p)) (hyr : ∀ i p x, i < N → p < 2 → fx i N p = some x → (yr x = 0 ↔ cb_lvb Rs s i p = true))
    (hp : ∀ yg ya ym : Nat → Int32, cb_PY N (cb_gn N s g) (cb_an N kd s a) (cb_mn N Q Rs s m) yg ya ym → post (nI N, nI R, nI C, nI M, sl, nI K, ci, cq, cy, yp, yr, bl, yg, ya, ym, yw, oi, op, oc, os, ic, ou, rd, jg, jc)) :
    ∀ d j n (yg ya : Nat → Int32), j + d = N → d < n → cb_NU N kd s g a j yg ya → wY_movePointers_2 post us (nI N) (nI R) (nI C) (nI M) sl (nI K) n (nI j) ci cq cy yp yr bl yg ya ym yw oi op oc os ic ou rd jg jc := by
  intro d
  induction d with
  | zero =>
    intro j n yg ya hj hn hU
    obtain ⟨n, rfl⟩ : ∃ q, n = q + 1 := ⟨n - 1, by omega⟩
    refine br_t (nI_le (by omega) (by omega)) ⟨3, cy_101 (Q := Q) (Rs := Rs) (s := s) (m := m) hN hK hF hm hyr (fun ym' hym' => hp yg ya ym' (fun j' p hj' hp2 => ?_)) 2 0 3 ym (by omega) (by omega) (fun p' hp' => ⟨fun y => absurd y (Nat.not_lt_zero _), fun _ => hym p' hp'⟩)⟩
    obtain ⟨⟨h1, h2⟩, h3, h4⟩ := hU j' p hj' hp2
    refine ⟨h1 (by omega), ?_, hym' p hp2⟩
    by_cases ex : ∃ j2, j2 < j ∧ cb_pj s j' p j2
    · exact h3 ex
    · rw [h4 ex, cb_an_n (by omega)]
      exact fun _ j2 k1 k2 => ex ⟨j2, by omega, k2⟩
  | succ d ih =>
    intro j n yg ya hj hn hU
    obtain ⟨n, rfl⟩ : ∃ q, n = q + 1 := ⟨n - 1, by omega⟩
    have hjN : j < N := by omega
    have hin : vp_in (nI j) 8 := vp_in_nI (by omega) (by omega)
    have hnx : (∀ i p, p < 2 → ¬ cb_pj s i p j) → wY_movePointers_2 post us (nI N) (nI R) (nI C) (nI M) sl (nI K) n (nI (j + 1)) ci cq cy yp yr bl yg ya ym yw oi op oc os ic ou rd jg jc :=
      fun hno => ih (j + 1) n yg ya (by omega) (by omega) (cb_NU_n hU hno)
    refine br_f (nI_ge (by omega) (by omega)) ?_
    rw [nI_clamp (show j < 2 ^ 31 by omega), (hM j hjN).2.1, (hM j hjN).2.2]
    refine And.intro hin ?_
    cases ho : s.2.1 j with
    | none => exact nm_e (br_t cb_m1 (nm_r (nI_1 j) (hnx (fun i p _ z => by have := z.1; rw [ho] at this; exact nomatch this))))
    | some i =>
      obtain ⟨hi, c, hc, _⟩ := hI.2.1 j i hjN ho
      have hc4 := (hI.1 i c hi hc).1
      have hini : vp_in (nI i) 8 := vp_in_nI (by omega) (by omega)
      refine nm_r (e' := nI i) rfl (br_f (nI_pos (by omega)) (And.intro hin (ek_if (cb_oi_s (i := 0) (hI.2.2.2 j hjN) (by omega)) (fun er => And.intro hini ?_) (fun er => nm_r (nI_1 j) (hnx (fun i p _ z => er z.2.1))))))
      rw [nI_clamp (show i < 2 ^ 31 by omega), (hM i hi).1, hc, cb_ois]
      by_cases h2 : c % 2 = 0
      · have hpj : cb_pj s i (c / 2) j := ⟨ho, er, by rw [hc]; exact congrArg some (by omega)⟩
        refine cy_uni0 hc4 h2 (br_f (by decide) (And.intro hini (nm_r (cb_shr (by omega)) ?_)))
        rw [nI_1 i]
        refine cy_wrap hN (by omega) ?_
        rw [cb_i2, nI_clamp (show j * 2 + c / 2 < 2 ^ 31 by omega)]
        refine And.intro (vp_in_nI (by omega) (by omega)) (nm_e ?_)
        rcases hus with ⟨e1, e2⟩ | ⟨e1, e2⟩
        · subst e2
          refine br_f (by decide) ?_
          rw [nI_1 j]
          refine cy_wrap hN (by omega) ?_
          rw [cb_i2, nI_clamp (show i * 2 + c / 2 < 2 ^ 31 by omega)]
          exact And.intro (vp_in_nI (by omega) (by omega)) (nm_e (nm_e (ih (j + 1) n _ _ (by omega) (by omega) (cb_NU_y hI hi (by omega) hjN hpj hU (Or.inl ⟨e1, rfl⟩)))))
        · subst e2
          exact br_t rfl (nm_r (nI_1 j) (ih (j + 1) n _ _ (by omega) (by omega) (cb_NU_y hI hi (by omega) hjN hpj hU (Or.inr ⟨by omega, rfl⟩))))
      · refine cy_uni1 hc4 h2 (br_t rfl (nm_r (nI_1 j) (hnx (fun i' p hp2 z => ?_))))
        have k1 := z.1
        rw [ho] at k1
        cases k1
        have k2 := z.2.2
        rw [hc] at k2
        have := Option.some.inj k2
        omega
theorem cy_cw69 {post : SY → Prop} {J2 J12 : Int32 → (Nat → Int32) → (Nat → Int32) → (Nat → Int32) → (Nat → Int32) → (Nat → Int32) → (Nat → Int32) → (Nat → Int32) → (Nat → Int32) → (Nat → Int32) → (Nat → Int32) → (Nat → Int32) → (Nat → Int32) → (Nat → Int32) → (Nat → Int32) → (Nat → Int32) → (Nat → Int32) → (Nat → Int32) → (Nat → Int32) → (Nat → Int32) → Prop} {i j : Nat} (hi : i < 8) (hj : j < 8) (h : J12 (nI (j + 1)) ci cq cy yp yr bl yg ya ym (upd yw (i * 8 + j) 0) oi op oc os ic ou rd jg jc) : wY_countWaiting_69 post J2 J12 (nI i) (nI j) (nI N) (nI R) (nI C) (nI M) sl (nI K) ci cq cy yp yr bl yg ya ym yw oi op oc os ic ou rd jg jc := by
  unfold wY_countWaiting_69
  rw [cb_i8, nI_clamp (show i * 8 + j < 2 ^ 31 by omega)]
  exact And.intro (vp_in_nI (by omega) (by omega)) (nm_e (nm_r (nI_1 j) h))
theorem cy_cw12 {post : SY → Prop} {J2 : Int32 → (Nat → Int32) → (Nat → Int32) → (Nat → Int32) → (Nat → Int32) → (Nat → Int32) → (Nat → Int32) → (Nat → Int32) → (Nat → Int32) → (Nat → Int32) → (Nat → Int32) → (Nat → Int32) → (Nat → Int32) → (Nat → Int32) → (Nat → Int32) → (Nat → Int32) → (Nat → Int32) → (Nat → Int32) → (Nat → Int32) → (Nat → Int32) → Prop} {Q : Nat → Nat → Nat → Bool} {fx : Nat → Nat → Nat → Option Nat} {s : CbS} {w : Nat → Nat → Int32} {i : Nat} (hN : N ≤ 8) (hK : K ≤ 64) (hF : cb_YF N K Q fx ci cq cy) (hyr : ∀ i j x, i < N → j < N → fx i j 0 = some x → (yr x = 0 ↔ (s.1 i = some 0 ∧ s.2.1 j = some i))) (hi : i < N)
    (hJ : ∀ yw : Nat → Int32, cb_WI N w (cb_wt Q bl s w) i N yw → J2 (nI (i + 1)) ci cq cy yp yr bl yg ya ym yw oi op oc os ic ou rd jg jc) :
    ∀ d j n (yw : Nat → Int32), j + d = N → d < n → cb_WI N w (cb_wt Q bl s w) i j yw → wY_countWaiting_12 post J2 (nI i) (nI N) (nI R) (nI C) (nI M) sl (nI K) n (nI j) ci cq cy yp yr bl yg ya ym yw oi op oc os ic ou rd jg jc := by
  intro d
  induction d with
  | zero =>
    intro j n yw hj hn hW
    obtain ⟨n, rfl⟩ : ∃ q, n = q + 1 := ⟨n - 1, by omega⟩
    have e : j = N := by omega
    rw [e] at hW ⊢
    exact br_t (nI_le (by omega) (by omega)) (nm_r (nI_1 i) (hJ yw hW))
  | succ d ih =>
    intro j n yw hj hn hW
    obtain ⟨n, rfl⟩ : ∃ q, n = q + 1 := ⟨n - 1, by omega⟩
    have hjN : j < N := by omega
    have hwc : yw (i * 8 + j) = w i j := (hW i j hi hjN).2 (by omega)
    have h1 : ((Q i j 0 = true ∧ bl j = 0) ∧ ¬ (s.1 i = some 0 ∧ s.2.1 j = some i)) → wY_countWaiting_12 post J2 (nI i) (nI N) (nI R) (nI C) (nI M) sl (nI K) n (nI (j + 1)) ci cq cy yp yr bl yg ya ym (upd yw (i * 8 + j) (yw (i * 8 + j) + 1)) oi op oc os ic ou rd jg jc := by
      intro y
      refine ih (j + 1) n _ (by omega) (by omega) (cb_WI_s hN hjN hW ?_)
      rw [cb_wt, if_pos y, hwc]
    have h0 : ¬ ((Q i j 0 = true ∧ bl j = 0) ∧ ¬ (s.1 i = some 0 ∧ s.2.1 j = some i)) → wY_countWaiting_69 post J2 (wY_countWaiting_12 post J2 (nI i) (nI N) (nI R) (nI C) (nI M) sl (nI K) n) (nI i) (nI j) (nI N) (nI R) (nI C) (nI M) sl (nI K) ci cq cy yp yr bl yg ya ym yw oi op oc os ic ou rd jg jc := by
      intro y
      refine cy_cw69 (by omega) (by omega) (ih (j + 1) n _ (by omega) (by omega) (cb_WI_s hN hjN hW ?_))
      rw [cb_wt, if_neg y]
    have hin : vp_in (nI (i * 8 + j)) 64 := vp_in_nI (by omega) (by omega)
    refine br_f (nI_ge (by omega) (by omega)) ?_
    rw [cb_i8, nI_clamp (show i * 8 + j < 2 ^ 31 by omega), nI_clamp (show j < 2 ^ 31 by omega)]
    refine cy_f0 (p := 0) hK hF hi (by omega) (by omega) (fun hq => br_t cb_m1 (h0 (fun z => ?_))) (fun x hx hq hx64 => br_f (nI_pos (by omega)) (And.intro (vp_in_nI (by omega) (by omega)) (br_c (fun eb => ?_) (fun eb => h0 (fun z => eb z.1.2)))))
    · have := z.1.1
      rw [hq] at this
      exact nomatch this
    · rw [nI_clamp (show x < 2 ^ 31 by omega)]
      exact And.intro (vp_in_nI hx64 (by omega)) (ek_if (hyr i j x hi hjN hx) (fun z => h0 (fun y => y.2 z)) (fun z => And.intro hin (And.intro hin (nm_e (nm_r (nI_1 j) (h1 ⟨⟨hq, eb⟩, z⟩))))))
theorem cy_cw2 {post : SY → Prop} {Q : Nat → Nat → Nat → Bool} {fx : Nat → Nat → Nat → Option Nat} {s : CbS} {w : Nat → Nat → Int32} (hN : N ≤ 8) (hK : K ≤ 64) (hF : cb_YF N K Q fx ci cq cy) (hyr : ∀ i j x, i < N → j < N → fx i j 0 = some x → (yr x = 0 ↔ (s.1 i = some 0 ∧ s.2.1 j = some i)))
    (hp : ∀ yw : Nat → Int32, (∀ i j, i < N → j < N → yw (i * 8 + j) = cb_wt Q bl s w i j) → post (nI N, nI R, nI C, nI M, sl, nI K, ci, cq, cy, yp, yr, bl, yg, ya, ym, yw, oi, op, oc, os, ic, ou, rd, jg, jc)) :
    ∀ d i n (yw : Nat → Int32), i + d = N → d < n → cb_WI N w (cb_wt Q bl s w) i 0 yw → wY_countWaiting_2 post (nI N) (nI R) (nI C) (nI M) sl (nI K) n (nI i) ci cq cy yp yr bl yg ya ym yw oi op oc os ic ou rd jg jc := by
  intro d
  induction d with
  | zero =>
    intro i n yw hi hn hW
    obtain ⟨n, rfl⟩ : ∃ q, n = q + 1 := ⟨n - 1, by omega⟩
    exact br_t (nI_le (by omega) (by omega)) (hp yw (fun i' j' hi' hj' => (hW i' j' hi' hj').1 (by omega)))
  | succ d ih =>
    intro i n yw hi hn hW
    obtain ⟨n, rfl⟩ : ∃ q, n = q + 1 := ⟨n - 1, by omega⟩
    exact br_f (nI_ge (by omega) (by omega)) ⟨N + 1, cy_cw12 hN hK hF hyr (by omega) (fun yw' hW' => ih (i + 1) n yw' (by omega) (by omega) (cb_WI_r hW')) N 0 (N + 1) yw (by omega) (by omega) hW⟩
end
end
section
/-! queues as lists -/
def cb_ql (L : List Nat) (ky : Nat → Nat × Nat × Nat) (k : Nat × Nat × Nat) : List Nat := L.filter (fun e => decide (ky e = k))
theorem cb_ql_mem {L : List Nat} {ky : Nat → Nat × Nat × Nat} {k : Nat × Nat × Nat} {e : Nat} : e ∈ cb_ql L ky k ↔ e ∈ L ∧ ky e = k := by
  rw [cb_ql, List.mem_filter, decide_eq_true_eq]
def cb_Ch (cn : Nat → Int32) : Int32 → List Nat → Prop
  | _, [] => True
  | h, e :: l => h = nI e ∧ cb_Ch cn (cn e) l
theorem cb_Ch_upd {cn : Nat → Int32} {k : Nat} {v : Int32} : ∀ (l : List Nat) (h : Int32), k ∉ l → cb_Ch cn h l → cb_Ch (upd cn k v) h l := by
  intro l
  induction l with
  | nil => intro h _ _; exact trivial
  | cons e l ih =>
    intro h hk hc
    have hne : e ≠ k := fun z => hk (z ▸ List.mem_cons_self)
    refine ⟨hc.1, ?_⟩
    rw [pk_un hne]
    exact ih _ (fun z => hk (List.mem_cons_of_mem _ z)) hc.2
theorem cb_Ch_app {cn : Nat → Int32} {c t : Nat} : ∀ (l : List Nat) (h : Int32), l.Nodup → l.getLast? = some t → cb_Ch cn h l → cb_Ch (upd cn t (nI c)) h (l ++ [c]) := by
  intro l
  induction l with
  | nil => intro h _ hl _; exact nomatch hl
  | cons e l ih =>
    intro h hn hl hc
    cases l with
    | nil =>
      have e1 : e = t := Option.some.inj hl
      subst e1
      exact ⟨hc.1, pk_us, trivial⟩
    | cons e2 l =>
      rw [List.getLast?_cons_cons] at hl
      obtain ⟨hn1, hn2⟩ := List.nodup_cons.mp hn
      have hm : t ∈ e2 :: l := List.mem_of_getLast? hl
      have hne : e ≠ t := fun z => hn1 (z ▸ hm)
      refine ⟨hc.1, ?_⟩
      rw [pk_un hne]
      exact ih _ hn2 hl hc.2
def cb_XQ (N : Nat) (L F : List Nat) (ky : Nat → Nat × Nat × Nat) (fh : Int32) (cn qh qt qs : Nat → Int32) : Prop :=
  (∀ i v p, i < N → v ≤ N → p < 2 → qs ((i * 9 + v) * 2 + p) = nI (cb_ql L ky (i, v, p)).length ∧ cb_Ch cn (qh ((i * 9 + v) * 2 + p)) (cb_ql L ky (i, v, p)) ∧
    (∀ e, (cb_ql L ky (i, v, p)).getLast? = some e → qt ((i * 9 + v) * 2 + p) = nI e)) ∧
  cb_Ch cn fh F ∧ (L ++ F).Nodup ∧ (∀ e, e ∈ L ++ F → e < 64) ∧ L.length + F.length = 64
def cb_XV (N : Nat) (L : List Nat) (ky : Nat → Nat × Nat × Nat) (cr : Nat → Int32) : Prop :=
  ∀ e, e ∈ L → (ky e).1 < N ∧ (ky e).2.1 ≤ N ∧ (ky e).2.2 < 2 ∧ ((ky e).2.1 < N → cr e = 0) ∧ ((ky e).2.1 = N → ¬ cr e = 0 ∧ ∀ b, b < 32 → bt (cr e) b = true → b < N)
def cb_YD (ky : Nat → Nat × Nat × Nat) (cp R : Nat → Int32) (ci cq cy yp yr : Nat → Int32) (x e : Nat) : Prop :=
  ci x = nI (ky e).1 ∧ cq x = nI (ky e).2.1 ∧ cy x = nI (ky e).2.2 ∧ yp x = cp e ∧ yr x = R e
def cb_rs (N : Nat) (ky : Nat → Nat × Nat × Nat) (cr : Nat → Int32) (e : Nat) : Int32 := if (ky e).2.1 = N then cr e else (1 : Int32) <<< (nI (ky e).2.1 &&& 31)
def cb_YL (N : Nat) (L : List Nat) (ky : Nat → Nat × Nat × Nat) (cp cr : Nat → Int32) (ci cq cy yp yr : Nat → Int32) : Prop :=
  ∀ x e, L[x]? = some e → cb_YD ky cp (cb_rs N ky cr) ci cq cy yp yr x e
theorem cb_nodup {L F : List Nat} (h : (L ++ F).Nodup) : L.Nodup ∧ F.Nodup ∧ ∀ e, e ∈ L → e ∉ F := by
  rw [List.nodup_append] at h
  exact ⟨h.1, h.2.1, fun e h1 h2 => h.2.2 e h1 e h2 rfl⟩
theorem cb_ql_nodup {L : List Nat} {ky : Nat → Nat × Nat × Nat} {k : Nat × Nat × Nat} (h : L.Nodup) : (cb_ql L ky k).Nodup := List.Pairwise.filter _ h
theorem cb_ql_len {L : List Nat} {ky : Nat → Nat × Nat × Nat} {k : Nat × Nat × Nat} : (cb_ql L ky k).length ≤ L.length := List.length_filter_le _ _
/-- find over the list -/
theorem cb_fd_list {B f : Nat → Bool} {L : List Nat} (hB : ∀ x e, L[x]? = some e → B x = f e) : ∀ d x k, x + d = L.length →
    (cb_fd B d x k = none → ((L.drop x).filter f).length ≤ k) ∧ (∀ y, cb_fd B d x k = some y → L[y]? = ((L.drop x).filter f)[k]? ∧ y < L.length) := by
  intro d
  induction d with
  | zero =>
    intro x k hx
    have e : L.drop x = [] := List.drop_eq_nil_of_le (by omega)
    rw [e]
    exact ⟨fun _ => Nat.zero_le _, fun y z => (nomatch z)⟩
  | succ d ih =>
    intro x k hx
    have hlt : x < L.length := by omega
    have hd : L.drop x = L[x] :: L.drop (x + 1) := List.drop_eq_getElem_cons hlt
    have hb := hB x L[x] (List.getElem?_eq_getElem hlt)
    rw [hd]
    cases hf : f L[x] with
    | false =>
      rw [hf] at hb
      rw [cb_fd_f hb, List.filter_cons_of_neg (by rw [hf]; decide)]
      exact ih (x + 1) k (by omega)
    | true =>
      rw [hf] at hb
      rw [List.filter_cons_of_pos hf]
      by_cases hk : k = 0
      · subst hk
        rw [cb_fd_0 hb]
        refine ⟨fun z => (nomatch z), fun y z => ?_⟩
        cases z
        exact ⟨List.getElem?_eq_getElem hlt, hlt⟩
      · rw [cb_fd_s hb hk]
        obtain ⟨h1, h2⟩ := ih (x + 1) (k - 1) (by omega)
        obtain ⟨k, rfl⟩ : ∃ q, k = q + 1 := ⟨k - 1, by omega⟩
        rw [Nat.add_sub_cancel] at h1 h2 ⊢
        refine ⟨fun z => ?_, fun y z => ?_⟩
        · have := h1 z
          rw [List.length_cons]
          omega
        · rw [List.getElem?_cons_succ]
          exact h2 y z
theorem cb_B_ky {N : Nat} {L : List Nat} {ky : Nat → Nat × Nat × Nat} {cp cr ci cq cy yp yr : Nat → Int32} (hN : N ≤ 8) (hV : cb_XV N L ky cr) (hY : cb_YL N L ky cp cr ci cq cy yp yr) {i v p : Nat} (hi : i < 2 ^ 31) (hv : v < 2 ^ 31) (hp : p < 2 ^ 31) :
    ∀ x e, L[x]? = some e → cb_B ci cq cy (nI i) (nI v) (nI p) x = decide (ky e = (i, v, p)) := by
  intro x e hx
  obtain ⟨h1, h2, h3, _⟩ := hY x e hx
  obtain ⟨k1, k2, k3, _⟩ := hV e (List.mem_of_getElem? hx)
  rw [cb_B, h1, h2, h3]
  refine decide_eq_decide.mpr ?_
  rw [nI_eq (by omega) hi, nI_eq (by omega) hv, nI_eq (by omega) hp]
  constructor
  · intro ⟨a, b, c⟩
    rw [← a, ← b, ← c]
  · intro z
    rw [z]
    exact ⟨rfl, rfl, rfl⟩
/-- the k-th cell of a queue, for both sides -/
theorem cb_fd_ql {N : Nat} {L : List Nat} {ky : Nat → Nat × Nat × Nat} {cp cr ci cq cy yp yr : Nat → Int32} (hN : N ≤ 8) (hV : cb_XV N L ky cr) (hY : cb_YL N L ky cp cr ci cq cy yp yr) {i v p : Nat} (hi : i < 2 ^ 31) (hv : v < 2 ^ 31) (hp : p < 2 ^ 31) (k : Nat) :
    (cb_fd (cb_B ci cq cy (nI i) (nI v) (nI p)) L.length 0 k = none → (cb_ql L ky (i, v, p)).length ≤ k) ∧
    (∀ y, cb_fd (cb_B ci cq cy (nI i) (nI v) (nI p)) L.length 0 k = some y → L[y]? = (cb_ql L ky (i, v, p))[k]? ∧ y < L.length) :=
  cb_fd_list (L := L) (f := fun e => decide (ky e = (i, v, p))) (cb_B_ky hN hV hY hi hv hp) L.length 0 k (by omega)
/-! what the matching sees -/
def cb_Q (L : List Nat) (ky : Nat → Nat × Nat × Nat) (i v p : Nat) : Bool := decide (¬ cb_ql L ky (i, v, p) = [])
def cb_Rs (N : Nat) (L : List Nat) (ky : Nat → Nat × Nat × Nat) (cr : Nat → Int32) (i p : Nat) : Int32 := match (cb_ql L ky (i, N, p)).head? with
  | none => 0
  | some e => cr e
def cb_fx (L : List Nat) (ci cq cy : Nat → Int32) (i v p : Nat) : Option Nat := cb_fd (cb_B ci cq cy (nI i) (nI v) (nI p)) L.length 0 0
theorem cb_XE_of {N : Nat} {L F : List Nat} {ky : Nat → Nat × Nat × Nat} {fh : Int32} {cr cn qh qt qs : Nat → Int32} (hX : cb_XQ N L F ky fh cn qh qt qs) : cb_XE N (cb_Q L ky) (cb_Rs N L ky cr) cr qh qs := by
  intro i v p hi hv hp
  obtain ⟨h1, h2, _⟩ := hX.1 i v p hi hv hp
  have hl : (cb_ql L ky (i, v, p)).length ≤ L.length := cb_ql_len
  have h64 := hX.2.2.2.2
  cases hq : cb_ql L ky (i, v, p) with
  | nil =>
    rw [hq] at h1
    refine ⟨fun _ => h1, fun z => ?_⟩
    rw [cb_Q, decide_eq_true_eq] at z
    exact absurd hq z
  | cons e l =>
    rw [hq] at h1 h2 hl
    refine ⟨fun z => ?_, fun _ => ⟨⟨l.length, ?_, h1⟩, e, ?_, h2.1, fun ev => ?_⟩⟩
    · rw [cb_Q, decide_eq_false_iff_not, Classical.not_not, hq] at z
      exact nomatch z
    · rw [List.length_cons] at hl
      omega
    · have hm : e ∈ cb_ql L ky (i, v, p) := by
        rw [hq]
        exact List.mem_cons_self
      exact hX.2.2.2.1 e (List.mem_append_left _ (cb_ql_mem.mp hm).1)
    · subst ev
      rw [cb_Rs, hq]
      rfl
theorem cb_fx_hd {N : Nat} {L : List Nat} {ky : Nat → Nat × Nat × Nat} {cp cr ci cq cy yp yr : Nat → Int32} (hN : N ≤ 8) (hV : cb_XV N L ky cr) (hY : cb_YL N L ky cp cr ci cq cy yp yr) {i v p : Nat} (hi : i < N) (hv : v ≤ N) (hp : p < 2) :
    (cb_fx L ci cq cy i v p = none → (cb_ql L ky (i, v, p)).head? = none) ∧ (∀ x, cb_fx L ci cq cy i v p = some x → L[x]? = (cb_ql L ky (i, v, p)).head? ∧ x < L.length) := by
  obtain ⟨h1, h2⟩ := cb_fd_ql hN hV hY (i := i) (v := v) (p := p) (by omega) (by omega) (by omega) 0
  refine ⟨fun z => ?_, fun x z => ?_⟩
  · have := List.length_eq_zero_iff.mp (Nat.le_zero.mp (h1 z))
    rw [this]
    rfl
  · rw [List.head?_eq_getElem?]
    exact h2 x z
theorem cb_YF_of {N : Nat} {L : List Nat} {ky : Nat → Nat × Nat × Nat} {cp cr ci cq cy yp yr : Nat → Int32} (hN : N ≤ 8) (h64 : L.length ≤ 64) (hV : cb_XV N L ky cr) (hY : cb_YL N L ky cp cr ci cq cy yp yr) : cb_YF N L.length (cb_Q L ky) (cb_fx L ci cq cy) ci cq cy := by
  intro i v p hi hv hp
  obtain ⟨h1, h2⟩ := cb_fx_hd hN hV hY hi hv hp
  refine ⟨rfl, ?_, fun x z => ?_⟩
  · cases hf : cb_fx L ci cq cy i v p with
    | none =>
      have := List.head?_eq_none_iff.mp (h1 hf)
      rw [cb_Q, this]
      rfl
    | some x =>
      obtain ⟨k1, k2⟩ := h2 x hf
      rw [cb_Q]
      refine decide_eq_true (fun z => ?_)
      rw [z, List.getElem?_eq_getElem k2] at k1
      exact nomatch k1
  · have := (h2 x z).2
    omega
theorem cb_YR_of {N : Nat} {L : List Nat} {ky : Nat → Nat × Nat × Nat} {cp cr ci cq cy yp yr : Nat → Int32} (hN : N ≤ 8) (hV : cb_XV N L ky cr) (hY : cb_YL N L ky cp cr ci cq cy yp yr) : cb_YR N (cb_Rs N L ky cr) (cb_fx L ci cq cy) yr := by
  intro i p x hi hp hx
  obtain ⟨h1, h2⟩ := (cb_fx_hd hN hV hY hi (Nat.le_refl _) hp).2 x hx
  rw [List.getElem?_eq_getElem h2] at h1
  have h3 := (hY x _ (List.getElem?_eq_getElem h2)).2.2.2.2
  have h4 := (cb_ql_mem.mp (List.mem_of_mem_head? h1.symm)).2
  rw [h3, cb_Rs, ← h1, cb_rs, if_pos (by rw [h4])]
theorem cb_Rb_of {N : Nat} {L : List Nat} {ky : Nat → Nat × Nat × Nat} {cr : Nat → Int32} (hV : cb_XV N L ky cr) {i p b : Nat} (hQ : cb_Q L ky i N p = true) (hb : b < 32) (h : bt (cb_Rs N L ky cr i p) b = true) : b < N := by
  cases hq : cb_ql L ky (i, N, p) with
  | nil =>
    rw [cb_Q, decide_eq_true_eq] at hQ
    exact absurd hq hQ
  | cons e l =>
    have hm : e ∈ cb_ql L ky (i, N, p) := by
      rw [hq]
      exact List.mem_cons_self
    obtain ⟨h1, h2⟩ := cb_ql_mem.mp hm
    rw [cb_Rs, hq] at h
    exact ((hV e h1).2.2.2.2 (by rw [h2])).2 b hb h
end
section
/-! the sending, pure -/
def cb_hd (N : Nat) (L : List Nat) (ky : Nat → Nat × Nat × Nat) (s : CbS) (j : Nat) : Option Nat := match s.2.1 j with
  | none => none
  | some i => match s.1 i with
    | none => none
    | some c => (cb_ql L ky (i, (if c % 2 = 0 then j else N), c / 2)).head?
theorem cb_hd_n {N : Nat} {L : List Nat} {ky : Nat → Nat × Nat × Nat} {s : CbS} {j : Nat} (h : s.2.1 j = none) : cb_hd N L ky s j = none := by
  rw [cb_hd, h]
theorem cb_hd_s {N : Nat} {L : List Nat} {ky : Nat → Nat × Nat × Nat} {s : CbS} {i j c : Nat} (h1 : s.2.1 j = some i) (h2 : s.1 i = some c) : cb_hd N L ky s j = (cb_ql L ky (i, (if c % 2 = 0 then j else N), c / 2)).head? := by
  rw [cb_hd, h1]
  show (match s.1 i with | none => none | some c => (cb_ql L ky (i, (if c % 2 = 0 then j else N), c / 2)).head?) = _
  rw [h2]
theorem cb_hd_inv {N : Nat} {L : List Nat} {ky : Nat → Nat × Nat × Nat} {s : CbS} {j e : Nat} (h : cb_hd N L ky s j = some e) :
    ∃ i c, s.2.1 j = some i ∧ s.1 i = some c ∧ e ∈ L ∧ ky e = (i, (if c % 2 = 0 then j else N), c / 2) := by
  cases h1 : s.2.1 j with
  | none =>
    rw [cb_hd_n h1] at h
    exact nomatch h
  | some i =>
    cases h2 : s.1 i with
    | none =>
      rw [cb_hd, h1] at h
      have h' : (match s.1 i with | none => none | some c => (cb_ql L ky (i, (if c % 2 = 0 then j else N), c / 2)).head?) = some e := h
      rw [h2] at h'
      exact nomatch h'
    | some c =>
      rw [cb_hd_s h1 h2] at h
      have hm := cb_ql_mem.mp (List.mem_of_mem_head? h)
      exact ⟨i, c, rfl, h2, hm.1, hm.2⟩
theorem cb_Q_head {L : List Nat} {ky : Nat → Nat × Nat × Nat} {i v p : Nat} (h : cb_Q L ky i v p = true) : ∃ e l, cb_ql L ky (i, v, p) = e :: l := by
  rw [cb_Q, decide_eq_true_eq] at h
  cases hq : cb_ql L ky (i, v, p) with
  | nil => exact absurd hq h
  | cons e l => exact ⟨e, l, rfl⟩
theorem cb_ok_Q {N : Nat} {Q : Nat → Nat → Nat → Bool} {Rs : Nat → Nat → Int32} {i j c : Nat} (h : cb_ok N Q Rs j c i) : Q i (if c % 2 = 0 then j else N) (c / 2) = true := by
  by_cases h2 : c % 2 = 0
  · rw [if_pos h2]
    exact h.1 h2
  · rw [if_neg h2]
    exact (h.2 h2).1
def cb_mk (P : Nat → Bool) : Nat → Int32
  | 0 => 0
  | n + 1 => cb_mk P n ||| (if P n = true then (1 : Int32) <<< (nI n &&& 31) else 0)
theorem cb_mk_bt {P : Nat → Bool} : ∀ n, n ≤ 32 → ∀ b, b < 32 → bt (cb_mk P n) b = (decide (b < n) && P b) := by
  intro n
  induction n with
  | zero =>
    intro _ b hb
    rw [decide_eq_false (Nat.not_lt_zero b)]
    exact b_0 b
  | succ n ih =>
    intro hn b hb
    rw [cb_mk, b_or, ih (by omega) b hb]
    by_cases e : b = n
    · subst e
      rw [decide_eq_false (Nat.lt_irrefl b), decide_eq_true (Nat.lt_succ_self b), Bool.false_and, Bool.false_or, Bool.true_and]
      cases hp : P b with
      | true =>
        rw [if_pos rfl, cb_sh hb hb, decide_eq_true rfl]
      | false =>
        rw [if_neg (by decide), b_0]
    · have e1 : bt (if P n = true then (1 : Int32) <<< (nI n &&& 31) else 0) b = false := by
        split
        · rw [cb_sh (by omega) hb, decide_eq_false e]
        · exact b_0 b
      rw [e1, Bool.or_false, decide_eq_decide.mpr (show b < n ↔ b < n + 1 by omega)]
def cb_nr (N : Nat) (L : List Nat) (ky : Nat → Nat × Nat × Nat) (s : CbS) (cr : Nat → Int32) (e : Nat) : Int32 :=
  cr e &&& (cb_mk (fun b => decide (cb_hd N L ky s b = some e)) N ^^^ (-1))
theorem cb_nr_bt {N : Nat} {L : List Nat} {ky : Nat → Nat × Nat × Nat} {s : CbS} {cr : Nat → Int32} {e b : Nat} (hN : N ≤ 8) (hb : b < 32) : bt (cb_nr N L ky s cr e) b = (bt (cr e) b && !(decide (b < N) && decide (cb_hd N L ky s b = some e))) := by
  rw [cb_nr, b_and, cb_not _ hb, cb_mk_bt N (by omega) b hb]
theorem cb_nr_0 {N : Nat} {L : List Nat} {ky : Nat → Nat × Nat × Nat} {s : CbS} {cr : Nat → Int32} {e : Nat} (h : cr e = 0) : cb_nr N L ky s cr e = 0 := by
  rw [cb_nr, h]
  apply b_ext
  intro b hb
  rw [b_and, b_0]
  rfl
def cb_gx (N : Nat) (L : List Nat) (ky : Nat → Nat × Nat × Nat) (s : CbS) (cr : Nat → Int32) (e : Nat) : Bool :=
  if (ky e).2.1 = N then decide (cb_nr N L ky s cr e = 0) else decide (cb_hd N L ky s (ky e).2.1 = some e)
theorem cb_gx_hit {N : Nat} {L : List Nat} {ky : Nat → Nat × Nat × Nat} {s : CbS} {cr : Nat → Int32} {e : Nat} (hN : N ≤ 8) (hV : cb_XV N L ky cr) (he : e ∈ L) (h : cb_gx N L ky s cr e = true) : ∃ b, b < N ∧ cb_hd N L ky s b = some e := by
  obtain ⟨_, h2, _, _, h5⟩ := hV e he
  by_cases hv : (ky e).2.1 = N
  · rw [cb_gx, if_pos hv, decide_eq_true_eq, cb_zero] at h
    refine Classical.byContradiction (fun z => (h5 hv).1 ?_)
    rw [cb_zero]
    intro b hb
    have h3 := h b hb
    rw [cb_nr_bt hN hb] at h3
    have h4 : (decide (b < N) && decide (cb_hd N L ky s b = some e)) = false := by
      by_cases hbN : b < N
      · rw [decide_eq_true hbN, decide_eq_false (fun y => z ⟨b, hbN, y⟩)]
        rfl
      · rw [decide_eq_false hbN]
        rfl
    rw [h4, Bool.not_false, Bool.and_true] at h3
    exact h3
  · rw [cb_gx, if_neg hv, decide_eq_true_eq] at h
    exact ⟨(ky e).2.1, by omega, h⟩
/-- a matched input's cell -/
theorem cb_in {N : Nat} {L : List Nat} {ky : Nat → Nat × Nat × Nat} {s : CbS} {cr : Nat → Int32} {i c : Nat} (hI : cb_I N (cb_Q L ky) (cb_Rs N L ky cr) s) (hi : i < N) (hc : s.1 i = some c) :
    ∃ e l j0, j0 < N ∧ s.2.1 j0 = some i ∧ cb_ql L ky (i, (if c % 2 = 0 then j0 else N), c / 2) = e :: l ∧ e ∈ L ∧ ky e = (i, (if c % 2 = 0 then j0 else N), c / 2) ∧ (∀ j, j < N → (s.2.1 j = some i ↔ cb_hd N L ky s j = some e)) := by
  obtain ⟨hc4, j0, hj0, ho⟩ := hI.1 i c hi hc
  obtain ⟨_, c', hc', hok⟩ := hI.2.1 j0 i hj0 ho
  rw [hc] at hc'
  cases hc'
  obtain ⟨e, l, hq⟩ := cb_Q_head (cb_ok_Q hok)
  have hm : e ∈ cb_ql L ky (i, (if c % 2 = 0 then j0 else N), c / 2) := by
    rw [hq]
    exact List.mem_cons_self
  obtain ⟨hm1, hm2⟩ := cb_ql_mem.mp hm
  refine ⟨e, l, j0, hj0, ho, hq, hm1, hm2, fun j hj => ⟨fun z => ?_, fun z => ?_⟩⟩
  · rw [cb_hd_s z hc]
    by_cases h2 : c % 2 = 0
    · have ej := hI.2.2.1 i c j j0 hi hc h2 hj hj0 z ho
      rw [ej, hq]
      rfl
    · rw [if_neg h2] at hq ⊢
      rw [hq]
      rfl
  · obtain ⟨i', c', k1, k2, _, k4⟩ := cb_hd_inv z
    rw [hm2] at k4
    have : i = i' := congrArg Prod.fst k4
    rw [k1, this]
theorem cb_in_nr {N : Nat} {L : List Nat} {ky : Nat → Nat × Nat × Nat} {s : CbS} {cr mc mm mf ot : Nat → Int32} {i e : Nat} (hN : N ≤ 8) (hM : cb_XM N s mc mm mf ot) (hi : i < N) (he : ∀ j, j < N → (s.2.1 j = some i ↔ cb_hd N L ky s j = some e)) : cr e &&& (mm i ^^^ (-1)) = cb_nr N L ky s cr e := by
  apply b_ext
  intro b hb
  rw [b_and, cb_not _ hb, cb_nr_bt hN hb, hM.2.1 i b hi hb]
  congr 2
  rw [← Bool.decide_and]
  refine decide_eq_decide.mpr ⟨fun z => ⟨z.1, (he b z.1).mp z.2⟩, fun z => ⟨z.1, (he b z.1).mpr z.2⟩⟩
theorem cb_in_gx {N : Nat} {L : List Nat} {ky : Nat → Nat × Nat × Nat} {s : CbS} {cr : Nat → Int32} {i c e j0 : Nat} (hV : cb_XV N L ky cr) (he : e ∈ L) (hj0 : j0 < N) (ho : s.2.1 j0 = some i) (hk : ky e = (i, (if c % 2 = 0 then j0 else N), c / 2)) (hh : ∀ j, j < N → (s.2.1 j = some i ↔ cb_hd N L ky s j = some e)) :
    cb_gx N L ky s cr e = true ↔ cb_nr N L ky s cr e = 0 := by
  have hv : (ky e).2.1 = if c % 2 = 0 then j0 else N := by rw [hk]
  by_cases h2 : c % 2 = 0
  · rw [if_pos h2] at hv
    have hne : ¬ (ky e).2.1 = N := by omega
    rw [cb_gx, if_neg hne, hv, decide_eq_true_eq, ← hh j0 hj0]
    have h0 := (hV e he).2.2.2.1 (by omega)
    exact ⟨fun _ => cb_nr_0 h0, fun _ => ho⟩
  · rw [if_neg h2] at hv
    rw [cb_gx, if_pos hv, decide_eq_true_eq]
theorem cb_gx_in {N : Nat} {L : List Nat} {ky : Nat → Nat × Nat × Nat} {s : CbS} {cr : Nat → Int32} {i e e' : Nat} (hN : N ≤ 8) (hV : cb_XV N L ky cr) (he' : e' ∈ L) (h : cb_gx N L ky s cr e' = true) (hk : (ky e').1 = i) (hh : ∀ j, j < N → (s.2.1 j = some i ↔ cb_hd N L ky s j = some e)) : e' = e := by
  obtain ⟨b, hb, hb2⟩ := cb_gx_hit hN hV he' h
  obtain ⟨i', c', k1, k2, _, k4⟩ := cb_hd_inv hb2
  have e1 : (ky e').1 = i' := by rw [k4]
  have e2 : s.2.1 b = some i := by rw [k1, ← e1, hk]
  have e3 := (hh b hb).mp e2
  rw [hb2] at e3
  exact Option.some.inj e3
theorem cb_gx_un {N : Nat} {L : List Nat} {ky : Nat → Nat × Nat × Nat} {s : CbS} {cr : Nat → Int32} {i e' : Nat} (hN : N ≤ 8) (hV : cb_XV N L ky cr) (hi : s.1 i = none) (he' : e' ∈ L) (hk : (ky e').1 = i) : cb_gx N L ky s cr e' = false := by
  cases h : cb_gx N L ky s cr e' with
  | false => rfl
  | true =>
    obtain ⟨b, hb, hb2⟩ := cb_gx_hit hN hV he' h
    obtain ⟨i', c', k1, k2, _, k4⟩ := cb_hd_inv hb2
    have e1 : (ky e').1 = i' := by rw [k4]
    rw [← e1, hk, hi] at k2
    exact nomatch k2
/-! the pool when a head leaves, when a cell arrives -/
theorem cb_len_rm {e : Nat} : ∀ (L : List Nat), L.Nodup → e ∈ L → (L.filter (fun x => decide (¬ x = e))).length + 1 = L.length := by
  intro L
  induction L with
  | nil => intro _ h; exact absurd h List.not_mem_nil
  | cons a L ih =>
    intro hn hm
    obtain ⟨h1, h2⟩ := List.nodup_cons.mp hn
    by_cases ea : a = e
    · rw [List.filter_cons_of_neg (by rw [decide_eq_true_eq]; exact fun z => z ea), List.length_cons]
      have : L.filter (fun x => decide (¬ x = e)) = L := by
        rw [List.filter_eq_self]
        intro x hx
        rw [decide_eq_true_eq]
        intro z
        rw [z, ← ea] at hx
        exact h1 hx
      rw [this]
    · rw [List.filter_cons_of_pos (by rw [decide_eq_true_eq]; exact ea), List.length_cons, List.length_cons]
      have hm2 : e ∈ L := by
        rcases List.mem_cons.mp hm with z | z
        · exact absurd z.symm ea
        · exact z
      rw [ih h2 hm2]
theorem cb_ql_rm {L : List Nat} {ky : Nat → Nat × Nat × Nat} {e : Nat} {k : Nat × Nat × Nat} : cb_ql (L.filter (fun x => decide (¬ x = e))) ky k = (cb_ql L ky k).filter (fun x => decide (¬ x = e)) := by
  rw [cb_ql, cb_ql, List.filter_filter, List.filter_filter]
  congr 1
  funext x
  exact Bool.and_comm _ _
theorem cb_XQ_rm {N : Nat} {L F : List Nat} {ky : Nat → Nat × Nat × Nat} {fh : Int32} {cn qh qt qs qh' qt' qs' : Nat → Int32} {i v p e : Nat} {l : List Nat} (hN : N ≤ 8) (hX : cb_XQ N L F ky fh cn qh qt qs) (hi : i < N) (hv : v ≤ N) (hp : p < 2) (hq : cb_ql L ky (i, v, p) = e :: l)
    (hs : qs' ((i * 9 + v) * 2 + p) = nI l.length) (hso : ∀ x, x ≠ (i * 9 + v) * 2 + p → qs' x = qs x) (hh : ¬ l = [] → qh' ((i * 9 + v) * 2 + p) = cn e) (hho : ∀ x, x ≠ (i * 9 + v) * 2 + p → qh' x = qh x) (ht : ¬ l = [] → qt' ((i * 9 + v) * 2 + p) = qt ((i * 9 + v) * 2 + p)) (hto : ∀ x, x ≠ (i * 9 + v) * 2 + p → qt' x = qt x) :
    cb_XQ N (L.filter (fun x => decide (¬ x = e))) (e :: F) ky (nI e) (upd cn e fh) qh' qt' qs' := by
  obtain ⟨X1, X2, X3, X4, X5⟩ := hX
  obtain ⟨hn1, hn2, hn3⟩ := cb_nodup X3
  have hm : e ∈ cb_ql L ky (i, v, p) := by
    rw [hq]
    exact List.mem_cons_self
  obtain ⟨hmL, hmk⟩ := cb_ql_mem.mp hm
  have heF := hn3 e hmL
  have hqn := cb_ql_nodup (ky := ky) (k := (i, v, p)) hn1
  rw [hq] at hqn
  obtain ⟨hel, _⟩ := List.nodup_cons.mp hqn
  refine ⟨fun i' v' p' hi' hv' hp' => ?_, ?_, ?_, ?_, ?_⟩
  · by_cases ek : i' = i ∧ v' = v ∧ p' = p
    · obtain ⟨e1, e2, e3⟩ := ek
      subst e1 e2 e3
      obtain ⟨_, Y2, Y3⟩ := X1 i' v' p' hi' hv' hp'
      have hql : cb_ql (L.filter (fun x => decide (¬ x = e))) ky (i', v', p') = l := by
        rw [cb_ql_rm, hq, List.filter_cons_of_neg (by rw [decide_eq_true_eq]; exact fun z => z rfl), List.filter_eq_self]
        intro x hx
        rw [decide_eq_true_eq]
        intro z
        rw [z] at hx
        exact hel hx
      rw [hql]
      rw [hq] at Y2 Y3
      refine ⟨hs, ?_, fun t ht2 => ?_⟩
      · cases l with
        | nil => exact trivial
        | cons a l =>
          rw [hh (fun z => (nomatch z))]
          exact cb_Ch_upd _ _ hel Y2.2
      · cases l with
        | nil => exact nomatch ht2
        | cons a l =>
          rw [ht (fun z => (nomatch z))]
          exact Y3 t (by rw [List.getLast?_cons_cons]; exact ht2)
    · obtain ⟨Y1, Y2, Y3⟩ := X1 i' v' p' hi' hv' hp'
      have hx : (i' * 9 + v') * 2 + p' ≠ (i * 9 + v) * 2 + p := by omega
      have hne : e ∉ cb_ql L ky (i', v', p') := by
        intro z
        have := (cb_ql_mem.mp z).2
        rw [hmk] at this
        injection this with a1 a2
        injection a2 with a2 a3
        exact ek ⟨a1.symm, a2.symm, a3.symm⟩
      have hql : cb_ql (L.filter (fun x => decide (¬ x = e))) ky (i', v', p') = cb_ql L ky (i', v', p') := by
        rw [cb_ql_rm, List.filter_eq_self]
        intro x hx
        rw [decide_eq_true_eq]
        intro z
        rw [z] at hx
        exact hne hx
      rw [hql, hso _ hx, hho _ hx, hto _ hx]
      exact ⟨Y1, cb_Ch_upd _ _ hne Y2, Y3⟩
  · refine ⟨rfl, ?_⟩
    rw [pk_us]
    exact cb_Ch_upd _ _ heF X2
  · rw [List.nodup_append]
    refine ⟨List.Pairwise.filter _ hn1, List.nodup_cons.mpr ⟨heF, hn2⟩, fun a ha b hb z => ?_⟩
    obtain ⟨ha1, ha2⟩ := List.mem_filter.mp ha
    rw [decide_eq_true_eq] at ha2
    rcases List.mem_cons.mp hb with y | y
    · exact ha2 (z.trans y)
    · rw [← z] at y
      exact hn3 a ha1 y
  · intro a ha
    rcases List.mem_append.mp ha with y | y
    · exact X4 a (List.mem_append_left _ (List.mem_filter.mp y).1)
    · rcases List.mem_cons.mp y with z | z
      · rw [z]
        exact X4 e (List.mem_append_left _ hmL)
      · exact X4 a (List.mem_append_right _ z)
  · have := cb_len_rm L hn1 hmL
    rw [List.length_cons]
    omega
theorem cb_ql_ext {L : List Nat} {ky ky' : Nat → Nat × Nat × Nat} {k : Nat × Nat × Nat} (h : ∀ e, e ∈ L → ky' e = ky e) : cb_ql L ky' k = cb_ql L ky k := by
  rw [cb_ql, cb_ql]
  refine List.filter_congr (fun x hx => ?_)
  rw [h x hx]
theorem cb_XQ_add {N : Nat} {L F : List Nat} {ky ky' : Nat → Nat × Nat × Nat} {fh : Int32} {cn qh qt qs cn' qh' : Nat → Int32} {i v p c : Nat} (hN : N ≤ 8) (hX : cb_XQ N L (c :: F) ky fh cn qh qt qs) (hi : i < N) (hv : v ≤ N) (hp : p < 2) (hky : ky' c = (i, v, p)) (hkyo : ∀ x, x ≠ c → ky' x = ky x)
    (hc : (cb_ql L ky (i, v, p) = [] ∧ cn' = upd cn c (-1) ∧ qh' = upd qh ((i * 9 + v) * 2 + p) (nI c)) ∨ (∃ t, (cb_ql L ky (i, v, p)).getLast? = some t ∧ cn' = upd (upd cn c (-1)) t (nI c) ∧ qh' = qh)) :
    cb_XQ N (L ++ [c]) F ky' (cn c) cn' qh' (upd qt ((i * 9 + v) * 2 + p) (nI c)) (upd qs ((i * 9 + v) * 2 + p) (nI ((cb_ql L ky (i, v, p)).length + 1))) := by
  obtain ⟨X1, X2, X3, X4, X5⟩ := hX
  obtain ⟨hn1, hn2, hn3⟩ := cb_nodup X3
  obtain ⟨hcF, hnF⟩ := List.nodup_cons.mp hn2
  have hcL : c ∉ L := fun z => hn3 c z List.mem_cons_self
  have hkL : ∀ x, x ∈ L → ky' x = ky x := fun x hx => hkyo x (fun z => hcL (z ▸ hx))
  have hql : ∀ k, cb_ql (L ++ [c]) ky' k = cb_ql L ky k ++ cb_ql [c] ky' k := by
    intro k
    rw [cb_ql, List.filter_append]
    show cb_ql L ky' k ++ _ = _
    rw [cb_ql_ext hkL]
    rfl
  have hcq : ∀ k, c ∉ cb_ql L ky k := fun k z => hcL (cb_ql_mem.mp z).1
  have hchain : ∀ (h : Int32) (M : List Nat), c ∉ M → (∀ t, (cb_ql L ky (i, v, p)).getLast? = some t → t ∉ M) → cb_Ch cn h M → cb_Ch cn' h M := by
    intro h M h1 h2 h3
    rcases hc with ⟨_, k2, _⟩ | ⟨t, k1, k2, _⟩
    · rw [k2]
      exact cb_Ch_upd _ _ h1 h3
    · rw [k2]
      exact cb_Ch_upd _ _ (h2 t k1) (cb_Ch_upd _ _ h1 h3)
  refine ⟨fun i' v' p' hi' hv' hp' => ?_, ?_, ?_, ?_, ?_⟩
  · by_cases ek : i' = i ∧ v' = v ∧ p' = p
    · obtain ⟨e1, e2, e3⟩ := ek
      subst e1 e2 e3
      obtain ⟨_, Y2, Y3⟩ := X1 i' v' p' hi' hv' hp'
      have h1 : cb_ql [c] ky' (i', v', p') = [c] := by
        rw [cb_ql, List.filter_cons_of_pos (by rw [decide_eq_true_eq]; exact hky)]
        rfl
      rw [hql, h1, pk_us, pk_us, List.length_append]
      refine ⟨rfl, ?_, fun t ht => ?_⟩
      · rcases hc with ⟨k1, k2, k3⟩ | ⟨t, k1, k2, k3⟩
        · rw [k1, k3, pk_us]
          exact ⟨rfl, trivial⟩
        · rw [k2, k3]
          exact cb_Ch_app _ _ (cb_ql_nodup hn1) k1 (cb_Ch_upd _ _ (hcq _) Y2)
      · rw [List.getLast?_append] at ht
        cases ht
        rfl
    · obtain ⟨Y1, Y2, Y3⟩ := X1 i' v' p' hi' hv' hp'
      have hx : (i' * 9 + v') * 2 + p' ≠ (i * 9 + v) * 2 + p := by omega
      have h1 : cb_ql [c] ky' (i', v', p') = [] := by
        rw [cb_ql, List.filter_cons_of_neg]
        · rfl
        · rw [decide_eq_true_eq, hky]
          intro z
          injection z with a1 a2
          injection a2 with a2 a3
          exact ek ⟨a1.symm, a2.symm, a3.symm⟩
      have hqh : qh' ((i' * 9 + v') * 2 + p') = qh ((i' * 9 + v') * 2 + p') := by
        rcases hc with ⟨_, _, k3⟩ | ⟨_, _, _, k3⟩
        · rw [k3, pk_un hx]
        · rw [k3]
      rw [hql, h1, List.append_nil, pk_un hx, pk_un hx, hqh]
      refine ⟨Y1, hchain _ _ (hcq _) (fun t ht z => ?_) Y2, Y3⟩
      have z1 := (cb_ql_mem.mp z).2
      have z2 := (cb_ql_mem.mp (List.mem_of_getLast? ht)).2
      rw [z1] at z2
      injection z2 with a1 a2
      injection a2 with a2 a3
      exact ek ⟨a1, a2, a3⟩
  · refine hchain _ _ hcF (fun t ht z => ?_) X2.2
    exact hn3 t (cb_ql_mem.mp (List.mem_of_getLast? ht)).1 (List.mem_cons_of_mem _ z)
  · rw [List.append_assoc]
    exact X3
  · intro a ha
    rw [List.append_assoc] at ha
    exact X4 a ha
  · rw [List.length_append]
    rw [List.length_cons] at X5
    show L.length + 1 + F.length = 64
    omega
end
section
/-! X: sending -/
def cb_LI (N : Nat) (P : Nat → Bool) (x1 x7 x2 x8 : Int32) (lf0 lp0 lc0 lr0 : Nat → Int32) (j : Nat) (lf lp lc lr : Nat → Int32) : Prop :=
  ∀ j', j' < N → ((j' < j ∧ P j' = true) → lf j' = x1 ∧ lp j' = x7 ∧ lc j' = x2 ∧ lr j' = x8) ∧ (¬ (j' < j ∧ P j' = true) → lf j' = lf0 j' ∧ lp j' = lp0 j' ∧ lc j' = lc0 j' ∧ lr j' = lr0 j')
theorem cb_LI_n {N : Nat} {P : Nat → Bool} {x1 x7 x2 x8 : Int32} {lf0 lp0 lc0 lr0 lf lp lc lr : Nat → Int32} {j : Nat} (h : cb_LI N P x1 x7 x2 x8 lf0 lp0 lc0 lr0 j lf lp lc lr) (hp : P j = false) : cb_LI N P x1 x7 x2 x8 lf0 lp0 lc0 lr0 (j + 1) lf lp lc lr := by
  intro j' hj'
  have hb : (j' < j + 1 ∧ P j' = true) ↔ (j' < j ∧ P j' = true) := by
    refine ⟨fun z => ⟨?_, z.2⟩, fun z => ⟨by omega, z.2⟩⟩
    by_cases e : j' = j
    · have z2 := z.2
      rw [e, hp] at z2
      exact nomatch z2
    · omega
  rw [hb]
  exact h j' hj'
theorem cb_LI_y {N : Nat} {P : Nat → Bool} {x1 x7 x2 x8 : Int32} {lf0 lp0 lc0 lr0 lf lp lc lr : Nat → Int32} {j : Nat} (h : cb_LI N P x1 x7 x2 x8 lf0 lp0 lc0 lr0 j lf lp lc lr) (hp : P j = true) : cb_LI N P x1 x7 x2 x8 lf0 lp0 lc0 lr0 (j + 1) (upd lf j x1) (upd lp j x7) (upd lc j x2) (upd lr j x8) := by
  intro j' hj'
  by_cases e : j' = j
  · subst e
    rw [pk_us, pk_us, pk_us, pk_us]
    exact ⟨fun _ => ⟨rfl, rfl, rfl, rfl⟩, fun z => absurd ⟨by omega, hp⟩ z⟩
  · rw [pk_un e, pk_un e, pk_un e, pk_un e]
    obtain ⟨h1, h2⟩ := h j' hj'
    exact ⟨fun z => h1 ⟨by omega, z.2⟩, fun z => h2 (fun y => z ⟨by omega, y.2⟩)⟩
theorem cb_LI_0 {N : Nat} {P : Nat → Bool} {x1 x7 x2 x8 : Int32} {lf lp lc lr : Nat → Int32} : cb_LI N P x1 x7 x2 x8 lf lp lc lr 0 lf lp lc lr :=
  fun j' _ => ⟨fun z => absurd z.1 (Nat.not_lt_zero j'), fun _ => ⟨rfl, rfl, rfl, rfl⟩⟩
section
variable {N R C M : Nat} {fh uc sl : Int32} {cp cr cn qh qt qs gp ap mp bl wc lf lp lc lr mc mm mf ot gi gc : Nat → Int32}
theorem cx_rm52 {post : SX → Prop} {e k : Nat} (he : e < 64) (h : post (nI N, nI R, nI C, nI M, nI e, nI k, sl, cp, cr, upd cn e fh, qh, qt, qs, gp, ap, mp, bl, wc, lf, lp, lc, lr, mc, mm, mf, ot, gi, gc)) : wX_removeHead_52 post (nI e) (nI N) (nI R) (nI C) (nI M) fh (nI (k + 1)) sl cp cr cn qh qt qs gp ap mp bl wc lf lp lc lr mc mm mf ot gi gc := by
  unfold wX_removeHead_52
  rw [nI_clamp (show e < 2 ^ 31 by omega), nI_pred]
  exact And.intro (vp_in_nI he (by omega)) (nm_e (nm_e h))
theorem cx_rm {post : SX → Prop} {L F : List Nat} {ky : Nat → Nat × Nat × Nat} {i v p e : Nat} {l : List Nat} (hN : N ≤ 8) (hX : cb_XQ N L F ky fh cn qh qt qs) (hi : i < N) (hv : v ≤ N) (hp : p < 2) (hq : cb_ql L ky (i, v, p) = e :: l) (hu : uc = nI L.length)
    (h : ∀ cn' qh' qt' qs' : Nat → Int32, cb_XQ N (L.filter (fun x => decide (¬ x = e))) (e :: F) ky (nI e) cn' qh' qt' qs' → post (nI N, nI R, nI C, nI M, nI e, nI (L.filter (fun x => decide (¬ x = e))).length, sl, cp, cr, cn', qh', qt', qs', gp, ap, mp, bl, wc, lf, lp, lc, lr, mc, mm, mf, ot, gi, gc)) : wpX_removeHead post (nI N, nI R, nI C, nI M, fh, uc, sl, cp, cr, cn, qh, qt, qs, gp, ap, mp, bl, wc, lf, lp, lc, lr, mc, mm, mf, ot, gi, gc) (nI ((i * 9 + v) * 2 + p)) := by
  obtain ⟨Y1, Y2, _⟩ := hX.1 i v p hi hv hp
  have hm : e ∈ cb_ql L ky (i, v, p) := by
    rw [hq]
    exact List.mem_cons_self
  have hmL := (cb_ql_mem.mp hm).1
  have he := hX.2.2.2.1 e (List.mem_append_left _ hmL)
  have hlen := cb_len_rm L (cb_nodup hX.2.2.1).1 hmL
  have hl64 := cb_ql_len (L := L) (ky := ky) (k := (i, v, p))
  have h64 := hX.2.2.2.2
  rw [hq] at Y1 Y2 hl64
  rw [List.length_cons] at hl64
  have Y3 := Y2.1
  have Y1' : qs ((i * 9 + v) * 2 + p) = nI (l.length + 1) := Y1
  subst hu
  rw [← hlen]
  have hinq : vp_in (nI ((i * 9 + v) * 2 + p)) 144 := vp_in_nI (by omega) (by omega)
  have hine : vp_in (nI e) 64 := vp_in_nI he (by omega)
  have key := fun (qh' qt' qs' : Nat → Int32) hs hso hh hho ht hto => h _ qh' qt' qs' (cb_XQ_rm hN hX hi hv hp hq hs hso hh hho ht hto)
  refine And.intro hinq ?_
  rw [nI_clamp (show (i * 9 + v) * 2 + p < 2 ^ 31 by omega), Y3]
  refine nm_e (And.intro hine ?_)
  rw [nI_clamp (show e < 2 ^ 31 by omega)]
  refine And.intro hinq (nm_e (And.intro hinq (And.intro hinq (nm_e (And.intro hinq ?_)))))
  rw [pk_us, Y1', nI_pred]
  cases l with
  | nil =>
    refine br_t rfl (And.intro hinq (nm_e (And.intro hinq (nm_e (cx_rm52 he (key _ _ _ ?_ ?_ ?_ ?_ ?_ ?_))))))
    · exact pk_us
    · exact fun x hx => pk_un hx
    · exact fun z => absurd rfl z
    · exact fun x hx => (pk_un hx).trans (pk_un hx)
    · exact fun z => absurd rfl z
    · exact fun x hx => pk_un hx
  | cons a l =>
    refine br_f (nI_ne0 (by rw [List.length_cons]; omega) (by rw [List.length_cons] at hl64 ⊢; omega)) (cx_rm52 he (key _ _ _ ?_ ?_ ?_ ?_ ?_ ?_))
    · exact pk_us
    · exact fun x hx => pk_un hx
    · exact fun _ => pk_us
    · exact fun x hx => pk_un hx
    · exact fun _ => rfl
    · exact fun x _ => rfl
theorem cx_ln {post : Int32 → SX → Prop} {P : Nat → Bool} {x1 x2 x3 x7 x8 : Int32} {lf0 lp0 lc0 lr0 : Nat → Int32} (hN : N ≤ 8) (hb : ∀ b, b < N → bt x3 b = P b)
    (hp : ∀ lf lp lc lr : Nat → Int32, cb_LI N P x1 x7 x2 x8 lf0 lp0 lc0 lr0 N lf lp lc lr → post (nI (cb_cnt P N)) (nI N, nI R, nI C, nI M, fh, uc, sl, cp, cr, cn, qh, qt, qs, gp, ap, mp, bl, wc, lf, lp, lc, lr, mc, mm, mf, ot, gi, gc)) :
    ∀ d j n (lf lp lc lr : Nat → Int32), j + d = N → d < n → cb_LI N P x1 x7 x2 x8 lf0 lp0 lc0 lr0 j lf lp lc lr → wX_sendFrom_117 post x1 x2 x3 x7 x8 (nI N) (nI R) (nI C) (nI M) fh uc sl n (nI (cb_cnt P j)) (nI j) cp cr cn qh qt qs gp ap mp bl wc lf lp lc lr mc mm mf ot gi gc := by
  intro d
  induction d with
  | zero =>
    intro j n lf lp lc lr hj hn hL
    obtain ⟨n, rfl⟩ : ∃ q, n = q + 1 := ⟨n - 1, by omega⟩
    have e : j = N := by omega
    subst e
    exact br_t (nI_le (by omega) (by omega)) (hp lf lp lc lr hL)
  | succ d ih =>
    intro j n lf lp lc lr hj hn hL
    obtain ⟨n, rfl⟩ : ∃ q, n = q + 1 := ⟨n - 1, by omega⟩
    have hin : vp_in (nI j) 8 := vp_in_nI (by omega) (by omega)
    have hbj := hb j (by omega)
    refine br_f (nI_ge (by omega) (by omega)) ?_
    cases hP : P j with
    | false =>
      refine br_t ((cb_bit _ (by omega)).mpr (hbj.trans hP)) (nm_r (nI_1 j) ?_)
      have h2 := ih (j + 1) n lf lp lc lr (by omega) (by omega) (cb_LI_n hL hP)
      rw [cb_cnt, hP, if_neg (by decide), Nat.add_zero] at h2
      exact h2
    | true =>
      rw [nI_clamp (show j < 2 ^ 31 by omega)]
      refine br_f (fun z => ?_) (And.intro hin (nm_e (And.intro hin (nm_e (And.intro hin (nm_e (And.intro hin (nm_e (nm_r (nI_1 _) (nm_r (nI_1 j) ?_))))))))))
      · rw [cb_bit _ (by omega), hbj, hP] at z
        exact nomatch z
      · have h2 := ih (j + 1) n _ _ _ _ (by omega) (by omega) (cb_LI_y hL hP)
        rw [cb_cnt, hP, if_pos rfl] at h2
        exact h2
/-- one matched input sends -/
theorem cx_sf {post : Int32 → SX → Prop} {L F : List Nat} {ky : Nat → Nat × Nat × Nat} {P : Nat → Bool} {i v c e : Nat} {l : List Nat} {nr : Int32} (hN : N ≤ 8) (hX : cb_XQ N L F ky fh cn qh qt qs) (hu : uc = nI L.length) (hi : i < N) (hv : v ≤ N) (hc : c < 4) (hq : cb_ql L ky (i, v, c / 2) = e :: l) (hnr : cr e &&& (mm i ^^^ (-1)) = nr) (hb : ∀ b, b < N → bt (mm i) b = P b)
    (h0 : nr = 0 → ∀ cn' qh' qt' qs' lf' lp' lc' lr' : Nat → Int32, cb_XQ N (L.filter (fun x => decide (¬ x = e))) (e :: F) ky (nI e) cn' qh' qt' qs' → cb_LI N P (nI i) (cp e) (nI c) nr lf lp lc lr N lf' lp' lc' lr' →
      post (nI (cb_cnt P N)) (nI N, nI R, nI C, nI M, nI e, nI (L.filter (fun x => decide (¬ x = e))).length, sl, cp, upd cr e nr, cn', qh', qt', qs', gp, ap, mp, bl, wc, lf', lp', lc', lr', mc, mm, mf, ot, gi, gc))
    (h1 : ¬ nr = 0 → ∀ lf' lp' lc' lr' : Nat → Int32, cb_LI N P (nI i) (cp e) (nI c) nr lf lp lc lr N lf' lp' lc' lr' → post (nI (cb_cnt P N)) (nI N, nI R, nI C, nI M, fh, uc, sl, cp, upd cr e nr, cn, qh, qt, qs, gp, ap, mp, bl, wc, lf', lp', lc', lr', mc, mm, mf, ot, gi, gc)) :
    wX_sendFrom_34 post (nI i) (nI c) (mm i) (nI v) (nI N) (nI R) (nI C) (nI M) fh uc sl cp cr cn qh qt qs gp ap mp bl wc lf lp lc lr mc mm mf ot gi gc := by
  obtain ⟨Y1, Y2, _⟩ := hX.1 i v (c / 2) hi hv (by omega)
  have hm : e ∈ cb_ql L ky (i, v, c / 2) := by
    rw [hq]
    exact List.mem_cons_self
  have he := hX.2.2.2.1 e (List.mem_append_left _ (cb_ql_mem.mp hm).1)
  have hl64 := cb_ql_len (L := L) (ky := ky) (k := (i, v, c / 2))
  have h64 := hX.2.2.2.2
  rw [hq] at Y1 Y2 hl64
  rw [List.length_cons] at hl64
  have Y3 := Y2.1
  have Y1' : qs ((i * 9 + v) * 2 + c / 2) = nI (l.length + 1) := Y1
  have hinq : vp_in (nI ((i * 9 + v) * 2 + c / 2)) 144 := vp_in_nI (by omega) (by omega)
  have hine : vp_in (nI e) 64 := vp_in_nI he (by omega)
  unfold wX_sendFrom_34
  rw [cb_shr (by omega)]
  refine cx_qi ?_
  rw [nI_clamp (show (i * 9 + v) * 2 + c / 2 < 2 ^ 31 by omega), Y1', Y3]
  refine And.intro hinq (br_f (nI_ne0 (by omega) (by omega)) (And.intro hinq (nm_e (And.intro hine ?_))))
  rw [nI_clamp (show e < 2 ^ 31 by omega), hnr]
  refine nm_e (And.intro hine (nm_e (And.intro hine (nm_e (br_c (fun z => ?_) (fun z => ?_)))))) 
  · refine cx_rm hN hX hi hv (by omega) hq hu (fun cn' qh' qt' qs' hX' => ⟨N + 1, ?_⟩)
    exact cx_ln (P := P) hN hb (fun lf' lp' lc' lr' hL => h0 z cn' qh' qt' qs' lf' lp' lc' lr' hX' hL) N 0 (N + 1) lf lp lc lr (by omega) (by omega) cb_LI_0
  · refine ⟨N + 1, ?_⟩
    exact cx_ln (P := P) hN hb (fun lf' lp' lc' lr' hL => h1 z lf' lp' lc' lr' hL) N 0 (N + 1) lf lp lc lr (by omega) (by omega) cb_LI_0
end
end
section
/-! X: all inputs send -/
def cb_Li (N : Nat) (L : List Nat) (ky : Nat → Nat × Nat × Nat) (s : CbS) (cr : Nat → Int32) (i : Nat) : List Nat := L.filter (fun e => !(cb_gx N L ky s cr e && decide ((ky e).1 < i)))
theorem cb_nr_same {N : Nat} {L : List Nat} {ky : Nat → Nat × Nat × Nat} {s : CbS} {cr : Nat → Int32} {e : Nat} (hN : N ≤ 8) (h : ∀ b, b < N → ¬ cb_hd N L ky s b = some e) : cb_nr N L ky s cr e = cr e := by
  apply b_ext
  intro b hb
  rw [cb_nr_bt hN hb]
  have h4 : (decide (b < N) && decide (cb_hd N L ky s b = some e)) = false := by
    by_cases hbN : b < N
    · rw [decide_eq_false (h b hbN), Bool.and_false]
    · rw [decide_eq_false hbN]
      rfl
  rw [h4, Bool.not_false, Bool.and_true]
theorem cb_Li_0 {N : Nat} {L : List Nat} {ky : Nat → Nat × Nat × Nat} {s : CbS} {cr : Nat → Int32} : cb_Li N L ky s cr 0 = L := by
  rw [cb_Li, List.filter_eq_self]
  intro e _
  rw [decide_eq_false (Nat.not_lt_zero _), Bool.and_false]
  rfl
theorem cb_Li_N {N : Nat} {L : List Nat} {ky : Nat → Nat × Nat × Nat} {s : CbS} {cr : Nat → Int32} (hV : cb_XV N L ky cr) : cb_Li N L ky s cr N = L.filter (fun e => !cb_gx N L ky s cr e) := by
  rw [cb_Li]
  refine List.filter_congr (fun e he => ?_)
  rw [decide_eq_true (hV e he).1, Bool.and_true]
theorem cb_Li_ql {N : Nat} {L : List Nat} {ky : Nat → Nat × Nat × Nat} {s : CbS} {cr : Nat → Int32} {i v p : Nat} : cb_ql (cb_Li N L ky s cr i) ky (i, v, p) = cb_ql L ky (i, v, p) := by
  rw [cb_ql, cb_ql, cb_Li, List.filter_filter]
  refine List.filter_congr (fun e he => ?_)
  by_cases h : ky e = (i, v, p)
  · rw [h, decide_eq_true rfl, decide_eq_false (show ¬ ((i, v, p) : Nat × Nat × Nat).1 < i from Nat.lt_irrefl i), Bool.and_false]
    rfl
  · rw [decide_eq_false h]
    rfl
theorem cb_Li_same {N : Nat} {L : List Nat} {ky : Nat → Nat × Nat × Nat} {s : CbS} {cr : Nat → Int32} {i : Nat} (h : ∀ e, e ∈ L → (ky e).1 = i → cb_gx N L ky s cr e = false) : cb_Li N L ky s cr (i + 1) = cb_Li N L ky s cr i := by
  rw [cb_Li, cb_Li]
  refine List.filter_congr (fun e he => ?_)
  by_cases h1 : (ky e).1 = i
  · rw [h e he h1]
    rfl
  · rw [decide_eq_decide.mpr (show (ky e).1 < i + 1 ↔ (ky e).1 < i by omega)]
theorem cb_Li_rm {N : Nat} {L : List Nat} {ky : Nat → Nat × Nat × Nat} {s : CbS} {cr : Nat → Int32} {i e : Nat} (hk : (ky e).1 = i) (hg : cb_gx N L ky s cr e = true) (h : ∀ e', e' ∈ L → (ky e').1 = i → cb_gx N L ky s cr e' = true → e' = e) : cb_Li N L ky s cr (i + 1) = (cb_Li N L ky s cr i).filter (fun x => decide (¬ x = e)) := by
  rw [cb_Li, cb_Li, List.filter_filter]
  refine List.filter_congr (fun e' he' => ?_)
  by_cases h1 : e' = e
  · subst h1
    rw [hg, hk, decide_eq_true (Nat.lt_succ_self i), decide_eq_false (fun z => z rfl)]
    rfl
  · rw [decide_eq_true h1, Bool.true_and]
    by_cases h2 : (ky e').1 = i
    · have h3 : cb_gx N L ky s cr e' = false := by
        cases h4 : cb_gx N L ky s cr e' with
        | false => rfl
        | true => exact absurd (h e' he' h2 h4) h1
      rw [h3]
      rfl
    · rw [decide_eq_decide.mpr (show (ky e').1 < i + 1 ↔ (ky e').1 < i by omega)]
/-- what a line shows -/
def cb_LS (N : Nat) (L : List Nat) (ky : Nat → Nat × Nat × Nat) (s : CbS) (cp cr0 lf lp lc lr : Nat → Int32) (j : Nat) : Prop :=
  ∀ i e, s.2.1 j = some i → cb_hd N L ky s j = some e → lf j = nI i ∧ lp j = cp e ∧ lc j = cb_oi (s.1 i) ∧ lr j = cb_nr N L ky s cr0 e
def cb_SI (N : Nat) (L : List Nat) (ky : Nat → Nat × Nat × Nat) (s : CbS) (cp cr0 : Nat → Int32) (i : Nat) (F : List Nat) (fh uc : Int32) (cr cn qh qt qs lf lp lc lr : Nat → Int32) : Prop :=
  cb_XQ N (cb_Li N L ky s cr0 i) F ky fh cn qh qt qs ∧ uc = nI (cb_Li N L ky s cr0 i).length ∧
  (∀ e, e ∈ L → ((ky e).1 < i → cr e = cb_nr N L ky s cr0 e) ∧ (¬ (ky e).1 < i → cr e = cr0 e)) ∧
  (∀ j, j < N → ((∃ i', i' < i ∧ s.2.1 j = some i') → cb_LS N L ky s cp cr0 lf lp lc lr j) ∧ (¬ (∃ i', i' < i ∧ s.2.1 j = some i') → lf j = -1))
def cb_le (i : Nat) (o : Option Nat) : Bool := match o with
  | none => false
  | some k => decide (k < i)
theorem cb_le_s {i : Nat} {o : Option Nat} : cb_le (i + 1) o = (cb_le i o || decide (o = some i)) ∧ ¬ (cb_le i o = true ∧ decide (o = some i) = true) := by
  cases o with
  | none => exact ⟨rfl, fun z => (nomatch z.1)⟩
  | some k =>
    show decide (k < i + 1) = (decide (k < i) || decide (some k = some i)) ∧ ¬ (decide (k < i) = true ∧ decide (some k = some i) = true)
    rw [← Bool.decide_or, decide_eq_true_eq, decide_eq_true_eq]
    refine ⟨decide_eq_decide.mpr ⟨fun z => ?_, fun z => ?_⟩, fun z => ?_⟩
    · by_cases e : k = i
      · exact Or.inr (by rw [e])
      · exact Or.inl (by omega)
    · rcases z with z | z
      · omega
      · cases z
        omega
    · cases z.2
      exact Nat.lt_irrefl _ z.1
theorem cb_SI_n {N : Nat} {L F : List Nat} {ky : Nat → Nat × Nat × Nat} {s : CbS} {cp cr0 : Nat → Int32} {i : Nat} {fh uc : Int32} {cr cn qh qt qs lf lp lc lr : Nat → Int32} (hN : N ≤ 8) (hV : cb_XV N L ky cr0) (hI : cb_I N (cb_Q L ky) (cb_Rs N L ky cr0) s) (hn : s.1 i = none) (h : cb_SI N L ky s cp cr0 i F fh uc cr cn qh qt qs lf lp lc lr) : cb_SI N L ky s cp cr0 (i + 1) F fh uc cr cn qh qt qs lf lp lc lr := by
  obtain ⟨h1, h2, h3, h4⟩ := h
  have e1 : cb_Li N L ky s cr0 (i + 1) = cb_Li N L ky s cr0 i := cb_Li_same (fun e he hk => cb_gx_un hN hV hn he hk)
  have hno : ∀ j, j < N → ¬ s.2.1 j = some i := by
    intro j hj z
    obtain ⟨_, c, hc, _⟩ := hI.2.1 j i hj z
    rw [hn] at hc
    exact nomatch hc
  rw [cb_SI, e1]
  refine ⟨h1, h2, fun e he => ⟨fun z => ?_, fun z => (h3 e he).2 (by omega)⟩, fun j hj => ⟨fun z => ?_, fun z => (h4 j hj).2 (fun ⟨i', y1, y2⟩ => z ⟨i', by omega, y2⟩)⟩⟩
  · by_cases hk : (ky e).1 = i
    · rw [(h3 e he).2 (by omega), cb_nr_same hN]
      intro b hb z2
      obtain ⟨i', c', k1, k2, _, k4⟩ := cb_hd_inv z2
      have : (ky e).1 = i' := by rw [k4]
      rw [← this, hk, hn] at k2
      exact nomatch k2
    · exact (h3 e he).1 (by omega)
  · obtain ⟨i', y1, y2⟩ := z
    by_cases e : i' = i
    · subst e
      exact absurd y2 (hno j hj)
    · exact (h4 j hj).1 ⟨i', by omega, y2⟩
theorem cb_SI_y {N : Nat} {L F' : List Nat} {ky : Nat → Nat × Nat × Nat} {s : CbS} {cp cr0 : Nat → Int32} {i c e : Nat} {fh' uc' : Int32} {cr cn' qh' qt' qs' lf lp lc lr lf' lp' lc' lr' : Nat → Int32} (hN : N ≤ 8) (hV : cb_XV N L ky cr0) (hc : s.1 i = some c) (hek : (ky e).1 = i) (hh : ∀ j, j < N → (s.2.1 j = some i ↔ cb_hd N L ky s j = some e))
    (h3 : ∀ e, e ∈ L → ((ky e).1 < i → cr e = cb_nr N L ky s cr0 e) ∧ (¬ (ky e).1 < i → cr e = cr0 e))
    (h4 : ∀ j, j < N → ((∃ i', i' < i ∧ s.2.1 j = some i') → cb_LS N L ky s cp cr0 lf lp lc lr j) ∧ (¬ (∃ i', i' < i ∧ s.2.1 j = some i') → lf j = -1))
    (k1 : cb_XQ N (cb_Li N L ky s cr0 (i + 1)) F' ky fh' cn' qh' qt' qs') (k2 : uc' = nI (cb_Li N L ky s cr0 (i + 1)).length)
    (hL : cb_LI N (fun j => decide (s.2.1 j = some i)) (nI i) (cp e) (nI c) (cb_nr N L ky s cr0 e) lf lp lc lr N lf' lp' lc' lr') :
    cb_SI N L ky s cp cr0 (i + 1) F' fh' uc' (upd cr e (cb_nr N L ky s cr0 e)) cn' qh' qt' qs' lf' lp' lc' lr' := by
  refine ⟨k1, k2, fun e' he' => ?_, fun j hj => ?_⟩
  · by_cases ee : e' = e
    · subst ee
      rw [pk_us]
      exact ⟨fun _ => rfl, fun z => absurd (by omega) z⟩
    · rw [pk_un ee]
      refine ⟨fun z => ?_, fun z => (h3 e' he').2 (by omega)⟩
      by_cases hk : (ky e').1 = i
      · rw [(h3 e' he').2 (by omega), cb_nr_same hN]
        intro b hb z2
        obtain ⟨i', c', q1, q2, _, q4⟩ := cb_hd_inv z2
        have : (ky e').1 = i' := by rw [q4]
        rw [← this, hk] at q1
        have q5 := (hh b hb).mp q1
        rw [z2] at q5
        exact ee (Option.some.inj q5)
      · exact (h3 e' he').1 (by omega)
  · obtain ⟨l1, l2⟩ := hL j hj
    by_cases ho : s.2.1 j = some i
    · obtain ⟨m1, m2, m3, m4⟩ := l1 ⟨hj, decide_eq_true ho⟩
      refine ⟨fun _ i' e' y1 y2 => ?_, fun z => absurd ⟨i, by omega, ho⟩ z⟩
      rw [ho] at y1
      cases y1
      rw [(hh j hj).mp ho] at y2
      cases y2
      exact ⟨m1, m2, by rw [hc]; exact m3, m4⟩
    · obtain ⟨m1, m2, m3, m4⟩ := l2 (fun z => ho (of_decide_eq_true z.2))
      have hiff : (∃ i', i' < i + 1 ∧ s.2.1 j = some i') ↔ (∃ i', i' < i ∧ s.2.1 j = some i') := by
        refine ⟨fun ⟨i', y1, y2⟩ => ⟨i', ?_, y2⟩, fun ⟨i', y1, y2⟩ => ⟨i', by omega, y2⟩⟩
        by_cases e : i' = i
        · subst e
          exact absurd y2 ho
        · omega
      rw [hiff, m1]
      refine ⟨fun z i' e' y1 y2 => ?_, (h4 j hj).2⟩
      rw [m1, m2, m3, m4]
      exact (h4 j hj).1 z i' e' y1 y2
section
variable {N R C M : Nat} {fh uc sl : Int32} {cp cr cn qh qt qs gp ap mp bl wc lf lp lc lr mc mm mf ot gi gc : Nat → Int32}
theorem cx_sa {post : Int32 → SX → Prop} {L : List Nat} {ky : Nat → Nat × Nat × Nat} {s : CbS} {cr0 : Nat → Int32} (hN : N ≤ 8) (hV : cb_XV N L ky cr0) (hI : cb_I N (cb_Q L ky) (cb_Rs N L ky cr0) s) (hM : cb_XM N s mc mm mf ot)
    (hp : ∀ (F : List Nat) (fh uc : Int32) (cr cn qh qt qs lf lp lc lr : Nat → Int32), cb_SI N L ky s cp cr0 N F fh uc cr cn qh qt qs lf lp lc lr → post (nI (cb_cnt (fun j => cb_le N (s.2.1 j)) N)) (nI N, nI R, nI C, nI M, fh, uc, sl, cp, cr, cn, qh, qt, qs, gp, ap, mp, bl, wc, lf, lp, lc, lr, mc, mm, mf, ot, gi, gc)) :
    ∀ d i n (F : List Nat) (fh uc : Int32) (cr cn qh qt qs lf lp lc lr : Nat → Int32), i + d = N → d < n → cb_SI N L ky s cp cr0 i F fh uc cr cn qh qt qs lf lp lc lr → wX_sendAll_27 post n (nI (cb_cnt (fun j => cb_le i (s.2.1 j)) N)) (nI i) (nI N) (nI R) (nI C) (nI M) fh uc sl cp cr cn qh qt qs gp ap mp bl wc lf lp lc lr mc mm mf ot gi gc := by
  intro d
  induction d with
  | zero =>
    intro i n F fh uc cr cn qh qt qs lf lp lc lr hi hn hS
    obtain ⟨n, rfl⟩ : ∃ q, n = q + 1 := ⟨n - 1, by omega⟩
    have e : i = N := by omega
    subst e
    exact br_t (nI_le (by omega) (by omega)) (hp F fh uc cr cn qh qt qs lf lp lc lr hS)
  | succ d ih =>
    intro i n F fh uc cr cn qh qt qs lf lp lc lr hi hn hS
    obtain ⟨n, rfl⟩ : ∃ q, n = q + 1 := ⟨n - 1, by omega⟩
    have hiN : i < N := by omega
    have hin : vp_in (nI i) 8 := vp_in_nI (by omega) (by omega)
    have hcs : cb_sm (s.1 i) := fun c e => by have := (hI.1 i c hiN e).1; omega
    have hcnt : cb_cnt (fun j => cb_le (i + 1) (s.2.1 j)) N = cb_cnt (fun j => cb_le i (s.2.1 j)) N + cb_cnt (fun j => decide (s.2.1 j = some i)) N :=
      cb_cnt_add N (fun j _ => cb_le_s)
    refine br_f (nI_ge (by omega) (by omega)) ?_
    rw [nI_clamp (show i < 2 ^ 31 by omega), hM.1 i hiN]
    refine And.intro hin (ek_if (cb_oi_n hcs) (fun hc => nm_r (nI_1 i) ?_) (fun hc => ?_))
    · have h0 : cb_cnt (fun j => decide (s.2.1 j = some i)) N = 0 := by
        refine cb_cnt_f N (fun j hj => decide_eq_false (fun z => ?_))
        obtain ⟨_, c, k1, _⟩ := hI.2.1 j i hj z
        rw [hc] at k1
        exact nomatch k1
      have h2 := ih (i + 1) n F fh uc cr cn qh qt qs lf lp lc lr (by omega) (by omega) (cb_SI_n hN hV hI hc hS)
      rw [hcnt, h0, Nat.add_zero] at h2
      exact h2
    · obtain ⟨c, hc⟩ : ∃ c, s.1 i = some c := by
        cases h : s.1 i with
        | none => exact absurd h hc
        | some c => exact ⟨c, rfl⟩
      have hc4 := (hI.1 i c hiN hc).1
      obtain ⟨e, l, j0, hj0, ho, hq, heL, hek, hh⟩ := cb_in hI hiN hc
      have hek1 : (ky e).1 = i := by rw [hek]
      obtain ⟨S1, S2, S3, S4⟩ := hS
      have hcre : cr e = cr0 e := (S3 e heL).2 (by omega)
      have hnr : cr e &&& (mm i ^^^ (-1)) = cb_nr N L ky s cr0 e := by
        rw [← cb_in_nr (cr := cr0) hN hM hiN hh, hcre]
      have hgx := cb_in_gx hV heL hj0 ho hek hh
      have huniq : ∀ e', e' ∈ L → (ky e').1 = i → cb_gx N L ky s cr0 e' = true → e' = e := fun e' he' hk' hg' => cb_gx_in hN hV he' hg' hk' hh
      have hvN : (if c % 2 = 0 then j0 else N) ≤ N := by
        split <;> omega
      have h34 : wX_sendFrom_34 (fun r u => match u with | (y0, y1, y2, y3, y4, y5, y6, z0, z1, z2, z3, z4, z5, z6, z7, z8, z9, z10, z11, z12, z13, z14, z15, z16, z17, z18, z19, z20) => ∀ x1 : Int32, x1 = nI (cb_cnt (fun j => cb_le i (s.2.1 j)) N) + r → ∀ x2 : Int32, x2 = nI i + 1 → wX_sendAll_27 post n x1 x2 y0 y1 y2 y3 y4 y5 y6 z0 z1 z2 z3 z4 z5 z6 z7 z8 z9 z10 z11 z12 z13 z14 z15 z16 z17 z18 z19 z20) (nI i) (nI c) (mm i) (nI (if c % 2 = 0 then j0 else N)) (nI N) (nI R) (nI C) (nI M) fh uc sl cp cr cn qh qt qs gp ap mp bl wc lf lp lc lr mc mm mf ot gi gc := by
        refine cx_sf (P := fun j => decide (s.2.1 j = some i)) hN S1 S2 hiN hvN hc4 (cb_Li_ql.trans hq) hnr (fun b hb => ?_) (fun z cn' qh' qt' qs' lf' lp' lc' lr' hX' hL' => ?_) (fun z lf' lp' lc' lr' hL' => ?_)
        · rw [hM.2.1 i b hiN (by omega)]
          exact decide_eq_decide.mpr ⟨fun y => y.2, fun y => ⟨hb, y⟩⟩
        · have e1 := cb_Li_rm hek1 (hgx.mpr z) huniq
          rw [← e1] at hX'
          have h2 := ih (i + 1) n (e :: F) _ _ _ _ _ _ _ _ _ _ _ (by omega) (by omega) (cb_SI_y hN hV hc hek1 hh S3 S4 hX' rfl hL')
          rw [hcnt] at h2
          refine nm_r (nI_add _ _) (nm_r (nI_1 i) ?_)
          rw [← e1]
          exact h2
        · have e1 : cb_Li N L ky s cr0 (i + 1) = cb_Li N L ky s cr0 i := by
            refine cb_Li_same (fun e' he' hk' => ?_)
            cases hg : cb_gx N L ky s cr0 e' with
            | false => rfl
            | true =>
              have := huniq e' he' hk' hg
              rw [this] at hg
              exact absurd (hgx.mp hg) z
          have h2 := ih (i + 1) n F _ _ _ _ _ _ _ _ _ _ _ (by omega) (by omega) (cb_SI_y hN hV hc hek1 hh S3 S4 (by rw [e1]; exact S1) (S2.trans (by rw [e1])) hL')
          rw [hcnt] at h2
          exact nm_r (nI_add _ _) (nm_r (nI_1 i) h2)
      refine And.intro hin (nm_r (e' := nI c) ?_ (And.intro hin (nm_r (e' := mm i) ?_ ?_)))
      · rw [nI_clamp (show i < 2 ^ 31 by omega), hM.1 i hiN, hc]
        rfl
      · rw [nI_clamp (show i < 2 ^ 31 by omega)]
      · by_cases h2 : c % 2 = 0
        · rw [if_pos h2] at h34
          exact cx_mul0 hc4 h2 (br_t rfl (cx_low1 hN hI hM hiN hj0 hc h2 ho h34))
        · rw [if_neg h2] at h34
          exact cx_mul1 hc4 h2 (br_f (by decide) h34)
theorem cx_sa2 {post : Int32 → SX → Prop} (hN : N ≤ 8) (hp : ∀ lf : Nat → Int32, (∀ j, j < N → lf j = -1) → ∃ n27, wX_sendAll_27 post n27 0 0 (nI N) (nI R) (nI C) (nI M) fh uc sl cp cr cn qh qt qs gp ap mp bl wc lf lp lc lr mc mm mf ot gi gc) :
    ∀ d j n (lf : Nat → Int32), j + d = N → d < n → (∀ j', j' < j → lf j' = -1) → wX_sendAll_2 post (nI N) (nI R) (nI C) (nI M) fh uc sl n (nI j) cp cr cn qh qt qs gp ap mp bl wc lf lp lc lr mc mm mf ot gi gc := by
  intro d
  induction d with
  | zero =>
    intro j n lf hj hn hL
    obtain ⟨n, rfl⟩ : ∃ q, n = q + 1 := ⟨n - 1, by omega⟩
    exact br_t (nI_le (by omega) (by omega)) (hp lf (fun j' h => hL j' (by omega)))
  | succ d ih =>
    intro j n lf hj hn hL
    obtain ⟨n, rfl⟩ : ∃ q, n = q + 1 := ⟨n - 1, by omega⟩
    refine br_f (nI_ge (by omega) (by omega)) ?_
    rw [nI_clamp (show j < 2 ^ 31 by omega)]
    refine And.intro (vp_in_nI (by omega) (by omega)) (nm_e (nm_r (nI_1 j) (ih (j + 1) n _ (by omega) (by omega) (fun j' h => ?_))))
    by_cases e : j' = j
    · rw [e, pk_us]
    · rw [pk_un e]
      exact hL j' (by omega)
end
end
section
/-! Y: sending, lines, removal -/
def cb_RI (N : Nat) (L : List Nat) (ky : Nat → Nat × Nat × Nat) (s : CbS) (yr0 : Nat → Int32) (j : Nat) (yr : Nat → Int32) : Prop :=
  ∀ x e, L[x]? = some e → ∀ b, b < 32 → bt (yr x) b = (bt (yr0 x) b && !(decide (b < j) && decide (cb_hd N L ky s b = some e)))
theorem cb_RI_0 {N : Nat} {L : List Nat} {ky : Nat → Nat × Nat × Nat} {s : CbS} {yr : Nat → Int32} : cb_RI N L ky s yr 0 yr := by
  intro x e _ b _
  rw [decide_eq_false (Nat.not_lt_zero b), Bool.false_and, Bool.not_false, Bool.and_true]
theorem cb_lt_s {b j : Nat} (h : b ≠ j) : decide (b < j + 1) = decide (b < j) := decide_eq_decide.mpr (by omega)
theorem cb_RI_n {N : Nat} {L : List Nat} {ky : Nat → Nat × Nat × Nat} {s : CbS} {yr0 yr : Nat → Int32} {j : Nat} (h : cb_RI N L ky s yr0 j yr) (hn : cb_hd N L ky s j = none) : cb_RI N L ky s yr0 (j + 1) yr := by
  intro x e hx b hb
  rw [h x e hx b hb]
  by_cases eb : b = j
  · subst eb
    rw [hn, decide_eq_false (show ¬ (none : Option Nat) = some e from fun z => (nomatch z)), Bool.and_false, Bool.and_false]
  · rw [cb_lt_s eb]
theorem cb_get_inj {L : List Nat} (hn : L.Nodup) {x y e : Nat} (hx : L[x]? = some e) (hy : L[y]? = some e) : x = y := by
  obtain ⟨h1, _⟩ := List.getElem?_eq_some_iff.mp hx
  exact (List.getElem?_inj h1 hn).mp (hx.trans hy.symm)
theorem cb_RI_y {N : Nat} {L : List Nat} {ky : Nat → Nat × Nat × Nat} {s : CbS} {yr0 yr : Nat → Int32} {j x0 e0 : Nat} (hnd : L.Nodup) (hj : j < 32) (hx0 : L[x0]? = some e0) (hd : cb_hd N L ky s j = some e0) (h : cb_RI N L ky s yr0 j yr) : cb_RI N L ky s yr0 (j + 1) (upd yr x0 (yr x0 &&& (((1 : Int32) <<< (nI j &&& 31)) ^^^ (-1)))) := by
  intro x e hx b hb
  by_cases ex : x = x0
  · subst ex
    rw [hx0] at hx
    cases hx
    rw [pk_us, b_and, cb_not _ hb, cb_sh hj hb, h x e0 hx0 b hb]
    by_cases eb : b = j
    · subst eb
      rw [hd, decide_eq_true rfl, decide_eq_true rfl, decide_eq_true (Nat.lt_succ_self b)]
      rw [Bool.not_true, Bool.and_false, Bool.true_and, Bool.not_true, Bool.and_false]
    · rw [decide_eq_false eb, cb_lt_s eb, Bool.not_false, Bool.and_true]
  · rw [pk_un ex, h x e hx b hb]
    by_cases eb : b = j
    · subst eb
      have hne : ¬ cb_hd N L ky s b = some e := by
        rw [hd]
        intro z
        cases z
        exact ex (cb_get_inj hnd hx hx0)
      rw [decide_eq_false hne, Bool.and_false, Bool.and_false]
    · rw [cb_lt_s eb]
def cb_LN (s : CbS) (oi op oc os : Nat → Int32) (j : Nat) : Prop := s.2.1 j = none → oi j = -1 ∧ op j = -1 ∧ oc j = -1 ∧ os j = -1
def cb_KI (L : List Nat) (ky : Nat → Nat × Nat × Nat) (cp R : Nat → Int32) (x : Nat) (ci cq cy yp yr : Nat → Int32) : Prop :=
  (∀ y e, ((L.take x).filter (fun e => decide (¬ R e = 0)))[y]? = some e → cb_YD ky cp R ci cq cy yp yr y e) ∧ (∀ y e, x ≤ y → L[y]? = some e → cb_YD ky cp R ci cq cy yp yr y e)
theorem cb_take_s {L : List Nat} {f : Nat → Bool} {x e : Nat} (hx : L[x]? = some e) : (L.take (x + 1)).filter f = (L.take x).filter f ++ (if f e = true then [e] else []) := by
  rw [List.take_add_one, hx, List.filter_append]
  congr 1
  cases hf : f e with
  | true =>
    rw [if_pos rfl]
    show List.filter f [e] = [e]
    rw [List.filter_cons_of_pos hf]
    rfl
  | false =>
    rw [if_neg (by decide)]
    show List.filter f [e] = []
    rw [List.filter_cons_of_neg (by rw [hf]; decide)]
    rfl
theorem cb_KI_n {L : List Nat} {ky : Nat → Nat × Nat × Nat} {cp R ci cq cy yp yr : Nat → Int32} {x e : Nat} (hx : L[x]? = some e) (h0 : R e = 0) (h : cb_KI L ky cp R x ci cq cy yp yr) : cb_KI L ky cp R (x + 1) ci cq cy yp yr ∧ (L.take (x + 1)).filter (fun e => decide (¬ R e = 0)) = (L.take x).filter (fun e => decide (¬ R e = 0)) := by
  have e1 : (L.take (x + 1)).filter (fun e => decide (¬ R e = 0)) = (L.take x).filter (fun e => decide (¬ R e = 0)) := by
    rw [cb_take_s hx, if_neg (by rw [decide_eq_true_eq]; exact fun z => z h0), List.append_nil]
  refine ⟨⟨?_, fun y e hy => h.2 y e (by omega)⟩, e1⟩
  rw [e1]
  exact h.1
theorem cb_KI_y {L : List Nat} {ky : Nat → Nat × Nat × Nat} {cp R ci cq cy yp yr : Nat → Int32} {x e k : Nat} (hx : L[x]? = some e) (h0 : ¬ R e = 0) (hk : k = ((L.take x).filter (fun e => decide (¬ R e = 0))).length) (h : cb_KI L ky cp R x ci cq cy yp yr) :
    cb_KI L ky cp R (x + 1) (upd ci k (ci x)) (upd cq k (cq x)) (upd cy k (cy x)) (upd yp k (yp x)) (upd yr k (yr x)) ∧ ((L.take (x + 1)).filter (fun e => decide (¬ R e = 0))).length = k + 1 := by
  have e1 : (L.take (x + 1)).filter (fun e => decide (¬ R e = 0)) = (L.take x).filter (fun e => decide (¬ R e = 0)) ++ [e] := by
    rw [cb_take_s hx, if_pos (by rw [decide_eq_true_eq]; exact h0)]
  have hkx : k ≤ x := by
    have h1 : ((L.take x).filter (fun e => decide (¬ R e = 0))).length ≤ (L.take x).length := List.length_filter_le _ _
    have h2 : (L.take x).length ≤ x := by
      rw [List.length_take]
      omega
    omega
  have hD : ∀ y e', y ≠ k → cb_YD ky cp R ci cq cy yp yr y e' → cb_YD ky cp R (upd ci k (ci x)) (upd cq k (cq x)) (upd cy k (cy x)) (upd yp k (yp x)) (upd yr k (yr x)) y e' := by
    intro y e' hy hd
    rw [cb_YD, pk_un hy, pk_un hy, pk_un hy, pk_un hy, pk_un hy]
    exact hd
  refine ⟨⟨fun y e' hy => ?_, fun y e' hy he => hD y e' (by omega) (h.2 y e' (by omega) he)⟩, ?_⟩
  · rw [e1] at hy
    by_cases hyk : y < k
    · rw [List.getElem?_append_left (by omega)] at hy
      exact hD y e' (by omega) (h.1 y e' hy)
    · rw [List.getElem?_append_right (by omega), ← hk] at hy
      have hlt := (List.getElem?_eq_some_iff.mp hy).1
      have hy0 : y - k = 0 := by
        rw [List.length_singleton] at hlt
        omega
      rw [hy0] at hy
      cases hy
      have hyk2 : y = k := by omega
      rw [hyk2, cb_YD, pk_us, pk_us, pk_us, pk_us, pk_us]
      exact h.2 x e (Nat.le_refl _) hx
  · rw [e1, List.length_append, hk]
    rfl
section
variable {N R C M K : Nat} {sl : Int32} {ci cq cy yp yr bl yg ya ym yw oi op oc os ic ou rd jg jc : Nat → Int32}
theorem cy_cf36 {post : Int32 → Prop} {Q : Nat → Nat → Nat → Bool} {fx : Nat → Nat → Nat → Option Nat} {i v c : Nat} (hK : K ≤ 64) (hF : cb_YF N K Q fx ci cq cy) (hi : i < N) (hv : v ≤ N) (hc : c < 4) (hQ : Q i v (c / 2) = true)
    (h1 : ∀ x, fx i v (c / 2) = some x → x < 64 → post (nI x)) : wY_cellFor_36 post (nI i) (nI c) (nI v) (nI N) (nI R) (nI C) (nI M) sl (nI K) ci cq cy yp yr bl yg ya ym yw oi op oc os ic ou rd jg jc := by
  unfold wY_cellFor_36
  rw [cb_shr (by omega)]
  refine cy_f0 hK hF hi hv (by omega) (fun z => ?_) (fun x hx _ hx64 => h1 x hx hx64)
  rw [hQ] at z
  exact nomatch z
theorem cy_cf {post : Int32 → Prop} {Q : Nat → Nat → Nat → Bool} {Rs : Nat → Nat → Int32} {fx : Nat → Nat → Nat → Option Nat} {s : CbS} {j : Nat} (hN : N ≤ 8) (hK : K ≤ 64) (hF : cb_YF N K Q fx ci cq cy) (hI : cb_I N Q Rs s) (hM : cb_YM N s ic ou rd) (hj : j < N) (h0 : s.2.1 j = none → post (-1))
    (h1 : ∀ i c x, s.2.1 j = some i → s.1 i = some c → fx i (if c % 2 = 0 then j else N) (c / 2) = some x → x < 64 → post (nI x)) : wpY_cellFor post (nI N, nI R, nI C, nI M, sl, nI K, ci, cq, cy, yp, yr, bl, yg, ya, ym, yw, oi, op, oc, os, ic, ou, rd, jg, jc) (nI j) := by
  refine And.intro (vp_in_nI (by omega) (by omega)) ?_
  rw [nI_clamp (show j < 2 ^ 31 by omega), (hM j hj).2.1]
  cases ho : s.2.1 j with
  | none => exact nm_e (br_f cb_m1le (h0 ho))
  | some i =>
    obtain ⟨hi, c, hc, hok⟩ := hI.2.1 j i hj ho
    have hc4 := (hI.1 i c hi hc).1
    have hQ := cb_ok_Q hok
    refine nm_r (e' := nI i) rfl (br_t (nI_pos' (by omega)) (And.intro (vp_in_nI (by omega) (by omega)) ?_))
    rw [nI_clamp (show i < 2 ^ 31 by omega), (hM i hi).1, hc, cb_ois]
    refine nm_e ?_
    have h1' := fun x => h1 i c x ho hc
    by_cases h2 : c % 2 = 0
    · rw [if_pos h2] at hQ h1'
      exact cy_uni0 hc4 h2 (br_f (by decide) (cy_cf36 hK hF hi (by omega) hc4 hQ h1'))
    · rw [if_neg h2] at hQ h1'
      exact cy_uni1 hc4 h2 (br_t rfl (cy_cf36 hK hF hi (Nat.le_refl _) hc4 hQ h1'))
theorem cy_cl {post : SY → Prop} {j : Nat} (hj : j < 8) (h : post (nI N, nI R, nI C, nI M, sl, nI K, ci, cq, cy, yp, yr, bl, yg, ya, ym, yw, upd oi j (-1), upd op j (-1), upd oc j (-1), upd os j (-1), ic, ou, rd, jg, jc)) : wpY_clearLine post (nI N, nI R, nI C, nI M, sl, nI K, ci, cq, cy, yp, yr, bl, yg, ya, ym, yw, oi, op, oc, os, ic, ou, rd, jg, jc) (nI j) := by
  have hin : vp_in (nI j) 8 := vp_in_nI hj (by omega)
  refine And.intro hin ?_
  rw [nI_clamp (show j < 2 ^ 31 by omega)]
  exact nm_e (And.intro hin (nm_e (And.intro hin (nm_e (And.intro hin (nm_e h))))))
theorem cy_s51 {post : Int32 → SY → Prop} {L : List Nat} {ky : Nat → Nat × Nat × Nat} {cp cr0 : Nat → Int32} {Q : Nat → Nat → Nat → Bool} {Rs : Nat → Nat → Int32} {fx : Nat → Nat → Nat → Option Nat} {s : CbS} {x1 : Int32} (hN : N ≤ 8) (hK : K ≤ 64) (hF : cb_YF N K Q fx ci cq cy) (hI : cb_I N Q Rs s) (hM : cb_YM N s ic ou rd)
    (hxh : ∀ i v p x, i < N → v ≤ N → p < 2 → fx i v p = some x → L[x]? = (cb_ql L ky (i, v, p)).head? ∧ x < L.length) (hyp : ∀ x e, L[x]? = some e → yp x = cp e) (hyr : ∀ x e j, j < N → L[x]? = some e → cb_hd N L ky s j = some e → yr x = cb_nr N L ky s cr0 e)
    (hp : ∀ oi op oc os : Nat → Int32, (∀ j, j < N → cb_LN s oi op oc os j ∧ cb_LS N L ky s cp cr0 oi op oc os j) → post x1 (nI N, nI R, nI C, nI M, sl, nI K, ci, cq, cy, yp, yr, bl, yg, ya, ym, yw, oi, op, oc, os, ic, ou, rd, jg, jc)) :
    ∀ d j n (oi op oc os : Nat → Int32), j + d = N → d < n → (∀ j', j' < j → cb_LN s oi op oc os j' ∧ cb_LS N L ky s cp cr0 oi op oc os j') → wY_send_51 post x1 n (nI j) (nI N) (nI R) (nI C) (nI M) sl (nI K) ci cq cy yp yr bl yg ya ym yw oi op oc os ic ou rd jg jc := by
  intro d
  induction d with
  | zero =>
    intro j n oi op oc os hj hn hS
    obtain ⟨n, rfl⟩ : ∃ q, n = q + 1 := ⟨n - 1, by omega⟩
    exact br_t (nI_le (by omega) (by omega)) (hp oi op oc os (fun j' h => hS j' (by omega)))
  | succ d ih =>
    intro j n oi op oc os hj hn hS
    obtain ⟨n, rfl⟩ : ∃ q, n = q + 1 := ⟨n - 1, by omega⟩
    have hjN : j < N := by omega
    have hin : vp_in (nI j) 8 := vp_in_nI (by omega) (by omega)
    refine br_f (nI_ge (by omega) (by omega)) (cy_cl (by omega) ?_)
    refine cy_cf hN hK hF hI hM hjN (fun ho => br_t cb_m1 (nm_r (nI_1 j) (ih (j + 1) n _ _ _ _ (by omega) (by omega) (fun j' hj' => ?_)))) (fun i c x ho hc hx hx64 => br_f (nI_pos (by omega)) ?_)
    · by_cases e : j' = j
      · subst e
        refine ⟨fun _ => ⟨pk_us, pk_us, pk_us, pk_us⟩, fun i e h1 => ?_⟩
        rw [ho] at h1
        exact nomatch h1
      · obtain ⟨k1, k2⟩ := hS j' (by omega)
        rw [cb_LN, cb_LS, pk_un e, pk_un e, pk_un e, pk_un e]
        exact ⟨k1, k2⟩
    · obtain ⟨hi, c', hc', hok⟩ := hI.2.1 j i hjN ho
      have hc4 := (hI.1 i c hi hc).1
      have hvN : (if c % 2 = 0 then j else N) ≤ N := by
        split <;> omega
      obtain ⟨y1, y2⟩ := hxh i _ _ x hi hvN (by omega) hx
      rw [← cb_hd_s ho hc] at y1
      have hge := List.getElem?_eq_getElem y2
      rw [hge] at y1
      rw [nI_clamp (show j < 2 ^ 31 by omega), nI_clamp (show x < 2 ^ 31 by omega), (hM j hjN).2.1, ho, cb_ois, nI_clamp (show i < 2 ^ 31 by omega), (hM i hi).1, hyp x _ hge, hyr x _ j hjN hge y1.symm]
      have hinx : vp_in (nI x) 64 := vp_in_nI hx64 (by omega)
      have hini : vp_in (nI i) 8 := vp_in_nI (by omega) (by omega)
      refine And.intro hin (And.intro hin (nm_e (And.intro hinx (And.intro hin (nm_e (And.intro hin (And.intro hini (And.intro hin (nm_e (And.intro hinx (And.intro hin (nm_e (nm_r (nI_1 j) (ih (j + 1) n _ _ _ _ (by omega) (by omega) (fun j' hj' => ?_)))))))))))))))
      by_cases e : j' = j
      · subst e
        refine ⟨fun z => ?_, fun i' e' h1 h2 => ?_⟩
        · rw [ho] at z
          exact nomatch z
        · rw [ho] at h1
          cases h1
          rw [← y1] at h2
          cases h2
          rw [pk_us, pk_us, pk_us, pk_us]
          exact ⟨rfl, rfl, rfl, rfl⟩
      · obtain ⟨k1, k2⟩ := hS j' (by omega)
        rw [cb_LN, cb_LS, pk_un e, pk_un e, pk_un e, pk_un e, pk_un e, pk_un e, pk_un e, pk_un e]
        exact ⟨k1, k2⟩
theorem cy_s4 {post : Int32 → SY → Prop} {L : List Nat} {ky : Nat → Nat × Nat × Nat} {Q : Nat → Nat → Nat → Bool} {Rs : Nat → Nat → Int32} {fx : Nat → Nat → Nat → Option Nat} {s : CbS} {yr0 : Nat → Int32} (hN : N ≤ 8) (hK : K ≤ 64) (hnd : L.Nodup) (hF : cb_YF N K Q fx ci cq cy) (hI : cb_I N Q Rs s) (hM : cb_YM N s ic ou rd)
    (hxh : ∀ i v p x, i < N → v ≤ N → p < 2 → fx i v p = some x → L[x]? = (cb_ql L ky (i, v, p)).head? ∧ x < L.length)
    (hp : ∀ yr : Nat → Int32, cb_RI N L ky s yr0 N yr → ∃ n51, wY_send_51 post (nI (cb_cnt (fun j => cb_le N (s.2.1 j)) N)) n51 0 (nI N) (nI R) (nI C) (nI M) sl (nI K) ci cq cy yp yr bl yg ya ym yw oi op oc os ic ou rd jg jc) :
    ∀ d j n (yr : Nat → Int32), j + d = N → d < n → cb_RI N L ky s yr0 j yr → wY_send_4 post (nI N) (nI R) (nI C) (nI M) sl (nI K) n (nI (cb_cnt (fun j => cb_le N (s.2.1 j)) j)) (nI j) ci cq cy yp yr bl yg ya ym yw oi op oc os ic ou rd jg jc := by
  intro d
  induction d with
  | zero =>
    intro j n yr hj hn hR
    obtain ⟨n, rfl⟩ : ∃ q, n = q + 1 := ⟨n - 1, by omega⟩
    have e : j = N := by omega
    subst e
    exact br_t (nI_le (by omega) (by omega)) (hp yr hR)
  | succ d ih =>
    intro j n yr hj hn hR
    obtain ⟨n, rfl⟩ : ∃ q, n = q + 1 := ⟨n - 1, by omega⟩
    have hjN : j < N := by omega
    refine br_f (nI_ge (by omega) (by omega)) (cy_cf hN hK hF hI hM hjN (fun ho => br_t cb_m1 (nm_r (nI_1 j) ?_)) (fun i c x ho hc hx hx64 => br_f (nI_pos (by omega)) ?_))
    · have h2 := ih (j + 1) n yr (by omega) (by omega) (cb_RI_n hR (cb_hd_n ho))
      rw [cb_cnt, ho, if_neg (by exact fun z => (nomatch z)), Nat.add_zero] at h2
      exact h2
    · obtain ⟨hi, c', hc', hok⟩ := hI.2.1 j i hjN ho
      have hc4 := (hI.1 i c hi hc).1
      have hvN : (if c % 2 = 0 then j else N) ≤ N := by
        split <;> omega
      obtain ⟨y1, y2⟩ := hxh i _ _ x hi hvN (by omega) hx
      rw [← cb_hd_s ho hc] at y1
      have hge := List.getElem?_eq_getElem y2
      rw [hge] at y1
      have hinx : vp_in (nI x) 64 := vp_in_nI hx64 (by omega)
      have h2 := ih (j + 1) n _ (by omega) (by omega) (cb_RI_y hnd (by omega) hge y1.symm hR)
      rw [cb_cnt, ho, if_pos (show cb_le N (some i) = true from decide_eq_true hi)] at h2
      rw [nI_clamp (show x < 2 ^ 31 by omega)]
      exact And.intro hinx (And.intro hinx (nm_e (nm_r (nI_1 _) (nm_r (nI_1 j) h2))))
theorem cy_rs {post : SY → Prop} {L : List Nat} {ky : Nat → Nat × Nat × Nat} {cp Rf : Nat → Int32} (hK : K = L.length) (hK64 : K ≤ 64)
    (hp : ∀ ci cq cy yp yr : Nat → Int32, (∀ y e, (L.filter (fun e => decide (¬ Rf e = 0)))[y]? = some e → cb_YD ky cp Rf ci cq cy yp yr y e) → post (nI N, nI R, nI C, nI M, sl, nI (L.filter (fun e => decide (¬ Rf e = 0))).length, ci, cq, cy, yp, yr, bl, yg, ya, ym, yw, oi, op, oc, os, ic, ou, rd, jg, jc)) :
    ∀ d x n (ci cq cy yp yr : Nat → Int32), x + d = K → d < n → cb_KI L ky cp Rf x ci cq cy yp yr → wY_removeSent_4 post (nI N) (nI R) (nI C) (nI M) sl (nI K) n (nI ((L.take x).filter (fun e => decide (¬ Rf e = 0))).length) (nI x) ci cq cy yp yr bl yg ya ym yw oi op oc os ic ou rd jg jc := by
  intro d
  induction d with
  | zero =>
    intro x n ci cq cy yp yr hx hn hI
    obtain ⟨n, rfl⟩ : ∃ q, n = q + 1 := ⟨n - 1, by omega⟩
    have e : L.take x = L := List.take_of_length_le (by omega)
    rw [cb_KI, e] at hI
    rw [e]
    exact br_t (nI_le (by omega) (by omega)) (hp ci cq cy yp yr hI.1)
  | succ d ih =>
    intro x n ci cq cy yp yr hx hn hI
    obtain ⟨n, rfl⟩ : ∃ q, n = q + 1 := ⟨n - 1, by omega⟩
    have hxL : x < L.length := by omega
    have hge := List.getElem?_eq_getElem hxL
    have hD := hI.2 x _ (Nat.le_refl _) hge
    have hinx : vp_in (nI x) 64 := vp_in_nI (by omega) (by omega)
    have hk : ((L.take x).filter (fun e => decide (¬ Rf e = 0))).length ≤ x := by
      have h1 : ((L.take x).filter (fun e => decide (¬ Rf e = 0))).length ≤ (L.take x).length := List.length_filter_le _ _
      have h2 : (L.take x).length ≤ x := by
        rw [List.length_take]
        omega
      omega
    have hink : vp_in (nI ((L.take x).filter (fun e => decide (¬ Rf e = 0))).length) 64 := vp_in_nI (by omega) (by omega)
    refine br_f (nI_ge (by omega) (by omega)) ?_
    rw [nI_clamp (show x < 2 ^ 31 by omega), nI_clamp (show ((L.take x).filter (fun e => decide (¬ Rf e = 0))).length < 2 ^ 31 by omega)]
    refine And.intro hinx (br_c (fun z => nm_r (nI_1 x) ?_) (fun z => ?_))
    · rw [hD.2.2.2.2] at z
      obtain ⟨k1, k2⟩ := cb_KI_n hge z hI
      have h2 := ih (x + 1) n ci cq cy yp yr (by omega) (by omega) k1
      rw [k2] at h2
      exact h2
    · have z' := z
      rw [hD.2.2.2.2] at z'
      obtain ⟨k1, k2⟩ := cb_KI_y hge z' rfl hI
      have h2 := ih (x + 1) n _ _ _ _ _ (by omega) (by omega) k1
      rw [k2] at h2
      exact And.intro hinx (And.intro hink (nm_e (And.intro hinx (And.intro hink (nm_e (And.intro hinx (And.intro hink (nm_e (And.intro hinx (And.intro hink (nm_e (And.intro hinx (And.intro hink (nm_e (nm_r (nI_1 _) (nm_r (nI_1 x) h2))))))))))))))))
end
end
section
/-! X: a slot -/
theorem cb_I_cs {N : Nat} {Q : Nat → Nat → Nat → Bool} {Rs : Nat → Nat → Int32} {s : CbS} (hI : cb_I N Q Rs s) : ∀ i, i < N → cb_sm (s.1 i) := fun i hi c e => by
  have := (hI.1 i c hi e).1
  omega
theorem cb_I_os {N : Nat} {Q : Nat → Nat → Nat → Bool} {Rs : Nat → Nat → Int32} {s : CbS} (hN : N ≤ 8) (hI : cb_I N Q Rs s) : ∀ j, j < N → cb_sm (s.2.1 j) := fun j hj i e => by
  have := (hI.2.1 j i hj e).1
  omega
section
variable {N R C M : Nat} {fh uc sl : Int32} {cp cr cn qh qt qs gp ap mp bl wc lf lp lc lr mc mm mf ot gi gc : Nat → Int32}
theorem cx_mmp {post : SX → Prop} {Q : Nat → Nat → Nat → Bool} {Rs : Nat → Nat → Int32} {s : CbS} {m : Nat → Nat} {p : Nat} (hN : N ≤ 8) (hp2 : p < 2) (hI : cb_I N Q Rs s) (hE : cb_XE N Q Rs cr qh qs) (hM : cb_XM N s mc mm mf ot) (hRb : ∀ i b, i < N → Q i N p = true → b < 32 → bt (Rs i p) b = true → b < N) (hm : m p < N) (hmp : mp p = nI (m p))
    (h : ∀ mp' : Nat → Int32, mp' p = nI (cb_mn N Q Rs s m p) → (∀ q, q ≠ p → mp' q = mp q) → post (nI N, nI R, nI C, nI M, fh, uc, sl, cp, cr, cn, qh, qt, qs, gp, ap, mp', bl, wc, lf, lp, lc, lr, mc, mm, mf, ot, gi, gc)) : wpX_moveMulticastPointer post (nI N, nI R, nI C, nI M, fh, uc, sl, cp, cr, cn, qh, qt, qs, gp, ap, mp, bl, wc, lf, lp, lc, lr, mc, mm, mf, ot, gi, gc) (nI p) := by
  refine And.intro (vp_in_nI hp2 (by omega)) (nm_r (e' := nI (cb_wr N (m p + 0))) ?_ ⟨N + 1, ?_⟩)
  · rw [nI_clamp (show p < 2 ^ 31 by omega), hmp, Nat.add_zero, cb_wr_id hm]
  · refine cx_mm hN hp2 hI hE hM hRb hm (fun z => h mp (by rw [hmp, z]) (fun q _ => rfl)) (h _ pk_us (fun q hq => pk_un hq)) N 0 (N + 1) (by omega) (by omega) rfl
theorem cx_sa0 {post : Int32 → SX → Prop} {L F : List Nat} {ky : Nat → Nat × Nat × Nat} {s : CbS} {cr0 : Nat → Int32} (hN : N ≤ 8) (hV : cb_XV N L ky cr0) (hI : cb_I N (cb_Q L ky) (cb_Rs N L ky cr0) s) (hM : cb_XM N s mc mm mf ot)
    (hp : ∀ (F : List Nat) (fh uc : Int32) (cr cn qh qt qs lf lp lc lr : Nat → Int32), cb_SI N L ky s cp cr0 N F fh uc cr cn qh qt qs lf lp lc lr → post (nI (cb_cnt (fun j => cb_le N (s.2.1 j)) N)) (nI N, nI R, nI C, nI M, fh, uc, sl, cp, cr, cn, qh, qt, qs, gp, ap, mp, bl, wc, lf, lp, lc, lr, mc, mm, mf, ot, gi, gc))
    (hS : cb_SI N L ky s cp cr0 0 F fh uc cr cn qh qt qs lf lp lc lr) : wX_sendAll_27 post (N + 1) 0 0 (nI N) (nI R) (nI C) (nI M) fh uc sl cp cr cn qh qt qs gp ap mp bl wc lf lp lc lr mc mm mf ot gi gc := by
  have hcnt : cb_cnt (fun j => cb_le 0 (s.2.1 j)) N = 0 := by
    refine cb_cnt_f N (fun j _ => ?_)
    cases s.2.1 j with
    | none => rfl
    | some k => exact decide_eq_false (Nat.not_lt_zero k)
  have h : wX_sendAll_27 post (N + 1) (nI (cb_cnt (fun j => cb_le 0 (s.2.1 j)) N)) (nI 0) (nI N) (nI R) (nI C) (nI M) fh uc sl cp cr cn qh qt qs gp ap mp bl wc lf lp lc lr mc mm mf ot gi gc := cx_sa hN hV hI hM hp N 0 (N + 1) F fh uc cr cn qh qt qs lf lp lc lr (by omega) (by omega) hS
  rw [hcnt] at h
  exact h
theorem cx_tail {post : Int32 → SX → Prop} {L F : List Nat} {ky : Nat → Nat × Nat × Nat} {s : CbS} {g a : Nat → Nat → Nat} {m : Nat → Nat} {w : Nat → Nat → Int32} {kd n r : Nat} (hN : N ≤ 8) (hk : kd < 2) (hr : R ≤ r) (hr8 : r < 2 ^ 31) (hX : cb_XQ N L F ky fh cn qh qt qs) (hV : cb_XV N L ky cr) (hu : uc = nI L.length)
    (hP : cb_PX N g a m gp ap mp) (hB : cb_PB N g a m) (h0 : 0 < N) (hW : ∀ i j, i < N → j < N → wc (i * 8 + j) = w i j) (hI : cb_I N (cb_Q L ky) (cb_Rs N L ky cr) s) (hM : cb_XM N s mc mm mf ot)
    (hp : ∀ (F' : List Nat) (fh' uc' : Int32) (cr' cn' qh' qt' qs' gp' ap' mp' wc' lf' lp' lc' lr' : Nat → Int32), cb_SI N L ky s cp cr N F' fh' uc' cr' cn' qh' qt' qs' lf' lp' lc' lr' →
      cb_PX N (cb_gn N s g) (cb_an N kd s a) (cb_mn N (cb_Q L ky) (cb_Rs N L ky cr) s m) gp' ap' mp' → (∀ i j, i < N → j < N → wc' (i * 8 + j) = cb_wt (cb_Q L ky) bl s w i j) →
      post (nI (cb_cnt (fun j => cb_le N (s.2.1 j)) N)) (nI N, nI R, nI C, nI M, fh', uc', sl + 1, cp, cr', cn', qh', qt', qs', gp', ap', mp', bl, wc', lf', lp', lc', lr', mc, mm, mf, ot, gi, gc)) :
    wX_slot_13 post (nI kd) (n + 1) (nI r) (nI N) (nI R) (nI C) (nI M) fh uc sl cp cr cn qh qt qs gp ap mp bl wc lf lp lc lr mc mm mf ot gi gc := by
  have hE : cb_XE N (cb_Q L ky) (cb_Rs N L ky cr) cr qh qs := cb_XE_of hX
  have hcs := cb_I_cs hI
  have hm : ∀ p, p < 2 → m p < N := fun p hp2 => (hB 0 p h0 hp2).2.2
  have hRb : ∀ p, ∀ i b, i < N → cb_Q L ky i N p = true → b < 32 → bt (cb_Rs N L ky cr i p) b = true → b < N := fun p i b _ hQ hb h => cb_Rb_of hV hQ hb h
  refine br_t (nI_le hr hr8) ⟨N + 1, cx_uw2 (w := w) hN hE hM hcs (fun wc' hw' => ⟨N + 1, ?_⟩) N 0 (N + 1) wc (by omega) (by omega) (cb_WI_0 hW)⟩
  refine cx_mu (g := g) (a := a) hN hk hI hM (fun gp' ap' hga => ?_) N 0 (N + 1) gp ap (by omega) (by omega) ?_
  · refine cx_mmp (p := 0) (m := m) hN (by omega) hI hE hM (hRb 0) (hm 0 (by omega)) (hP 0 0 h0 (by omega)).2.2 (fun mp1 e1 o1 => ?_)
    refine cx_mmp (p := 1) (m := m) hN (by omega) hI hE hM (hRb 1) (hm 1 (by omega)) ((o1 1 (by omega)).trans (hP 0 1 h0 (by omega)).2.2) (fun mp2 e2 o2 => ⟨N + 1, ?_⟩)
    refine cx_sa2 hN (fun lf' hlf => ⟨N + 1, ?_⟩) N 0 (N + 1) lf (by omega) (by omega) (fun j' h => absurd h (Nat.not_lt_zero j'))
    have hS : cb_SI N L ky s cp cr 0 F fh uc cr cn qh qt qs lf' lp lc lr := by
      rw [cb_SI, cb_Li_0]
      refine ⟨hX, hu, fun e he => ⟨fun z => absurd z (Nat.not_lt_zero _), fun _ => rfl⟩, fun j hj => ⟨fun ⟨i', z, _⟩ => absurd z (Nat.not_lt_zero i'), fun _ => hlf j hj⟩⟩
    refine cx_sa0 hN hV hI hM (fun F' fh' uc' cr' cn' qh' qt' qs' lf2 lp2 lc2 lr2 hS' => ?_) hS
    · refine nm_e (hp F' fh' uc' cr' cn' qh' qt' qs' gp' ap' mp2 wc' lf2 lp2 lc2 lr2 hS' (fun j p hj hp2 => ?_) hw')
      refine ⟨(hga j p hj hp2).1, (hga j p hj hp2).2, ?_⟩
      by_cases e : p = 1
      · subst e
        exact e2
      · have e0 : p = 0 := by omega
        subst e0
        rw [o2 0 (by omega)]
        exact e1
  · intro j p hj hp2
    obtain ⟨q1, q2, q3⟩ := hP j p hj hp2
    exact ⟨⟨fun ⟨i', z, _⟩ => absurd z (Nat.not_lt_zero i'), fun _ => q1⟩, fun z => absurd z (Nat.not_lt_zero j), fun _ => q2⟩
theorem cx_37 {post : Int32 → SX → Prop} {Q : Nat → Nat → Nat → Bool} {Rs : Nat → Nat → Int32} {G : Nat → Option (Nat × Nat)} {g a : Nat → Nat → Nat} {m : Nat → Nat} {s : CbS} {kd r n : Nat} {fi : Int32} (hN : N ≤ 8) (hk : kd < 2) (hr : r < 2 ^ 31) (hfi : vp_nar .boolean fi = 0 ↔ ¬ r = 0) (hP : cb_PX N g a m gp ap mp) (hB : cb_PB N g a m)
    (hG : cb_Gd N Q Rs s G) (hI : cb_I N Q Rs s) (hg : ∀ j, j < N → gi j = cb_o1 (G j) ∧ gc j = cb_o2 (G j)) (hM : cb_XM N s mc mm mf ot)
    (hp : ∀ mc mm mf ot : Nat → Int32, cb_XM N (cb_acs N kd G a r N s) mc mm mf ot → wX_slot_13 post (nI kd) n (nI (r + 1)) (nI N) (nI R) (nI C) (nI M) fh uc sl cp cr cn qh qt qs gp ap mp bl wc lf lp lc lr mc mm mf ot gi gc) : wX_slot_37 post (wX_slot_13 post (nI kd) n) (nI kd) (nI r) fi (nI kd) (nI N) (nI R) (nI C) (nI M) fh uc sl cp cr cn qh qt qs gp ap mp bl wc lf lp lc lr mc mm mf ot gi gc :=
  ⟨N + 1, cx_aa hN hk hr hfi hP hB hG hI hg (fun mc' mm' mf' ot' hM' => nm_r (nI_1 r) (hp mc' mm' mf' ot' hM')) N 0 (N + 1) mc mm mf ot (by omega) (by omega) hM⟩
theorem cx_s13 {post : Int32 → SX → Prop} {L F : List Nat} {ky : Nat → Nat × Nat × Nat} {g a : Nat → Nat → Nat} {m : Nat → Nat} {w : Nat → Nat → Int32} {kd : Nat} (hN : N ≤ 8) (h0 : 0 < N) (hR : R ≤ 8) (hk : kd < 2) (hX : cb_XQ N L F ky fh cn qh qt qs) (hV : cb_XV N L ky cr) (hu : uc = nI L.length)
    (hP : cb_PX N g a m gp ap mp) (hB : cb_PB N g a m) (hW : ∀ i j, i < N → j < N → wc (i * 8 + j) = w i j)
    (hp : ∀ (s : CbS), s = cb_ms N kd (cb_G N (cb_Q L ky) (cb_Rs N L ky cr) g m bl kd) a R → cb_I N (cb_Q L ky) (cb_Rs N L ky cr) s → ∀ (F' : List Nat) (fh' uc' : Int32) (cr' cn' qh' qt' qs' gp' ap' mp' wc' lf' lp' lc' lr' mc' mm' mf' ot' gi' gc' : Nat → Int32), cb_SI N L ky s cp cr N F' fh' uc' cr' cn' qh' qt' qs' lf' lp' lc' lr' →
      cb_PX N (cb_gn N s g) (cb_an N kd s a) (cb_mn N (cb_Q L ky) (cb_Rs N L ky cr) s m) gp' ap' mp' → (∀ i j, i < N → j < N → wc' (i * 8 + j) = cb_wt (cb_Q L ky) bl s w i j) →
      post (nI (cb_cnt (fun j => cb_le N (s.2.1 j)) N)) (nI N, nI R, nI C, nI M, fh', uc', sl + 1, cp, cr', cn', qh', qt', qs', gp', ap', mp', bl, wc', lf', lp', lc', lr', mc', mm', mf', ot', gi', gc')) :
    ∀ d r n (mc mm mf ot gi gc : Nat → Int32), r + d = R → d < n → cb_XM N (cb_ms N kd (cb_G N (cb_Q L ky) (cb_Rs N L ky cr) g m bl kd) a r) mc mm mf ot → wX_slot_13 post (nI kd) n (nI r) (nI N) (nI R) (nI C) (nI M) fh uc sl cp cr cn qh qt qs gp ap mp bl wc lf lp lc lr mc mm mf ot gi gc := by
  have hE : cb_XE N (cb_Q L ky) (cb_Rs N L ky cr) cr qh qs := cb_XE_of hX
  have ha : ∀ i p, i < N → p < 2 → a i p < N := fun i p hi h2 => (hB i p hi h2).2.1
  have hGd : ∀ s, cb_Gd N (cb_Q L ky) (cb_Rs N L ky cr) s (cb_G N (cb_Q L ky) (cb_Rs N L ky cr) g m bl kd s) := fun s => cb_G_ok hB hk
  have hInv := cb_ms_inv (Gf := cb_G N (cb_Q L ky) (cb_Rs N L ky cr) g m bl kd) (a := a) hk ha hGd
  intro d
  induction d with
  | zero =>
    intro r n mc mm mf ot gi gc hr hn hM
    obtain ⟨n, rfl⟩ : ∃ q, n = q + 1 := ⟨n - 1, by omega⟩
    have e : r = R := by omega
    rw [e] at hM ⊢
    exact cx_tail hN hk (Nat.le_refl _) (by omega) hX hV hu hP hB h0 hW (hInv R (by omega)) hM (fun F' fh' uc' cr' cn' qh' qt' qs' gp' ap' mp' wc' lf' lp' lc' lr' k1 k2 k3 => hp _ rfl (hInv R (by omega)) F' fh' uc' cr' cn' qh' qt' qs' gp' ap' mp' wc' lf' lp' lc' lr' mc mm mf ot gi gc k1 k2 k3)
  | succ d ih =>
    intro r n mc mm mf ot gi gc hr hn hM
    obtain ⟨n, rfl⟩ : ∃ q, n = q + 1 := ⟨n - 1, by omega⟩
    have hI := hInv r (by omega)
    have hcs := cb_I_cs hI
    refine br_f (nI_ge (by omega) (by omega)) ⟨N + 1, ?_⟩
    refine cx_ga (fr := fun j => cb_fr N (cb_Q L ky) (cb_Rs N L ky cr) g m (cb_ms N kd (cb_G N (cb_Q L ky) (cb_Rs N L ky cr) g m bl kd) a r).1 j) (G := cb_G N (cb_Q L ky) (cb_Rs N L ky cr) g m bl kd (cb_ms N kd (cb_G N (cb_Q L ky) (cb_Rs N L ky cr) g m bl kd) a r)) hN hk (fun j hj h1 h2 => ?_) (fun j hj h1 => ?_) (fun gi' gc' j c post' hj hc h => cx_fr hN hE hM.1 hcs hP hB hj hc h) (fun j c hj hc => cb_ff_sm (cb_sp_lt hB hj hc) hN) (fun gi' gc' hg => ?_) N 0 (N + 1) gi gc (by omega) (by omega) (fun j' h => absurd h (Nat.not_lt_zero j'))
    · exact if_pos ⟨(hM.2.2.2 j hj).mp h1, h2⟩
    · exact if_neg (fun z => h1 ⟨(hM.2.2.2 j hj).mpr z.1, z.2⟩)
    · refine pk_eq r 0 (fun e => ?_) (fun e => ?_)
      · exact cx_37 hN hk (by omega) (by rw [cb_nb1]; exact ⟨fun z => absurd z (by decide), fun z => absurd e z⟩) hP hB (hGd _) hI hg hM (fun mc' mm' mf' ot' hM' => ih (r + 1) n mc' mm' mf' ot' gi' gc' (by omega) (by omega) hM')
      · exact cx_37 hN hk (by omega) (by rw [cb_nb0]; exact ⟨fun _ => e, fun _ => rfl⟩) hP hB (hGd _) hI hg hM (fun mc' mm' mf' ot' hM' => ih (r + 1) n mc' mm' mf' ot' gi' gc' (by omega) (by omega) hM')
theorem cx_slot {post : Int32 → SX → Prop} {L F : List Nat} {ky : Nat → Nat × Nat × Nat} {g a : Nat → Nat → Nat} {m : Nat → Nat} {w : Nat → Nat → Int32} {kd : Nat} (hN : N ≤ 8) (h0 : 0 < N) (hR : R ≤ 8) (hk : kd < 2) (hkd : sl &&& 1 = nI kd) (hX : cb_XQ N L F ky fh cn qh qt qs) (hV : cb_XV N L ky cr) (hu : uc = nI L.length)
    (hP : cb_PX N g a m gp ap mp) (hB : cb_PB N g a m) (hW : ∀ i j, i < N → j < N → wc (i * 8 + j) = w i j)
    (hp : ∀ (s : CbS), s = cb_ms N kd (cb_G N (cb_Q L ky) (cb_Rs N L ky cr) g m bl kd) a R → cb_I N (cb_Q L ky) (cb_Rs N L ky cr) s → ∀ (F' : List Nat) (fh' uc' : Int32) (cr' cn' qh' qt' qs' gp' ap' mp' wc' lf' lp' lc' lr' mc' mm' mf' ot' gi' gc' : Nat → Int32), cb_SI N L ky s cp cr N F' fh' uc' cr' cn' qh' qt' qs' lf' lp' lc' lr' →
      cb_PX N (cb_gn N s g) (cb_an N kd s a) (cb_mn N (cb_Q L ky) (cb_Rs N L ky cr) s m) gp' ap' mp' → (∀ i j, i < N → j < N → wc' (i * 8 + j) = cb_wt (cb_Q L ky) bl s w i j) →
      post (nI (cb_cnt (fun j => cb_le N (s.2.1 j)) N)) (nI N, nI R, nI C, nI M, fh', uc', sl + 1, cp, cr', cn', qh', qt', qs', gp', ap', mp', bl, wc', lf', lp', lc', lr', mc', mm', mf', ot', gi', gc')) : wpX_slot post (nI N, nI R, nI C, nI M, fh, uc, sl, cp, cr, cn, qh, qt, qs, gp, ap, mp, bl, wc, lf, lp, lc, lr, mc, mm, mf, ot, gi, gc) := by
  refine nm_r hkd ⟨N + 1, ?_⟩
  exact cx_bg hN (fun mc' mm' mf' ot' hM => ⟨R + 1, cx_s13 hN h0 hR hk hX hV hu hP hB hW hp R 0 (R + 1) mc' mm' mf' ot' gi gc (by omega) (by omega) hM⟩) N 0 (N + 1) mc mm mf ot (by omega) (by omega) (fun j' h => absurd h (Nat.not_lt_zero j'))
end
end
section
/-! Y: a slot -/
/-- what the list's residue of a cell is behind the sending -/
def cb_Rf (N : Nat) (L : List Nat) (ky : Nat → Nat × Nat × Nat) (s : CbS) (cr : Nat → Int32) (e : Nat) : Int32 :=
  if (ky e).2.1 = N then cb_nr N L ky s cr e else if cb_hd N L ky s (ky e).2.1 = some e then 0 else (1 : Int32) <<< (nI (ky e).2.1 &&& 31)
theorem cb_hd_v {N : Nat} {L : List Nat} {ky : Nat → Nat × Nat × Nat} {s : CbS} {e b : Nat} (hb : b < N) (h : cb_hd N L ky s b = some e) (hv : ¬ (ky e).2.1 = N) : (ky e).2.1 = b := by
  obtain ⟨i, c, _, _, _, k4⟩ := cb_hd_inv h
  have e1 : (ky e).2.1 = if c % 2 = 0 then b else N := by rw [k4]
  rw [e1]
  rw [e1] at hv
  by_cases h2 : c % 2 = 0
  · rw [if_pos h2]
  · rw [if_neg h2] at hv
    exact absurd rfl hv
theorem cb_RI_R {N : Nat} {L : List Nat} {ky : Nat → Nat × Nat × Nat} {s : CbS} {cr yr0 yr : Nat → Int32} {x e : Nat} (hN : N ≤ 8) (hV : cb_XV N L ky cr) (h0 : yr0 x = cb_rs N ky cr e) (hx : L[x]? = some e) (h : cb_RI N L ky s yr0 N yr) : yr x = cb_Rf N L ky s cr e := by
  have hvN := (hV e (List.mem_of_getElem? hx)).2.1
  apply b_ext
  intro b hb
  rw [h x e hx b hb, h0, cb_rs, cb_Rf]
  by_cases hv : (ky e).2.1 = N
  · rw [if_pos hv, if_pos hv, cb_nr_bt hN hb]
  · rw [if_neg hv, if_neg hv, cb_sh (by omega) hb]
    by_cases hd : cb_hd N L ky s (ky e).2.1 = some e
    · rw [if_pos hd, b_0]
      by_cases eb : b = (ky e).2.1
      · rw [decide_eq_true eb, Bool.true_and, eb, hd, decide_eq_true (show (ky e).2.1 < N by omega), decide_eq_true rfl]
        rfl
      · rw [decide_eq_false eb, Bool.false_and]
    · rw [if_neg hd, cb_sh (by omega) hb]
      by_cases eb : b = (ky e).2.1
      · rw [eb, decide_eq_true rfl, decide_eq_false hd, Bool.and_false]
        rfl
      · rw [decide_eq_false eb, Bool.false_and]
theorem cb_Rf_gx {N : Nat} {L : List Nat} {ky : Nat → Nat × Nat × Nat} {s : CbS} {cr : Nat → Int32} {e : Nat} (hN : N ≤ 8) (hV : cb_XV N L ky cr) (he : e ∈ L) : decide (¬ cb_Rf N L ky s cr e = 0) = !cb_gx N L ky s cr e := by
  have hvN := (hV e he).2.1
  rw [cb_gx, cb_Rf]
  by_cases hv : (ky e).2.1 = N
  · rw [if_pos hv, if_pos hv, decide_not]
  · rw [if_neg hv, if_neg hv]
    by_cases hd : cb_hd N L ky s (ky e).2.1 = some e
    · rw [if_pos hd, decide_eq_true hd]
      rfl
    · rw [if_neg hd, decide_eq_false hd]
      refine decide_eq_true (fun z => ?_)
      have z1 : bt ((1 : Int32) <<< (nI (ky e).2.1 &&& 31)) (ky e).2.1 = bt 0 (ky e).2.1 := by rw [z]
      rw [cb_sh (by omega) (by omega), b_0, decide_eq_true rfl] at z1
      exact nomatch z1
theorem cb_Rf_hit {N : Nat} {L : List Nat} {ky : Nat → Nat × Nat × Nat} {s : CbS} {cr : Nat → Int32} {e j : Nat} (hV : cb_XV N L ky cr) (he : e ∈ L) (hj : j < N) (hd : cb_hd N L ky s j = some e) : cb_Rf N L ky s cr e = cb_nr N L ky s cr e := by
  rw [cb_Rf]
  by_cases hv : (ky e).2.1 = N
  · rw [if_pos hv]
  · have e1 := cb_hd_v hj hd hv
    rw [if_neg hv, e1, if_pos hd, cb_nr_0 ((hV e he).2.2.2.1 (by omega))]
theorem cb_Rf_lv {N : Nat} {L : List Nat} {ky : Nat → Nat × Nat × Nat} {s : CbS} {cr : Nat → Int32} {i p e : Nat} (hN : N ≤ 8) (hV : cb_XV N L ky cr) (hh : (cb_ql L ky (i, N, p)).head? = some e) : cb_Rf N L ky s cr e = 0 ↔ cb_lvb (cb_Rs N L ky cr) s i p = true := by
  obtain ⟨he, hk⟩ := cb_ql_mem.mp (List.mem_of_mem_head? hh)
  have hv : (ky e).2.1 = N := by rw [hk]
  obtain ⟨hne, hbN⟩ := (hV e he).2.2.2.2 hv
  have hRs : cb_Rs N L ky cr i p = cr e := by rw [cb_Rs, hh]
  have hinv : ∀ b, b < N → cb_hd N L ky s b = some e → s.2.1 b = some i ∧ s.1 i = some (2 * p + 1) := by
    intro b hb hd
    obtain ⟨i', c, k1, k2, _, k4⟩ := cb_hd_inv hd
    rw [hk] at k4
    injection k4 with a1 a2
    injection a2 with a2 a3
    subst a1
    refine ⟨k1, ?_⟩
    rw [k2]
    by_cases h2 : c % 2 = 0
    · rw [if_pos h2] at a2
      omega
    · exact congrArg some (by omega)
  rw [cb_Rf, if_pos hv, cb_zero, cb_lvb_iff, cb_lv, hRs]
  constructor
  · intro z
    have hall : ∀ b, b < 32 → bt (cr e) b = true → b < N ∧ cb_hd N L ky s b = some e := by
      intro b hb hbt
      have z1 := z b hb
      rw [cb_nr_bt hN hb, hbt, Bool.true_and] at z1
      refine Classical.byContradiction (fun y => ?_)
      have : (decide (b < N) && decide (cb_hd N L ky s b = some e)) = false := by
        rw [← Bool.decide_and]
        exact decide_eq_false y
      rw [this] at z1
      exact nomatch z1
    refine ⟨?_, fun b hb hbt => (hinv b (hall b hb hbt).1 (hall b hb hbt).2).1⟩
    refine Classical.byContradiction (fun y => hne ?_)
    rw [cb_zero]
    intro b hb
    cases hbt : bt (cr e) b with
    | false => rfl
    | true => exact absurd (hinv b (hall b hb hbt).1 (hall b hb hbt).2).2 y
  · intro ⟨z1, z2⟩ b hb
    rw [cb_nr_bt hN hb]
    cases hbt : bt (cr e) b with
    | false => rfl
    | true =>
      have hbn := hbN b hb hbt
      have hd : cb_hd N L ky s b = some e := by
        rw [cb_hd_s (z2 b hb hbt) z1, if_neg (by omega), show (2 * p + 1) / 2 = p by omega]
        exact hh
      rw [decide_eq_true hbn, decide_eq_true hd]
      rfl
theorem cb_Rf_w {N : Nat} {L : List Nat} {ky : Nat → Nat × Nat × Nat} {s : CbS} {cr : Nat → Int32} {i j e : Nat} (hN : N ≤ 8) (hj : j < N) (hh : (cb_ql L ky (i, j, 0)).head? = some e) : cb_Rf N L ky s cr e = 0 ↔ (s.1 i = some 0 ∧ s.2.1 j = some i) := by
  obtain ⟨he, hk⟩ := cb_ql_mem.mp (List.mem_of_mem_head? hh)
  have hv : (ky e).2.1 = j := by rw [hk]
  rw [cb_Rf, if_neg (by omega), hv]
  by_cases hd : cb_hd N L ky s j = some e
  · rw [if_pos hd]
    refine ⟨fun _ => ?_, fun _ => rfl⟩
    obtain ⟨i', c, k1, k2, _, k4⟩ := cb_hd_inv hd
    rw [hk] at k4
    injection k4 with a1 a2
    injection a2 with a2 a3
    subst a1
    refine ⟨?_, k1⟩
    rw [k2]
    by_cases h2 : c % 2 = 0
    · exact congrArg some (by omega)
    · rw [if_neg h2] at a2
      omega
  · rw [if_neg hd]
    refine ⟨fun z => ?_, fun z => ?_⟩
    · have z1 : bt ((1 : Int32) <<< (nI j &&& 31)) j = bt 0 j := by rw [z]
      rw [cb_sh (by omega) (by omega), b_0, decide_eq_true rfl] at z1
      exact nomatch z1
    · refine absurd ?_ hd
      rw [cb_hd_s z.2 z.1]
      exact hh
theorem cb_ff_false {P : Nat → Bool} {N a : Nat} (h : ∀ i, P i = false) : ∀ d k, cb_ff P N a d k = none := by
  intro d
  induction d with
  | zero => intro k; rfl
  | succ d ih => intro k; rw [cb_ff_f (h _)]; exact ih (k + 1)
theorem cb_go_none {fr : Nat → Option Nat} {kd : Nat} (hk : kd < 2) (h : ∀ c, c < 4 → fr c = none) : ∀ d r, r + d = 4 → cb_go fr kd d r = none := by
  intro d
  induction d with
  | zero => intro r _; rfl
  | succ d ih => intro r hr; rw [cb_go_n (h _ (cb_xor4 r (by omega) kd hk).1)]; exact ih (r + 1) (by omega)
section
variable {N R C M K : Nat} {sl : Int32} {ci cq cy yp yr bl yg ya ym yw oi op oc os ic ou rd jg jc : Nat → Int32}
theorem cy_17 {post : Int32 → SY → Prop} {us : Int32} (hN : N ≤ 8) (hp : ∀ ic ou rd : Nat → Int32, cb_YM N (fun _ => none, fun _ => none, fun _ => none) ic ou rd → ∃ n52, wY_slot_52 post us n52 0 (nI N) (nI R) (nI C) (nI M) sl (nI K) ci cq cy yp yr bl yg ya ym yw oi op oc os ic ou rd jg jc) :
    ∀ d j n (ic ou rd : Nat → Int32), j + d = 8 → d < n → (∀ j', j' < j → ic j' = -1 ∧ ou j' = -1 ∧ rd j' = -1) → wY_slot_17 post us (nI N) (nI R) (nI C) (nI M) sl (nI K) n (nI j) ci cq cy yp yr bl yg ya ym yw oi op oc os ic ou rd jg jc := by
  intro d
  induction d with
  | zero =>
    intro j n ic ou rd hj hn hI
    obtain ⟨n, rfl⟩ : ∃ q, n = q + 1 := ⟨n - 1, by omega⟩
    exact br_t (nI_le (a := 8) (by omega) (by omega)) (hp ic ou rd (fun j' h => hI j' (by omega)))
  | succ d ih =>
    intro j n ic ou rd hj hn hI
    obtain ⟨n, rfl⟩ : ∃ q, n = q + 1 := ⟨n - 1, by omega⟩
    have hin : vp_in (nI j) 8 := vp_in_nI (by omega) (by omega)
    refine br_f (nI_ge (b := 8) (by omega) (by omega)) ?_
    rw [nI_clamp (show j < 2 ^ 31 by omega)]
    refine And.intro hin (nm_e (And.intro hin (nm_e (And.intro hin (nm_e (nm_r (nI_1 j) (ih (j + 1) n _ _ _ (by omega) (by omega) (fun j' hj' => ?_))))))))
    by_cases e : j' = j
    · rw [e, pk_us, pk_us, pk_us]
      exact ⟨rfl, rfl, rfl⟩
    · rw [pk_un e, pk_un e, pk_un e]
      exact hI j' (by omega)
theorem cy_tail {post : Int32 → SY → Prop} {L : List Nat} {ky : Nat → Nat × Nat × Nat} {cp cr : Nat → Int32} {s : CbS} {g a : Nat → Nat → Nat} {m : Nat → Nat} {w : Nat → Nat → Int32} {kd n r : Nat} {us : Int32} (hN : N ≤ 8) (h0 : 0 < N) (hus : (kd = 0 ∧ us = 1) ∨ (kd = 1 ∧ us = 0)) (hr : R ≤ r) (hr8 : r < 2 ^ 31) (hnd : L.Nodup) (hK : K = L.length) (hK64 : K ≤ 64) (hV : cb_XV N L ky cr) (hY : cb_YL N L ky cp cr ci cq cy yp yr)
    (hP : cb_PY N g a m yg ya ym) (hB : cb_PB N g a m) (hW : ∀ i j, i < N → j < N → yw (i * 8 + j) = w i j) (hI : cb_I N (cb_Q L ky) (cb_Rs N L ky cr) s) (hM : cb_YM N s ic ou rd)
    (hp : ∀ (ci' cq' cy' yp' yr' yg' ya' ym' yw' oi' op' oc' os' : Nat → Int32), (∀ y e, (L.filter (fun e => decide (¬ cb_Rf N L ky s cr e = 0)))[y]? = some e → cb_YD ky cp (cb_Rf N L ky s cr) ci' cq' cy' yp' yr' y e) →
      cb_PY N (cb_gn N s g) (cb_an N kd s a) (cb_mn N (cb_Q L ky) (cb_Rs N L ky cr) s m) yg' ya' ym' → (∀ i j, i < N → j < N → yw' (i * 8 + j) = cb_wt (cb_Q L ky) bl s w i j) → (∀ j, j < N → cb_LN s oi' op' oc' os' j ∧ cb_LS N L ky s cp cr oi' op' oc' os' j) →
      post (nI (cb_cnt (fun j => cb_le N (s.2.1 j)) N)) (nI N, nI R, nI C, nI M, sl + 1, nI (L.filter (fun e => decide (¬ cb_Rf N L ky s cr e = 0))).length, ci', cq', cy', yp', yr', bl, yg', ya', ym', yw', oi', op', oc', os', ic, ou, rd, jg, jc)) :
    wY_slot_52 post us (n + 1) (nI r) (nI N) (nI R) (nI C) (nI M) sl (nI K) ci cq cy yp yr bl yg ya ym yw oi op oc os ic ou rd jg jc := by
  subst hK
  have hF : cb_YF N L.length (cb_Q L ky) (cb_fx L ci cq cy) ci cq cy := cb_YF_of hN hK64 hV hY
  have hxh : ∀ i v p x, i < N → v ≤ N → p < 2 → cb_fx L ci cq cy i v p = some x → L[x]? = (cb_ql L ky (i, v, p)).head? ∧ x < L.length := fun i v p x hi hv hp2 hx => (cb_fx_hd hN hV hY hi hv hp2).2 x hx
  refine br_t (nI_le hr hr8) ⟨N + 1, ?_⟩
  refine cy_s4 (ky := ky) hN hK64 hnd hF hI hM hxh (fun yr' hRI => ⟨N + 1, ?_⟩) N 0 (N + 1) yr (by omega) (by omega) cb_RI_0
  have hR : ∀ x e, L[x]? = some e → yr' x = cb_Rf N L ky s cr e := fun x e hx => cb_RI_R hN hV (hY x e hx).2.2.2.2 hx hRI
  refine cy_s51 (L := L) (ky := ky) (cp := cp) (cr0 := cr) hN hK64 hF hI hM hxh (fun x e hx => (hY x e hx).2.2.2.1) (fun x e j hj hx hd => (hR x e hx).trans (cb_Rf_hit hV (List.mem_of_getElem? hx) hj hd)) (fun oi' op' oc' os' hL => ?_) N 0 (N + 1) oi op oc os (by omega) (by omega) (fun j' h => absurd h (Nat.not_lt_zero j'))
  have hlv : ∀ i p x, i < N → p < 2 → cb_fx L ci cq cy i N p = some x → (yr' x = 0 ↔ cb_lvb (cb_Rs N L ky cr) s i p = true) := by
    intro i p x hi hp2 hx
    obtain ⟨h1, h2⟩ := hxh i N p x hi (Nat.le_refl _) hp2 hx
    have hge := List.getElem?_eq_getElem h2
    rw [hR x _ hge]
    exact cb_Rf_lv hN hV (h1.symm.trans hge)
  have hw0 : ∀ i j x, i < N → j < N → cb_fx L ci cq cy i j 0 = some x → (yr' x = 0 ↔ (s.1 i = some 0 ∧ s.2.1 j = some i)) := by
    intro i j x hi hj hx
    obtain ⟨h1, h2⟩ := hxh i j 0 x hi (by omega) (by omega) hx
    have hge := List.getElem?_eq_getElem h2
    rw [hR x _ hge]
    exact cb_Rf_w hN hj (h1.symm.trans hge)
  refine ⟨N + 1, cy_mp (g := g) (a := a) (m := m) hN hK64 hus hI hM hF (fun p hp2 => (hB 0 p h0 hp2).2.2) (fun p hp2 => (hP 0 p h0 hp2).2.2) hlv (fun yg' ya' ym' hPY => ?_) N 0 (N + 1) yg ya (by omega) (by omega) ?_⟩
  · refine ⟨N + 1, cy_cw2 (w := w) hN hK64 hF hw0 (fun yw' hw' => ?_) N 0 (N + 1) yw (by omega) (by omega) (cb_WI_0 hW)⟩
    refine ⟨L.length + 1, cy_rs (L := L) (ky := ky) (cp := cp) (Rf := cb_Rf N L ky s cr) rfl hK64 (fun ci' cq' cy' yp' yr2 hD => ?_) L.length 0 (L.length + 1) ci cq cy yp yr' (by omega) (by omega) ⟨fun y e h => ?_, fun y e _ hy => ?_⟩⟩
    · exact nm_e (hp ci' cq' cy' yp' yr2 yg' ya' ym' yw' oi' op' oc' os' hD hPY hw' hL)
    · exact nomatch h
    · obtain ⟨d1, d2, d3, d4, _⟩ := hY y e hy
      exact ⟨d1, d2, d3, d4, hR y e hy⟩
  · intro j p hj hp2
    obtain ⟨q1, q2, q3⟩ := hP j p hj hp2
    exact ⟨⟨fun z => absurd z (Nat.not_lt_zero j), fun _ => q1⟩, fun ⟨j2, z, _⟩ => absurd z (Nat.not_lt_zero j2), fun _ => q2⟩
theorem cy_s52 {post : Int32 → SY → Prop} {L : List Nat} {ky : Nat → Nat × Nat × Nat} {cp cr : Nat → Int32} {g a : Nat → Nat → Nat} {m : Nat → Nat} {w : Nat → Nat → Int32} {kd : Nat} {us : Int32} (hN : N ≤ 8) (h0 : 0 < N) (hRr : R ≤ 8) (hk : kd < 2) (hus : (kd = 0 ∧ us = 1) ∨ (kd = 1 ∧ us = 0)) (hnd : L.Nodup) (hK : K = L.length) (hK64 : K ≤ 64) (hV : cb_XV N L ky cr) (hY : cb_YL N L ky cp cr ci cq cy yp yr)
    (hP : cb_PY N g a m yg ya ym) (hB : cb_PB N g a m) (hW : ∀ i j, i < N → j < N → yw (i * 8 + j) = w i j)
    (hp : ∀ (s : CbS), s = cb_ms N kd (cb_G N (cb_Q L ky) (cb_Rs N L ky cr) g m bl kd) a R → ∀ (ci' cq' cy' yp' yr' yg' ya' ym' yw' oi' op' oc' os' ic' ou' rd' jg' jc' : Nat → Int32), (∀ y e, (L.filter (fun e => decide (¬ cb_Rf N L ky s cr e = 0)))[y]? = some e → cb_YD ky cp (cb_Rf N L ky s cr) ci' cq' cy' yp' yr' y e) →
      cb_PY N (cb_gn N s g) (cb_an N kd s a) (cb_mn N (cb_Q L ky) (cb_Rs N L ky cr) s m) yg' ya' ym' → (∀ i j, i < N → j < N → yw' (i * 8 + j) = cb_wt (cb_Q L ky) bl s w i j) → (∀ j, j < N → cb_LN s oi' op' oc' os' j ∧ cb_LS N L ky s cp cr oi' op' oc' os' j) →
      post (nI (cb_cnt (fun j => cb_le N (s.2.1 j)) N)) (nI N, nI R, nI C, nI M, sl + 1, nI (L.filter (fun e => decide (¬ cb_Rf N L ky s cr e = 0))).length, ci', cq', cy', yp', yr', bl, yg', ya', ym', yw', oi', op', oc', os', ic', ou', rd', jg', jc')) :
    ∀ d r n (ic ou rd jg jc : Nat → Int32), r + d = R → d < n → cb_YM N (cb_ms N kd (cb_G N (cb_Q L ky) (cb_Rs N L ky cr) g m bl kd) a r) ic ou rd → wY_slot_52 post us n (nI r) (nI N) (nI R) (nI C) (nI M) sl (nI K) ci cq cy yp yr bl yg ya ym yw oi op oc os ic ou rd jg jc := by
  have hF : cb_YF N K (cb_Q L ky) (cb_fx L ci cq cy) ci cq cy := by
    rw [hK]
    exact cb_YF_of hN (by omega) hV hY
  have hR := cb_YR_of hN hV hY
  have ha : ∀ i p, i < N → p < 2 → a i p < N := fun i p hi h2 => (hB i p hi h2).2.1
  have hGd : ∀ s, cb_Gd N (cb_Q L ky) (cb_Rs N L ky cr) s (cb_G N (cb_Q L ky) (cb_Rs N L ky cr) g m bl kd s) := fun s => cb_G_ok hB hk
  have hInv := cb_ms_inv (Gf := cb_G N (cb_Q L ky) (cb_Rs N L ky cr) g m bl kd) (a := a) hk ha hGd
  intro d
  induction d with
  | zero =>
    intro r n ic ou rd jg jc hr hn hM
    obtain ⟨n, rfl⟩ : ∃ q, n = q + 1 := ⟨n - 1, by omega⟩
    have e : r = R := by omega
    rw [e] at hM ⊢
    exact cy_tail hN h0 hus (Nat.le_refl _) (by omega) hnd hK hK64 hV hY hP hB hW (hInv R (by omega)) hM (fun ci' cq' cy' yp' yr' yg' ya' ym' yw' oi' op' oc' os' k1 k2 k3 k4 => hp _ rfl ci' cq' cy' yp' yr' yg' ya' ym' yw' oi' op' oc' os' ic ou rd jg jc k1 k2 k3 k4)
  | succ d ih =>
    intro r n ic ou rd jg jc hr hn hM
    obtain ⟨n, rfl⟩ : ∃ q, n = q + 1 := ⟨n - 1, by omega⟩
    have hI := hInv r (by omega)
    have hcs := cb_I_cs hI
    have hos := cb_I_os hN hI
    refine br_f (nI_ge (by omega) (by omega)) ⟨N + 1, ?_⟩
    refine cy_gs (G := cb_G N (cb_Q L ky) (cb_Rs N L ky cr) g m bl kd (cb_ms N kd (cb_G N (cb_Q L ky) (cb_Rs N L ky cr) g m bl kd) a r)) (P := fun j c i => decide ((cb_ms N kd (cb_G N (cb_Q L ky) (cb_Rs N L ky cr) g m bl kd) a r).2.1 j = none ∧ bl j = 0) && cb_rq N (cb_Q L ky) (cb_Rs N L ky cr) (cb_ms N kd (cb_G N (cb_Q L ky) (cb_Rs N L ky cr) g m bl kd) a r).1 j c i) hN hk hus hP hB (fun j hj => ?_) (fun jg' jc' j c i post' hj hc hi h1 h2 => cy_req hN hK64 hF hR hM hcs hos hi hj hc h1 h2) (fun jg' jc' hg => ?_) N 0 (N + 1) jg jc (by omega) (by omega) (fun j' h => absurd h (Nat.not_lt_zero j'))
    · rw [cb_G]
      by_cases hc : (cb_ms N kd (cb_G N (cb_Q L ky) (cb_Rs N L ky cr) g m bl kd) a r).2.1 j = none ∧ bl j = 0
      · rw [if_pos hc, decide_eq_true hc]
        rfl
      · rw [if_neg hc, decide_eq_false hc]
        refine (cb_go_none hk (fun c hc4 => ?_) 4 0 rfl).symm
        exact cb_ff_false (fun i => rfl) N 0
    · refine ⟨N + 1, cy_aa hN hk hus hP hB (cb_gsm_of (hGd _)) hg (fun ic' ou' rd' hM' => nm_r (nI_1 r) (ih (r + 1) n ic' ou' rd' jg' jc' (by omega) (by omega) hM')) N 0 (N + 1) ic ou rd (by omega) (by omega) hM⟩
theorem cy_slot {post : Int32 → SY → Prop} {L : List Nat} {ky : Nat → Nat × Nat × Nat} {cp cr : Nat → Int32} {g a : Nat → Nat → Nat} {m : Nat → Nat} {w : Nat → Nat → Int32} {kd : Nat} (hN : N ≤ 8) (h0 : 0 < N) (hRr : R ≤ 8) (hk : kd < 2) (hkd : sl &&& 1 = nI kd) (hnd : L.Nodup) (hK : K = L.length) (hK64 : K ≤ 64) (hV : cb_XV N L ky cr) (hY : cb_YL N L ky cp cr ci cq cy yp yr)
    (hP : cb_PY N g a m yg ya ym) (hB : cb_PB N g a m) (hW : ∀ i j, i < N → j < N → yw (i * 8 + j) = w i j)
    (hp : ∀ (s : CbS), s = cb_ms N kd (cb_G N (cb_Q L ky) (cb_Rs N L ky cr) g m bl kd) a R → ∀ (ci' cq' cy' yp' yr' yg' ya' ym' yw' oi' op' oc' os' ic' ou' rd' jg' jc' : Nat → Int32), (∀ y e, (L.filter (fun e => decide (¬ cb_Rf N L ky s cr e = 0)))[y]? = some e → cb_YD ky cp (cb_Rf N L ky s cr) ci' cq' cy' yp' yr' y e) →
      cb_PY N (cb_gn N s g) (cb_an N kd s a) (cb_mn N (cb_Q L ky) (cb_Rs N L ky cr) s m) yg' ya' ym' → (∀ i j, i < N → j < N → yw' (i * 8 + j) = cb_wt (cb_Q L ky) bl s w i j) → (∀ j, j < N → cb_LN s oi' op' oc' os' j ∧ cb_LS N L ky s cp cr oi' op' oc' os' j) →
      post (nI (cb_cnt (fun j => cb_le N (s.2.1 j)) N)) (nI N, nI R, nI C, nI M, sl + 1, nI (L.filter (fun e => decide (¬ cb_Rf N L ky s cr e = 0))).length, ci', cq', cy', yp', yr', bl, yg', ya', ym', yw', oi', op', oc', os', ic', ou', rd', jg', jc')) : wpY_slot post (nI N, nI R, nI C, nI M, sl, nI K, ci, cq, cy, yp, yr, bl, yg, ya, ym, yw, oi, op, oc, os, ic, ou, rd, jg, jc) := by
  have key : ∀ us : Int32, ((kd = 0 ∧ us = 1) ∨ (kd = 1 ∧ us = 0)) → ∃ n17, wY_slot_17 post us (nI N) (nI R) (nI C) (nI M) sl (nI K) n17 0 ci cq cy yp yr bl yg ya ym yw oi op oc os ic ou rd jg jc := fun us hus =>
    ⟨9, cy_17 hN (fun ic' ou' rd' hM => ⟨R + 1, cy_s52 hN h0 hRr hk hus hnd hK hK64 hV hY hP hB hW hp R 0 (R + 1) ic' ou' rd' jg jc (by omega) (by omega) hM⟩) 8 0 9 ic ou rd (by omega) (by omega) (fun j' h => absurd h (Nat.not_lt_zero j'))⟩
  show ((sl &&& 1) = 0 → _) ∧ (¬ (sl &&& 1) = 0 → _)
  rw [hkd]
  exact pk_eq kd 0 (fun e => key 1 (Or.inl ⟨e, rfl⟩)) (fun e => key 0 (Or.inr ⟨by omega, rfl⟩))
end
end
section
/-! the relation -/
def cb_LR (lf lp lc lr oi op oc os : Nat → Int32) (j : Nat) : Prop :=
  (lf j = -1 ∧ oi j = -1 ∧ op j = -1 ∧ oc j = -1 ∧ os j = -1) ∨ (∃ i, i < 8 ∧ lf j = nI i ∧ oi j = nI i ∧ lp j = op j ∧ lc j = oc j ∧ lr j = os j)
def cb_Fa (N R C M : Nat) (L F : List Nat) (ky : Nat → Nat × Nat × Nat) (g a : Nat → Nat → Nat) (m : Nat → Nat) (w : Nat → Nat → Int32) (fh : Int32) (cp cr cn qh qt qs gp ap mp wc lf lp lc lr ci cq cy yp yr yg ya ym yw oi op oc os : Nat → Int32) : Prop :=
  ((2 ≤ N ∧ N ≤ 8) ∧ R ≤ 8 ∧ C ≤ 64 ∧ M ≤ 16) ∧ cb_XQ N L F ky fh cn qh qt qs ∧ cb_XV N L ky cr ∧ cb_YL N L ky cp cr ci cq cy yp yr ∧ cb_PX N g a m gp ap mp ∧ cb_PY N g a m yg ya ym ∧ cb_PB N g a m ∧
  (∀ i j, i < N → j < N → wc (i * 8 + j) = w i j) ∧ (∀ i j, i < N → j < N → yw (i * 8 + j) = w i j) ∧ (∀ j, j < N → cb_LR lf lp lc lr oi op oc os j)
/-- the relation at the head of a turn: one pool of cells L in order of arrival, chained by queues in X, laid flat in Y -/
def i_Rel (k : Nat) (u : SX) (v : SY) : Prop := match u, v with
  | (pc, it, cl, ql, fh, uc, sl, cp, cr, cn, qh, qt, qs, gp, ap, mp, bl, wc, lf, lp, lc, lr, mc, mm, mf, ot, gi, gc), (yn, yo, yc, yl, ysl, ce, ci, cq, cy, yp, yr, ybl, yg, ya, ym, yw, oi, op, oc, os, ic, ou, rd, jg, jc) =>
    ∃ (N R C M : Nat) (L F : List Nat) (ky : Nat → Nat × Nat × Nat) (g a : Nat → Nat → Nat) (m : Nat → Nat) (w : Nat → Nat → Int32),
      (pc = nI N ∧ it = nI R ∧ cl = nI C ∧ ql = nI M ∧ uc = nI L.length ∧ yn = nI N ∧ yo = nI R ∧ yc = nI C ∧ yl = nI M ∧ ce = nI L.length ∧ ysl = sl ∧ ybl = bl) ∧
      cb_Fa N R C M L F ky g a m w fh cp cr cn qh qt qs gp ap mp wc lf lp lc lr ci cq cy yp yr yg ya ym yw oi op oc os
theorem i_up {k : Nat} {u : SX} {v : SY} (h : i_Rel k u v) : i_Rel (k + 5) u v := h
theorem cb_el {k : Nat} {P : SX → SY → Prop}
    (h : ∀ (N R C M : Nat) (L F : List Nat) (ky : Nat → Nat × Nat × Nat) (g a : Nat → Nat → Nat) (m : Nat → Nat) (w : Nat → Nat → Int32) (fh sl : Int32) (cp cr cn qh qt qs gp ap mp bl wc lf lp lc lr mc mm mf ot gi gc ci cq cy yp yr yg ya ym yw oi op oc os ic ou rd jg jc : Nat → Int32),
      cb_Fa N R C M L F ky g a m w fh cp cr cn qh qt qs gp ap mp wc lf lp lc lr ci cq cy yp yr yg ya ym yw oi op oc os → P (nI N, nI R, nI C, nI M, fh, nI L.length, sl, cp, cr, cn, qh, qt, qs, gp, ap, mp, bl, wc, lf, lp, lc, lr, mc, mm, mf, ot, gi, gc) (nI N, nI R, nI C, nI M, sl, nI L.length, ci, cq, cy, yp, yr, bl, yg, ya, ym, yw, oi, op, oc, os, ic, ou, rd, jg, jc))
    {u : SX} {v : SY} (I : i_Rel k u v) : P u v := by
  obtain ⟨pc, it, cl, ql, fh, uc, sl, cp, cr, cn, qh, qt, qs, gp, ap, mp, bl, wc, lf, lp, lc, lr, mc, mm, mf, ot, gi, gc⟩ := u
  obtain ⟨yn, yo, yc, yl, ysl, ce, ci, cq, cy, yp, yr, ybl, yg, ya, ym, yw, oi, op, oc, os, ic, ou, rd, jg, jc⟩ := v
  obtain ⟨N, R, C, M, L, F, ky, g, a, m, w, ⟨e1, e2, e3, e4, e5, e6, e7, e8, e9, e10, e11, e12⟩, hF⟩ := I
  subst e1 e2 e3 e4 e5 e6 e7 e8 e9 e10 e11 e12
  exact h N R C M L F ky g a m w fh _ cp cr cn qh qt qs gp ap mp _ wc lf lp lc lr mc mm mf ot gi gc ci cq cy yp yr yg ya ym yw oi op oc os ic ou rd jg jc hF
section
variable {N R C M : Nat} {L F : List Nat} {ky : Nat → Nat × Nat × Nat} {g a : Nat → Nat → Nat} {m : Nat → Nat} {w : Nat → Nat → Int32} {fh sl : Int32} {cp cr cn qh qt qs gp ap mp bl wc lf lp lc lr mc mm mf ot gi gc ci cq cy yp yr yg ya ym yw oi op oc os ic ou rd jg jc : Nat → Int32}
theorem cb_mkR {k : Nat} (h : cb_Fa N R C M L F ky g a m w fh cp cr cn qh qt qs gp ap mp wc lf lp lc lr ci cq cy yp yr yg ya ym yw oi op oc os) : i_Rel k (nI N, nI R, nI C, nI M, fh, nI L.length, sl, cp, cr, cn, qh, qt, qs, gp, ap, mp, bl, wc, lf, lp, lc, lr, mc, mm, mf, ot, gi, gc) (nI N, nI R, nI C, nI M, sl, nI L.length, ci, cq, cy, yp, yr, bl, yg, ya, ym, yw, oi, op, oc, os, ic, ou, rd, jg, jc) :=
  ⟨N, R, C, M, L, F, ky, g, a, m, w, ⟨rfl, rfl, rfl, rfl, rfl, rfl, rfl, rfl, rfl, rfl, rfl, rfl⟩, h⟩
end
theorem i_vc_slot {k : Nat} {u : SX} {v : SY} (I : i_Rel k u v) (hk : k + 5 ≤ 2564) : wpX_slot (fun r u' => wpY_slot (fun r' v' => r' = r ∧ i_Rel (k + 5) u' v') v) u := by
  refine cb_el (P := fun u v => wpX_slot (fun r u' => wpY_slot (fun r' v' => r' = r ∧ i_Rel (k + 5) u' v') v) u) ?_ I
  intro N R C M L F ky g a m w fh sl cp cr cn qh qt qs gp ap mp bl wc lf lp lc lr mc mm mf ot gi gc ci cq cy yp yr yg ya ym yw oi op oc os ic ou rd jg jc hF
  obtain ⟨⟨⟨hN2, hN⟩, hR, hC, hM⟩, hX, hV, hY, hPX, hPY, hPB, hwX, hwY, hL⟩ := hF
  obtain ⟨kd, hkd, ekd⟩ := pk_andE sl (m := 1) 1 (by decide)
  have hnd := (cb_nodup hX.2.2.1).1
  have h64 : L.length ≤ 64 := by
    have := hX.2.2.2.2
    omega
  refine cx_slot hN (by omega) hR hkd ekd hX hV rfl hPX hPB hwX (fun s hs hI F' fh' uc' cr' cn' qh' qt' qs' gp' ap' mp' wc' lf' lp' lc' lr' mc' mm' mf' ot' gi' gc' hS hPX' hw' => ?_)
  refine cy_slot hN (by omega) hR hkd ekd hnd rfl h64 hV hY hPY hPB hwY (fun s' hs' ci' cq' cy' yp' yr' yg' ya' ym' yw' oi' op' oc' os' ic' ou' rd' jg' jc' hD hPY' hwy' hLY => ?_)
  rw [← hs] at hs'
  subst hs'
  obtain ⟨S1, S2, S3, S4⟩ := hS
  have eLi : cb_Li N L ky s' cr N = L.filter (fun e => decide (¬ cb_Rf N L ky s' cr e = 0)) := by
    rw [cb_Li_N hV]
    exact List.filter_congr (fun e he => (cb_Rf_gx hN hV he).symm)
  rw [eLi] at S1 S2
  subst S2
  refine ⟨rfl, cb_mkR ⟨⟨⟨hN2, hN⟩, hR, hC, hM⟩, S1, ?_, ?_, hPX', hPY', cb_PB_n hPB hI, hw', hwy', ?_⟩⟩
  · intro e he
    obtain ⟨he1, he2⟩ := List.mem_filter.mp he
    rw [decide_eq_true_eq] at he2
    obtain ⟨v1, v2, v3, v4, v5⟩ := hV e he1
    rw [(S3 e he1).1 v1]
    refine ⟨v1, v2, v3, fun z => cb_nr_0 (v4 z), fun z => ⟨?_, fun b hb hbt => ?_⟩⟩
    · rw [cb_Rf, if_pos z] at he2
      exact he2
    · rw [cb_nr_bt hN hb, Bool.and_eq_true] at hbt
      exact (v5 z).2 b hb hbt.1
  · intro x e hx
    obtain ⟨d1, d2, d3, d4, d5⟩ := hD x e hx
    refine ⟨d1, d2, d3, d4, ?_⟩
    obtain ⟨he1, he2⟩ := List.mem_filter.mp (List.mem_of_getElem? hx)
    rw [decide_eq_true_eq] at he2
    rw [d5, cb_rs, (S3 e he1).1 (hV e he1).1]
    rw [cb_Rf] at he2 ⊢
    by_cases z : (ky e).2.1 = N
    · rw [if_pos z, if_pos z]
    · rw [if_neg z] at he2 ⊢
      rw [if_neg z]
      by_cases y : cb_hd N L ky s' (ky e).2.1 = some e
      · rw [if_pos y] at he2
        exact absurd rfl he2
      · rw [if_neg y]
  · intro j hj
    obtain ⟨q1, q2⟩ := hLY j hj
    obtain ⟨p1, p2⟩ := S4 j hj
    cases ho : s'.2.1 j with
    | none =>
      have z := p2 (fun ⟨i', _, z⟩ => by rw [ho] at z; exact nomatch z)
      obtain ⟨y1, y2, y3, y4⟩ := q1 ho
      exact Or.inl ⟨z, y1, y2, y3, y4⟩
    | some i =>
      obtain ⟨hi, c, hc, hok⟩ := hI.2.1 j i hj ho
      obtain ⟨e, l, _, _, _, _, _, _, hh⟩ := cb_in hI hi hc
      have hd := (hh j hj).mp ho
      obtain ⟨z1, z2, z3, z4⟩ := p1 ⟨i, hi, ho⟩ i e ho hd
      obtain ⟨y1, y2, y3, y4⟩ := q2 i e ho hd
      exact Or.inr ⟨i, by omega, z1, y1, z2.trans y2.symm, z3.trans y3.symm, z4.trans y4.symm⟩
end
section
/-! the reading methods -/
theorem cb_pc (x : Int32) {N : Nat} (hN : N ≤ 8) : (x < 0 ∨ nI N ≤ x) ∨ ∃ j, j < N ∧ x = nI j := by
  rcases pk_ix x (n := N) (by omega) with h | h | h
  · exact Or.inl (Or.inl h)
  · exact Or.inl (Or.inr h)
  · exact Or.inr h
theorem cb_rc (x : Int32) : (¬ x = 0 ∧ ¬ x = 1) ∨ ∃ p, p < 2 ∧ x = nI p := by
  by_cases h0 : x = 0
  · exact Or.inr ⟨0, by omega, h0⟩
  · by_cases h1 : x = 1
    · exact Or.inr ⟨1, by omega, h1⟩
    · exact Or.inl ⟨h0, h1⟩
section
variable {N R C M : Nat} {fh uc sl : Int32} {cp cr cn qh qt qs gp ap mp bl wc lf lp lc lr mc mm mf ot gi gc : Nat → Int32}
theorem cx_pn {post : Int32 → Prop} {x : Int32} (h : x < 0 ∨ nI N ≤ x) (hp : post 0) : wpX_isPort post (nI N, nI R, nI C, nI M, fh, uc, sl, cp, cr, cn, qh, qt, qs, gp, ap, mp, bl, wc, lf, lp, lc, lr, mc, mm, mf, ot, gi, gc) x :=
  br_c (fun _ => hp) (fun z => br_t (h.resolve_left z) hp)
theorem cx_py {post : Int32 → Prop} {j : Nat} (hN : N ≤ 8) (hj : j < N) (hp : post 1) : wpX_isPort post (nI N, nI R, nI C, nI M, fh, uc, sl, cp, cr, cn, qh, qt, qs, gp, ap, mp, bl, wc, lf, lp, lc, lr, mc, mm, mf, ot, gi, gc) (nI j) :=
  br_f (nI_pos (by omega)) (br_f (nI_ge hj (by omega)) hp)
theorem cx_rn {post : Int32 → Prop} {x : Int32} (h0 : ¬ x = 0) (h1 : ¬ x = 1) (hp : post 0) : wpX_isPriority post (nI N, nI R, nI C, nI M, fh, uc, sl, cp, cr, cn, qh, qt, qs, gp, ap, mp, bl, wc, lf, lp, lc, lr, mc, mm, mf, ot, gi, gc) x := br_f h0 (br_f h1 hp)
theorem cx_ry {post : Int32 → Prop} {p : Nat} (h : p < 2) (hp : post 1) : wpX_isPriority post (nI N, nI R, nI C, nI M, fh, uc, sl, cp, cr, cn, qh, qt, qs, gp, ap, mp, bl, wc, lf, lp, lc, lr, mc, mm, mf, ot, gi, gc) (nI p) :=
  pk_eq p 0 (fun _ => hp) (fun z => pk_eq p 1 (fun _ => hp) (fun y => by omega))
end
section
variable {N R C M K : Nat} {sl : Int32} {ci cq cy yp yr bl yg ya ym yw oi op oc os ic ou rd jg jc : Nat → Int32}
theorem cy_pn {post : Int32 → Prop} {x : Int32} (h : x < 0 ∨ nI N ≤ x) (hp : post 0) : wpY_isPort post (nI N, nI R, nI C, nI M, sl, nI K, ci, cq, cy, yp, yr, bl, yg, ya, ym, yw, oi, op, oc, os, ic, ou, rd, jg, jc) x :=
  br_c (fun _ => hp) (fun z => br_t (h.resolve_left z) hp)
theorem cy_py {post : Int32 → Prop} {j : Nat} (hN : N ≤ 8) (hj : j < N) (hp : post 1) : wpY_isPort post (nI N, nI R, nI C, nI M, sl, nI K, ci, cq, cy, yp, yr, bl, yg, ya, ym, yw, oi, op, oc, os, ic, ou, rd, jg, jc) (nI j) :=
  br_f (nI_pos (by omega)) (br_f (nI_ge hj (by omega)) hp)
theorem cy_rn {post : Int32 → Prop} {x : Int32} (h0 : ¬ x = 0) (h1 : ¬ x = 1) (hp : post 0) : wpY_isPriority post (nI N, nI R, nI C, nI M, sl, nI K, ci, cq, cy, yp, yr, bl, yg, ya, ym, yw, oi, op, oc, os, ic, ou, rd, jg, jc) x := br_f h0 (br_f h1 hp)
theorem cy_ry {post : Int32 → Prop} {p : Nat} (h : p < 2) (hp : post 1) : wpY_isPriority post (nI N, nI R, nI C, nI M, sl, nI K, ci, cq, cy, yp, yr, bl, yg, ya, ym, yw, oi, op, oc, os, ic, ou, rd, jg, jc) (nI p) :=
  pk_eq p 0 (fun _ => hp) (fun z => pk_eq p 1 (fun _ => hp) (fun y => by omega))
end
theorem i_vc_ports {k : Nat} {u : SX} {v : SY} (I : i_Rel k u v) (hk : k + 5 ≤ 2564) : wpX_ports (fun r => wpY_ports (fun r' => r' = r ∧ i_Rel (k + 5) u v) v) u := by
  refine cb_el (P := fun u v => wpX_ports (fun r => wpY_ports (fun r' => r' = r ∧ i_Rel (k + 5) u v) v) u) ?_ I
  intro N R C M L F ky g a m w fh sl cp cr cn qh qt qs gp ap mp bl wc lf lp lc lr mc mm mf ot gi gc ci cq cy yp yr yg ya ym yw oi op oc os ic ou rd jg jc hF
  have hRel := cb_mkR (k := k + 5) (R := R) (C := C) (M := M) (sl := sl) (bl := bl) (mc := mc) (mm := mm) (mf := mf) (ot := ot) (gi := gi) (gc := gc) (ic := ic) (ou := ou) (rd := rd) (jg := jg) (jc := jc) hF
  exact ⟨rfl, hRel⟩
theorem i_vc_iterations {k : Nat} {u : SX} {v : SY} (I : i_Rel k u v) (hk : k + 5 ≤ 2564) : wpX_iterations (fun r => wpY_iterations (fun r' => r' = r ∧ i_Rel (k + 5) u v) v) u := by
  refine cb_el (P := fun u v => wpX_iterations (fun r => wpY_iterations (fun r' => r' = r ∧ i_Rel (k + 5) u v) v) u) ?_ I
  intro N R C M L F ky g a m w fh sl cp cr cn qh qt qs gp ap mp bl wc lf lp lc lr mc mm mf ot gi gc ci cq cy yp yr yg ya ym yw oi op oc os ic ou rd jg jc hF
  have hRel := cb_mkR (k := k + 5) (R := R) (C := C) (M := M) (sl := sl) (bl := bl) (mc := mc) (mm := mm) (mf := mf) (ot := ot) (gi := gi) (gc := gc) (ic := ic) (ou := ou) (rd := rd) (jg := jg) (jc := jc) hF
  exact ⟨rfl, hRel⟩
theorem i_vc_capacity {k : Nat} {u : SX} {v : SY} (I : i_Rel k u v) (hk : k + 5 ≤ 2564) : wpX_capacity (fun r => wpY_capacity (fun r' => r' = r ∧ i_Rel (k + 5) u v) v) u := by
  refine cb_el (P := fun u v => wpX_capacity (fun r => wpY_capacity (fun r' => r' = r ∧ i_Rel (k + 5) u v) v) u) ?_ I
  intro N R C M L F ky g a m w fh sl cp cr cn qh qt qs gp ap mp bl wc lf lp lc lr mc mm mf ot gi gc ci cq cy yp yr yg ya ym yw oi op oc os ic ou rd jg jc hF
  have hRel := cb_mkR (k := k + 5) (R := R) (C := C) (M := M) (sl := sl) (bl := bl) (mc := mc) (mm := mm) (mf := mf) (ot := ot) (gi := gi) (gc := gc) (ic := ic) (ou := ou) (rd := rd) (jg := jg) (jc := jc) hF
  exact ⟨rfl, hRel⟩
theorem i_vc_queueLimit {k : Nat} {u : SX} {v : SY} (I : i_Rel k u v) (hk : k + 5 ≤ 2564) : wpX_queueLimit (fun r => wpY_queueLimit (fun r' => r' = r ∧ i_Rel (k + 5) u v) v) u := by
  refine cb_el (P := fun u v => wpX_queueLimit (fun r => wpY_queueLimit (fun r' => r' = r ∧ i_Rel (k + 5) u v) v) u) ?_ I
  intro N R C M L F ky g a m w fh sl cp cr cn qh qt qs gp ap mp bl wc lf lp lc lr mc mm mf ot gi gc ci cq cy yp yr yg ya ym yw oi op oc os ic ou rd jg jc hF
  have hRel := cb_mkR (k := k + 5) (R := R) (C := C) (M := M) (sl := sl) (bl := bl) (mc := mc) (mm := mm) (mf := mf) (ot := ot) (gi := gi) (gc := gc) (ic := ic) (ou := ou) (rd := rd) (jg := jg) (jc := jc) hF
  exact ⟨rfl, hRel⟩
theorem i_vc_slotCount {k : Nat} {u : SX} {v : SY} (I : i_Rel k u v) (hk : k + 5 ≤ 2564) : wpX_slotCount (fun r => wpY_slotCount (fun r' => r' = r ∧ i_Rel (k + 5) u v) v) u := by
  refine cb_el (P := fun u v => wpX_slotCount (fun r => wpY_slotCount (fun r' => r' = r ∧ i_Rel (k + 5) u v) v) u) ?_ I
  intro N R C M L F ky g a m w fh sl cp cr cn qh qt qs gp ap mp bl wc lf lp lc lr mc mm mf ot gi gc ci cq cy yp yr yg ya ym yw oi op oc os ic ou rd jg jc hF
  have hRel := cb_mkR (k := k + 5) (R := R) (C := C) (M := M) (sl := sl) (bl := bl) (mc := mc) (mm := mm) (mf := mf) (ot := ot) (gi := gi) (gc := gc) (ic := ic) (ou := ou) (rd := rd) (jg := jg) (jc := jc) hF
  exact ⟨rfl, hRel⟩
theorem i_vc_freeCells {k : Nat} {u : SX} {v : SY} (I : i_Rel k u v) (hk : k + 5 ≤ 2564) : wpX_freeCells (fun r => wpY_freeCells (fun r' => r' = r ∧ i_Rel (k + 5) u v) v) u := by
  refine cb_el (P := fun u v => wpX_freeCells (fun r => wpY_freeCells (fun r' => r' = r ∧ i_Rel (k + 5) u v) v) u) ?_ I
  intro N R C M L F ky g a m w fh sl cp cr cn qh qt qs gp ap mp bl wc lf lp lc lr mc mm mf ot gi gc ci cq cy yp yr yg ya ym yw oi op oc os ic ou rd jg jc hF
  have hRel := cb_mkR (k := k + 5) (R := R) (C := C) (M := M) (sl := sl) (bl := bl) (mc := mc) (mm := mm) (mf := mf) (ot := ot) (gi := gi) (gc := gc) (ic := ic) (ou := ou) (rd := rd) (jg := jg) (jc := jc) hF
  exact ⟨rfl, hRel⟩
theorem i_vc_backpressured {k : Nat} {u : SX} {v : SY} (I : i_Rel k u v) (hk : k + 5 ≤ 2564) (v1 : Int32) : wpX_backpressured (fun r => wpY_backpressured (fun r' => r' = r ∧ i_Rel (k + 5) u v) v v1) u v1 := by
  refine cb_el (P := fun u v => wpX_backpressured (fun r => wpY_backpressured (fun r' => r' = r ∧ i_Rel (k + 5) u v) v v1) u v1) ?_ I
  intro N R C M L F ky g a m w fh sl cp cr cn qh qt qs gp ap mp bl wc lf lp lc lr mc mm mf ot gi gc ci cq cy yp yr yg ya ym yw oi op oc os ic ou rd jg jc hF
  have hRel := cb_mkR (k := k + 5) (R := R) (C := C) (M := M) (sl := sl) (bl := bl) (mc := mc) (mm := mm) (mf := mf) (ot := ot) (gi := gi) (gc := gc) (ic := ic) (ou := ou) (rd := rd) (jg := jg) (jc := jc) hF
  unfold wpX_backpressured wpY_backpressured
  dsimp only
  obtain ⟨⟨⟨hN2, hN⟩, hR, hC, hM⟩, hX, hV, hY, hPX, hPY, hPB, hwX, hwY, hL⟩ := id hF
  rcases cb_pc v1 (N := N) hN with h | ⟨j, hj, rfl⟩
  · exact cx_pn h (br_t rfl (cy_pn h (br_t rfl ⟨rfl, hRel⟩)))
  · have hin : vp_in (nI j) 8 := vp_in_nI (by omega) (by omega)
    refine cx_py hN hj (br_f (by decide) (And.intro hin (br_c (fun z => cy_py hN hj (br_f (by decide) (And.intro hin (br_t z ⟨rfl, hRel⟩)))) (fun z => cy_py hN hj (br_f (by decide) (And.intro hin (br_f z ⟨rfl, hRel⟩)))))))
theorem i_vc_lineInput {k : Nat} {u : SX} {v : SY} (I : i_Rel k u v) (hk : k + 5 ≤ 2564) (v1 : Int32) : wpX_lineInput (fun r => wpY_lineInput (fun r' => r' = r ∧ i_Rel (k + 5) u v) v v1) u v1 := by
  refine cb_el (P := fun u v => wpX_lineInput (fun r => wpY_lineInput (fun r' => r' = r ∧ i_Rel (k + 5) u v) v v1) u v1) ?_ I
  intro N R C M L F ky g a m w fh sl cp cr cn qh qt qs gp ap mp bl wc lf lp lc lr mc mm mf ot gi gc ci cq cy yp yr yg ya ym yw oi op oc os ic ou rd jg jc hF
  have hRel := cb_mkR (k := k + 5) (R := R) (C := C) (M := M) (sl := sl) (bl := bl) (mc := mc) (mm := mm) (mf := mf) (ot := ot) (gi := gi) (gc := gc) (ic := ic) (ou := ou) (rd := rd) (jg := jg) (jc := jc) hF
  unfold wpX_lineInput wpY_lineInput wpX_hasLine
  dsimp only
  obtain ⟨⟨⟨hN2, hN⟩, hR, hC, hM⟩, hX, hV, hY, hPX, hPY, hPB, hwX, hwY, hL⟩ := id hF
  rcases cb_pc v1 (N := N) hN with h | ⟨j, hj, rfl⟩
  · exact cx_pn h (br_t rfl (br_t rfl (cy_pn h (br_t rfl ⟨rfl, hRel⟩))))
  · have hin : vp_in (nI j) 8 := vp_in_nI (by omega) (by omega)
    have ec := nI_clamp (show j < 2 ^ 31 by omega)
    refine cx_py hN hj (br_f (by decide) (And.intro hin ?_))
    rw [ec]
    rcases hL j hj with ⟨e1, y1, y2, y3, y4⟩ | ⟨i, hi, e1, e2, e3, e4, e5⟩
    · refine br_t (by rw [e1]; exact cb_m1) (br_t rfl (cy_py hN hj (br_f (by decide) (And.intro hin ⟨?_, hRel⟩))))
      exact y1
    · refine br_f (by rw [e1]; exact nI_pos (by omega)) (br_f (by decide) (And.intro hin (cy_py hN hj (br_f (by decide) (And.intro hin ⟨?_, hRel⟩)))))
      exact (e2.trans e1.symm)
theorem i_vc_linePayload {k : Nat} {u : SX} {v : SY} (I : i_Rel k u v) (hk : k + 5 ≤ 2564) (v1 : Int32) : wpX_linePayload (fun r => wpY_linePayload (fun r' => r' = r ∧ i_Rel (k + 5) u v) v v1) u v1 := by
  refine cb_el (P := fun u v => wpX_linePayload (fun r => wpY_linePayload (fun r' => r' = r ∧ i_Rel (k + 5) u v) v v1) u v1) ?_ I
  intro N R C M L F ky g a m w fh sl cp cr cn qh qt qs gp ap mp bl wc lf lp lc lr mc mm mf ot gi gc ci cq cy yp yr yg ya ym yw oi op oc os ic ou rd jg jc hF
  have hRel := cb_mkR (k := k + 5) (R := R) (C := C) (M := M) (sl := sl) (bl := bl) (mc := mc) (mm := mm) (mf := mf) (ot := ot) (gi := gi) (gc := gc) (ic := ic) (ou := ou) (rd := rd) (jg := jg) (jc := jc) hF
  unfold wpX_linePayload wpY_linePayload wpX_hasLine
  dsimp only
  obtain ⟨⟨⟨hN2, hN⟩, hR, hC, hM⟩, hX, hV, hY, hPX, hPY, hPB, hwX, hwY, hL⟩ := id hF
  rcases cb_pc v1 (N := N) hN with h | ⟨j, hj, rfl⟩
  · exact cx_pn h (br_t rfl (br_t rfl (cy_pn h (br_t rfl ⟨rfl, hRel⟩))))
  · have hin : vp_in (nI j) 8 := vp_in_nI (by omega) (by omega)
    have ec := nI_clamp (show j < 2 ^ 31 by omega)
    refine cx_py hN hj (br_f (by decide) (And.intro hin ?_))
    rw [ec]
    rcases hL j hj with ⟨e1, y1, y2, y3, y4⟩ | ⟨i, hi, e1, e2, e3, e4, e5⟩
    · refine br_t (by rw [e1]; exact cb_m1) (br_t rfl (cy_py hN hj (br_f (by decide) (And.intro hin ⟨?_, hRel⟩))))
      exact y2
    · refine br_f (by rw [e1]; exact nI_pos (by omega)) (br_f (by decide) (And.intro hin (cy_py hN hj (br_f (by decide) (And.intro hin ⟨?_, hRel⟩)))))
      exact e3.symm
theorem i_vc_lineClass {k : Nat} {u : SX} {v : SY} (I : i_Rel k u v) (hk : k + 5 ≤ 2564) (v1 : Int32) : wpX_lineClass (fun r => wpY_lineClass (fun r' => r' = r ∧ i_Rel (k + 5) u v) v v1) u v1 := by
  refine cb_el (P := fun u v => wpX_lineClass (fun r => wpY_lineClass (fun r' => r' = r ∧ i_Rel (k + 5) u v) v v1) u v1) ?_ I
  intro N R C M L F ky g a m w fh sl cp cr cn qh qt qs gp ap mp bl wc lf lp lc lr mc mm mf ot gi gc ci cq cy yp yr yg ya ym yw oi op oc os ic ou rd jg jc hF
  have hRel := cb_mkR (k := k + 5) (R := R) (C := C) (M := M) (sl := sl) (bl := bl) (mc := mc) (mm := mm) (mf := mf) (ot := ot) (gi := gi) (gc := gc) (ic := ic) (ou := ou) (rd := rd) (jg := jg) (jc := jc) hF
  unfold wpX_lineClass wpY_lineClass wpX_hasLine
  dsimp only
  obtain ⟨⟨⟨hN2, hN⟩, hR, hC, hM⟩, hX, hV, hY, hPX, hPY, hPB, hwX, hwY, hL⟩ := id hF
  rcases cb_pc v1 (N := N) hN with h | ⟨j, hj, rfl⟩
  · exact cx_pn h (br_t rfl (br_t rfl (cy_pn h (br_t rfl ⟨rfl, hRel⟩))))
  · have hin : vp_in (nI j) 8 := vp_in_nI (by omega) (by omega)
    have ec := nI_clamp (show j < 2 ^ 31 by omega)
    refine cx_py hN hj (br_f (by decide) (And.intro hin ?_))
    rw [ec]
    rcases hL j hj with ⟨e1, y1, y2, y3, y4⟩ | ⟨i, hi, e1, e2, e3, e4, e5⟩
    · refine br_t (by rw [e1]; exact cb_m1) (br_t rfl (cy_py hN hj (br_f (by decide) (And.intro hin ⟨?_, hRel⟩))))
      exact y3
    · refine br_f (by rw [e1]; exact nI_pos (by omega)) (br_f (by decide) (And.intro hin (cy_py hN hj (br_f (by decide) (And.intro hin ⟨?_, hRel⟩)))))
      exact e4.symm
theorem i_vc_lineResidue {k : Nat} {u : SX} {v : SY} (I : i_Rel k u v) (hk : k + 5 ≤ 2564) (v1 : Int32) : wpX_lineResidue (fun r => wpY_lineResidue (fun r' => r' = r ∧ i_Rel (k + 5) u v) v v1) u v1 := by
  refine cb_el (P := fun u v => wpX_lineResidue (fun r => wpY_lineResidue (fun r' => r' = r ∧ i_Rel (k + 5) u v) v v1) u v1) ?_ I
  intro N R C M L F ky g a m w fh sl cp cr cn qh qt qs gp ap mp bl wc lf lp lc lr mc mm mf ot gi gc ci cq cy yp yr yg ya ym yw oi op oc os ic ou rd jg jc hF
  have hRel := cb_mkR (k := k + 5) (R := R) (C := C) (M := M) (sl := sl) (bl := bl) (mc := mc) (mm := mm) (mf := mf) (ot := ot) (gi := gi) (gc := gc) (ic := ic) (ou := ou) (rd := rd) (jg := jg) (jc := jc) hF
  unfold wpX_lineResidue wpY_lineResidue wpX_hasLine
  dsimp only
  obtain ⟨⟨⟨hN2, hN⟩, hR, hC, hM⟩, hX, hV, hY, hPX, hPY, hPB, hwX, hwY, hL⟩ := id hF
  rcases cb_pc v1 (N := N) hN with h | ⟨j, hj, rfl⟩
  · exact cx_pn h (br_t rfl (br_t rfl (cy_pn h (br_t rfl ⟨rfl, hRel⟩))))
  · have hin : vp_in (nI j) 8 := vp_in_nI (by omega) (by omega)
    have ec := nI_clamp (show j < 2 ^ 31 by omega)
    refine cx_py hN hj (br_f (by decide) (And.intro hin ?_))
    rw [ec]
    rcases hL j hj with ⟨e1, y1, y2, y3, y4⟩ | ⟨i, hi, e1, e2, e3, e4, e5⟩
    · refine br_t (by rw [e1]; exact cb_m1) (br_t rfl (cy_py hN hj (br_f (by decide) (And.intro hin ⟨?_, hRel⟩))))
      exact y4
    · refine br_f (by rw [e1]; exact nI_pos (by omega)) (br_f (by decide) (And.intro hin (cy_py hN hj (br_f (by decide) (And.intro hin ⟨?_, hRel⟩)))))
      exact e5.symm
theorem i_vc_grantPointer {k : Nat} {u : SX} {v : SY} (I : i_Rel k u v) (hk : k + 5 ≤ 2564) (v1 : Int32) (v2 : Int32) : wpX_grantPointer (fun r => wpY_grantPointer (fun r' => r' = r ∧ i_Rel (k + 5) u v) v v1 v2) u v1 v2 := by
  refine cb_el (P := fun u v => wpX_grantPointer (fun r => wpY_grantPointer (fun r' => r' = r ∧ i_Rel (k + 5) u v) v v1 v2) u v1 v2) ?_ I
  intro N R C M L F ky g a m w fh sl cp cr cn qh qt qs gp ap mp bl wc lf lp lc lr mc mm mf ot gi gc ci cq cy yp yr yg ya ym yw oi op oc os ic ou rd jg jc hF
  have hRel := cb_mkR (k := k + 5) (R := R) (C := C) (M := M) (sl := sl) (bl := bl) (mc := mc) (mm := mm) (mf := mf) (ot := ot) (gi := gi) (gc := gc) (ic := ic) (ou := ou) (rd := rd) (jg := jg) (jc := jc) hF
  unfold wpX_grantPointer wpY_grantPointer
  dsimp only
  obtain ⟨⟨⟨hN2, hN⟩, hR, hC, hM⟩, hX, hV, hY, hPX, hPY, hPB, hwX, hwY, hL⟩ := id hF
  rcases cb_pc v1 (N := N) hN with h | ⟨j, hj, rfl⟩
  · exact cx_pn h (br_t rfl (cy_pn h (br_t rfl ⟨rfl, hRel⟩)))
  · refine cx_py hN hj (br_f (by decide) ?_)
    rcases cb_rc v2 with ⟨h1, h2⟩ | ⟨p, hp, rfl⟩
    · exact cx_rn h1 h2 (br_t rfl (cy_py hN hj (br_f (by decide) (cy_rn h1 h2 (br_t rfl ⟨rfl, hRel⟩)))))
    · refine cx_ry hp (br_f (by decide) (And.intro ?_ (cy_py hN hj (br_f (by decide) (cy_ry hp (br_f (by decide) (And.intro ?_ ⟨?_, hRel⟩)))))))
      · rw [cb_i8]
        exact vp_in_nI (by omega) (by omega)
      · rw [cb_i2]
        exact vp_in_nI (by omega) (by omega)
      · rw [cb_i8, cb_i2, nI_clamp (show p * 8 + j < 2 ^ 31 by omega), nI_clamp (show j * 2 + p < 2 ^ 31 by omega), (hPX j p hj hp).1, (hPY j p hj hp).1]
theorem i_vc_acceptPointer {k : Nat} {u : SX} {v : SY} (I : i_Rel k u v) (hk : k + 5 ≤ 2564) (v1 : Int32) (v2 : Int32) : wpX_acceptPointer (fun r => wpY_acceptPointer (fun r' => r' = r ∧ i_Rel (k + 5) u v) v v1 v2) u v1 v2 := by
  refine cb_el (P := fun u v => wpX_acceptPointer (fun r => wpY_acceptPointer (fun r' => r' = r ∧ i_Rel (k + 5) u v) v v1 v2) u v1 v2) ?_ I
  intro N R C M L F ky g a m w fh sl cp cr cn qh qt qs gp ap mp bl wc lf lp lc lr mc mm mf ot gi gc ci cq cy yp yr yg ya ym yw oi op oc os ic ou rd jg jc hF
  have hRel := cb_mkR (k := k + 5) (R := R) (C := C) (M := M) (sl := sl) (bl := bl) (mc := mc) (mm := mm) (mf := mf) (ot := ot) (gi := gi) (gc := gc) (ic := ic) (ou := ou) (rd := rd) (jg := jg) (jc := jc) hF
  unfold wpX_acceptPointer wpY_acceptPointer
  dsimp only
  obtain ⟨⟨⟨hN2, hN⟩, hR, hC, hM⟩, hX, hV, hY, hPX, hPY, hPB, hwX, hwY, hL⟩ := id hF
  rcases cb_pc v1 (N := N) hN with h | ⟨j, hj, rfl⟩
  · exact cx_pn h (br_t rfl (cy_pn h (br_t rfl ⟨rfl, hRel⟩)))
  · refine cx_py hN hj (br_f (by decide) ?_)
    rcases cb_rc v2 with ⟨h1, h2⟩ | ⟨p, hp, rfl⟩
    · exact cx_rn h1 h2 (br_t rfl (cy_py hN hj (br_f (by decide) (cy_rn h1 h2 (br_t rfl ⟨rfl, hRel⟩)))))
    · refine cx_ry hp (br_f (by decide) (And.intro ?_ (cy_py hN hj (br_f (by decide) (cy_ry hp (br_f (by decide) (And.intro ?_ ⟨?_, hRel⟩)))))))
      · rw [cb_i8]
        exact vp_in_nI (by omega) (by omega)
      · rw [cb_i2]
        exact vp_in_nI (by omega) (by omega)
      · rw [cb_i8, cb_i2, nI_clamp (show p * 8 + j < 2 ^ 31 by omega), nI_clamp (show j * 2 + p < 2 ^ 31 by omega), (hPX j p hj hp).2.1, (hPY j p hj hp).2.1]
theorem i_vc_multicastPointer {k : Nat} {u : SX} {v : SY} (I : i_Rel k u v) (hk : k + 5 ≤ 2564) (v1 : Int32) : wpX_multicastPointer (fun r => wpY_multicastPointer (fun r' => r' = r ∧ i_Rel (k + 5) u v) v v1) u v1 := by
  refine cb_el (P := fun u v => wpX_multicastPointer (fun r => wpY_multicastPointer (fun r' => r' = r ∧ i_Rel (k + 5) u v) v v1) u v1) ?_ I
  intro N R C M L F ky g a m w fh sl cp cr cn qh qt qs gp ap mp bl wc lf lp lc lr mc mm mf ot gi gc ci cq cy yp yr yg ya ym yw oi op oc os ic ou rd jg jc hF
  have hRel := cb_mkR (k := k + 5) (R := R) (C := C) (M := M) (sl := sl) (bl := bl) (mc := mc) (mm := mm) (mf := mf) (ot := ot) (gi := gi) (gc := gc) (ic := ic) (ou := ou) (rd := rd) (jg := jg) (jc := jc) hF
  unfold wpX_multicastPointer wpY_multicastPointer
  dsimp only
  obtain ⟨⟨⟨hN2, hN⟩, hR, hC, hM⟩, hX, hV, hY, hPX, hPY, hPB, hwX, hwY, hL⟩ := id hF
  rcases cb_rc v1 with ⟨h1, h2⟩ | ⟨p, hp, rfl⟩
  · exact cx_rn h1 h2 (br_t rfl (cy_rn h1 h2 (br_t rfl ⟨rfl, hRel⟩)))
  · have hin : vp_in (nI p) 2 := vp_in_nI hp (by omega)
    refine cx_ry hp (br_f (by decide) (And.intro hin (cy_ry hp (br_f (by decide) (And.intro hin ⟨?_, hRel⟩)))))
    rw [nI_clamp (show p < 2 ^ 31 by omega), (hPX 0 p (by omega) hp).2.2, (hPY 0 p (by omega) hp).2.2]
theorem i_vc_waiting {k : Nat} {u : SX} {v : SY} (I : i_Rel k u v) (hk : k + 5 ≤ 2564) (v1 : Int32) (v2 : Int32) : wpX_waiting (fun r => wpY_waiting (fun r' => r' = r ∧ i_Rel (k + 5) u v) v v1 v2) u v1 v2 := by
  refine cb_el (P := fun u v => wpX_waiting (fun r => wpY_waiting (fun r' => r' = r ∧ i_Rel (k + 5) u v) v v1 v2) u v1 v2) ?_ I
  intro N R C M L F ky g a m w fh sl cp cr cn qh qt qs gp ap mp bl wc lf lp lc lr mc mm mf ot gi gc ci cq cy yp yr yg ya ym yw oi op oc os ic ou rd jg jc hF
  have hRel := cb_mkR (k := k + 5) (R := R) (C := C) (M := M) (sl := sl) (bl := bl) (mc := mc) (mm := mm) (mf := mf) (ot := ot) (gi := gi) (gc := gc) (ic := ic) (ou := ou) (rd := rd) (jg := jg) (jc := jc) hF
  unfold wpX_waiting wpY_waiting
  dsimp only
  obtain ⟨⟨⟨hN2, hN⟩, hR, hC, hM⟩, hX, hV, hY, hPX, hPY, hPB, hwX, hwY, hL⟩ := id hF
  rcases cb_pc v1 (N := N) hN with h | ⟨i, hi, rfl⟩
  · exact cx_pn h (br_t rfl (cy_pn h (br_t rfl ⟨rfl, hRel⟩)))
  · refine cx_py hN hi (br_f (by decide) ?_)
    rcases cb_pc v2 (N := N) hN with h | ⟨j, hj, rfl⟩
    · exact cx_pn h (br_t rfl (cy_py hN hi (br_f (by decide) (cy_pn h (br_t rfl ⟨rfl, hRel⟩)))))
    · have hin : vp_in ((nI i * 8) + nI j) 64 := by
        rw [cb_i8]
        exact vp_in_nI (by omega) (by omega)
      refine cx_py hN hj (br_f (by decide) (And.intro hin (cy_py hN hi (br_f (by decide) (cy_py hN hj (br_f (by decide) (And.intro hin ⟨?_, hRel⟩)))))))
      rw [cb_i8, nI_clamp (show i * 8 + j < 2 ^ 31 by omega), hwX i j hi hj, hwY i j hi hj]
theorem i_vc_setBackpressure {k : Nat} {u : SX} {v : SY} (I : i_Rel k u v) (hk : k + 5 ≤ 2564) (v1 : Int32) (v2 : Int32) : wpX_setBackpressure (fun r u' => wpY_setBackpressure (fun r' v' => r' = r ∧ i_Rel (k + 5) u' v') v v1 (lw_bz v2)) u v1 (lw_bz v2) := by
  refine cb_el (P := fun u v => wpX_setBackpressure (fun r u' => wpY_setBackpressure (fun r' v' => r' = r ∧ i_Rel (k + 5) u' v') v v1 (lw_bz v2)) u v1 (lw_bz v2)) ?_ I
  intro N R C M L F ky g a m w fh sl cp cr cn qh qt qs gp ap mp bl wc lf lp lc lr mc mm mf ot gi gc ci cq cy yp yr yg ya ym yw oi op oc os ic ou rd jg jc hF
  unfold wpX_setBackpressure wpY_setBackpressure
  dsimp only
  obtain ⟨⟨⟨hN2, hN⟩, hR, hC, hM⟩, hX, hV, hY, hPX, hPY, hPB, hwX, hwY, hL⟩ := id hF
  rcases cb_pc v1 (N := N) hN with h | ⟨j, hj, rfl⟩
  · exact cx_pn h (br_t rfl (cy_pn h (br_t rfl ⟨rfl, cb_mkR hF⟩)))
  · have hin : vp_in (nI j) 8 := vp_in_nI (by omega) (by omega)
    exact cx_py hN hj (br_f (by decide) (And.intro hin (nm_e (cy_py hN hj (br_f (by decide) (And.intro hin (nm_e ⟨rfl, cb_mkR hF⟩)))))))
end
section
/-! reading queues -/
def cb_isq (N : Nat) (v1 v2 v3 : Int32) : Prop := ∃ i v p, i < N ∧ v ≤ N ∧ p < 2 ∧ v1 = nI i ∧ v2 = nI v ∧ v3 = nI p
theorem cb_fd_false {B : Nat → Bool} {K : Nat} (h : ∀ x, x < K → B x = false) : ∀ d x k, x + d ≤ K → cb_fd B d x k = none := by
  intro d
  induction d with
  | zero => intro x k _; rfl
  | succ d ih =>
    intro x k hx
    rw [cb_fd_f (h x (by omega))]
    exact ih (x + 1) k (by omega)
theorem cb_B_bad {N : Nat} {L : List Nat} {ky : Nat → Nat × Nat × Nat} {cp cr ci cq cy yp yr : Nat → Int32} {v1 v2 v3 : Int32} (hV : cb_XV N L ky cr) (hY : cb_YL N L ky cp cr ci cq cy yp yr) (hb : ¬ cb_isq N v1 v2 v3) : ∀ x, x < L.length → cb_B ci cq cy v1 v2 v3 x = false := by
  intro x hx
  have hge := List.getElem?_eq_getElem hx
  obtain ⟨d1, d2, d3, _⟩ := hY x _ hge
  obtain ⟨k1, k2, k3, _⟩ := hV _ (List.mem_of_getElem? hge)
  refine decide_eq_false (fun ⟨z1, z2, z3⟩ => hb ⟨_, _, _, k1, k2, k3, ?_, ?_, ?_⟩)
  · rw [← z1, d1]
  · rw [← z2, d2]
  · rw [← z3, d3]
theorem cb_cnt_list {B f : Nat → Bool} {L : List Nat} (hB : ∀ x e, L[x]? = some e → B x = f e) : ∀ n, n ≤ L.length → cb_cnt B n = ((L.take n).filter f).length := by
  intro n
  induction n with
  | zero => intro _; rfl
  | succ n ih =>
    intro hn
    have hge := List.getElem?_eq_getElem (show n < L.length by omega)
    rw [cb_cnt, ih (by omega), cb_take_s hge, List.length_append, hB n _ hge]
    congr 1
    split <;> rfl
section
variable {N R C M : Nat} {fh uc sl : Int32} {cp cr cn qh qt qs gp ap mp bl wc lf lp lc lr mc mm mf ot gi gc : Nat → Int32}
theorem cx_qy {post : Int32 → Prop} {i v p : Nat} (hN : N ≤ 8) (hi : i < N) (hv : v ≤ N) (hp : p < 2) (h : post 1) : wpX_isQueue post (nI N, nI R, nI C, nI M, fh, uc, sl, cp, cr, cn, qh, qt, qs, gp, ap, mp, bl, wc, lf, lp, lc, lr, mc, mm, mf, ot, gi, gc) (nI i) (nI v) (nI p) := by
  unfold wpX_isQueue
  exact cx_py hN hi (br_f (by decide) (br_f (nI_pos (by omega)) (br_f (nI_nlt hv (by omega)) (cx_ry hp (br_f (by decide) h)))))
theorem cx_qn {post : Int32 → Prop} {v1 v2 v3 : Int32} (hN : N ≤ 8) (hb : ¬ cb_isq N v1 v2 v3) (h : post 0) : wpX_isQueue post (nI N, nI R, nI C, nI M, fh, uc, sl, cp, cr, cn, qh, qt, qs, gp, ap, mp, bl, wc, lf, lp, lc, lr, mc, mm, mf, ot, gi, gc) v1 v2 v3 := by
  unfold wpX_isQueue
  rcases cb_pc v1 (N := N) hN with z | ⟨i, hi, rfl⟩
  · exact cx_pn z (br_t rfl h)
  · refine cx_py hN hi (br_f (by decide) (br_c (fun _ => h) (fun z1 => br_c (fun _ => h) (fun z2 => ?_))))
    rcases cb_rc v3 with ⟨h1, h2⟩ | ⟨p, hp, rfl⟩
    · exact cx_rn h1 h2 (br_t rfl h)
    · obtain ⟨v, hv, rfl⟩ := nI_of z1
      refine absurd ⟨i, v, p, hi, ?_, hp, rfl, rfl, rfl⟩ hb
      refine Nat.not_lt.mp (fun y => z2 (nI_lt y hv))
theorem cx_ca26 {post : Int32 → Prop} {pos : Nat} (hpos : pos < 2 ^ 31) : ∀ (k t n : Nat) (l : List Nat) (h : Int32), t + k = pos → k < n → cb_Ch cn h l → (∀ e, e ∈ l → e < 64) → (∃ e, l[k]? = some e ∧ post (nI e)) → wX_cellAt_26 post (nI pos) (nI N) (nI R) (nI C) (nI M) fh uc sl cp cr cn qh qt qs gp ap mp bl wc lf lp lc lr mc mm mf ot gi gc n h (nI t) := by
  intro k
  induction k with
  | zero =>
    intro t n l h ht hn hc hm ⟨e, he, hp⟩
    obtain ⟨n, rfl⟩ : ∃ q, n = q + 1 := ⟨n - 1, by omega⟩
    cases l with
    | nil => exact nomatch he
    | cons a l =>
      cases he
      refine br_t (nI_le (by omega) (by omega)) ?_
      rw [hc.1]
      exact hp
  | succ k ih =>
    intro t n l h ht hn hc hm ⟨e, he, hp⟩
    obtain ⟨n, rfl⟩ : ∃ q, n = q + 1 := ⟨n - 1, by omega⟩
    cases l with
    | nil => exact nomatch he
    | cons a l =>
      have ha := hm a List.mem_cons_self
      rw [hc.1]
      refine br_f (nI_ge (by omega) (by omega)) (And.intro (vp_in_nI ha (by omega)) ?_)
      rw [nI_clamp (show a < 2 ^ 31 by omega)]
      exact nm_e (nm_r (nI_1 t) (ih (t + 1) n l (cn a) (by omega) (by omega) hc.2 (fun e' he' => hm e' (List.mem_cons_of_mem _ he')) ⟨e, by rw [List.getElem?_cons_succ] at he; exact he, hp⟩))
theorem cx_ca {post : Int32 → Prop} {L F : List Nat} {ky : Nat → Nat × Nat × Nat} {i v p k : Nat} (hN : N ≤ 8) (hX : cb_XQ N L F ky fh cn qh qt qs) (hi : i < N) (hv : v ≤ N) (hp : p < 2) (hk : k < 2 ^ 31)
    (h0 : (cb_ql L ky (i, v, p)).length ≤ k → post (-1)) (h1 : ∀ e, (cb_ql L ky (i, v, p))[k]? = some e → e < 64 → post (nI e)) : wpX_cellAt post (nI N, nI R, nI C, nI M, fh, uc, sl, cp, cr, cn, qh, qt, qs, gp, ap, mp, bl, wc, lf, lp, lc, lr, mc, mm, mf, ot, gi, gc) (nI ((i * 9 + v) * 2 + p)) (nI k) := by
  obtain ⟨Y1, Y2, _⟩ := hX.1 i v p hi hv hp
  have hl64 := cb_ql_len (L := L) (ky := ky) (k := (i, v, p))
  have h64 := hX.2.2.2.2
  have hinq : vp_in (nI ((i * 9 + v) * 2 + p)) 144 := vp_in_nI (by omega) (by omega)
  have hm : ∀ e, e ∈ cb_ql L ky (i, v, p) → e < 64 := fun e he => hX.2.2.2.1 e (List.mem_append_left _ (cb_ql_mem.mp he).1)
  refine br_f (nI_pos hk) ?_
  rw [nI_clamp (show (i * 9 + v) * 2 + p < 2 ^ 31 by omega), Y1]
  refine And.intro hinq (pk_lt k (cb_ql L ky (i, v, p)).length (fun z => And.intro hinq (nm_e ⟨k + 1, ?_⟩)) (fun z => h0 z) rfl rfl hk (by omega))
  have hge := List.getElem?_eq_getElem z
  exact cx_ca26 hk k 0 (k + 1) _ _ (by omega) (by omega) Y2 hm ⟨_, hge, h1 _ hge (hm _ (List.getElem_mem z))⟩
end
section
variable {N R C M K : Nat} {sl : Int32} {ci cq cy yp yr bl yg ya ym yw oi op oc os ic ou rd jg jc : Nat → Int32}
theorem cy_ql36 {post : Int32 → Prop} {a1 a2 a3 : Int32} (hK : K ≤ 64) (hp : post (nI (cb_cnt (cb_B ci cq cy a1 a2 a3) K))) : ∀ d x n, x + d = K → d < n → wY_queueLength_36 post a1 a2 a3 (nI N) (nI R) (nI C) (nI M) sl (nI K) ci cq cy yp yr bl yg ya ym yw oi op oc os ic ou rd jg jc n (nI (cb_cnt (cb_B ci cq cy a1 a2 a3) x)) (nI x) := by
  intro d
  induction d with
  | zero =>
    intro x n hx hn
    obtain ⟨n, rfl⟩ : ∃ q, n = q + 1 := ⟨n - 1, by omega⟩
    have e : x = K := by omega
    rw [e]
    exact br_t (nI_le (by omega) (by omega)) hp
  | succ d ih =>
    intro x n hx hn
    obtain ⟨n, rfl⟩ : ∃ q, n = q + 1 := ⟨n - 1, by omega⟩
    have hin : vp_in (nI x) 64 := vp_in_nI (by omega) (by omega)
    have h2 := ih (x + 1) n (by omega) (by omega)
    rw [cb_cnt] at h2
    have hnx : ¬ (ci x = a1 ∧ cq x = a2 ∧ cy x = a3) → wY_queueLength_36 post a1 a2 a3 (nI N) (nI R) (nI C) (nI M) sl (nI K) ci cq cy yp yr bl yg ya ym yw oi op oc os ic ou rd jg jc n (nI (cb_cnt (cb_B ci cq cy a1 a2 a3) x)) (nI (x + 1)) := by
      intro z
      rw [show cb_B ci cq cy a1 a2 a3 x = false from decide_eq_false z, if_neg (by decide), Nat.add_zero] at h2
      exact h2
    refine br_f (nI_ge (by omega) (by omega)) ?_
    rw [nI_clamp (show x < 2 ^ 31 by omega)]
    refine And.intro hin (br_c (fun h1 => And.intro hin (br_c (fun h4 => And.intro hin (br_c (fun h3 => ?_) (fun z => nm_r (nI_1 x) (hnx (fun y => z y.2.2))))) (fun z => nm_r (nI_1 x) (hnx (fun y => z y.2.1))))) (fun z => nm_r (nI_1 x) (hnx (fun y => z y.1))))
    rw [show cb_B ci cq cy a1 a2 a3 x = true from decide_eq_true ⟨h1, h4, h3⟩, if_pos rfl] at h2
    exact nm_r (nI_1 _) (nm_r (nI_1 x) h2)
theorem cy_qlen {post : Int32 → Prop} {L : List Nat} {ky : Nat → Nat × Nat × Nat} {cp cr : Nat → Int32} {i v p : Nat} (hN : N ≤ 8) (hK : K = L.length) (hK64 : K ≤ 64) (hV : cb_XV N L ky cr) (hY : cb_YL N L ky cp cr ci cq cy yp yr) (hi : i < N) (hv : v ≤ N) (hp2 : p < 2) (h : post (nI (cb_ql L ky (i, v, p)).length)) : wpY_queueLength post (nI N, nI R, nI C, nI M, sl, nI K, ci, cq, cy, yp, yr, bl, yg, ya, ym, yw, oi, op, oc, os, ic, ou, rd, jg, jc) (nI i) (nI v) (nI p) := by
  unfold wpY_queueLength
  refine cy_py hN hi (br_f (by decide) (br_f (nI_pos (by omega)) (br_f (nI_nlt hv (by omega)) (cy_ry hp2 (br_f (by decide) ⟨K + 1, ?_⟩)))))
  refine cy_ql36 hK64 ?_ K 0 (K + 1) (by omega) (by omega)
  have e := cb_cnt_list (B := cb_B ci cq cy (nI i) (nI v) (nI p)) (f := fun e => decide (ky e = (i, v, p))) (L := L) (cb_B_ky hN hV hY (by omega) (by omega) (by omega)) L.length (Nat.le_refl _)
  rw [List.take_length] at e
  rw [hK, e]
  exact h
theorem cy_qlenb {post : Int32 → Prop} {v1 v2 v3 : Int32} (hN : N ≤ 8) (hb : ¬ cb_isq N v1 v2 v3) (h : post (-1)) : wpY_queueLength post (nI N, nI R, nI C, nI M, sl, nI K, ci, cq, cy, yp, yr, bl, yg, ya, ym, yw, oi, op, oc, os, ic, ou, rd, jg, jc) v1 v2 v3 := by
  unfold wpY_queueLength
  rcases cb_pc v1 (N := N) hN with z | ⟨i, hi, rfl⟩
  · exact cy_pn z (br_t rfl h)
  · refine cy_py hN hi (br_f (by decide) (br_c (fun _ => h) (fun z1 => br_c (fun _ => h) (fun z2 => ?_))))
    rcases cb_rc v3 with ⟨h1, h2⟩ | ⟨p, hp, rfl⟩
    · exact cy_rn h1 h2 (br_t rfl h)
    · obtain ⟨v, hv, rfl⟩ := nI_of z1
      refine absurd ⟨i, v, p, hi, ?_, hp, rfl, rfl, rfl⟩ hb
      refine Nat.not_lt.mp (fun y => z2 (nI_lt y hv))
/-- find, whatever is asked -/
theorem cy_findb {post : Int32 → Prop} {L : List Nat} {ky : Nat → Nat × Nat × Nat} {cp cr : Nat → Int32} {v1 v2 v3 v4 : Int32} (hK : K = L.length) (hK64 : K ≤ 64) (hV : cb_XV N L ky cr) (hY : cb_YL N L ky cp cr ci cq cy yp yr) (hb : ¬ cb_isq N v1 v2 v3) (h : post (-1)) : wpY_find post (nI N, nI R, nI C, nI M, sl, nI K, ci, cq, cy, yp, yr, bl, yg, ya, ym, yw, oi, op, oc, os, ic, ou, rd, jg, jc) v1 v2 v3 v4 := by
  by_cases h4 : v4 < 0
  · exact cy_findn hK64 h4 h
  · obtain ⟨k, hk, rfl⟩ := nI_of h4
    refine cy_find hK64 hk ?_
    rw [cb_fd_false (K := K) (by rw [hK]; exact cb_B_bad hV hY hb) K 0 k (by omega)]
    exact h
end
-- THE OWED
theorem i_vc_queueLength {k : Nat} {u : SX} {v : SY} (I : i_Rel k u v) (hk : k + 5 ≤ 2564) (v1 : Int32) (v2 : Int32) (v3 : Int32) : wpX_queueLength (fun r => wpY_queueLength (fun r' => r' = r ∧ i_Rel (k + 5) u v) v v1 v2 v3) u v1 v2 v3 := by
  refine cb_el (P := fun u v => wpX_queueLength (fun r => wpY_queueLength (fun r' => r' = r ∧ i_Rel (k + 5) u v) v v1 v2 v3) u v1 v2 v3) ?_ I
  intro N R C M L F ky g a m w fh sl cp cr cn qh qt qs gp ap mp bl wc lf lp lc lr mc mm mf ot gi gc ci cq cy yp yr yg ya ym yw oi op oc os ic ou rd jg jc hF
  have hRel := cb_mkR (k := k + 5) (R := R) (C := C) (M := M) (sl := sl) (bl := bl) (mc := mc) (mm := mm) (mf := mf) (ot := ot) (gi := gi) (gc := gc) (ic := ic) (ou := ou) (rd := rd) (jg := jg) (jc := jc) hF
  unfold wpX_queueLength
  dsimp only
  obtain ⟨⟨⟨hN2, hN⟩, hR, hC, hM⟩, hX, hV, hY, hPX, hPY, hPB, hwX, hwY, hL⟩ := id hF
  have h64 : L.length ≤ 64 := by
    have := hX.2.2.2.2
    omega
  by_cases hq : cb_isq N v1 v2 v3
  · obtain ⟨i, w', p, hi, hv, hp, rfl, rfl, rfl⟩ := hq
    refine cx_qy hN hi hv hp (br_f (by decide) (cx_qi (And.intro (vp_in_nI (by omega) (by omega)) (cy_qlen hN rfl h64 hV hY hi hv hp ⟨?_, hRel⟩))))
    rw [nI_clamp (show (i * 9 + w') * 2 + p < 2 ^ 31 by omega)]
    exact (hX.1 i w' p hi hv hp).1.symm
  · exact cx_qn hN hq (br_t rfl (cy_qlenb hN hq ⟨rfl, hRel⟩))
theorem i_vc_queuedPayload {k : Nat} {u : SX} {v : SY} (I : i_Rel k u v) (hk : k + 5 ≤ 2564) (v1 : Int32) (v2 : Int32) (v3 : Int32) (v4 : Int32) : wpX_queuedPayload (fun r => wpY_queuedPayload (fun r' => r' = r ∧ i_Rel (k + 5) u v) v v1 v2 v3 v4) u v1 v2 v3 v4 := by
  refine cb_el (P := fun u v => wpX_queuedPayload (fun r => wpY_queuedPayload (fun r' => r' = r ∧ i_Rel (k + 5) u v) v v1 v2 v3 v4) u v1 v2 v3 v4) ?_ I
  intro N R C M L F ky g a m w fh sl cp cr cn qh qt qs gp ap mp bl wc lf lp lc lr mc mm mf ot gi gc ci cq cy yp yr yg ya ym yw oi op oc os ic ou rd jg jc hF
  have hRel := cb_mkR (k := k + 5) (R := R) (C := C) (M := M) (sl := sl) (bl := bl) (mc := mc) (mm := mm) (mf := mf) (ot := ot) (gi := gi) (gc := gc) (ic := ic) (ou := ou) (rd := rd) (jg := jg) (jc := jc) hF
  unfold wpX_queuedPayload wpY_queuedPayload
  dsimp only
  obtain ⟨⟨⟨hN2, hN⟩, hR, hC, hM⟩, hX, hV, hY, hPX, hPY, hPB, hwX, hwY, hL⟩ := id hF
  have h64 : L.length ≤ 64 := by
    have := hX.2.2.2.2
    omega
  by_cases hq : cb_isq N v1 v2 v3
  · obtain ⟨i, w', p, hi, hv, hp, rfl, rfl, rfl⟩ := hq
    refine cx_qy hN hi hv hp (br_f (by decide) (cx_qi ?_))
    by_cases h4 : v4 < 0
    · refine br_t h4 (br_f cb_m1le (cy_findn h64 h4 (br_f cb_m1le ⟨rfl, hRel⟩)))
    · obtain ⟨q, hq, rfl⟩ := nI_of h4
      obtain ⟨f1, f2⟩ := cb_fd_ql hN hV hY (i := i) (v := w') (p := p) (by omega) (by omega) (by omega) q
      cases hf : cb_fd (cb_B ci cq cy (nI i) (nI w') (nI p)) L.length 0 q with
      | none =>
        have hle := f1 hf
        refine cx_ca hN hX hi hv hp hq (fun _ => br_f cb_m1le (cy_find h64 hq ?_)) (fun e he _ => ?_)
        · rw [hf]
          exact br_f cb_m1le ⟨rfl, hRel⟩
        · rw [List.getElem?_eq_none hle] at he
          exact nomatch he
      | some y =>
        obtain ⟨g1, g2⟩ := f2 y hf
        have hge := List.getElem?_eq_getElem g2
        rw [hge] at g1
        refine cx_ca hN hX hi hv hp hq (fun z => ?_) (fun e he he64 => ?_)
        · rw [List.getElem?_eq_none z] at g1
          exact nomatch g1
        · rw [he] at g1
          have ge := Option.some.inj g1
          refine br_t (nI_pos' (by omega)) (And.intro (vp_in_nI he64 (by omega)) (cy_find h64 hq ?_))
          rw [hf]
          refine br_t (nI_pos' (by omega)) (And.intro (vp_in_nI (by omega) (by omega)) ⟨?_, hRel⟩)
          rw [cb_ois, nI_clamp (show y < 2 ^ 31 by omega), nI_clamp (show e < 2 ^ 31 by omega), ← ge]
          exact (hY y _ hge).2.2.2.1
  · exact cx_qn hN hq (br_t rfl (cy_findb rfl h64 hV hY hq (br_f cb_m1le ⟨rfl, hRel⟩)))
theorem i_vc_multicastMask {k : Nat} {u : SX} {v : SY} (I : i_Rel k u v) (hk : k + 5 ≤ 2564) (v1 : Int32) (v2 : Int32) (v3 : Int32) : wpX_multicastMask (fun r => wpY_multicastMask (fun r' => r' = r ∧ i_Rel (k + 5) u v) v v1 v2 v3) u v1 v2 v3 := by
  refine cb_el (P := fun u v => wpX_multicastMask (fun r => wpY_multicastMask (fun r' => r' = r ∧ i_Rel (k + 5) u v) v v1 v2 v3) u v1 v2 v3) ?_ I
  intro N R C M L F ky g a m w fh sl cp cr cn qh qt qs gp ap mp bl wc lf lp lc lr mc mm mf ot gi gc ci cq cy yp yr yg ya ym yw oi op oc os ic ou rd jg jc hF
  have hRel := cb_mkR (k := k + 5) (R := R) (C := C) (M := M) (sl := sl) (bl := bl) (mc := mc) (mm := mm) (mf := mf) (ot := ot) (gi := gi) (gc := gc) (ic := ic) (ou := ou) (rd := rd) (jg := jg) (jc := jc) hF
  unfold wpX_multicastMask wpY_multicastMask
  dsimp only
  obtain ⟨⟨⟨hN2, hN⟩, hR, hC, hM⟩, hX, hV, hY, hPX, hPY, hPB, hwX, hwY, hL⟩ := id hF
  have h64 : L.length ≤ 64 := by
    have := hX.2.2.2.2
    omega
  by_cases hq : cb_isq N v1 (nI N) v2
  · obtain ⟨i, w', p, hi, hv, hp, rfl, ew, rfl⟩ := hq
    have ew' : N = w' := (nI_eq (by omega) (by omega)).mp ew
    subst ew'
    refine cx_qy hN hi hv hp (br_f (by decide) (cx_qi ?_))
    by_cases h4 : v3 < 0
    · refine br_t h4 (br_f cb_m1le (cy_findn h64 h4 (br_f cb_m1le ⟨rfl, hRel⟩)))
    · obtain ⟨q, hq, rfl⟩ := nI_of h4
      obtain ⟨f1, f2⟩ := cb_fd_ql hN hV hY (i := i) (v := N) (p := p) (by omega) (by omega) (by omega) q
      cases hf : cb_fd (cb_B ci cq cy (nI i) (nI N) (nI p)) L.length 0 q with
      | none =>
        have hle := f1 hf
        refine cx_ca hN hX hi hv hp hq (fun _ => br_f cb_m1le (cy_find h64 hq ?_)) (fun e he _ => ?_)
        · rw [hf]
          exact br_f cb_m1le ⟨rfl, hRel⟩
        · rw [List.getElem?_eq_none hle] at he
          exact nomatch he
      | some y =>
        obtain ⟨g1, g2⟩ := f2 y hf
        have hge := List.getElem?_eq_getElem g2
        rw [hge] at g1
        refine cx_ca hN hX hi hv hp hq (fun z => ?_) (fun e he he64 => ?_)
        · rw [List.getElem?_eq_none z] at g1
          exact nomatch g1
        · rw [he] at g1
          have ge := Option.some.inj g1
          refine br_t (nI_pos' (by omega)) (And.intro (vp_in_nI he64 (by omega)) (cy_find h64 hq ?_))
          rw [hf]
          refine br_t (nI_pos' (by omega)) (And.intro (vp_in_nI (by omega) (by omega)) ⟨?_, hRel⟩)
          rw [cb_ois, nI_clamp (show y < 2 ^ 31 by omega), nI_clamp (show e < 2 ^ 31 by omega), ← ge]
          have hk1 := (cb_ql_mem.mp (List.mem_of_getElem? he)).2
          rw [← ge] at hk1
          rw [(hY y _ hge).2.2.2.2, cb_rs, if_pos (by rw [hk1])]
  · exact cx_qn hN hq (br_t rfl (cy_findb rfl h64 hV hY hq (br_f cb_m1le ⟨rfl, hRel⟩)))
end
section
/-! arrivals -/
def cb_kn (ky : Nat → Nat × Nat × Nat) (c : Nat) (k : Nat × Nat × Nat) : Nat → Nat × Nat × Nat := fun x => if x = c then k else ky x
theorem cb_Fa_add {N R C M : Nat} {L F : List Nat} {ky : Nat → Nat × Nat × Nat} {g a : Nat → Nat → Nat} {m : Nat → Nat} {w : Nat → Nat → Int32} {fh fh' : Int32} {cp cr cn qh qt qs gp ap mp wc lf lp lc lr ci cq cy yp yr yg ya ym yw oi op oc os cn' qh' qt' qs' : Nat → Int32} {i v p c : Nat} {pay rx ry : Int32}
    (hF : cb_Fa N R C M L (c :: F) ky g a m w fh cp cr cn qh qt qs gp ap mp wc lf lp lc lr ci cq cy yp yr yg ya ym yw oi op oc os) (hi : i < N) (hv : v ≤ N) (hp : p < 2)
    (hX' : cb_XQ N (L ++ [c]) F (cb_kn ky c (i, v, p)) fh' cn' qh' qt' qs')
    (h0 : v < N → rx = 0 ∧ ry = (1 : Int32) <<< (nI v &&& 31)) (h1 : v = N → rx = ry ∧ ¬ rx = 0 ∧ ∀ b, b < 32 → bt rx b = true → b < N) :
    cb_Fa N R C M (L ++ [c]) F (cb_kn ky c (i, v, p)) g a m w fh' (upd cp c pay) (upd cr c rx) cn' qh' qt' qs' gp ap mp wc lf lp lc lr (upd ci L.length (nI i)) (upd cq L.length (nI v)) (upd cy L.length (nI p)) (upd yp L.length pay) (upd yr L.length ry) yg ya ym yw oi op oc os := by
  obtain ⟨hB, hX, hV, hY, hPX, hPY, hPB, hwX, hwY, hL⟩ := hF
  have hcL : c ∉ L := fun z => (cb_nodup hX.2.2.1).2.2 c z List.mem_cons_self
  have hkc : cb_kn ky c (i, v, p) c = (i, v, p) := if_pos rfl
  have hke : ∀ e, e ∈ L → cb_kn ky c (i, v, p) e = ky e ∧ e ≠ c := fun e he => ⟨if_neg (fun (z : e = c) => hcL (z ▸ he)), fun z => hcL (z ▸ he)⟩
  refine ⟨hB, hX', fun e he => ?_, fun x e hx => ?_, hPX, hPY, hPB, hwX, hwY, hL⟩
  · rcases List.mem_append.mp he with z | z
    · obtain ⟨k1, k2⟩ := hke e z
      rw [k1, pk_un k2]
      exact hV e z
    · have ec := List.mem_singleton.mp z
      subst ec
      rw [hkc, pk_us]
      exact ⟨hi, hv, hp, fun y => (h0 y).1, fun y => (h1 y).2⟩
  · by_cases hlt : x < L.length
    · rw [List.getElem?_append_left hlt] at hx
      obtain ⟨k1, k2⟩ := hke e (List.mem_of_getElem? hx)
      have hne : x ≠ L.length := by omega
      rw [cb_YD, cb_rs, k1, pk_un hne, pk_un hne, pk_un hne, pk_un hne, pk_un hne, pk_un k2, pk_un k2]
      exact hY x e hx
    · have hl := (List.getElem?_eq_some_iff.mp hx).1
      rw [List.length_append, List.length_singleton] at hl
      have ex : x = L.length := by omega
      rw [List.getElem?_append_right (by omega), ex, Nat.sub_self] at hx
      cases hx
      rw [ex, cb_YD, cb_rs, hkc, pk_us, pk_us, pk_us, pk_us, pk_us, pk_us, pk_us]
      refine ⟨rfl, rfl, rfl, rfl, ?_⟩
      by_cases hvN : v = N
      · rw [if_pos hvN]
        exact (h1 hvN).1.symm
      · rw [if_neg hvN]
        exact (h0 (by omega)).2
section
variable {N R C M : Nat} {fh uc sl : Int32} {cp cr cn qh qt qs gp ap mp bl wc lf lp lc lr mc mm mf ot gi gc : Nat → Int32}
theorem cx_e121 {post : Int32 → SX → Prop} {q c n : Nat} (hq : q < 144) (hs : qs q = nI n) (h : post 0 (nI N, nI R, nI C, nI M, fh, uc, sl, cp, cr, cn, qh, upd qt q (nI c), upd qs q (nI (n + 1)), gp, ap, mp, bl, wc, lf, lp, lc, lr, mc, mm, mf, ot, gi, gc)) : wX_enqueue_121 post (nI q) (nI c) (nI N) (nI R) (nI C) (nI M) fh uc sl cp cr cn qh qt qs gp ap mp bl wc lf lp lc lr mc mm mf ot gi gc := by
  have hin : vp_in (nI q) 144 := vp_in_nI hq (by omega)
  unfold wX_enqueue_121
  rw [nI_clamp (show q < 2 ^ 31 by omega), hs, nI_1]
  exact And.intro hin (nm_e (And.intro hin (And.intro hin (nm_e h))))
theorem cx_enq {post : Int32 → SX → Prop} {L F : List Nat} {ky : Nat → Nat × Nat × Nat} {i v p : Nat} {pay res : Int32} (hN : N ≤ 8) (hC : C ≤ 64) (hM : M ≤ 16) (hX : cb_XQ N L F ky fh cn qh qt qs) (hu : uc = nI L.length) (hi : i < N) (hv : v ≤ N) (hp : p < 2)
    (h7 : ¬ (cb_ql L ky (i, v, p)).length < M → post (-7) (nI N, nI R, nI C, nI M, fh, uc, sl, cp, cr, cn, qh, qt, qs, gp, ap, mp, bl, wc, lf, lp, lc, lr, mc, mm, mf, ot, gi, gc)) (h8 : (cb_ql L ky (i, v, p)).length < M → ¬ L.length < C → post (-8) (nI N, nI R, nI C, nI M, fh, uc, sl, cp, cr, cn, qh, qt, qs, gp, ap, mp, bl, wc, lf, lp, lc, lr, mc, mm, mf, ot, gi, gc))
    (h0 : (cb_ql L ky (i, v, p)).length < M → L.length < C → ∀ (c : Nat) (F' : List Nat) (fh' : Int32) (cn' qh' qt' qs' : Nat → Int32), F = c :: F' → cb_XQ N (L ++ [c]) F' (cb_kn ky c (i, v, p)) fh' cn' qh' qt' qs' → post 0 (nI N, nI R, nI C, nI M, fh', nI (L.length + 1), sl, upd cp c pay, upd cr c res, cn', qh', qt', qs', gp, ap, mp, bl, wc, lf, lp, lc, lr, mc, mm, mf, ot, gi, gc)) :
    wpX_enqueue post (nI N, nI R, nI C, nI M, fh, uc, sl, cp, cr, cn, qh, qt, qs, gp, ap, mp, bl, wc, lf, lp, lc, lr, mc, mm, mf, ot, gi, gc) (nI ((i * 9 + v) * 2 + p)) pay res := by
  obtain ⟨Y1, Y2, Y3⟩ := hX.1 i v p hi hv hp
  have hl64 := cb_ql_len (L := L) (ky := ky) (k := (i, v, p))
  have h64 := hX.2.2.2.2
  have hq : (i * 9 + v) * 2 + p < 144 := by omega
  have hinq : vp_in (nI ((i * 9 + v) * 2 + p)) 144 := vp_in_nI hq (by omega)
  subst hu
  refine And.intro hinq ?_
  rw [nI_clamp (show (i * 9 + v) * 2 + p < 2 ^ 31 by omega), Y1]
  refine pk_lt _ M (fun z7 => pk_le C L.length (fun z8 => h8 z7 (by omega)) (fun z8 => ?_)) (fun z7 => h7 (by omega)) rfl rfl (by omega) (by omega)
  have h0' := h0 z7 z8
  cases F with
  | nil =>
    rw [List.length_nil] at h64
    omega
  | cons c F =>
    have hfc : fh = nI c := hX.2.1.1
    subst hfc
    have hc64 := hX.2.2.2.1 c (List.mem_append_right _ List.mem_cons_self)
    have hinc : vp_in (nI c) 64 := vp_in_nI hc64 (by omega)
    rw [nI_clamp (show c < 2 ^ 31 by omega)]
    refine br_t (nI_pos' (by omega)) (And.intro hinc (nm_e (nm_r (nI_1 _) (And.intro hinc (nm_e (And.intro hinc (nm_e (And.intro hinc (nm_e (And.intro hinq ?_))))))))))
    have hkn : ∀ x, x ≠ c → cb_kn ky c (i, v, p) x = ky x := fun x hx => if_neg hx
    cases hql : cb_ql L ky (i, v, p) with
    | nil =>
      refine br_t rfl (And.intro hinq (nm_e (cx_e121 hq Y1 ?_)))
      exact h0' c F _ _ _ _ _ rfl (cb_XQ_add hN hX hi hv hp (if_pos rfl) hkn (Or.inl ⟨hql, rfl, rfl⟩))
    | cons e l =>
      obtain ⟨t, ht⟩ : ∃ t, (cb_ql L ky (i, v, p)).getLast? = some t := by
        rw [hql]
        exact ⟨_, List.getLast?_cons⟩
      have ht64 := hX.2.2.2.1 t (List.mem_append_left _ (cb_ql_mem.mp (List.mem_of_getLast? ht)).1)
      rw [hql, List.length_cons] at hl64
      rw [Y3 t ht, nI_clamp (show t < 2 ^ 31 by omega)]
      refine br_f (nI_ne0 (by rw [List.length_cons]; omega) (by rw [List.length_cons]; omega)) (And.intro hinq (And.intro (vp_in_nI ht64 (by omega)) (nm_e (cx_e121 hq Y1 ?_))))
      exact h0' c F _ _ _ _ _ rfl (cb_XQ_add hN hX hi hv hp (if_pos rfl) hkn (Or.inr ⟨t, ht, rfl, rfl⟩))
end
section
variable {N R C M K : Nat} {sl : Int32} {ci cq cy yp yr bl yg ya ym yw oi op oc os ic ou rd jg jc : Nat → Int32}
theorem cy_appp {post : Int32 → SY → Prop} {a1 a2 x pay ry : Int32} (h0 : ¬ x = 0) (h1 : ¬ x = 1) (h : post (-5) (nI N, nI R, nI C, nI M, sl, nI K, ci, cq, cy, yp, yr, bl, yg, ya, ym, yw, oi, op, oc, os, ic, ou, rd, jg, jc)) : wpY_append post (nI N, nI R, nI C, nI M, sl, nI K, ci, cq, cy, yp, yr, bl, yg, ya, ym, yw, oi, op, oc, os, ic, ou, rd, jg, jc) a1 a2 x pay ry := by
  unfold wpY_append
  exact cy_rn h0 h1 (br_t rfl h)
theorem cy_appl {post : Int32 → SY → Prop} {a1 a2 pay ry : Int32} {p : Nat} (hp : p < 2) (hb : pay < 0 ∨ ¬ pay ≤ 65535) (h : post (-6) (nI N, nI R, nI C, nI M, sl, nI K, ci, cq, cy, yp, yr, bl, yg, ya, ym, yw, oi, op, oc, os, ic, ou, rd, jg, jc)) : wpY_append post (nI N, nI R, nI C, nI M, sl, nI K, ci, cq, cy, yp, yr, bl, yg, ya, ym, yw, oi, op, oc, os, ic, ou, rd, jg, jc) a1 a2 (nI p) pay ry := by
  unfold wpY_append
  exact cy_ry hp (br_f (by decide) (br_c (fun _ => h) (fun z => br_f (hb.resolve_left z) h)))
theorem cy_app {post : Int32 → SY → Prop} {L : List Nat} {ky : Nat → Nat × Nat × Nat} {cp cr : Nat → Int32} {i v p : Nat} {pay ry : Int32} (hN : N ≤ 8) (hC : C ≤ 64) (hM : M ≤ 16) (hK : K = L.length) (hK64 : K ≤ 64) (hV : cb_XV N L ky cr) (hY : cb_YL N L ky cp cr ci cq cy yp yr) (hi : i < N) (hv : v ≤ N) (hp : p < 2) (hl : ¬ pay < 0) (hh : pay ≤ 65535)
    (h7 : ¬ (cb_ql L ky (i, v, p)).length < M → post (-7) (nI N, nI R, nI C, nI M, sl, nI K, ci, cq, cy, yp, yr, bl, yg, ya, ym, yw, oi, op, oc, os, ic, ou, rd, jg, jc)) (h8 : (cb_ql L ky (i, v, p)).length < M → ¬ L.length < C → post (-8) (nI N, nI R, nI C, nI M, sl, nI K, ci, cq, cy, yp, yr, bl, yg, ya, ym, yw, oi, op, oc, os, ic, ou, rd, jg, jc))
    (h0 : (cb_ql L ky (i, v, p)).length < M → L.length < C → post 0 (nI N, nI R, nI C, nI M, sl, nI (L.length + 1), upd ci L.length (nI i), upd cq L.length (nI v), upd cy L.length (nI p), upd yp L.length pay, upd yr L.length ry, bl, yg, ya, ym, yw, oi, op, oc, os, ic, ou, rd, jg, jc)) : wpY_append post (nI N, nI R, nI C, nI M, sl, nI K, ci, cq, cy, yp, yr, bl, yg, ya, ym, yw, oi, op, oc, os, ic, ou, rd, jg, jc) (nI i) (nI v) (nI p) pay ry := by
  have hl64 := cb_ql_len (L := L) (ky := ky) (k := (i, v, p))
  subst hK
  unfold wpY_append
  refine cy_ry hp (br_f (by decide) (br_f hl (br_t hh (cy_qlen hN rfl hK64 hV hY hi hv hp ?_))))
  refine pk_lt _ M (fun z7 => pk_lt L.length C (fun z8 => ?_) (fun z8 => h8 z7 (by omega))) (fun z7 => h7 (by omega)) rfl rfl (by omega) (by omega)
  have hin : vp_in (nI L.length) 64 := vp_in_nI (by omega) (by omega)
  rw [nI_clamp (show L.length < 2 ^ 31 by omega)]
  exact And.intro hin (nm_e (And.intro hin (nm_e (And.intro hin (nm_e (And.intro hin (nm_e (And.intro hin (nm_e (nm_r (nI_1 _) (h0 z7 z8)))))))))))
end
theorem cb_len1 {L : List Nat} {c : Nat} : nI (L.length + 1) = nI (L ++ [c]).length := by
  rw [List.length_append]
  rfl
theorem i_vc_arrive {k : Nat} {u : SX} {v : SY} (I : i_Rel k u v) (hk : k + 5 ≤ 2564) (v1 : Int32) (v2 : Int32) (v3 : Int32) (v4 : Int32) : wpX_arrive (fun r u' => wpY_arrive (fun r' v' => r' = r ∧ i_Rel (k + 5) u' v') v v1 v2 v3 v4) u v1 v2 v3 v4 := by
  refine cb_el (P := fun u v => wpX_arrive (fun r u' => wpY_arrive (fun r' v' => r' = r ∧ i_Rel (k + 5) u' v') v v1 v2 v3 v4) u v1 v2 v3 v4) ?_ I
  intro N R C M L F ky g a m w fh sl cp cr cn qh qt qs gp ap mp bl wc lf lp lc lr mc mm mf ot gi gc ci cq cy yp yr yg ya ym yw oi op oc os ic ou rd jg jc hF
  obtain ⟨⟨⟨hN2, hN⟩, hR, hC, hM⟩, hX, hV, hY, hPX, hPY, hPB, hwX, hwY, hL⟩ := id hF
  have h64 : L.length ≤ 64 := by
    have := hX.2.2.2.2
    omega
  unfold wpX_arrive wpY_arrive
  dsimp only
  rcases cb_pc v1 (N := N) hN with h | ⟨i, hi, rfl⟩
  · exact cx_pn h (br_t rfl (cy_pn h (br_t rfl ⟨rfl, cb_mkR hF⟩)))
  refine cx_py hN hi (br_f (by decide) ?_)
  rcases cb_pc v2 (N := N) hN with h | ⟨j, hj, rfl⟩
  · exact cx_pn h (br_t rfl (cy_py hN hi (br_f (by decide) (cy_pn h (br_t rfl ⟨rfl, cb_mkR hF⟩)))))
  refine cx_py hN hj (br_f (by decide) ?_)
  rcases cb_rc v3 with ⟨h1, h2⟩ | ⟨p, hp, rfl⟩
  · exact cx_rn h1 h2 (br_t rfl (cy_py hN hi (br_f (by decide) (cy_py hN hj (br_f (by decide) (cy_appp h1 h2 ⟨rfl, cb_mkR hF⟩))))))
  refine cx_ry hp (br_f (by decide) ?_)
  by_cases hl : v4 < 0
  · exact br_t hl (br_t rfl (cy_py hN hi (br_f (by decide) (cy_py hN hj (br_f (by decide) (cy_appl hp (Or.inl hl) ⟨rfl, cb_mkR hF⟩))))))
  refine br_f hl ?_
  by_cases hh : 65535 < v4
  · exact br_t hh (br_t rfl (cy_py hN hi (br_f (by decide) (cy_py hN hj (br_f (by decide) (cy_appl hp (Or.inr (Int32.not_le.mpr hh)) ⟨rfl, cb_mkR hF⟩))))))
  refine br_f hh (br_f (by decide) (cx_qi (cx_enq hN hC hM hX rfl hi (Nat.le_of_lt hj) hp (fun z7 => ?_) (fun z7 z8 => ?_) (fun z7 z8 c F' fh' cn' qh' qt' qs' eF hX' => ?_))))
  · refine cy_py hN hi (br_f (by decide) (cy_py hN hj (br_f (by decide) (cy_app hN hC hM rfl h64 hV hY hi (Nat.le_of_lt hj) hp hl (Int32.not_lt.mp hh) (fun _ => ⟨rfl, cb_mkR hF⟩) (fun y _ => absurd y z7) (fun y _ => absurd y z7)))))
  · refine cy_py hN hi (br_f (by decide) (cy_py hN hj (br_f (by decide) (cy_app hN hC hM rfl h64 hV hY hi (Nat.le_of_lt hj) hp hl (Int32.not_lt.mp hh) (fun y => absurd z7 y) (fun _ _ => ⟨rfl, cb_mkR hF⟩) (fun _ y => absurd y z8)))))
  · refine cy_py hN hi (br_f (by decide) (cy_py hN hj (br_f (by decide) (cy_app hN hC hM rfl h64 hV hY hi (Nat.le_of_lt hj) hp hl (Int32.not_lt.mp hh) (fun y => absurd z7 y) (fun _ y => absurd z8 y) (fun _ _ => ⟨rfl, ?_⟩)))))
    subst eF
    rw [cb_len1 (c := c)]
    exact cb_mkR (cb_Fa_add hF hi (Nat.le_of_lt hj) hp hX' (fun _ => ⟨rfl, rfl⟩) (fun z => absurd z (by omega)))
theorem cb_mask {N : Nat} (hN : N ≤ 8) : ((1 : Int32) <<< (nI N &&& 31)) - 1 = nI (2 ^ N - 1) ∧ 2 ^ N ≤ 256 := by
  have h1 : 2 ^ N ≤ 2 ^ 8 := Nat.pow_le_pow_right (by omega) hN
  have h2 : 0 < 2 ^ N := Nat.two_pow_pos N
  have e : (1 : Int32) <<< (nI N &&& 31) = nI (2 ^ N) := by
    have := pk_shlN (n := 1) (nI N &&& 31) N (s_l N (by omega)) (by omega)
    rw [Nat.one_mul] at this
    exact this
  refine ⟨?_, h1⟩
  rw [e, show (1 : Int32) = nI 1 from rfl, pk_sub (by omega)]
theorem cb_mbits {N q b : Nat} (hN : N ≤ 8) (hq : q < 2 ^ N) (hb : b < 32) (h : bt (nI q) b = true) : b < N := by
  refine Nat.not_le.mp (fun z => ?_)
  have e : bt (nI q) b = q.testBit b := by
    show (BitVec.ofNat 32 q).getLsbD b = _
    rw [BitVec.getLsbD_ofNat, decide_eq_true hb, Bool.true_and]
  rw [e, Nat.testBit_lt_two_pow (Nat.lt_of_lt_of_le hq (Nat.pow_le_pow_right (by omega) z))] at h
  exact nomatch h
theorem i_vc_arriveMulticast {k : Nat} {u : SX} {v : SY} (I : i_Rel k u v) (hk : k + 5 ≤ 2564) (v1 : Int32) (v2 : Int32) (v3 : Int32) (v4 : Int32) : wpX_arriveMulticast (fun r u' => wpY_arriveMulticast (fun r' v' => r' = r ∧ i_Rel (k + 5) u' v') v v1 v2 v3 v4) u v1 v2 v3 v4 := by
  refine cb_el (P := fun u v => wpX_arriveMulticast (fun r u' => wpY_arriveMulticast (fun r' v' => r' = r ∧ i_Rel (k + 5) u' v') v v1 v2 v3 v4) u v1 v2 v3 v4) ?_ I
  intro N R C M L F ky g a m w fh sl cp cr cn qh qt qs gp ap mp bl wc lf lp lc lr mc mm mf ot gi gc ci cq cy yp yr yg ya ym yw oi op oc os ic ou rd jg jc hF
  obtain ⟨⟨⟨hN2, hN⟩, hR, hC, hM⟩, hX, hV, hY, hPX, hPY, hPB, hwX, hwY, hL⟩ := id hF
  have h64 : L.length ≤ 64 := by
    have := hX.2.2.2.2
    omega
  unfold wpX_arriveMulticast wpY_arriveMulticast
  dsimp only
  rcases cb_pc v1 (N := N) hN with h | ⟨i, hi, rfl⟩
  · exact cx_pn h (br_t rfl (cy_pn h (br_t rfl ⟨rfl, cb_mkR hF⟩)))
  refine cx_py hN hi (br_f (by decide) ?_)
  by_cases hm1 : v2 < 1
  · exact br_t hm1 (cy_py hN hi (br_f (by decide) (br_t hm1 ⟨rfl, cb_mkR hF⟩)))
  refine br_f hm1 ?_
  by_cases hm2 : v2 ≤ (((1 : Int32) <<< (nI N &&& 31)) - 1)
  · refine br_t hm2 ?_
    obtain ⟨em, hm256⟩ := cb_mask hN
    obtain ⟨q, hq1, hq2, rfl⟩ : ∃ q, 1 ≤ q ∧ q < 2 ^ N ∧ v2 = nI q := by
      have hn : ¬ v2 < 0 := by
        intro z
        apply hm1
        rw [Int32.lt_iff_toInt_lt] at z ⊢
        rw [show (1 : Int32).toInt = 1 from by decide]
        rw [show (0 : Int32).toInt = 0 from by decide] at z
        omega
      obtain ⟨q, hq, rfl⟩ := nI_of hn
      rw [em, nI_leI hq (by omega)] at hm2
      have h2 : 0 < 2 ^ N := Nat.two_pow_pos N
      refine ⟨q, Nat.not_lt.mp (fun z => hm1 (nI_lt (b := 1) z (by omega))), by omega, rfl⟩
    have hmask : N = N → nI q = nI q ∧ ¬ nI q = 0 ∧ ∀ b, b < 32 → bt (nI q) b = true → b < N := fun _ => ⟨rfl, nI_ne0 (by omega) (by omega), fun b hb hbt => cb_mbits hN hq2 hb hbt⟩
    rcases cb_rc v3 with ⟨h1, h2⟩ | ⟨p, hp, rfl⟩
    · exact cx_rn h1 h2 (br_t rfl (cy_py hN hi (br_f (by decide) (br_f hm1 (br_t hm2 (cy_appp h1 h2 ⟨rfl, cb_mkR hF⟩))))))
    refine cx_ry hp (br_f (by decide) ?_)
    by_cases hl : v4 < 0
    · exact br_t hl (br_t rfl (cy_py hN hi (br_f (by decide) (br_f hm1 (br_t hm2 (cy_appl hp (Or.inl hl) ⟨rfl, cb_mkR hF⟩))))))
    refine br_f hl ?_
    by_cases hh : 65535 < v4
    · exact br_t hh (br_t rfl (cy_py hN hi (br_f (by decide) (br_f hm1 (br_t hm2 (cy_appl hp (Or.inr (Int32.not_le.mpr hh)) ⟨rfl, cb_mkR hF⟩))))))
    refine br_f hh (br_f (by decide) (cx_qi (cx_enq hN hC hM hX rfl hi (Nat.le_refl _) hp (fun z7 => ?_) (fun z7 z8 => ?_) (fun z7 z8 c F' fh' cn' qh' qt' qs' eF hX' => ?_))))
    · refine cy_py hN hi (br_f (by decide) (br_f hm1 (br_t hm2 (cy_app hN hC hM rfl h64 hV hY hi (Nat.le_refl _) hp hl (Int32.not_lt.mp hh) (fun _ => ⟨rfl, cb_mkR hF⟩) (fun y _ => absurd y z7) (fun y _ => absurd y z7)))))
    · refine cy_py hN hi (br_f (by decide) (br_f hm1 (br_t hm2 (cy_app hN hC hM rfl h64 hV hY hi (Nat.le_refl _) hp hl (Int32.not_lt.mp hh) (fun y => absurd z7 y) (fun _ _ => ⟨rfl, cb_mkR hF⟩) (fun _ y => absurd y z8)))))
    · refine cy_py hN hi (br_f (by decide) (br_f hm1 (br_t hm2 (cy_app hN hC hM rfl h64 hV hY hi (Nat.le_refl _) hp hl (Int32.not_lt.mp hh) (fun y => absurd z7 y) (fun _ y => absurd z8 y) (fun _ _ => ⟨rfl, ?_⟩)))))
      subst eF
      rw [cb_len1 (c := c)]
      exact cb_mkR (cb_Fa_add hF hi (Nat.le_refl _) hp hX' (fun z => absurd z (Nat.lt_irrefl _)) hmask)
  · exact br_f hm2 (cy_py hN hi (br_f (by decide) (br_f hm1 (br_f hm2 ⟨rfl, cb_mkR hF⟩))))
end
section
/-! the constructors -/
def cb_cv (x lo hi : Int32) : Int32 := if lo ≤ x then (if x ≤ hi then x else hi) else lo
theorem cb_cv_ok {x : Int32} {lo hi : Nat} (h : lo ≤ hi) (hh : hi < 2 ^ 31) : ∃ q, lo ≤ q ∧ q ≤ hi ∧ cb_cv x (nI lo) (nI hi) = nI q := by
  unfold cb_cv
  by_cases h1 : nI lo ≤ x
  · rw [if_pos h1]
    by_cases h2 : x ≤ nI hi
    · rw [if_pos h2]
      have hn : ¬ x < 0 := by
        intro z
        have h0 : (0 : Int32) ≤ nI lo := nI_pos' (by omega)
        rw [Int32.lt_iff_toInt_lt] at z
        rw [Int32.le_iff_toInt_le] at h0 h1
        omega
      obtain ⟨q, hq, rfl⟩ := nI_of hn
      rw [nI_leI (by omega) hq] at h1
      rw [nI_leI hq hh] at h2
      exact ⟨q, h1, h2, rfl⟩
    · rw [if_neg h2]
      exact ⟨hi, h, Nat.le_refl _, rfl⟩
  · rw [if_neg h1]
    exact ⟨lo, Nat.le_refl _, h, rfl⟩
theorem cx_clamp {post : Int32 → Prop} {u : SX} {x lo hi : Int32} (h : post (cb_cv x lo hi)) : wpX_clamp post u x lo hi := by
  obtain ⟨y0, y1, y2, y3, y4, y5, y6, z0, z1, z2, z3, z4, z5, z6, z7, z8, z9, z10, z11, z12, z13, z14, z15, z16, z17, z18, z19, z20⟩ := u
  unfold cb_cv at h
  refine br_c (fun h1 => br_c (fun h2 => ?_) (fun h2 => ?_)) (fun h1 => ?_)
  · rw [if_pos h1, if_pos h2] at h
    exact h
  · rw [if_pos h1, if_neg h2] at h
    exact h
  · rw [if_neg h1] at h
    exact h
theorem cy_clamp {post : Int32 → Prop} {u : SY} {x lo hi : Int32} (h : post (cb_cv x lo hi)) : wpY_clamp post u x lo hi := by
  obtain ⟨y0, y1, y2, y3, y4, y5, z0, z1, z2, z3, z4, z5, z6, z7, z8, z9, z10, z11, z12, z13, z14, z15, z16, z17, z18⟩ := u
  unfold cb_cv at h
  refine br_c (fun h1 => br_c (fun h2 => ?_) (fun h2 => ?_)) (fun h1 => ?_)
  · rw [if_pos h1, if_pos h2] at h
    exact h
  · rw [if_pos h1, if_neg h2] at h
    exact h
  · rw [if_neg h1] at h
    exact h
theorem cb_Ch_range {cn : Nat → Int32} (h : ∀ c, c < 63 → cn c = nI (c + 1)) : ∀ (d s : Nat), s + d = 64 → ∀ x : Int32, x = nI s → cb_Ch cn x (List.range' s d) := by
  intro d
  induction d with
  | zero => intro s _ x _; exact trivial
  | succ d ih =>
    intro s hs x hx
    rw [List.range'_succ]
    refine ⟨hx, ?_⟩
    by_cases e : s < 63
    · exact ih (s + 1) (by omega) _ (h s e)
    · have e2 : d = 0 := by omega
      subst e2
      exact trivial
section
variable {N R C M : Nat} {fh uc sl : Int32} {cp cr cn qh qt qs gp ap mp bl wc lf lp lc lr mc mm mf ot gi gc : Nat → Int32}
theorem cx_i311 {post : SX → Prop} (hp : ∀ lf : Nat → Int32, (∀ j, j < 8 → lf j = -1) → post (nI N, nI R, nI C, nI M, fh, uc, 0, cp, cr, cn, qh, qt, qs, gp, ap, mp, bl, wc, lf, lp, lc, lr, mc, mm, mf, ot, gi, gc)) :
    ∀ d j n (lf : Nat → Int32), j + d = 8 → d < n → (∀ j', j' < j → lf j' = -1) → wX_init_311 post (nI N) (nI R) (nI C) (nI M) fh uc sl n (nI j) cp cr cn qh qt qs gp ap mp bl wc lf lp lc lr mc mm mf ot gi gc := by
  intro d
  induction d with
  | zero =>
    intro j n lf hj hn hI
    obtain ⟨n, rfl⟩ : ∃ q, n = q + 1 := ⟨n - 1, by omega⟩
    exact br_t (nI_le (a := 8) (by omega) (by omega)) (hp lf (fun j' h => hI j' (by omega)))
  | succ d ih =>
    intro j n lf hj hn hI
    obtain ⟨n, rfl⟩ : ∃ q, n = q + 1 := ⟨n - 1, by omega⟩
    refine br_f (nI_ge (b := 8) (by omega) (by omega)) ?_
    rw [nI_clamp (show j < 2 ^ 31 by omega)]
    refine And.intro (vp_in_nI (by omega) (by omega)) (nm_e (nm_r (nI_1 j) (ih (j + 1) n _ (by omega) (by omega) (fun j' h => ?_))))
    by_cases e : j' = j
    · rw [e, pk_us]
    · rw [pk_un e]
      exact hI j' (by omega)
theorem cx_i278 {post : SX → Prop} (hp : ∀ qh qt lf : Nat → Int32, (∀ j, j < 8 → lf j = -1) → post (nI N, nI R, nI C, nI M, fh, uc, 0, cp, cr, cn, qh, qt, qs, gp, ap, mp, bl, wc, lf, lp, lc, lr, mc, mm, mf, ot, gi, gc)) :
    ∀ d j n (qh qt : Nat → Int32), j + d = 144 → d < n → wX_init_278 post (nI N) (nI R) (nI C) (nI M) fh uc sl n (nI j) cp cr cn qh qt qs gp ap mp bl wc lf lp lc lr mc mm mf ot gi gc := by
  intro d
  induction d with
  | zero =>
    intro j n qh qt hj hn
    obtain ⟨n, rfl⟩ : ∃ q, n = q + 1 := ⟨n - 1, by omega⟩
    exact br_t (nI_le (a := 144) (by omega) (by omega)) ⟨9, cx_i311 (fun lf' h => hp qh qt lf' h) 8 0 9 lf (by omega) (by omega) (fun j' h => absurd h (Nat.not_lt_zero j'))⟩
  | succ d ih =>
    intro j n qh qt hj hn
    obtain ⟨n, rfl⟩ : ∃ q, n = q + 1 := ⟨n - 1, by omega⟩
    have hin : vp_in (nI j) 144 := vp_in_nI (by omega) (by omega)
    exact br_f (nI_ge (b := 144) (by omega) (by omega)) (And.intro hin (nm_e (And.intro hin (nm_e (nm_r (nI_1 j) (ih (j + 1) n _ _ (by omega) (by omega)))))))
theorem cx_i228 {post : SX → Prop} (hp : ∀ cn qh qt lf : Nat → Int32, (∀ c, c < 63 → cn c = nI (c + 1)) → (∀ j, j < 8 → lf j = -1) → post (nI N, nI R, nI C, nI M, 0, 0, 0, cp, cr, cn, qh, qt, qs, gp, ap, mp, bl, wc, lf, lp, lc, lr, mc, mm, mf, ot, gi, gc)) :
    ∀ d j n (cn : Nat → Int32), j + d = 64 → d < n → (∀ c, c < j → c < 63 → cn c = nI (c + 1)) → wX_init_228 post (nI N) (nI R) (nI C) (nI M) fh uc sl n (nI j) cp cr cn qh qt qs gp ap mp bl wc lf lp lc lr mc mm mf ot gi gc := by
  intro d
  induction d with
  | zero =>
    intro j n cn hj hn hI
    obtain ⟨n, rfl⟩ : ∃ q, n = q + 1 := ⟨n - 1, by omega⟩
    exact br_t (nI_le (a := 64) (by omega) (by omega)) ⟨145, cx_i278 (fun qh' qt' lf' h => hp cn qh' qt' lf' (fun c hc => hI c (by omega) hc) h) 144 0 145 qh qt (by omega) (by omega)⟩
  | succ d ih =>
    intro j n cn hj hn hI
    obtain ⟨n, rfl⟩ : ∃ q, n = q + 1 := ⟨n - 1, by omega⟩
    have hin : vp_in (nI j) 64 := vp_in_nI (by omega) (by omega)
    refine br_f (nI_ge (b := 64) (by omega) (by omega)) ?_
    rw [nI_clamp (show j < 2 ^ 31 by omega), nI_1 j]
    refine pk_le 64 (j + 1) (fun z => And.intro hin (nm_e (nm_e (ih (j + 1) n _ (by omega) (by omega) (fun c h1 h2 => ?_))))) (fun z => And.intro hin (nm_e (nm_e (ih (j + 1) n _ (by omega) (by omega) (fun c h1 h2 => ?_)))))
    · rw [pk_un (by omega)]
      exact hI c (by omega) h2
    · by_cases e : c = j
      · rw [e, pk_us]
      · rw [pk_un e]
        exact hI c (by omega) h2
end
section
variable {N R C M K : Nat} {sl : Int32} {ci cq cy yp yr bl yg ya ym yw oi op oc os ic ou rd jg jc : Nat → Int32}
theorem cy_i209 {post : SY → Prop} (hp : ∀ oi op oc os : Nat → Int32, (∀ j, j < 8 → oi j = -1 ∧ op j = -1 ∧ oc j = -1 ∧ os j = -1) → post (nI N, nI R, nI C, nI M, sl, nI K, ci, cq, cy, yp, yr, bl, yg, ya, ym, yw, oi, op, oc, os, ic, ou, rd, jg, jc)) :
    ∀ d j n (oi op oc os : Nat → Int32), j + d = 8 → d < n → (∀ j', j' < j → oi j' = -1 ∧ op j' = -1 ∧ oc j' = -1 ∧ os j' = -1) → wY_init_209 post n (nI j) (nI N) (nI R) (nI C) (nI M) sl (nI K) ci cq cy yp yr bl yg ya ym yw oi op oc os ic ou rd jg jc := by
  intro d
  induction d with
  | zero =>
    intro j n oi op oc os hj hn hI
    obtain ⟨n, rfl⟩ : ∃ q, n = q + 1 := ⟨n - 1, by omega⟩
    exact br_t (nI_le (a := 8) (by omega) (by omega)) (hp oi op oc os (fun j' h => hI j' (by omega)))
  | succ d ih =>
    intro j n oi op oc os hj hn hI
    obtain ⟨n, rfl⟩ : ∃ q, n = q + 1 := ⟨n - 1, by omega⟩
    refine br_f (nI_ge (b := 8) (by omega) (by omega)) (cy_cl (by omega) (nm_r (nI_1 j) (ih (j + 1) n _ _ _ _ (by omega) (by omega) (fun j' h => ?_))))
    by_cases e : j' = j
    · rw [e, pk_us, pk_us, pk_us, pk_us]
      exact ⟨rfl, rfl, rfl, rfl⟩
    · rw [pk_un e, pk_un e, pk_un e, pk_un e]
      exact hI j' (by omega)
end
theorem cb_Fa_0 {N R C M : Nat} {cn qh qt lf oi op oc os : Nat → Int32} (hN2 : 2 ≤ N) (hN : N ≤ 8) (hR : R ≤ 8) (hC : C ≤ 64) (hM : M ≤ 16) (hcn : ∀ c, c < 63 → cn c = nI (c + 1)) (hlf : ∀ j, j < 8 → lf j = -1) (ho : ∀ j, j < 8 → oi j = -1 ∧ op j = -1 ∧ oc j = -1 ∧ os j = -1) :
    cb_Fa N R C M [] (List.range' 0 64) (fun _ => (0, 0, 0)) (fun _ _ => 0) (fun _ _ => 0) (fun _ => 0) (fun _ _ => 0) 0 (fun _ => 0) (fun _ => 0) cn qh qt (fun _ => 0) (fun _ => 0) (fun _ => 0) (fun _ => 0) (fun _ => 0) lf (fun _ => 0) (fun _ => 0) (fun _ => 0) (fun _ => 0) (fun _ => 0) (fun _ => 0) (fun _ => 0) (fun _ => 0) (fun _ => 0) (fun _ => 0) (fun _ => 0) (fun _ => 0) oi op oc os := by
  have h0 : 0 < N := by omega
  refine ⟨⟨⟨hN2, hN⟩, hR, hC, hM⟩, ⟨fun i v p _ _ _ => ⟨rfl, trivial, fun e h => (nomatch h)⟩, cb_Ch_range hcn 64 0 (by omega) _ rfl, ?_, fun e he => ?_, ?_⟩, fun e he => absurd he List.not_mem_nil, fun x e hx => (nomatch hx), fun _ _ _ _ => ⟨rfl, rfl, rfl⟩, fun _ _ _ _ => ⟨rfl, rfl, rfl⟩, fun _ _ _ _ => ⟨h0, h0, h0⟩, fun _ _ _ _ => rfl, fun _ _ _ _ => rfl, fun j hj => Or.inl ⟨hlf j (by omega), ho j (by omega)⟩⟩
  · exact List.nodup_range'
  · have := (List.mem_range'_1.mp he).2
    omega
  · rw [List.length_range']
    rfl
theorem i_vc0 (k0 : Int32) (k1 : Int32) (k2 : Int32) (k3 : Int32) : wpX_init (fun u => wpY_init (fun v => i_Rel 4 u v) k0 k1 k2 k3) k0 k1 k2 k3 := by
  obtain ⟨N, hN2, hN, eN⟩ := cb_cv_ok (x := k0) (lo := 2) (hi := 8) (by omega) (by omega)
  obtain ⟨R, hR1, hR, eR⟩ := cb_cv_ok (x := k1) (lo := 1) (hi := N) (by omega) (by omega)
  obtain ⟨C, hC4, hC, eC⟩ := cb_cv_ok (x := k2) (lo := 4) (hi := 64) (by omega) (by omega)
  obtain ⟨M, hM1, hM, eM⟩ := cb_cv_ok (x := k3) (lo := 1) (hi := 16) (by omega) (by omega)
  unfold wpX_init
  refine cx_clamp ?_
  rw [show cb_cv k0 2 8 = nI N from eN]
  refine cx_clamp ?_
  rw [show cb_cv k1 1 (nI N) = nI R from eR]
  refine cx_clamp ?_
  rw [show cb_cv k2 4 64 = nI C from eC]
  refine cx_clamp ?_
  rw [show cb_cv k3 1 16 = nI M from eM]
  refine ⟨65, cx_i228 (fun cn' qh' qt' lf' hcn hlf => ?_) 64 0 65 _ (by omega) (by omega) (fun c h _ => absurd h (Nat.not_lt_zero c))⟩
  unfold wpY_init
  refine cy_clamp ?_
  rw [show cb_cv k0 2 8 = nI N from eN]
  refine cy_clamp ?_
  rw [show cb_cv k1 1 (nI N) = nI R from eR]
  refine cy_clamp ?_
  rw [show cb_cv k2 4 64 = nI C from eC]
  refine cy_clamp ?_
  rw [show cb_cv k3 1 16 = nI M from eM]
  refine ⟨9, cy_i209 (K := 0) (fun oi' op' oc' os' ho => ?_) 8 0 9 _ _ _ _ (by omega) (by omega) (fun j' h => absurd h (Nat.not_lt_zero j'))⟩
  exact cb_mkR (L := []) (F := List.range' 0 64) (cb_Fa_0 hN2 hN (by omega) hC hM hcn hlf ho)
end
