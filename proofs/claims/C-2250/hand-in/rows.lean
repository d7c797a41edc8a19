section
theorem pk_us {f : Nat → Int32} {k : Nat} {x : Int32} : upd f k x k = x := if_pos rfl
theorem pk_un {f : Nat → Int32} {k j : Nat} {x : Int32} (h : j ≠ k) : upd f k x j = f j := if_neg h
theorem pk_uLs {f : Nat → Int64} {k : Nat} {x : Int64} : vp_updL f k x k = x := if_pos rfl
theorem pk_uLn {f : Nat → Int64} {k j : Nat} {x : Int64} (h : j ≠ k) : vp_updL f k x j = f j := if_neg h
theorem pk_sub {a b : Nat} (h : b ≤ a) : nI a - nI b = nI (a - b) := by
  obtain ⟨c, rfl⟩ : ∃ c, a = c + b := ⟨a - b, by omega⟩
  rw [← nI_add, Int32.add_sub_cancel, Nat.add_sub_cancel]
theorem pk_m1 (n : Nat) : nI (n + 1) + (-1) = nI n := by
  rw [← nI_1, Int32.add_assoc, show (1 : Int32) + (-1) = 0 from rfl, Int32.add_zero]
theorem pk_mul (a b : Nat) : nI a * nI b = nI (a * b) := (Int32.ofNat_mul a b).symm
theorem pk_ix (x : Int32) {n : Nat} (hn : n < 2 ^ 31) : x < 0 ∨ nI n ≤ x ∨ ∃ j : Nat, j < n ∧ x = nI j := by
  by_cases h : x < 0
  · exact Or.inl h
  · obtain ⟨j, hj, rfl⟩ := nI_of h
    by_cases h2 : j < n
    · exact Or.inr (Or.inr ⟨j, h2, rfl⟩)
    · exact Or.inr (Or.inl (nI_le (by omega) hj))
theorem pk_le {x y : Int32} {A B : Prop} (a b : Nat) (f : a ≤ b → A) (g : b < a → B) (hx : x = nI a := by rfl) (hy : y = nI b := by rfl) (ha : a < 2 ^ 31 := by omega) (hb : b < 2 ^ 31 := by omega) : (x ≤ y → A) ∧ (¬ x ≤ y → B) := by
  subst hx hy
  rw [nI_leI ha hb]
  exact ⟨f, fun z => g (by omega)⟩
theorem pk_lt {x y : Int32} {A B : Prop} (a b : Nat) (f : a < b → A) (g : b ≤ a → B) (hx : x = nI a := by rfl) (hy : y = nI b := by rfl) (ha : a < 2 ^ 31 := by omega) (hb : b < 2 ^ 31 := by omega) : (x < y → A) ∧ (¬ x < y → B) := by
  subst hx hy
  rw [nI_ltI ha hb]
  exact ⟨f, fun z => g (by omega)⟩
theorem pk_eq {x y : Int32} {A B : Prop} (a b : Nat) (f : a = b → A) (g : a ≠ b → B) (hx : x = nI a := by rfl) (hy : y = nI b := by rfl) (ha : a < 2 ^ 31 := by omega) (hb : b < 2 ^ 31 := by omega) : (x = y → A) ∧ (¬ x = y → B) := by
  subst hx hy
  rw [nI_eq ha hb]
  exact ⟨f, g⟩
theorem pk_in {x : Int32} (n N : Nat) (h : n < N) (hx : x = nI n := by rfl) (hN : N < 2 ^ 31 := by omega) : vp_in x N := by
  subst hx
  exact vp_in_nI h hN
theorem pk_cl {x : Int32} (n : Nat) (hx : x = nI n := by rfl) (h : n < 2 ^ 31 := by omega) : x.toNatClampNeg = n := by
  subst hx
  exact nI_clamp h
theorem co_4 {P : Nat → Prop} (h0 : P 0) (h1 : P 1) (h2 : P 2) (h3 : P 3) {i : Nat} (hi : i < 4) : P i :=
  match i, hi with
  | 0, _ => h0
  | 1, _ => h1
  | 2, _ => h2
  | 3, _ => h3
def bt (x : Int32) (i : Nat) : Bool := x.toBitVec.getLsbD i
theorem b_ext {x y : Int32} (h : ∀ i, i < 32 → bt x i = bt y i) : x = y := Int32.toBitVec_inj.mp (BitVec.eq_of_getLsbD_eq (fun i hi => h i hi))
theorem b_or (x y : Int32) (i : Nat) : bt (x ||| y) i = (bt x i || bt y i) := by unfold bt; rw [Int32.toBitVec_or, BitVec.getLsbD_or]
theorem b_and (x y : Int32) (i : Nat) : bt (x &&& y) i = (bt x i && bt y i) := by unfold bt; rw [Int32.toBitVec_and, BitVec.getLsbD_and]
theorem b_xor (x y : Int32) (i : Nat) : bt (x ^^^ y) i = (bt x i ^^ bt y i) := by unfold bt; rw [Int32.toBitVec_xor, BitVec.getLsbD_xor]
theorem b_big {x : Int32} {i : Nat} (h : 32 ≤ i) : bt x i = false := BitVec.getLsbD_of_ge _ _ h
theorem b_0 (i : Nat) : bt 0 i = false := BitVec.getLsbD_zero
theorem s_l : ∀ n, n < 32 → ((nI n &&& 31).toBitVec.smod 32).toNat = n := by decide +kernel
theorem b_shl (n : Nat) (hn : n < 32) (x : Int32) {i : Nat} (hi : i < 32) : bt (x <<< (nI n &&& 31)) i = (decide (n ≤ i) && bt x (i - n)) := by
  unfold bt
  rw [Int32.toBitVec_shiftLeft]
  show (x.toBitVec <<< ((nI n &&& 31).toBitVec.smod 32).toNat).getLsbD i = _
  rw [s_l n hn, BitVec.getLsbD_shiftLeft]
  rcases Nat.lt_or_ge i n with h | h
  · simp [h, Nat.not_le.mpr h]
  · simp [hi, h, Nat.not_lt.mpr h]
theorem b_sshr (n : Nat) (hn : n < 32) (x : Int32) {i : Nat} (hi : i < 32) : bt (x >>> (nI n &&& 31)) i = if n + i < 32 then bt x (n + i) else bt x 31 := by
  unfold bt
  rw [Int32.toBitVec_shiftRight]
  show (x.toBitVec.sshiftRight ((nI n &&& 31).toBitVec.smod 32).toNat).getLsbD i = _
  rw [s_l n hn, BitVec.getLsbD_sshiftRight, BitVec.msb_eq_getLsbD_last]
  simp [hi]
theorem ts_nf {x : Bool} (h : ¬ x = false) : x = true := by cases x <;> first | rfl | exact absurd rfl h
theorem ts_nt {x : Bool} (h : ¬ x = true) : x = false := by cases x <;> first | rfl | exact absurd rfl h
theorem ts_bit {w : Int64} {s : UInt64} {j : Nat} (hj : j < 64) (hs : s.toNat = j) : ((w.toUInt64 >>> s).toInt64 &&& 1) = 0 ↔ w.toBitVec.getLsbD j = false := by
  have e : (w.toUInt64 >>> s).toInt64.toBitVec = w.toBitVec >>> j := by
    apply BitVec.eq_of_toNat_eq
    show (w.toUInt64 >>> s).toNat = _
    rw [UInt64.toNat_shiftRight, hs, Nat.mod_eq_of_lt hj, BitVec.toNat_ushiftRight]
    rfl
  rw [← Int64.toBitVec_inj, Int64.toBitVec_and, e]
  show w.toBitVec >>> j &&& 1#64 = 0#64 ↔ _
  constructor
  · intro h
    have t := congrArg (fun x => x.getLsbD 0) h
    simpa using t
  · intro h
    apply BitVec.eq_of_getLsbD_eq
    intro i hi
    cases i with
    | zero => simp [h]
    | succ i => simp
theorem wb_tb (n : Nat) : (lN n).toBitVec = BitVec.ofNat 64 n := rfl
theorem wb_inj {a b : Int64} (h : a.toBitVec = b.toBitVec) : a = b := Int64.toBitVec_inj.mp h
theorem wb_tn {n : Nat} (h : n < 2 ^ 64) : (lN n).toBitVec.toNat = n := by rw [wb_tb, BitVec.toNat_ofNat, Nat.mod_eq_of_lt h]
theorem wb_c : ∀ k, k < 64 → ((nI k).toInt64 &&& 63) = lN k := by decide +kernel
theorem wb_cu : ∀ k, k < 64 → ((nI k).toInt64.toUInt64 &&& Int64.toUInt64 63) = UInt64.ofNat k := by decide +kernel
theorem wb_sm : ∀ k, k < 64 → (BitVec.ofNat 64 k).smod 64 = BitVec.ofNat 64 k := by decide +kernel
theorem wb_shl (n : Nat) {k : Nat} (hk : k < 64) : lN n <<< ((nI k).toInt64 &&& 63) = lN (n * 2 ^ k) := by
  rw [wb_c k hk]
  apply wb_inj
  rw [Int64.toBitVec_shiftLeft, wb_tb, wb_tb, wb_tb, wb_sm k hk]
  apply BitVec.eq_of_toNat_eq
  rw [BitVec.shiftLeft_eq', BitVec.toNat_shiftLeft, BitVec.toNat_ofNat, BitVec.toNat_ofNat, BitVec.toNat_ofNat, Nat.mod_eq_of_lt (show k < 2 ^ 64 by omega), Nat.shiftLeft_eq, Nat.mul_mod, Nat.mod_mod, ← Nat.mul_mod]
end
section
/-! numbers 1 to 62, rows 0 to 7, sets of them as bits -/
def mv_ok (n : Int32) : Prop := ∃ j : Nat, 1 ≤ j ∧ j < 63 ∧ n = nI j
def mv_row (r : Int32) : Prop := ∃ j : Nat, j < 8 ∧ r = nI j
def mv_mem (s : Int64) (n : Int32) : Prop := mv_ok n ∧ s.toBitVec.getLsbD n.toNatClampNeg = true
def mv_tb (x : Int32) (r : Int32) : Prop := mv_row r ∧ bt x r.toNatClampNeg = true
def mv_bit (n : Int32) : Int64 := (1 : Int64) <<< (n.toInt64 &&& 63)
theorem mv_ok_ne {n : Int32} (h : mv_ok n) : n ≠ 0 := by
  obtain ⟨j, h1, h2, rfl⟩ := h
  exact nI_ne0 (by omega) (by omega)
theorem mv_ok_nI {j : Nat} (h1 : 1 ≤ j) (h2 : j < 63) : mv_ok (nI j) := ⟨j, h1, h2, rfl⟩
theorem mv_row_nI {j : Nat} (h : j < 8) : mv_row (nI j) := ⟨j, h, rfl⟩
theorem mv_mem_ok {s : Int64} {n : Int32} (h : mv_mem s n) : mv_ok n := h.1
theorem mv_mem_or (a b : Int64) (n : Int32) : mv_mem (a ||| b) n ↔ mv_mem a n ∨ mv_mem b n := by
  unfold mv_mem
  rw [Int64.toBitVec_or, BitVec.getLsbD_or, Bool.or_eq_true]
  constructor
  · rintro ⟨h, h1 | h1⟩
    · exact Or.inl ⟨h, h1⟩
    · exact Or.inr ⟨h, h1⟩
  · rintro (⟨h, h1⟩ | ⟨h, h1⟩)
    · exact ⟨h, Or.inl h1⟩
    · exact ⟨h, Or.inr h1⟩
theorem mv_mem_and (a b : Int64) (n : Int32) : mv_mem (a &&& b) n ↔ mv_mem a n ∧ mv_mem b n := by
  unfold mv_mem
  rw [Int64.toBitVec_and, BitVec.getLsbD_and, Bool.and_eq_true]
  constructor
  · rintro ⟨h, h1, h2⟩
    exact ⟨⟨h, h1⟩, ⟨h, h2⟩⟩
  · rintro ⟨⟨h, h1⟩, ⟨_, h2⟩⟩
    exact ⟨h, h1, h2⟩
theorem mv_mem_0 (n : Int32) : ¬ mv_mem 0 n := by
  rintro ⟨_, h⟩
  rw [show (0 : Int64).toBitVec = 0#64 from rfl, BitVec.getLsbD_zero] at h
  exact Bool.false_ne_true h
theorem mv_cl {n : Int32} (h : mv_ok n) : n.toNatClampNeg < 63 := by
  obtain ⟨j, h1, h2, rfl⟩ := h
  rw [nI_clamp (by omega)]; exact h2
theorem mv_mem_diff (a b : Int64) (n : Int32) : mv_mem (a &&& (b ^^^ (-1))) n ↔ mv_mem a n ∧ ¬ mv_mem b n := by
  have ha : (-1 : Int64).toBitVec = BitVec.allOnes 64 := by decide
  unfold mv_mem
  rw [Int64.toBitVec_and, Int64.toBitVec_xor, ha, BitVec.getLsbD_and, BitVec.getLsbD_xor, BitVec.getLsbD_allOnes]
  constructor
  · rintro ⟨h, h1⟩
    have hc : n.toNatClampNeg < 64 := by have := mv_cl h; omega
    rw [decide_eq_true hc] at h1
    refine ⟨⟨h, ?_⟩, ?_⟩
    · revert h1; cases a.toBitVec.getLsbD n.toNatClampNeg <;> simp
    · rintro ⟨_, h2⟩
      rw [h2] at h1
      revert h1; simp
  · rintro ⟨⟨h, h1⟩, h2⟩
    have hc : n.toNatClampNeg < 64 := by have := mv_cl h; omega
    refine ⟨h, ?_⟩
    rw [h1, decide_eq_true hc, ts_nt (fun e => h2 ⟨h, e⟩)]
    rfl
theorem mv_bit_bv {j : Nat} (h : j < 64) : (mv_bit (nI j)).toBitVec = BitVec.twoPow 64 j := by
  have e : mv_bit (nI j) = lN (1 * 2 ^ j) := wb_shl 1 h
  rw [e, wb_tb, Nat.one_mul]
  apply BitVec.eq_of_toNat_eq
  rw [BitVec.toNat_ofNat, BitVec.toNat_twoPow]
theorem mv_mem_bit {m : Int32} (hm : m = 0 ∨ mv_ok m) (n : Int32) : mv_mem (mv_bit m) n ↔ mv_ok n ∧ n = m := by
  have : ∃ j : Nat, j < 63 ∧ m = nI j := by
    rcases hm with rfl | ⟨j, _, h, rfl⟩
    · exact ⟨0, by omega, rfl⟩
    · exact ⟨j, h, rfl⟩
  obtain ⟨j, hj, rfl⟩ := this
  unfold mv_mem
  rw [mv_bit_bv (by omega), BitVec.getLsbD_twoPow]
  constructor
  · rintro ⟨h, h1⟩
    refine ⟨h, ?_⟩
    obtain ⟨i, h2, h3, rfl⟩ := h
    rw [nI_clamp (by omega)] at h1
    have : j = i := by simpa using (Bool.and_eq_true_iff.mp h1).2
    rw [this]
  · rintro ⟨h, rfl⟩
    refine ⟨h, ?_⟩
    rw [nI_clamp (by omega), decide_eq_true (show j < 64 by omega)]
    simp
theorem mv_a1 (y : Int64) : (y &&& 1) = 0 ∨ (y &&& 1) = 1 := by
  cases h : y.toBitVec.getLsbD 0
  · left
    apply Int64.toBitVec_inj.mp
    show y.toBitVec &&& 1#64 = 0#64
    apply BitVec.eq_of_getLsbD_eq
    intro i hi
    cases i with
    | zero => rw [BitVec.getLsbD_and, h, Bool.false_and]; rfl
    | succ i => simp
  · right
    apply Int64.toBitVec_inj.mp
    show y.toBitVec &&& 1#64 = 1#64
    apply BitVec.eq_of_getLsbD_eq
    intro i hi
    cases i with
    | zero => rw [BitVec.getLsbD_and, h, Bool.true_and]
    | succ i => simp
theorem mv_tst0 {s : Int64} {n : Int32} (h : mv_ok n) : (((s.toUInt64 >>> (n.toInt64.toUInt64 &&& Int64.toUInt64 63)).toInt64) &&& 1) = 0 ↔ ¬ mv_mem s n := by
  obtain ⟨j, h1, h2, rfl⟩ := h
  have hs : (((nI j).toInt64.toUInt64 &&& Int64.toUInt64 63)).toNat = j := by
    rw [wb_cu j (by omega)]
    show (BitVec.ofNat 64 j).toNat = j
    rw [BitVec.toNat_ofNat, Nat.mod_eq_of_lt (by omega)]
  rw [ts_bit (by omega) hs]
  unfold mv_mem
  rw [nI_clamp (by omega)]
  constructor
  · rintro h3 ⟨_, h4⟩
    rw [h3] at h4; exact Bool.false_ne_true h4
  · intro h3
    exact ts_nt (fun e => h3 ⟨mv_ok_nI h1 h2, e⟩)
theorem mv_tst {s : Int64} {n : Int32} (h : mv_ok n) : (((s.toUInt64 >>> (n.toInt64.toUInt64 &&& Int64.toUInt64 63)).toInt64) &&& 1) = 1 ↔ mv_mem s n := by
  have h0 := mv_tst0 (s := s) h
  rcases mv_a1 ((s.toUInt64 >>> (n.toInt64.toUInt64 &&& Int64.toUInt64 63)).toInt64) with e | e
  · constructor
    · intro h1; rw [e] at h1; exact absurd h1 (by decide)
    · intro h1; exact absurd h1 (h0.mp e)
  · constructor
    · intro _
      apply Classical.byContradiction
      intro hn
      rw [h0.mpr hn] at e
      exact absurd e (by decide)
    · intro _; exact e
theorem mv_b1 (y : Int32) : (y &&& 1) = 1 ↔ bt y 0 = true := by
  constructor
  · intro h
    have e := b_and y 1 0
    rw [h] at e
    revert e; cases bt y 0
    · intro e; exact absurd e (by decide)
    · intro _; rfl
  · intro h
    apply b_ext
    intro i hi
    rw [b_and]
    cases i with
    | zero => rw [h]; rfl
    | succ i =>
      have : bt 1 (i + 1) = false := (by decide +kernel : ∀ i, i < 31 → bt 1 (i + 1) = false) i (by omega)
      rw [this, Bool.and_false]
theorem mv_tbt {x r : Int32} (h : mv_row r) : ((x >>> (r &&& 31)) &&& 1) = 1 ↔ mv_tb x r := by
  obtain ⟨j, hj, rfl⟩ := h
  rw [mv_b1, b_sshr j (by omega) x (by omega), if_pos (by omega), Nat.add_zero]
  unfold mv_tb
  rw [nI_clamp (by omega)]
  exact ⟨fun e => ⟨mv_row_nI hj, e⟩, fun e => e.2⟩
theorem mv_tb_or (a b r : Int32) : mv_tb (a ||| b) r ↔ mv_tb a r ∨ mv_tb b r := by
  unfold mv_tb
  rw [b_or, Bool.or_eq_true]
  constructor
  · rintro ⟨h, h1 | h1⟩
    · exact Or.inl ⟨h, h1⟩
    · exact Or.inr ⟨h, h1⟩
  · rintro (⟨h, h1⟩ | ⟨h, h1⟩)
    · exact ⟨h, Or.inl h1⟩
    · exact ⟨h, Or.inr h1⟩
theorem mv_tb_0 (r : Int32) : ¬ mv_tb 0 r := by
  rintro ⟨_, h⟩
  rw [b_0] at h
  exact Bool.false_ne_true h
theorem mv_tb_bit {s : Int32} (hs : mv_row s) (r : Int32) : mv_tb ((1 : Int32) <<< (s &&& 31)) r ↔ r = s := by
  obtain ⟨j, hj, rfl⟩ := hs
  constructor
  · rintro ⟨⟨i, hi, rfl⟩, h⟩
    rw [nI_clamp (by omega), b_shl j (by omega) 1 (by omega), Bool.and_eq_true] at h
    have h1 : j ≤ i := by simpa using h.1
    have h2 := (by decide +kernel : ∀ i, i < 8 → bt 1 i = true → i = 0) (i - j) (by omega) h.2
    rw [show i = j by omega]
  · rintro rfl
    refine ⟨mv_row_nI hj, ?_⟩
    rw [nI_clamp (by omega), b_shl j (by omega) 1 (by omega), Nat.sub_self]
    simp; rfl
def mv_ort (f : Nat → Int32) : Nat → Int32
  | 0 => 0
  | k + 1 => mv_ort f k ||| f k
theorem mv_ort_tb (f : Nat → Int32) (n : Nat) (r : Int32) : mv_tb (mv_ort f n) r ↔ ∃ k, k < n ∧ mv_tb (f k) r := by
  induction n with
  | zero => exact ⟨fun h => absurd h (mv_tb_0 r), fun ⟨k, hk, _⟩ => absurd hk (by omega)⟩
  | succ n ih =>
    show mv_tb (mv_ort f n ||| f n) r ↔ _
    rw [mv_tb_or, ih]
    constructor
    · rintro (⟨k, hk, h⟩ | h)
      · exact ⟨k, by omega, h⟩
      · exact ⟨n, by omega, h⟩
    · rintro ⟨k, hk, h⟩
      by_cases e : k = n
      · subst e; exact Or.inr h
      · exact Or.inl ⟨k, by omega, h⟩
theorem mv_ort_c {f g : Nat → Int32} {n : Nat} (h : ∀ k, k < n → f k = g k) : mv_ort f n = mv_ort g n := by
  induction n with
  | zero => rfl
  | succ n ih =>
    show mv_ort f n ||| f n = mv_ort g n ||| g n
    rw [ih (fun k hk => h k (by omega)), h n (by omega)]
def mv_ors (f : Nat → Int32) : Nat → Int64
  | 0 => 0
  | k + 1 => mv_ors f k ||| mv_bit (f k)
theorem mv_ors_mem {f : Nat → Int32} {n : Nat} (h : ∀ k, k < n → mv_ok (f k)) (x : Int32) : mv_mem (mv_ors f n) x ↔ ∃ k, k < n ∧ f k = x := by
  induction n with
  | zero => exact ⟨fun h => absurd h (mv_mem_0 x), fun ⟨k, hk, _⟩ => absurd hk (by omega)⟩
  | succ n ih =>
    show mv_mem (mv_ors f n ||| mv_bit (f n)) x ↔ _
    rw [mv_mem_or, ih (fun k hk => h k (by omega)), mv_mem_bit (Or.inr (h n (by omega)))]
    constructor
    · rintro (⟨k, hk, e⟩ | ⟨_, e⟩)
      · exact ⟨k, by omega, e⟩
      · exact ⟨n, by omega, e.symm⟩
    · rintro ⟨k, hk, e⟩
      by_cases ek : k = n
      · subst ek; exact Or.inr ⟨e ▸ h k (by omega), e.symm⟩
      · exact Or.inl ⟨k, by omega, e⟩
/-! patterns -/
def mv_pat (f : Nat → Bool) : Nat → Nat
  | 0 => 0
  | t + 1 => mv_pat f t + cond (f t) (2 ^ t) 0
theorem mv_pat_lt (f : Nat → Bool) (t : Nat) : mv_pat f t < 2 ^ t := by
  induction t with
  | zero => exact Nat.zero_lt_one
  | succ t ih =>
    show mv_pat f t + cond (f t) (2 ^ t) 0 < 2 ^ (t + 1)
    rw [Nat.pow_succ]
    cases f t <;> simp only [cond_true, cond_false] <;> omega
theorem mv_pat_or (f : Nat → Bool) {t : Nat} (h : t < 4) : nI (mv_pat f t) ||| ((1 : Int32) <<< (nI t &&& 31)) = nI (mv_pat f t + 2 ^ t) := by
  have hl := mv_pat_lt f t
  exact (by decide +kernel : ∀ t, t < 4 → ∀ a, a < 2 ^ t → nI a ||| ((1 : Int32) <<< (nI t &&& 31)) = nI (a + 2 ^ t)) t h _ hl
theorem mv_pat_b : ∀ a b c d a' b' c' d' : Bool, 0 + cond a (2 ^ 0) 0 + cond b (2 ^ 1) 0 + cond c (2 ^ 2) 0 + cond d (2 ^ 3) 0 = 0 + cond a' (2 ^ 0) 0 + cond b' (2 ^ 1) 0 + cond c' (2 ^ 2) 0 + cond d' (2 ^ 3) 0 → a = a' ∧ b = b' ∧ c = c' ∧ d = d' := by decide +kernel
theorem mv_pat_inj {f g : Nat → Bool} (h : mv_pat f 4 = mv_pat g 4) : ∀ t, t < 4 → f t = g t := by
  obtain ⟨h0, h1, h2, h3⟩ := mv_pat_b _ _ _ _ _ _ _ _ (show 0 + cond (f 0) (2 ^ 0) 0 + cond (f 1) (2 ^ 1) 0 + cond (f 2) (2 ^ 2) 0 + cond (f 3) (2 ^ 3) 0 = 0 + cond (g 0) (2 ^ 0) 0 + cond (g 1) (2 ^ 1) 0 + cond (g 2) (2 ^ 2) 0 + cond (g 3) (2 ^ 3) 0 from h)
  intro t ht
  exact co_4 (P := fun t => f t = g t) h0 h1 h2 h3 ht
theorem mv_pat_15 {f : Nat → Bool} (h : mv_pat f 4 = 15) : ∀ t, t < 4 → f t = true :=
  mv_pat_inj (g := fun _ => true) h
theorem mv_15_pat {f : Nat → Bool} (h : ∀ t, t < 4 → f t = true) : mv_pat f 4 = 15 := by
  show 0 + cond (f 0) (2 ^ 0) 0 + cond (f 1) (2 ^ 1) 0 + cond (f 2) (2 ^ 2) 0 + cond (f 3) (2 ^ 3) 0 = 15
  rw [h 0 (by omega), h 1 (by omega), h 2 (by omega), h 3 (by omega)]
  rfl
end
section
/-! the pure theory: versions, views, the invariant -/
def mv_in (W : Int32 → Prop) (n : Int32) : Prop := n = 0 ∨ W n
def mv_sees (W : Int32 → Prop) (m e : Int32) : Prop := (m = 0 ∨ W m) ∧ (e = 0 ∨ ¬ W e)
def mv_vw (S : Nat → Int32 → Prop) (N : Nat → Nat → Int32) (t j : Nat) (n : Int32) : Prop := S t n ∨ ∃ k, k ≤ j ∧ N t k = n
def mv_uq (U : Nat → Prop) (R M E : Nat → Int32) (W : Int32 → Prop) : Prop := ∀ v w, U v → U w → R v = R w → mv_sees W (M v) (E v) → mv_sees W (M w) (E w) → v = w
def mv_mt (U : Nat → Prop) (R M E X : Nat → Int32) (W : Int32 → Prop) (f : Int32 → Option Int32) : Prop := (∀ v, U v → mv_sees W (M v) (E v) → f (R v) = some (X v)) ∧ (∀ r x, mv_row r → f r = some x → ∃ v, U v ∧ R v = r ∧ mv_sees W (M v) (E v))
def mv_dead (C P : Int32 → Prop) (O : Nat → Prop) (S : Nat → Int32 → Prop) (m e : Int32) : Prop :=
  (m ≠ 0 ∧ ¬ C m ∧ ¬ P m) ∨ (m = e ∧ m ≠ 0) ∨ (e ≠ 0 ∧ C e ∧ mv_in C m ∧ ∀ t, O t → ¬ mv_sees (S t) m e)
def mv_PI (U : Nat → Prop) (R M E X : Nat → Int32) (C P : Int32 → Prop) (O : Nat → Prop) (S : Nat → Int32 → Prop) (L : Nat → Nat) (N : Nat → Nat → Int32) (T : Nat → Nat → Int32 → Prop) (V : Nat → Int32 → Prop) (K : Int32 → Option Int32) (G : Nat → Nat → Int32 → Option Int32) : Prop :=
  (∀ v, U v → v < 96 ∧ mv_row (R v) ∧ (M v = 0 ∨ mv_ok (M v)) ∧ (E v = 0 ∨ mv_ok (E v))) ∧
  (∀ t, O t → t < 4 ∧ L t < 4) ∧
  (∀ t k, O t → k ≤ L t → P (N t k)) ∧
  (∀ n, P n → mv_ok n ∧ ∃ t k, O t ∧ k ≤ L t ∧ N t k = n) ∧
  (∀ t k u j, O t → k ≤ L t → O u → j ≤ L u → N t k = N u j → t = u ∧ k = j) ∧
  (∀ n, C n → mv_ok n ∧ ¬ P n) ∧
  (∀ t n, O t → S t n → C n) ∧
  (mv_uq U R M E C ∧ mv_mt U R M E X C K) ∧
  (∀ t, O t → mv_uq U R M E (S t)) ∧
  (∀ t j, O t → j ≤ L t → mv_uq U R M E (mv_vw S N t j) ∧ mv_mt U R M E X (mv_vw S N t j) (G t j)) ∧
  (∀ v t k, U v → O t → k ≤ L t → (M v = N t k ∨ E v = N t k) → T t k (R v)) ∧
  (∀ v, U v → C (E v) → mv_in C (M v)) ∧
  (∀ v t j, U v → O t → j ≤ L t → E v = N t j → mv_in (mv_vw S N t j) (M v)) ∧
  (∀ v t, U v → O t → ¬ V t (R v) → (C (M v) → S t (M v)) ∧ (C (E v) → S t (E v))) ∧
  (∀ t u k j r, O t → O u → t ≠ u → k ≤ L t → j ≤ L u → T t k r → ¬ T u j r) ∧
  (∀ t k r, O t → k ≤ L t → T t k r → ¬ V t r)
section
variable {U U' : Nat → Prop} {R M E X R' M' E' X' : Nat → Int32} {W W' : Int32 → Prop} {f f' : Int32 → Option Int32}
/-- the same is seen -/
theorem mv_vcu (hv : ∀ v, (U' v ∧ mv_sees W' (M' v) (E' v)) → (U v ∧ mv_sees W (M v) (E v))) (hr : ∀ v, U v → mv_sees W (M v) (E v) → R' v = R v) (h : mv_uq U R M E W) : mv_uq U' R' M' E' W' := by
  intro v w hv1 hw1 he hsv hsw
  obtain ⟨a1, a2⟩ := hv v ⟨hv1, hsv⟩
  obtain ⟨b1, b2⟩ := hv w ⟨hw1, hsw⟩
  exact h v w a1 b1 (by rw [← hr v a1 a2, ← hr w b1 b2, he]) a2 b2
theorem mv_vc (hR : ∀ v, U v → mv_row (R v)) (hv : ∀ v, (U' v ∧ mv_sees W' (M' v) (E' v)) ↔ (U v ∧ mv_sees W (M v) (E v))) (hr : ∀ v, U v → mv_sees W (M v) (E v) → R' v = R v ∧ X' v = X v) (hf : ∀ r, mv_row r → f' r = f r) (h : mv_uq U R M E W ∧ mv_mt U R M E X W f) : mv_uq U' R' M' E' W' ∧ mv_mt U' R' M' E' X' W' f' := by
  refine ⟨mv_vcu (fun v => (hv v).mp) (fun v a b => (hr v a b).1) h.1, ?_, ?_⟩
  · intro v a b
    obtain ⟨c, d⟩ := (hv v).mp ⟨a, b⟩
    obtain ⟨e1, e2⟩ := hr v c d
    rw [e1, e2, hf _ (hR v c)]
    exact h.2.1 v c d
  · intro r x hrr hx
    rw [hf r hrr] at hx
    obtain ⟨v, c, e, d⟩ := h.2.2 r x hrr hx
    obtain ⟨a, b⟩ := (hv v).mpr ⟨c, d⟩
    exact ⟨v, a, by rw [(hr v c d).1, e], b⟩
theorem mv_fc (hR : ∀ v, U v → mv_row (R v)) (hf : ∀ r, mv_row r → f' r = f r) (h : mv_uq U R M E W ∧ mv_mt U R M E X W f) : mv_uq U R M E W ∧ mv_mt U R M E X W f' :=
  mv_vc hR (fun _ => Iff.rfl) (fun _ _ _ => ⟨rfl, rfl⟩) hf h
/-- one is seen no more -/
theorem mv_vdel (hR : ∀ v, U v → mv_row (R v)) {w : Nat} (hw : U w) (hs : mv_sees W (M w) (E w)) (hv : ∀ v, (U v ∧ mv_sees W' (M v) (E' v)) ↔ (U v ∧ mv_sees W (M v) (E v) ∧ v ≠ w)) (h0 : f' (R w) = none) (hf : ∀ r, mv_row r → r ≠ R w → f' r = f r) (h : mv_uq U R M E W ∧ mv_mt U R M E X W f) : mv_uq U R M E' W' ∧ mv_mt U R M E' X W' f' := by
  have hne : ∀ v, U v → mv_sees W' (M v) (E' v) → R v ≠ R w := by
    intro v a b e
    obtain ⟨c, d, n⟩ := (hv v).mp ⟨a, b⟩
    exact n (h.1 v w c hw e d hs)
  refine ⟨?_, ?_, ?_⟩
  · exact mv_vcu (fun v p => ⟨((hv v).mp p).1, ((hv v).mp p).2.1⟩) (fun _ _ _ => rfl) h.1
  · intro v a b
    rw [hf _ (hR v a) (hne v a b)]
    exact h.2.1 v a ((hv v).mp ⟨a, b⟩).2.1
  · intro r x hrr hx
    have hrw : r ≠ R w := by
      intro e; rw [e, h0] at hx; exact absurd hx (by simp)
    rw [hf r hrr hrw] at hx
    obtain ⟨v, c, e, d⟩ := h.2.2 r x hrr hx
    have : v ≠ w := by intro ev; rw [ev] at e; exact hrw e.symm
    exact ⟨v, c, e, ((hv v).mpr ⟨c, d, this⟩).2⟩
/-- one more is seen -/
theorem mv_vadd (hR : ∀ v, U v → mv_row (R v)) {w : Nat} {r x : Int32} (hw : U' w) (hs : mv_sees W' (M' w) (E' w)) (hRw : R' w = r) (hXw : X' w = x) (hv : ∀ v, v ≠ w → ((U' v ∧ mv_sees W' (M' v) (E' v)) ↔ (U v ∧ mv_sees W (M v) (E v)))) (hr : ∀ v, v ≠ w → R' v = R v ∧ X' v = X v) (hn : ¬ U w) (h0 : f r = none) (h1 : f' r = some x) (hf : ∀ q, mv_row q → q ≠ r → f' q = f q) (h : mv_uq U R M E W ∧ mv_mt U R M E X W f) : mv_uq U' R' M' E' W' ∧ mv_mt U' R' M' E' X' W' f' := by
  have hne : ∀ v, v ≠ w → U' v → mv_sees W' (M' v) (E' v) → R' v ≠ r := by
    intro v n a b e
    obtain ⟨c, d⟩ := (hv v n).mp ⟨a, b⟩
    have := h.2.1 v c d
    rw [← (hr v n).1, e, h0] at this
    exact absurd this (by simp)
  refine ⟨?_, ?_, ?_⟩
  · intro v z a b e c d
    by_cases ev : v = w
    · by_cases ez : z = w
      · rw [ev, ez]
      · exact absurd (by rw [← e, ev, hRw]) (hne z ez b d)
    · by_cases ez : z = w
      · exact absurd (by rw [e, ez, hRw]) (hne v ev a c)
      · obtain ⟨p1, p2⟩ := (hv v ev).mp ⟨a, c⟩
        obtain ⟨q1, q2⟩ := (hv z ez).mp ⟨b, d⟩
        exact h.1 v z p1 q1 (by rw [← (hr v ev).1, ← (hr z ez).1, e]) p2 q2
  · intro v a b
    by_cases ev : v = w
    · rw [ev, hRw, hXw, h1]
    · obtain ⟨c, d⟩ := (hv v ev).mp ⟨a, b⟩
      rw [hf _ (by rw [(hr v ev).1]; exact hR v c) (hne v ev a b), (hr v ev).1, (hr v ev).2]
      exact h.2.1 v c d
  · intro q y hq hy
    by_cases e : q = r
    · exact ⟨w, hw, by rw [hRw, e], hs⟩
    · rw [hf q hq e] at hy
      obtain ⟨v, c, e2, d⟩ := h.2.2 q y hq hy
      have n : v ≠ w := by intro ev; rw [ev] at c; exact hn c
      obtain ⟨a, b⟩ := (hv v n).mpr ⟨c, d⟩
      exact ⟨v, a, by rw [(hr v n).1, e2], b⟩
/-- another value -/
theorem mv_vset (hR : ∀ v, U v → mv_row (R v)) {w : Nat} {x : Int32} (hw : U w) (hs : mv_sees W (M w) (E w)) (hXw : X' w = x) (hr : ∀ v, v ≠ w → X' v = X v) (h1 : f' (R w) = some x) (hf : ∀ q, mv_row q → q ≠ R w → f' q = f q) (h : mv_uq U R M E W ∧ mv_mt U R M E X W f) : mv_uq U R M E W ∧ mv_mt U R M E X' W f' := by
  refine ⟨h.1, ?_, ?_⟩
  · intro v a b
    by_cases ev : v = w
    · rw [ev, hXw, h1]
    · have : R v ≠ R w := fun e => ev (h.1 v w a hw e b hs)
      rw [hf _ (hR v a) this, hr v ev]
      exact h.2.1 v a b
  · intro q y hq hy
    by_cases e : q = R w
    · exact ⟨w, hw, e.symm, hs⟩
    · rw [hf q hq e] at hy
      exact h.2.2 q y hq hy
end
theorem mv_vw_c {S S' : Nat → Int32 → Prop} {N N' : Nat → Nat → Int32} {u j : Nat} (hS : S' u = S u) (hN : ∀ k, k ≤ j → N' u k = N u k) : mv_vw S' N' u j = mv_vw S N u j := by
  funext x
  apply propext
  unfold mv_vw
  rw [hS]
  constructor
  · rintro (h | ⟨k, hk, e⟩)
    · exact Or.inl h
    · exact Or.inr ⟨k, hk, by rw [← hN k hk, e]⟩
  · rintro (h | ⟨k, hk, e⟩)
    · exact Or.inl h
    · exact Or.inr ⟨k, hk, by rw [hN k hk, e]⟩
theorem mv_sees_c {W W' : Int32 → Prop} {m e m' e' : Int32} (hm : (m' = 0 ∨ W' m') ↔ (m = 0 ∨ W m)) (he : (e' = 0 ∨ ¬ W' e') ↔ (e = 0 ∨ ¬ W e)) : mv_sees W' m' e' ↔ mv_sees W m e := by
  unfold mv_sees
  rw [hm, he]
theorem mv_ok0 : ¬ mv_ok 0 := fun h => mv_ok_ne h rfl
end
section
/-! steps that keep the invariant: ends of transactions -/
section
variable {U : Nat → Prop} {R M E X : Nat → Int32} {C P : Int32 → Prop} {O : Nat → Prop} {S : Nat → Int32 → Prop} {L : Nat → Nat} {N : Nat → Nat → Int32} {T : Nat → Nat → Int32 → Prop} {V : Nat → Int32 → Prop} {K : Int32 → Option Int32} {G : Nat → Nat → Int32 → Option Int32}
variable {U' : Nat → Prop} {R' M' E' X' : Nat → Int32} {C' P' : Int32 → Prop} {O' : Nat → Prop} {S' : Nat → Int32 → Prop} {L' : Nat → Nat} {N' : Nat → Nat → Int32} {T' : Nat → Nat → Int32 → Prop} {V' : Nat → Int32 → Prop} {K' : Int32 → Option Int32} {G' : Nat → Nat → Int32 → Option Int32}
theorem mv_s_back (h : mv_PI U R M E X C P O S L N T V K G) {t l : Nat} (ht : O t) (hl : L t = l + 1) (hP : ∀ n, P' n ↔ P n ∧ n ≠ N t (l + 1)) (hL : L' t = l) (hL' : ∀ u, u ≠ t → L' u = L u) (hG : ∀ u j r, O u → j ≤ L' u → mv_row r → G' u j r = G u j r) : mv_PI U R M E X C P' O S L' N T V K G' := by
  obtain ⟨h1, h2, h3, h4, h5, h6, h7, h8, h9, h10, h11, h12, h13, h14, h15, h16⟩ := h
  have hle : ∀ u, L' u ≤ L u := by
    intro u
    by_cases e : u = t
    · subst e; omega
    · rw [hL' u e]; exact Nat.le_refl _
  have hle' : ∀ u j, j ≤ L' u → j ≤ L u := fun u j hj => Nat.le_trans hj (hle u)
  refine ⟨h1, ?_, ?_, ?_, ?_, ?_, h7, h8, h9, ?_, ?_, h12, ?_, h14, ?_, ?_⟩
  · intro u hu; exact ⟨(h2 u hu).1, Nat.lt_of_le_of_lt (hle u) (h2 u hu).2⟩
  · intro u k hu hk
    rw [hP]
    refine ⟨h3 u k hu (hle' u k hk), fun e => ?_⟩
    obtain ⟨rfl, rfl⟩ := h5 u k t (l + 1) hu (hle' u k hk) ht (by omega) e
    omega
  · intro n hn
    obtain ⟨hp, hne⟩ := (hP n).mp hn
    obtain ⟨ho, u, k, hu, hk, e⟩ := h4 n hp
    refine ⟨ho, u, k, hu, ?_, e⟩
    by_cases eu : u = t
    · subst eu
      have : k ≠ l + 1 := fun ek => hne (by rw [← e, ek])
      omega
    · rw [hL' u eu]; exact hk
  · exact fun u k w j hu hk hw hj e => h5 u k w j hu (hle' _ _ hk) hw (hle' _ _ hj) e
  · exact fun n hn => ⟨(h6 n hn).1, fun hp => (h6 n hn).2 ((hP n).mp hp).1⟩
  · exact fun u j hu hj => mv_fc (fun v hv => (h1 v hv).2.1) (fun r hr => hG u j r hu hj hr) (h10 u j hu (hle' _ _ hj))
  · exact fun v u k hv hu hk e => h11 v u k hv hu (hle' _ _ hk) e
  · exact fun v u k hv hu hk e => h13 v u k hv hu (hle' _ _ hk) e
  · exact fun a b k j r ha hb hn hk hj => h15 a b k j r ha hb hn (hle' _ _ hk) (hle' _ _ hj)
  · exact fun a k r ha hk => h16 a k r ha (hle' _ _ hk)
theorem mv_s_abort (h : mv_PI U R M E X C P O S L N T V K G) {t : Nat} (ht : O t) (hP : ∀ n, P' n ↔ P n ∧ ¬ ∃ k, k ≤ L t ∧ N t k = n) (hO : ∀ u, O' u ↔ O u ∧ u ≠ t) : mv_PI U R M E X C P' O' S L N T V K G := by
  obtain ⟨h1, h2, h3, h4, h5, h6, h7, h8, h9, h10, h11, h12, h13, h14, h15, h16⟩ := h
  have ho : ∀ u, O' u → O u := fun u hu => ((hO u).mp hu).1
  refine ⟨h1, fun u hu => h2 u (ho u hu), ?_, ?_, fun a k b j ha hk hb => h5 a k b j (ho a ha) hk (ho b hb), ?_, fun u n hu => h7 u n (ho u hu), h8, fun u hu => h9 u (ho u hu), fun u j hu => h10 u j (ho u hu), fun v u k hv hu => h11 v u k hv (ho u hu), h12, fun v u k hv hu => h13 v u k hv (ho u hu), fun v u hv hu => h14 v u hv (ho u hu), fun a b k j r ha hb => h15 a b k j r (ho a ha) (ho b hb), fun a k r ha => h16 a k r (ho a ha)⟩
  · intro u k hu hk
    rw [hP]
    refine ⟨h3 u k (ho u hu) hk, ?_⟩
    rintro ⟨i, hi, e⟩
    exact ((hO u).mp hu).2 (h5 t i u k ht hi (ho u hu) hk e).1.symm
  · intro n hn
    obtain ⟨hp, hne⟩ := (hP n).mp hn
    obtain ⟨hk, u, k, hu, hk2, e⟩ := h4 n hp
    refine ⟨hk, u, k, (hO u).mpr ⟨hu, ?_⟩, hk2, e⟩
    rintro rfl
    exact hne ⟨k, hk2, e⟩
  · exact fun n hn => ⟨(h6 n hn).1, fun hp => (h6 n hn).2 ((hP n).mp hp).1⟩
theorem mv_s_crash (h : mv_PI U R M E X C P O S L N T V K G) (hP : ∀ n, ¬ P' n) (hO : ∀ u, ¬ O' u) : mv_PI U R M E X C P' O' S L N T V K G := by
  obtain ⟨h1, h2, h3, h4, h5, h6, h7, h8, h9, h10, h11, h12, h13, h14, h15, h16⟩ := h
  exact ⟨h1, fun u hu => absurd hu (hO u), fun u _ hu => absurd hu (hO u), fun n hn => absurd hn (hP n), fun u _ _ _ hu => absurd hu (hO u), fun n hn => ⟨(h6 n hn).1, hP n⟩, fun u _ hu => absurd hu (hO u), h8, fun u hu => absurd hu (hO u), fun u _ hu => absurd hu (hO u), fun _ u _ _ hu => absurd hu (hO u), h12, fun _ u _ _ hu => absurd hu (hO u), fun _ u _ hu => absurd hu (hO u), fun u _ _ _ _ hu => absurd hu (hO u), fun u _ _ hu => absurd hu (hO u)⟩
theorem mv_s_commit (h : mv_PI U R M E X C P O S L N T V K G) {t : Nat} (ht : O t) (hP : ∀ n, P' n ↔ P n ∧ ¬ ∃ k, k ≤ L t ∧ N t k = n) (hO : ∀ u, O' u ↔ O u ∧ u ≠ t) (hC : ∀ n, C' n ↔ C n ∨ ∃ k, k ≤ L t ∧ N t k = n) (hV : ∀ u r, u < 4 → (V' u r ↔ V u r ∨ ∃ k, k ≤ L t ∧ T t k r)) (hK1 : ∀ r, mv_row r → (∃ k, k ≤ L t ∧ T t k r) → K' r = G t (L t) r) (hK2 : ∀ r, mv_row r → (¬ ∃ k, k ≤ L t ∧ T t k r) → K' r = K r) : mv_PI U R M E X C' P' O' S L N T V' K' G := by
  obtain ⟨h1, h2, h3, h4, h5, h6, h7, h8, h9, h10, h11, h12, h13, h14, h15, h16⟩ := mv_s_abort h ht hP hO
  obtain ⟨g1, g2, g3, g4, g5, g6, g7, g8, g9, g10, g11, g12, g13, g14, g15, g16⟩ := h
  have ho : ∀ u, O' u → O u := fun u hu => ((hO u).mp hu).1
  have hA : ∀ v, U v → (∃ k, k ≤ L t ∧ T t k (R v)) → (mv_sees C' (M v) (E v) ↔ mv_sees (mv_vw S N t (L t)) (M v) (E v)) := by
    rintro v hv ⟨k, hk, hT⟩
    obtain ⟨a, b⟩ := g14 v t hv ht (g16 t k _ ht hk hT)
    have q : ∀ n, (C n → S t n) → (C' n ↔ mv_vw S N t (L t) n) := by
      intro n hn
      rw [hC]
      constructor
      · rintro (c | c)
        · exact Or.inl (hn c)
        · exact Or.inr c
      · rintro (c | c)
        · exact Or.inl (g7 t n ht c)
        · exact Or.inr c
    exact mv_sees_c (by rw [q _ a]) (by rw [q _ b])
  have hB : ∀ v, U v → (¬ ∃ k, k ≤ L t ∧ T t k (R v)) → (C' (M v) ↔ C (M v)) ∧ (C' (E v) ↔ C (E v)) := by
    intro v hv hT
    refine ⟨?_, ?_⟩
    · rw [hC]
      constructor
      · rintro (c | ⟨k, hk, e⟩)
        · exact c
        · exact absurd ⟨k, hk, g11 v t k hv ht hk (Or.inl e.symm)⟩ hT
      · exact Or.inl
    · rw [hC]
      constructor
      · rintro (c | ⟨k, hk, e⟩)
        · exact c
        · exact absurd ⟨k, hk, g11 v t k hv ht hk (Or.inr e.symm)⟩ hT
      · exact Or.inl
  have hB' : ∀ v, U v → (¬ ∃ k, k ≤ L t ∧ T t k (R v)) → (mv_sees C' (M v) (E v) ↔ mv_sees C (M v) (E v)) := by
    intro v hv hT
    obtain ⟨a, b⟩ := hB v hv hT
    exact mv_sees_c (by rw [a]) (by rw [b])
  have k10 := g10 t (L t) ht (Nat.le_refl _)
  refine ⟨h1, h2, h3, h4, h5, ?_, ?_, ?_, h9, h10, h11, ?_, h13, ?_, h15, ?_⟩
  · intro n hn
    rcases (hC n).mp hn with c | ⟨k, hk, e⟩
    · exact h6 n c
    · refine ⟨e ▸ (g4 _ (g3 t k ht hk)).1, fun hp => ((hP n).mp hp).2 ⟨k, hk, e⟩⟩
  · exact fun u n hu hs => (hC n).mpr (Or.inl (h7 u n hu hs))
  · refine ⟨?_, ?_, ?_⟩
    · intro v w hv hw e sv sw
      by_cases c : ∃ k, k ≤ L t ∧ T t k (R v)
      · exact k10.1 v w hv hw e ((hA v hv c).mp sv) ((hA w hw (e ▸ c)).mp sw)
      · exact g8.1 v w hv hw e ((hB' v hv c).mp sv) ((hB' w hw (e ▸ c)).mp sw)
    · intro v hv sv
      by_cases c : ∃ k, k ≤ L t ∧ T t k (R v)
      · rw [hK1 _ (g1 v hv).2.1 c]
        exact k10.2.1 v hv ((hA v hv c).mp sv)
      · rw [hK2 _ (g1 v hv).2.1 c]
        exact g8.2.1 v hv ((hB' v hv c).mp sv)
    · intro r x hr hx
      by_cases c : ∃ k, k ≤ L t ∧ T t k r
      · rw [hK1 _ hr c] at hx
        obtain ⟨v, hv, e, sv⟩ := k10.2.2 r x hr hx
        exact ⟨v, hv, e, (hA v hv (e ▸ c)).mpr sv⟩
      · rw [hK2 _ hr c] at hx
        obtain ⟨v, hv, e, sv⟩ := g8.2.2 r x hr hx
        exact ⟨v, hv, e, (hB' v hv (e ▸ c)).mpr sv⟩
  · intro v hv hc
    rcases (hC _).mp hc with c | ⟨k, hk, e⟩
    · rcases g12 v hv c with d | d
      · exact Or.inl d
      · exact Or.inr ((hC _).mpr (Or.inl d))
    · rcases g13 v t k hv ht hk e.symm with d | d | ⟨i, hi, d⟩
      · exact Or.inl d
      · exact Or.inr ((hC _).mpr (Or.inl (g7 t _ ht d)))
      · exact Or.inr ((hC _).mpr (Or.inr ⟨i, Nat.le_trans hi hk, d⟩))
  · intro v u hv hu hn
    have hu4 := (h2 u hu).1
    have hn1 : ¬ V u (R v) := fun z => hn ((hV u _ hu4).mpr (Or.inl z))
    have hn2 : ¬ ∃ k, k ≤ L t ∧ T t k (R v) := fun z => hn ((hV u _ hu4).mpr (Or.inr z))
    obtain ⟨a, b⟩ := hB v hv hn2
    rw [a, b]
    exact h14 v u hv hu hn1
  · intro u k r hu hk hT hv
    rcases (hV u r (h2 u hu).1).mp hv with c | ⟨i, hi, c⟩
    · exact h16 u k r hu hk hT c
    · exact g15 t u i k r ht (ho u hu) (Ne.symm ((hO u).mp hu).2) hi hk c hT
end
end
section
/-! steps that keep the invariant: new numbers -/
section
variable {U : Nat → Prop} {R M E X : Nat → Int32} {C P : Int32 → Prop} {O : Nat → Prop} {S : Nat → Int32 → Prop} {L : Nat → Nat} {N : Nat → Nat → Int32} {T : Nat → Nat → Int32 → Prop} {V : Nat → Int32 → Prop} {K : Int32 → Option Int32} {G : Nat → Nat → Int32 → Option Int32}
variable {U' : Nat → Prop} {R' M' E' X' : Nat → Int32} {C' P' : Int32 → Prop} {O' : Nat → Prop} {S' : Nat → Int32 → Prop} {L' : Nat → Nat} {N' : Nat → Nat → Int32} {T' : Nat → Nat → Int32 → Prop} {V' : Nat → Int32 → Prop} {K' : Int32 → Option Int32} {G' : Nat → Nat → Int32 → Option Int32}
theorem mv_s_open (h : mv_PI U R M E X C P O S L N T V K G) {t : Nat} (t4 : t < 4) (ht : ¬ O t) {n : Int32} (nk : mv_ok n) (nC : ¬ C n) (nP : ¬ P n) (nU : ∀ v, U v → M v ≠ n ∧ E v ≠ n) (hP : ∀ x, P' x ↔ P x ∨ x = n) (hO : ∀ u, O' u ↔ O u ∨ u = t) (hS : S' t = C) (hS' : ∀ u, u ≠ t → S' u = S u) (hL : L' t = 0) (hL' : ∀ u, u ≠ t → L' u = L u) (hN : N' t 0 = n) (hN' : ∀ u k, u ≠ t → k < 4 → N' u k = N u k) (hT : ∀ r, ¬ T' t 0 r) (hT' : ∀ u k, u ≠ t → k < 4 → T' u k = T u k) (hV : ∀ r, ¬ V' t r) (hV' : ∀ u, u ≠ t → V' u = V u) (hG : ∀ r, mv_row r → G' t 0 r = K r) (hG' : ∀ u j r, O u → u ≠ t → j ≤ L u → mv_row r → G' u j r = G u j r) : mv_PI U R M E X C P' O' S' L' N' T' V' K G' := by
  obtain ⟨h1, h2, h3, h4, h5, h6, h7, h8, h9, h10, h11, h12, h13, h14, h15, h16⟩ := h
  have ho : ∀ u, O' u → u ≠ t → O u := fun u hu e => ((hO u).mp hu).resolve_right e
  have hne : ∀ u, O u → u ≠ t := fun u hu e => ht (e ▸ hu)
  have hNN : ∀ u k, O u → k ≤ L u → N' u k = N u k := fun u k hu hk => hN' u k (hne u hu) (by have := (h2 u hu).2; omega)
  have hTT : ∀ u k, O u → k ≤ L u → T' u k = T u k := fun u k hu hk => hT' u k (hne u hu) (by have := (h2 u hu).2; omega)
  have hW : ∀ u j, O u → j ≤ L u → mv_vw S' N' u j = mv_vw S N u j := fun u j hu hj => mv_vw_c (hS' u (hne u hu)) (fun k hk => hNN u k hu (by omega))
  refine ⟨h1, ?_, ?_, ?_, ?_, ?_, ?_, h8, ?_, ?_, ?_, h12, ?_, ?_, ?_, ?_⟩
  · intro u hu
    by_cases e : u = t
    · subst e; exact ⟨t4, by omega⟩
    · rw [hL' u e]; exact h2 u (ho u hu e)
  · intro u k hu hk
    rw [hP]
    by_cases e : u = t
    · subst e
      have : k = 0 := by omega
      subst this; exact Or.inr hN
    · rw [hL' u e] at hk
      rw [hNN u k (ho u hu e) hk]
      exact Or.inl (h3 u k (ho u hu e) hk)
  · intro x hx
    rcases (hP x).mp hx with hx | hx
    · obtain ⟨a, u, k, hu, hk, e⟩ := h4 x hx
      exact ⟨a, u, k, (hO u).mpr (Or.inl hu), by rw [hL' u (hne u hu)]; exact hk, by rw [hNN u k hu hk, e]⟩
    · subst hx
      exact ⟨nk, t, 0, (hO t).mpr (Or.inr rfl), by omega, hN⟩
  · intro a k b j ha hk hb hj e
    by_cases ea : a = t
    · by_cases eb : b = t
      · subst ea; subst eb; exact ⟨rfl, by omega⟩
      · exfalso
        rw [hL' b eb] at hj
        rw [hNN b j (ho b hb eb) hj] at e
        subst ea
        have : k = 0 := by omega
        subst this
        rw [hN] at e
        exact nP (e ▸ h3 b j (ho b hb eb) hj)
    · rw [hL' a ea] at hk
      rw [hNN a k (ho a ha ea) hk] at e
      by_cases eb : b = t
      · exfalso
        subst eb
        have : j = 0 := by omega
        subst this
        rw [hN] at e
        exact nP (e ▸ h3 a k (ho a ha ea) hk)
      · rw [hL' b eb] at hj
        rw [hNN b j (ho b hb eb) hj] at e
        exact h5 a k b j (ho a ha ea) hk (ho b hb eb) hj e
  · intro x hx
    refine ⟨(h6 x hx).1, fun hp => ?_⟩
    rcases (hP x).mp hp with hp | hp
    · exact (h6 x hx).2 hp
    · subst hp; exact nC hx
  · intro u x hu hs
    by_cases e : u = t
    · subst e; rw [hS] at hs; exact hs
    · rw [hS' u e] at hs; exact h7 u x (ho u hu e) hs
  · intro u hu
    by_cases e : u = t
    · subst e; rw [hS]; exact h8.1
    · rw [hS' u e]; exact h9 u (ho u hu e)
  · intro u j hu hj
    by_cases e : u = t
    · subst e
      have : j = 0 := by omega
      subst this
      have q : ∀ x, x ≠ n → (mv_vw S' N' u 0 x ↔ C x) := by
        intro x hx
        unfold mv_vw
        rw [hS]
        constructor
        · rintro (c | ⟨k, hk, c⟩)
          · exact c
          · have : k = 0 := by omega
            subst this
            exact absurd (c.symm.trans hN) hx
        · exact Or.inl
      refine mv_vc (fun v hv => (h1 v hv).2.1) (fun v => ?_) (fun _ _ _ => ⟨rfl, rfl⟩) (fun r hr => hG r hr) h8
      refine ⟨fun z => ⟨z.1, ?_⟩, fun z => ⟨z.1, ?_⟩⟩
      · exact (mv_sees_c (by rw [q _ (nU v z.1).1]) (by rw [q _ (nU v z.1).2])).mp z.2
      · exact (mv_sees_c (by rw [q _ (nU v z.1).1]) (by rw [q _ (nU v z.1).2])).mpr z.2
    · rw [hL' u e] at hj
      rw [hW u j (ho u hu e) hj]
      exact mv_fc (fun v hv => (h1 v hv).2.1) (fun r hr => hG' u j r (ho u hu e) e hj hr) (h10 u j (ho u hu e) hj)
  · intro v u k hv hu hk e1
    by_cases e : u = t
    · subst e
      have : k = 0 := by omega
      subst this
      rw [hN] at e1
      rcases e1 with e1 | e1
      · exact absurd e1 (nU v hv).1
      · exact absurd e1 (nU v hv).2
    · rw [hL' u e] at hk
      rw [hNN u k (ho u hu e) hk] at e1
      rw [hTT u k (ho u hu e) hk]
      exact h11 v u k hv (ho u hu e) hk e1
  · intro v u k hv hu hk e1
    by_cases e : u = t
    · subst e
      have : k = 0 := by omega
      subst this
      rw [hN] at e1
      exact absurd e1 (nU v hv).2
    · rw [hL' u e] at hk
      rw [hNN u k (ho u hu e) hk] at e1
      rw [hW u k (ho u hu e) hk]
      exact h13 v u k hv (ho u hu e) hk e1
  · intro v u hv hu hn
    by_cases e : u = t
    · subst e; rw [hS]; exact ⟨id, id⟩
    · rw [hV' u e] at hn
      rw [hS' u e]
      exact h14 v u hv (ho u hu e) hn
  · intro a b k j r ha hb hn hk hj ta tb
    by_cases ea : a = t
    · subst ea
      have : k = 0 := by omega
      subst this
      exact hT r ta
    · by_cases eb : b = t
      · subst eb
        have : j = 0 := by omega
        subst this
        exact hT r tb
      · rw [hL' a ea] at hk
        rw [hL' b eb] at hj
        rw [hTT a k (ho a ha ea) hk] at ta
        rw [hTT b j (ho b hb eb) hj] at tb
        exact h15 a b k j r (ho a ha ea) (ho b hb eb) hn hk hj ta tb
  · intro u k r hu hk ta
    by_cases e : u = t
    · subst e; exact hV r
    · rw [hL' u e] at hk
      rw [hTT u k (ho u hu e) hk] at ta
      rw [hV' u e]
      exact h16 u k r (ho u hu e) hk ta
theorem mv_s_save (h : mv_PI U R M E X C P O S L N T V K G) {t l : Nat} (ht : O t) (hl : L t = l) (l4 : l + 1 < 4) {n : Int32} (nk : mv_ok n) (nC : ¬ C n) (nP : ¬ P n) (nU : ∀ v, U v → M v ≠ n ∧ E v ≠ n) (hP : ∀ x, P' x ↔ P x ∨ x = n) (hL : L' t = l + 1) (hL' : ∀ u, u ≠ t → L' u = L u) (hN : N' t (l + 1) = n) (hNN : ∀ u k, O u → k ≤ L u → N' u k = N u k) (hT : ∀ r, ¬ T' t (l + 1) r) (hTT : ∀ u k, O u → k ≤ L u → T' u k = T u k) (hG : ∀ r, mv_row r → G' t (l + 1) r = G t l r) (hG' : ∀ u j r, O u → j ≤ L u → mv_row r → G' u j r = G u j r) : mv_PI U R M E X C P' O S L' N' T' V K G' := by
  obtain ⟨h1, h2, h3, h4, h5, h6, h7, h8, h9, h10, h11, h12, h13, h14, h15, h16⟩ := h
  have hW : ∀ u j, O u → j ≤ L u → mv_vw S N' u j = mv_vw S N u j := fun u j hu hj => mv_vw_c rfl (fun k hk => hNN u k hu (by omega))
  have hc : ∀ u k, k ≤ L' u → (u = t ∧ k = l + 1) ∨ k ≤ L u := by
    intro u k hk
    by_cases e : u = t
    · subst e
      by_cases e2 : k = l + 1
      · exact Or.inl ⟨rfl, e2⟩
      · exact Or.inr (by omega)
    · rw [hL' u e] at hk; exact Or.inr hk
  have hle : ∀ u, L u ≤ L' u := by
    intro u
    by_cases e : u = t
    · subst e; omega
    · rw [hL' u e]; exact Nat.le_refl _
  refine ⟨h1, ?_, ?_, ?_, ?_, ?_, h7, h8, h9, ?_, ?_, h12, ?_, h14, ?_, ?_⟩
  · intro u hu
    by_cases e : u = t
    · subst e; exact ⟨(h2 u hu).1, by omega⟩
    · rw [hL' u e]; exact h2 u hu
  · intro u k hu hk
    rw [hP]
    rcases hc u k hk with ⟨rfl, rfl⟩ | hk
    · exact Or.inr hN
    · rw [hNN u k hu hk]
      exact Or.inl (h3 u k hu hk)
  · intro x hx
    rcases (hP x).mp hx with hx | hx
    · obtain ⟨a, u, k, hu, hk, e⟩ := h4 x hx
      exact ⟨a, u, k, hu, Nat.le_trans hk (hle u), by rw [hNN u k hu hk, e]⟩
    · subst hx
      exact ⟨nk, t, l + 1, ht, by omega, hN⟩
  · intro a k b j ha hk hb hj e
    rcases hc a k hk with ⟨rfl, rfl⟩ | hk
    · rcases hc b j hj with ⟨rfl, rfl⟩ | hj
      · exact ⟨rfl, rfl⟩
      · rw [hN, hNN b j hb hj] at e
        exact absurd (e ▸ h3 b j hb hj) nP
    · rcases hc b j hj with ⟨rfl, rfl⟩ | hj
      · rw [hN, hNN a k ha hk] at e
        exact absurd (e ▸ h3 a k ha hk) nP
      · rw [hNN a k ha hk, hNN b j hb hj] at e
        exact h5 a k b j ha hk hb hj e
  · intro x hx
    refine ⟨(h6 x hx).1, fun hp => ?_⟩
    rcases (hP x).mp hp with hp | hp
    · exact (h6 x hx).2 hp
    · subst hp; exact nC hx
  · intro u j hu hj
    rcases hc u j hj with ⟨rfl, rfl⟩ | hj
    · have q : ∀ x, x ≠ n → (mv_vw S N' u (l + 1) x ↔ mv_vw S N u l x) := by
        intro x hx
        unfold mv_vw
        constructor
        · rintro (c | ⟨k, hk, c⟩)
          · exact Or.inl c
          · by_cases e : k = l + 1
            · subst e; exact absurd (c.symm.trans hN) hx
            · exact Or.inr ⟨k, by omega, by rw [← hNN u k hu (by omega), c]⟩
        · rintro (c | ⟨k, hk, c⟩)
          · exact Or.inl c
          · exact Or.inr ⟨k, by omega, by rw [hNN u k hu (by omega), c]⟩
      refine mv_vc (fun v hv => (h1 v hv).2.1) (fun v => ?_) (fun _ _ _ => ⟨rfl, rfl⟩) (fun r hr => hG r hr) (h10 u l hu (by omega))
      refine ⟨fun z => ⟨z.1, ?_⟩, fun z => ⟨z.1, ?_⟩⟩
      · exact (mv_sees_c (by rw [q _ (nU v z.1).1]) (by rw [q _ (nU v z.1).2])).mp z.2
      · exact (mv_sees_c (by rw [q _ (nU v z.1).1]) (by rw [q _ (nU v z.1).2])).mpr z.2
    · rw [hW u j hu hj]
      exact mv_fc (fun v hv => (h1 v hv).2.1) (fun r hr => hG' u j r hu hj hr) (h10 u j hu hj)
  · intro v u k hv hu hk e1
    rcases hc u k hk with ⟨rfl, rfl⟩ | hk
    · rw [hN] at e1
      rcases e1 with e1 | e1
      · exact absurd e1 (nU v hv).1
      · exact absurd e1 (nU v hv).2
    · rw [hNN u k hu hk] at e1
      rw [hTT u k hu hk]
      exact h11 v u k hv hu hk e1
  · intro v u k hv hu hk e1
    rcases hc u k hk with ⟨rfl, rfl⟩ | hk
    · rw [hN] at e1
      exact absurd e1 (nU v hv).2
    · rw [hNN u k hu hk] at e1
      rw [hW u k hu hk]
      exact h13 v u k hv hu hk e1
  · intro a b k j r ha hb hn hk hj ta tb
    rcases hc a k hk with ⟨rfl, rfl⟩ | hk
    · exact hT r ta
    · rcases hc b j hj with ⟨rfl, rfl⟩ | hj
      · exact hT r tb
      · rw [hTT a k ha hk] at ta
        rw [hTT b j hb hj] at tb
        exact h15 a b k j r ha hb hn hk hj ta tb
  · intro u k r hu hk ta
    rcases hc u k hk with ⟨rfl, rfl⟩ | hk
    · exact absurd ta (hT r)
    · rw [hTT u k hu hk] at ta
      exact h16 u k r hu hk ta
end
end
section
/-! steps that keep the invariant: changes of rows -/
section
variable {U : Nat → Prop} {R M E X : Nat → Int32} {C P : Int32 → Prop} {O : Nat → Prop} {S : Nat → Int32 → Prop} {L : Nat → Nat} {N : Nat → Nat → Int32} {T : Nat → Nat → Int32 → Prop} {V : Nat → Int32 → Prop} {K : Int32 → Option Int32} {G : Nat → Nat → Int32 → Option Int32}
variable {U' : Nat → Prop} {R' M' E' X' : Nat → Int32} {C' P' : Int32 → Prop} {O' : Nat → Prop} {S' : Nat → Int32 → Prop} {L' : Nat → Nat} {N' : Nat → Nat → Int32} {T' : Nat → Nat → Int32 → Prop} {V' : Nat → Int32 → Prop} {K' : Int32 → Option Int32} {G' : Nat → Nat → Int32 → Option Int32}
theorem mv_s_touch (h : mv_PI U R M E X C P O S L N T V K G) {t : Nat} (ht : O t) {r : Int32} (hb : ∀ u k, O u → u ≠ t → k ≤ L u → ¬ T u k r) (hv : ¬ V t r) (hT : ∀ q, T' t (L t) q ↔ T t (L t) q ∨ q = r) (hT' : ∀ u k, O u → k ≤ L u → ¬ (u = t ∧ k = L t) → T' u k = T u k) : mv_PI U R M E X C P O S L N T' V K G := by
  obtain ⟨h1, h2, h3, h4, h5, h6, h7, h8, h9, h10, h11, h12, h13, h14, h15, h16⟩ := h
  have hT2 : ∀ u k q, O u → k ≤ L u → T' u k q → T u k q ∨ (u = t ∧ q = r) := by
    intro u k q hu hk hq
    by_cases e : u = t ∧ k = L t
    · obtain ⟨rfl, rfl⟩ := e
      rcases (hT q).mp hq with c | c
      · exact Or.inl c
      · exact Or.inr ⟨rfl, c⟩
    · rw [hT' u k hu hk e] at hq
      exact Or.inl hq
  refine ⟨h1, h2, h3, h4, h5, h6, h7, h8, h9, h10, ?_, h12, h13, h14, ?_, ?_⟩
  · intro v u k hv hu hk e1
    have := h11 v u k hv hu hk e1
    by_cases e : u = t ∧ k = L t
    · obtain ⟨rfl, rfl⟩ := e
      exact (hT _).mpr (Or.inl this)
    · rw [hT' u k hu hk e]; exact this
  · intro a b k j q ha hb' hn hk hj ta tb
    rcases hT2 a k q ha hk ta with c | ⟨rfl, rfl⟩
    · rcases hT2 b j q hb' hj tb with d | ⟨rfl, rfl⟩
      · exact h15 a b k j q ha hb' hn hk hj c d
      · exact hb a k ha hn hk c
    · rcases hT2 b j q hb' hj tb with d | ⟨rfl, _⟩
      · exact hb b j hb' (Ne.symm hn) hj d
      · exact hn rfl
  · intro u k q hu hk ta
    rcases hT2 u k q hu hk ta with c | ⟨rfl, rfl⟩
    · exact h16 u k q hu hk c
    · exact hv
theorem mv_s_end (h : mv_PI U R M E X C P O S L N T V K G) {t : Nat} (ht : O t) {w : Nat} (hw : U w) (hT : T t (L t) (R w)) (hs : mv_sees (mv_vw S N t (L t)) (M w) (E w)) (hE : E' w = N t (L t)) (hE' : ∀ v, v ≠ w → E' v = E v) (hG : G' t (L t) (R w) = none) (hG' : ∀ u j r, O u → j ≤ L u → mv_row r → ¬ (u = t ∧ j = L t ∧ r = R w) → G' u j r = G u j r) : mv_PI U R M E' X C P O S L N T V K G' := by
  obtain ⟨h1, h2, h3, h4, h5, h6, h7, h8, h9, h10, h11, h12, h13, h14, h15, h16⟩ := h
  have hnP : P (N t (L t)) := h3 t _ ht (Nat.le_refl _)
  have hnk : mv_ok (N t (L t)) := (h4 _ hnP).1
  have hnC : ¬ C (N t (L t)) := fun c => (h6 _ c).2 hnP
  have hz : ¬ C (E w) ∧ ¬ P (E w) := by
    refine ⟨fun c => ?_, fun c => ?_⟩
    · rcases hs.2 with e | e
      · exact mv_ok_ne (h6 _ c).1 e
      · exact e (Or.inl ((h14 w t hw ht (h16 t _ _ ht (Nat.le_refl _) hT)).2 c))
    · rcases hs.2 with e | e
      · exact mv_ok_ne (h4 _ c).1 e
      · obtain ⟨_, u, k, hu, hk, e1⟩ := h4 _ c
        by_cases eu : u = t
        · subst eu; exact e (Or.inr ⟨k, hk, e1⟩)
        · exact h15 u t k _ (R w) hu ht eu hk (Nat.le_refl _) (h11 w u k hw hu hk (Or.inr e1.symm)) hT
  have cl : ∀ W : Int32 → Prop, (∀ x, W x → C x ∨ P x) → ¬ W (N t (L t)) → ∀ v, (U v ∧ mv_sees W (M v) (E' v)) ↔ (U v ∧ mv_sees W (M v) (E v)) := by
    intro W hW hn v
    by_cases e : v = w
    · subst e
      have hew : ¬ W (E v) := fun c => (hW _ c).elim hz.1 hz.2
      refine ⟨fun z => ⟨z.1, z.2.1, Or.inr hew⟩, fun z => ⟨z.1, z.2.1, Or.inr (by rw [hE]; exact hn)⟩⟩
    · rw [hE' v e]
  have hR : ∀ v, U v → mv_row (R v) := fun v hv => (h1 v hv).2.1
  have hsub : ∀ u j, O u → j ≤ L u → ∀ x, mv_vw S N u j x → C x ∨ P x := by
    rintro u j hu hj x (c | ⟨k, hk, c⟩)
    · exact Or.inl (h7 u x hu c)
    · exact Or.inr (c ▸ h3 u k hu (by omega))
  have hnv : ∀ u j, O u → j ≤ L u → mv_vw S N u j (N t (L t)) → u = t ∧ j = L t := by
    rintro u j hu hj (c | ⟨k, hk, c⟩)
    · exact absurd (h7 u _ hu c) hnC
    · obtain ⟨rfl, rfl⟩ := h5 u k t (L t) hu (by omega) ht (Nat.le_refl _) c
      exact ⟨rfl, by omega⟩
  refine ⟨?_, h2, h3, h4, h5, h6, h7, ?_, ?_, ?_, ?_, ?_, ?_, ?_, h15, h16⟩
  · intro v hv
    obtain ⟨a, b, c, d⟩ := h1 v hv
    refine ⟨a, b, c, ?_⟩
    by_cases e : v = w
    · subst e; rw [hE]; exact Or.inr hnk
    · rw [hE' v e]; exact d
  · exact mv_vc hR (cl C (fun x hx => Or.inl hx) hnC) (fun _ _ _ => ⟨rfl, rfl⟩) (fun _ _ => rfl) h8
  · intro u hu
    exact mv_vcu (fun v => (cl (S u) (fun x hx => Or.inl (h7 u x hu hx)) (fun c => hnC (h7 u _ hu c)) v).mp) (fun _ _ _ => rfl) (h9 u hu)
  · intro u j hu hj
    by_cases e : u = t ∧ j = L t
    · obtain ⟨rfl, rfl⟩ := e
      refine mv_vdel hR hw hs (fun v => ?_) hG (fun r hr hn => hG' u _ r hu hj hr (fun c => hn c.2.2)) (h10 u _ hu hj)
      by_cases e : v = w
      · subst e
        refine ⟨fun z => ?_, fun z => absurd rfl z.2.2⟩
        have := z.2.2
        rw [hE] at this
        rcases this with c | c
        · exact absurd c (mv_ok_ne hnk)
        · exact absurd (Or.inr ⟨_, Nat.le_refl _, rfl⟩) c
      · rw [hE' v e]
        exact ⟨fun z => ⟨z.1, z.2, e⟩, fun z => ⟨z.1, z.2.1⟩⟩
    · exact mv_vc hR (cl _ (hsub u j hu hj) (fun c => e (hnv u j hu hj c))) (fun _ _ _ => ⟨rfl, rfl⟩) (fun r hr => hG' u j r hu hj hr (fun c => e ⟨c.1, c.2.1⟩)) (h10 u j hu hj)
  · intro v u k hv hu hk e1
    by_cases e : v = w
    · subst e
      rcases e1 with c | c
      · exact h11 v u k hv hu hk (Or.inl c)
      · rw [hE] at c
        obtain ⟨rfl, rfl⟩ := h5 t _ u k ht (Nat.le_refl _) hu hk c
        exact hT
    · rw [hE' v e] at e1
      exact h11 v u k hv hu hk e1
  · intro v hv hc
    by_cases e : v = w
    · subst e; rw [hE] at hc; exact absurd hc hnC
    · rw [hE' v e] at hc; exact h12 v hv hc
  · intro v u k hv hu hk e1
    by_cases e : v = w
    · subst e
      rw [hE] at e1
      obtain ⟨rfl, rfl⟩ := h5 t _ u k ht (Nat.le_refl _) hu hk e1
      exact hs.1
    · rw [hE' v e] at e1
      exact h13 v u k hv hu hk e1
  · intro v u hv hu hn
    by_cases e : v = w
    · subst e
      exact ⟨(h14 v u hv hu hn).1, fun c => absurd (hE ▸ c) hnC⟩
    · rw [hE' v e]; exact h14 v u hv hu hn
theorem mv_s_make (h : mv_PI U R M E X C P O S L N T V K G) {t : Nat} (ht : O t) {w : Nat} (w96 : w < 96) (hw : ¬ U w) {r x : Int32} (hr : mv_row r) (hT : T t (L t) r) (hno : G t (L t) r = none) (hU : ∀ v, U' v ↔ U v ∨ v = w) (hRw : R' w = r) (hR' : ∀ v, v ≠ w → R' v = R v) (hXw : X' w = x) (hX' : ∀ v, v ≠ w → X' v = X v) (hMw : M' w = N t (L t)) (hM' : ∀ v, v ≠ w → M' v = M v) (hEw : E' w = 0) (hE' : ∀ v, v ≠ w → E' v = E v) (hG : G' t (L t) r = some x) (hG' : ∀ u j q, O u → j ≤ L u → mv_row q → ¬ (u = t ∧ j = L t ∧ q = r) → G' u j q = G u j q) : mv_PI U' R' M' E' X' C P O S L N T V K G' := by
  obtain ⟨h1, h2, h3, h4, h5, h6, h7, h8, h9, h10, h11, h12, h13, h14, h15, h16⟩ := h
  have hnP : P (N t (L t)) := h3 t _ ht (Nat.le_refl _)
  have hnk : mv_ok (N t (L t)) := (h4 _ hnP).1
  have hnC : ¬ C (N t (L t)) := fun c => (h6 _ c).2 hnP
  have hne : ∀ v, U v → v ≠ w := fun v hv e => hw (e ▸ hv)
  have hu' : ∀ v, U' v → v ≠ w → U v := fun v hv e => ((hU v).mp hv).resolve_right e
  have hR : ∀ v, U v → mv_row (R v) := fun v hv => (h1 v hv).2.1
  have cl : ∀ W : Int32 → Prop, ¬ W (N t (L t)) → ∀ v, (U' v ∧ mv_sees W (M' v) (E' v)) ↔ (U v ∧ mv_sees W (M v) (E v)) := by
    intro W hn v
    by_cases e : v = w
    · subst e
      refine ⟨fun z => ?_, fun z => absurd z.1 hw⟩
      have := z.2.1
      rw [hMw] at this
      rcases this with c | c
      · exact absurd c (mv_ok_ne hnk)
      · exact absurd c hn
    · rw [hM' v e, hE' v e, hU]
      exact ⟨fun z => ⟨z.1.resolve_right e, z.2⟩, fun z => ⟨Or.inl z.1, z.2⟩⟩
  have hrx : ∀ v, U v → R' v = R v ∧ X' v = X v := fun v hv => ⟨hR' v (hne v hv), hX' v (hne v hv)⟩
  have hnv : ∀ u j, O u → j ≤ L u → mv_vw S N u j (N t (L t)) → u = t ∧ j = L t := by
    rintro u j hu hj (c | ⟨k, hk, c⟩)
    · exact absurd (h7 u _ hu c) hnC
    · obtain ⟨rfl, rfl⟩ := h5 u k t (L t) hu (by omega) ht (Nat.le_refl _) c
      exact ⟨rfl, by omega⟩
  have hN0 : ∀ u k, O u → k ≤ L u → N u k ≠ 0 := fun u k hu hk => mv_ok_ne (h4 _ (h3 u k hu hk)).1
  refine ⟨?_, h2, h3, h4, h5, h6, h7, ?_, ?_, ?_, ?_, ?_, ?_, ?_, h15, h16⟩
  · intro v hv
    by_cases e : v = w
    · subst e; rw [hRw, hMw, hEw]; exact ⟨w96, hr, Or.inr hnk, Or.inl rfl⟩
    · rw [hR' v e, hM' v e, hE' v e]; exact h1 v (hu' v hv e)
  · exact mv_vc hR (cl C hnC) (fun v hv _ => hrx v hv) (fun _ _ => rfl) h8
  · intro u hu
    exact mv_vcu (fun v => (cl (S u) (fun c => hnC (h7 u _ hu c)) v).mp) (fun v hv _ => (hrx v hv).1) (h9 u hu)
  · intro u j hu hj
    by_cases e : u = t ∧ j = L t
    · obtain ⟨rfl, rfl⟩ := e
      refine mv_vadd hR ((hU w).mpr (Or.inr rfl)) ?_ hRw hXw (fun v e => ?_) (fun v e => ⟨hR' v e, hX' v e⟩) hw hno hG (fun q hq hn => hG' u _ q hu hj hq (fun c => hn c.2.2)) (h10 u _ hu hj)
      · rw [hMw, hEw]; exact ⟨Or.inr (Or.inr ⟨_, Nat.le_refl _, rfl⟩), Or.inl rfl⟩
      · rw [hM' v e, hE' v e, hU]
        exact ⟨fun z => ⟨z.1.resolve_right e, z.2⟩, fun z => ⟨Or.inl z.1, z.2⟩⟩
    · exact mv_vc hR (cl _ (fun c => e (hnv u j hu hj c))) (fun v hv _ => hrx v hv) (fun q hq => hG' u j q hu hj hq (fun c => e ⟨c.1, c.2.1⟩)) (h10 u j hu hj)
  · intro v u k hv hu hk e1
    by_cases e : v = w
    · subst e
      rw [hMw, hEw] at e1
      rcases e1 with c | c
      · obtain ⟨rfl, rfl⟩ := h5 t _ u k ht (Nat.le_refl _) hu hk c
        rw [hRw]; exact hT
      · exact absurd c.symm (hN0 u k hu hk)
    · rw [hM' v e, hE' v e] at e1
      rw [hR' v e]
      exact h11 v u k (hu' v hv e) hu hk e1
  · intro v hv hc
    by_cases e : v = w
    · subst e; rw [hEw] at hc; exact absurd (h6 _ hc).1 mv_ok0
    · rw [hE' v e] at hc; rw [hM' v e]; exact h12 v (hu' v hv e) hc
  · intro v u k hv hu hk e1
    by_cases e : v = w
    · subst e
      rw [hEw] at e1
      exact absurd e1.symm (hN0 u k hu hk)
    · rw [hE' v e] at e1
      rw [hM' v e]
      exact h13 v u k (hu' v hv e) hu hk e1
  · intro v u hv hu hn
    by_cases e : v = w
    · subst e
      rw [hMw, hEw]
      exact ⟨fun c => absurd c hnC, fun c => absurd (h6 _ c).1 mv_ok0⟩
    · rw [hR' v e] at hn
      rw [hM' v e, hE' v e]; exact h14 v u (hu' v hv e) hu hn
theorem mv_s_set (h : mv_PI U R M E X C P O S L N T V K G) {t : Nat} (ht : O t) {w : Nat} (hw : U w) {x : Int32} (hM : M w = N t (L t)) (hs : mv_sees (mv_vw S N t (L t)) (M w) (E w)) (hXw : X' w = x) (hX' : ∀ v, v ≠ w → X' v = X v) (hG : G' t (L t) (R w) = some x) (hG' : ∀ u j q, O u → j ≤ L u → mv_row q → ¬ (u = t ∧ j = L t ∧ q = R w) → G' u j q = G u j q) : mv_PI U R M E X' C P O S L N T V K G' := by
  obtain ⟨h1, h2, h3, h4, h5, h6, h7, h8, h9, h10, h11, h12, h13, h14, h15, h16⟩ := h
  have hnP : P (N t (L t)) := h3 t _ ht (Nat.le_refl _)
  have hnk : mv_ok (N t (L t)) := (h4 _ hnP).1
  have hnC : ¬ C (N t (L t)) := fun c => (h6 _ c).2 hnP
  have hR : ∀ v, U v → mv_row (R v) := fun v hv => (h1 v hv).2.1
  have hnv : ∀ u j, O u → j ≤ L u → mv_vw S N u j (N t (L t)) → u = t ∧ j = L t := by
    rintro u j hu hj (c | ⟨k, hk, c⟩)
    · exact absurd (h7 u _ hu c) hnC
    · obtain ⟨rfl, rfl⟩ := h5 u k t (L t) hu (by omega) ht (Nat.le_refl _) c
      exact ⟨rfl, by omega⟩
  have cl : ∀ W : Int32 → Prop, ¬ W (N t (L t)) → ∀ v, U v → mv_sees W (M v) (E v) → R v = R v ∧ X' v = X v := by
    intro W hn v hv hsv
    refine ⟨rfl, hX' v ?_⟩
    rintro rfl
    rcases hsv.1 with c | c
    · rw [hM] at c; exact mv_ok_ne hnk c
    · rw [hM] at c; exact hn c
  refine ⟨h1, h2, h3, h4, h5, h6, h7, ?_, h9, ?_, h11, h12, h13, h14, h15, h16⟩
  · exact mv_vc hR (fun _ => Iff.rfl) (cl C hnC) (fun _ _ => rfl) h8
  · intro u j hu hj
    by_cases e : u = t ∧ j = L t
    · obtain ⟨rfl, rfl⟩ := e
      exact mv_vset hR hw hs hXw hX' hG (fun q hq hn => hG' u _ q hu hj hq (fun c => hn c.2.2)) (h10 u _ hu hj)
    · exact mv_vc hR (fun _ => Iff.rfl) (cl _ (fun c => e (hnv u j hu hj c))) (fun q hq => hG' u j q hu hj hq (fun c => e ⟨c.1, c.2.1⟩)) (h10 u j hu hj)
end
end
section
/-! steps that keep the invariant: tidying -/
section
variable {U : Nat → Prop} {R M E X : Nat → Int32} {C P : Int32 → Prop} {O : Nat → Prop} {S : Nat → Int32 → Prop} {L : Nat → Nat} {N : Nat → Nat → Int32} {T : Nat → Nat → Int32 → Prop} {V : Nat → Int32 → Prop} {K : Int32 → Option Int32} {G : Nat → Nat → Int32 → Option Int32}
variable {U' : Nat → Prop} {R' M' E' X' : Nat → Int32} {C' P' : Int32 → Prop} {O' : Nat → Prop} {S' : Nat → Int32 → Prop} {L' : Nat → Nat} {N' : Nat → Nat → Int32} {T' : Nat → Nat → Int32 → Prop} {V' : Nat → Int32 → Prop} {K' : Int32 → Option Int32} {G' : Nat → Nat → Int32 → Option Int32}
theorem mv_s_clr (h : mv_PI U R M E X C P O S L N T V K G) {w : Nat} (nC : ¬ C (E w)) (nP : ¬ P (E w)) (hE : E' w = 0) (hE' : ∀ v, v ≠ w → E' v = E v) : mv_PI U R M E' X C P O S L N T V K G := by
  obtain ⟨h1, h2, h3, h4, h5, h6, h7, h8, h9, h10, h11, h12, h13, h14, h15, h16⟩ := h
  have cl : ∀ W : Int32 → Prop, (∀ x, W x → C x ∨ P x) → ∀ v, (U v ∧ mv_sees W (M v) (E' v)) ↔ (U v ∧ mv_sees W (M v) (E v)) := by
    intro W hW v
    by_cases e : v = w
    · subst e
      have hew : ¬ W (E v) := fun c => (hW _ c).elim nC nP
      exact ⟨fun z => ⟨z.1, z.2.1, Or.inr hew⟩, fun z => ⟨z.1, z.2.1, Or.inl hE⟩⟩
    · rw [hE' v e]
  have hR : ∀ v, U v → mv_row (R v) := fun v hv => (h1 v hv).2.1
  have hsub : ∀ u j, O u → j ≤ L u → ∀ x, mv_vw S N u j x → C x ∨ P x := by
    rintro u j hu hj x (c | ⟨k, hk, c⟩)
    · exact Or.inl (h7 u x hu c)
    · exact Or.inr (c ▸ h3 u k hu (by omega))
  have hN0 : ∀ u k, O u → k ≤ L u → N u k ≠ 0 := fun u k hu hk => mv_ok_ne (h4 _ (h3 u k hu hk)).1
  refine ⟨?_, h2, h3, h4, h5, h6, h7, ?_, ?_, ?_, ?_, ?_, ?_, ?_, h15, h16⟩
  · intro v hv
    obtain ⟨a, b, c, d⟩ := h1 v hv
    refine ⟨a, b, c, ?_⟩
    by_cases e : v = w
    · subst e; exact Or.inl hE
    · rw [hE' v e]; exact d
  · exact mv_vc hR (cl C (fun x hx => Or.inl hx)) (fun _ _ _ => ⟨rfl, rfl⟩) (fun _ _ => rfl) h8
  · intro u hu
    exact mv_vcu (fun v => (cl (S u) (fun x hx => Or.inl (h7 u x hu hx)) v).mp) (fun _ _ _ => rfl) (h9 u hu)
  · intro u j hu hj
    exact mv_vc hR (cl _ (hsub u j hu hj)) (fun _ _ _ => ⟨rfl, rfl⟩) (fun _ _ => rfl) (h10 u j hu hj)
  · intro v u k hv hu hk e1
    by_cases e : v = w
    · subst e
      rw [hE] at e1
      rcases e1 with c | c
      · exact h11 v u k hv hu hk (Or.inl c)
      · exact absurd c.symm (hN0 u k hu hk)
    · rw [hE' v e] at e1
      exact h11 v u k hv hu hk e1
  · intro v hv hc
    by_cases e : v = w
    · subst e; rw [hE] at hc; exact absurd (h6 _ hc).1 mv_ok0
    · rw [hE' v e] at hc; exact h12 v hv hc
  · intro v u k hv hu hk e1
    by_cases e : v = w
    · subst e
      rw [hE] at e1
      exact absurd e1.symm (hN0 u k hu hk)
    · rw [hE' v e] at e1
      exact h13 v u k hv hu hk e1
  · intro v u hv hu hn
    by_cases e : v = w
    · subst e
      exact ⟨(h14 v u hv hu hn).1, fun c => absurd (h6 _ (hE ▸ c)).1 mv_ok0⟩
    · rw [hE' v e]; exact h14 v u hv hu hn
theorem mv_s_rm (h : mv_PI U R M E X C P O S L N T V K G) {w : Nat} (hd : mv_dead C P O S (M w) (E w)) (hU : ∀ v, U' v ↔ U v ∧ v ≠ w) : mv_PI U' R M E X C P O S L N T V K G := by
  obtain ⟨h1, h2, h3, h4, h5, h6, h7, h8, h9, h10, h11, h12, h13, h14, h15, h16⟩ := h
  have hu : ∀ v, U' v → U v := fun v hv => ((hU v).mp hv).1
  have hR : ∀ v, U v → mv_row (R v) := fun v hv => (h1 v hv).2.1
  have hsub : ∀ u j, O u → j ≤ L u → ∀ x, mv_vw S N u j x → C x ∨ P x := by
    rintro u j hu hj x (c | ⟨k, hk, c⟩)
    · exact Or.inl (h7 u x hu c)
    · exact Or.inr (c ▸ h3 u k hu (by omega))
  have d12 : ∀ W : Int32 → Prop, (∀ x, W x → C x ∨ P x) → mv_sees W (M w) (E w) → (E w ≠ 0 ∧ C (E w) ∧ mv_in C (M w) ∧ ∀ t, O t → ¬ mv_sees (S t) (M w) (E w)) := by
    intro W hW hs
    rcases hd with ⟨a, b, c⟩ | ⟨a, b⟩ | d
    · rcases hs.1 with e | e
      · exact absurd e a
      · exact absurd (hW _ e) (fun z => z.elim b c)
    · rcases hs.2 with e | e
      · rw [← a] at e; exact absurd e b
      · rw [← a] at e
        rcases hs.1 with f | f
        · exact absurd f b
        · exact absurd f e
    · exact d
  have nC : ¬ mv_sees C (M w) (E w) := by
    intro hs
    obtain ⟨a, b, _, _⟩ := d12 C (fun _ => Or.inl) hs
    rcases hs.2 with e | e
    · exact a e
    · exact e b
  have nS : ∀ u, O u → ¬ mv_sees (S u) (M w) (E w) := by
    intro u hu hs
    exact (d12 (S u) (fun x hx => Or.inl (h7 u x hu hx)) hs).2.2.2 u hu hs
  have nV : ∀ u j, O u → j ≤ L u → ¬ mv_sees (mv_vw S N u j) (M w) (E w) := by
    intro u j hu hj hs
    obtain ⟨a, b, c, d⟩ := d12 _ (hsub u j hu hj) hs
    refine d u hu ⟨?_, ?_⟩
    · rcases c with c | c
      · exact Or.inl c
      · rcases hs.1 with e | e | ⟨k, hk, e⟩
        · exact Or.inl e
        · exact Or.inr e
        · exact absurd (e ▸ h3 u k hu (by omega)) (h6 _ c).2
    · rcases hs.2 with e | e
      · exact Or.inl e
      · exact Or.inr (fun z => e (Or.inl z))
  have cl : ∀ W : Int32 → Prop, ¬ mv_sees W (M w) (E w) → ∀ v, (U' v ∧ mv_sees W (M v) (E v)) ↔ (U v ∧ mv_sees W (M v) (E v)) := by
    intro W hn v
    rw [hU]
    refine ⟨fun z => ⟨z.1.1, z.2⟩, fun z => ⟨⟨z.1, ?_⟩, z.2⟩⟩
    rintro rfl
    exact hn z.2
  refine ⟨fun v hv => h1 v (hu v hv), h2, h3, h4, h5, h6, h7, ?_, ?_, ?_, fun v u k hv => h11 v u k (hu v hv), fun v hv => h12 v (hu v hv), fun v u k hv => h13 v u k (hu v hv), fun v u hv => h14 v u (hu v hv), h15, h16⟩
  · exact mv_vc hR (cl C nC) (fun _ _ _ => ⟨rfl, rfl⟩) (fun _ _ => rfl) h8
  · intro u hu
    exact mv_vcu (fun v => (cl (S u) (nS u hu) v).mp) (fun _ _ _ => rfl) (h9 u hu)
  · intro u j hu hj
    exact mv_vc hR (cl _ (nV u j hu hj)) (fun _ _ _ => ⟨rfl, rfl⟩) (fun _ _ => rfl) (h10 u j hu hj)
/-- a maker's standing number -/
theorem mv_s_mk (h : mv_PI U R M E X C P O S L N T V K G) {w : Nat} {m : Int32} (hc : C (M w)) (hm : (m = 0 ∧ ∀ t, O t → S t (M w)) ∨ (C m ∧ ∀ t, O t → (S t m ↔ S t (M w)))) (hM : M' w = m) (hM' : ∀ v, v ≠ w → M' v = M v) : mv_PI U R M' E X C P O S L N T V K G := by
  obtain ⟨h1, h2, h3, h4, h5, h6, h7, h8, h9, h10, h11, h12, h13, h14, h15, h16⟩ := h
  have hR : ∀ v, U v → mv_row (R v) := fun v hv => (h1 v hv).2.1
  have hvw : ∀ u j x, O u → j ≤ L u → C x → (mv_vw S N u j x ↔ S u x) := by
    intro u j x hu hj hx
    refine ⟨?_, Or.inl⟩
    rintro (c | ⟨k, hk, c⟩)
    · exact c
    · exact absurd (c ▸ h3 u k hu (by omega)) (h6 _ hx).2
  have iC : (m = 0 ∨ C m) ↔ (M w = 0 ∨ C (M w)) :=
    ⟨fun _ => Or.inr hc, fun _ => hm.elim (fun z => Or.inl z.1) (fun z => Or.inr z.1)⟩
  have iS : ∀ u, O u → ((m = 0 ∨ S u m) ↔ (M w = 0 ∨ S u (M w))) := by
    intro u hu
    rcases hm with ⟨a, b⟩ | ⟨a, b⟩
    · exact ⟨fun _ => Or.inr (b u hu), fun _ => Or.inl a⟩
    · rw [b u hu]
      refine ⟨fun z => z.elim (fun e => absurd e (mv_ok_ne (h6 _ a).1)) Or.inr, fun z => z.elim (fun e => absurd e (mv_ok_ne (h6 _ hc).1)) Or.inr⟩
  have iV : ∀ u j, O u → j ≤ L u → ((m = 0 ∨ mv_vw S N u j m) ↔ (M w = 0 ∨ mv_vw S N u j (M w))) := by
    intro u j hu hj
    rw [hvw u j _ hu hj hc, ← iS u hu]
    rcases hm with ⟨a, b⟩ | ⟨a, b⟩
    · exact ⟨fun _ => Or.inl a, fun _ => Or.inl a⟩
    · rw [hvw u j _ hu hj a]
  have cl : ∀ W : Int32 → Prop, ((m = 0 ∨ W m) ↔ (M w = 0 ∨ W (M w))) → ∀ v, (U v ∧ mv_sees W (M' v) (E v)) ↔ (U v ∧ mv_sees W (M v) (E v)) := by
    intro W hW v
    by_cases e : v = w
    · subst e
      rw [hM, mv_sees_c hW Iff.rfl]
    · rw [hM' v e]
  have nN : ∀ u k, O u → k ≤ L u → m ≠ N u k := by
    rintro u k hu hk rfl
    have hp := h3 u k hu hk
    rcases hm with ⟨a, _⟩ | ⟨a, _⟩
    · exact mv_ok_ne (h4 _ hp).1 a
    · exact (h6 _ a).2 hp
  refine ⟨?_, h2, h3, h4, h5, h6, h7, ?_, ?_, ?_, ?_, ?_, ?_, ?_, h15, h16⟩
  · intro v hv
    obtain ⟨a, b, c, d⟩ := h1 v hv
    refine ⟨a, b, ?_, d⟩
    by_cases e : v = w
    · subst e; rw [hM]; exact hm.elim (fun z => Or.inl z.1) (fun z => Or.inr (h6 _ z.1).1)
    · rw [hM' v e]; exact c
  · exact mv_vc hR (cl C iC) (fun _ _ _ => ⟨rfl, rfl⟩) (fun _ _ => rfl) h8
  · intro u hu
    exact mv_vcu (fun v => (cl (S u) (iS u hu) v).mp) (fun _ _ _ => rfl) (h9 u hu)
  · intro u j hu hj
    exact mv_vc hR (cl _ (iV u j hu hj)) (fun _ _ _ => ⟨rfl, rfl⟩) (fun _ _ => rfl) (h10 u j hu hj)
  · intro v u k hv hu hk e1
    by_cases e : v = w
    · subst e
      rw [hM] at e1
      rcases e1 with c | c
      · exact absurd c (nN u k hu hk)
      · exact h11 v u k hv hu hk (Or.inr c)
    · rw [hM' v e] at e1
      exact h11 v u k hv hu hk e1
  · intro v hv hc2
    by_cases e : v = w
    · subst e; rw [hM]; exact iC.mpr (h12 v hv hc2)
    · rw [hM' v e]; exact h12 v hv hc2
  · intro v u k hv hu hk e1
    by_cases e : v = w
    · subst e; rw [hM]; exact (iV u k hu hk).mpr (h13 v u k hv hu hk e1)
    · rw [hM' v e]; exact h13 v u k hv hu hk e1
  · intro v u hv hu hn
    by_cases e : v = w
    · subst e
      rw [hM]
      refine ⟨fun c => ?_, (h14 v u hv hu hn).2⟩
      rcases hm with ⟨a, _⟩ | ⟨_, b⟩
      · exact absurd a (mv_ok_ne (h6 _ c).1)
      · exact (b u hu).mpr ((h14 v u hv hu hn).1 hc)
    · rw [hM' v e]; exact h14 v u hv hu hn
/-- an ender's standing number -/
theorem mv_s_en (h : mv_PI U R M E X C P O S L N T V K G) {w : Nat} {m : Int32} (hc : C (E w)) (hm : C m) (hms : ∀ t, O t → (S t m ↔ S t (E w))) (hE : E' w = m) (hE' : ∀ v, v ≠ w → E' v = E v) : mv_PI U R M E' X C P O S L N T V K G := by
  obtain ⟨h1, h2, h3, h4, h5, h6, h7, h8, h9, h10, h11, h12, h13, h14, h15, h16⟩ := h
  have hR : ∀ v, U v → mv_row (R v) := fun v hv => (h1 v hv).2.1
  have hvw : ∀ u j x, O u → j ≤ L u → C x → (mv_vw S N u j x ↔ S u x) := by
    intro u j x hu hj hx
    refine ⟨?_, Or.inl⟩
    rintro (c | ⟨k, hk, c⟩)
    · exact c
    · exact absurd (c ▸ h3 u k hu (by omega)) (h6 _ hx).2
  have m0 : m ≠ 0 := mv_ok_ne (h6 _ hm).1
  have e0 : E w ≠ 0 := mv_ok_ne (h6 _ hc).1
  have cl : ∀ W : Int32 → Prop, (W m ↔ W (E w)) → ∀ v, (U v ∧ mv_sees W (M v) (E' v)) ↔ (U v ∧ mv_sees W (M v) (E v)) := by
    intro W hW v
    by_cases e : v = w
    · subst e
      rw [hE, mv_sees_c Iff.rfl (show (m = 0 ∨ ¬ W m) ↔ (E v = 0 ∨ ¬ W (E v)) by rw [hW]; exact ⟨fun z => Or.inr (z.resolve_left m0), fun z => Or.inr (z.resolve_left e0)⟩)]
    · rw [hE' v e]
  have nN : ∀ u k, O u → k ≤ L u → m ≠ N u k := by
    rintro u k hu hk rfl
    exact (h6 _ hm).2 (h3 u k hu hk)
  refine ⟨?_, h2, h3, h4, h5, h6, h7, ?_, ?_, ?_, ?_, ?_, ?_, ?_, h15, h16⟩
  · intro v hv
    obtain ⟨a, b, c, d⟩ := h1 v hv
    refine ⟨a, b, c, ?_⟩
    by_cases e : v = w
    · subst e; rw [hE]; exact Or.inr (h6 _ hm).1
    · rw [hE' v e]; exact d
  · exact mv_vc hR (cl C ⟨fun _ => hc, fun _ => hm⟩) (fun _ _ _ => ⟨rfl, rfl⟩) (fun _ _ => rfl) h8
  · intro u hu
    exact mv_vcu (fun v => (cl (S u) (hms u hu) v).mp) (fun _ _ _ => rfl) (h9 u hu)
  · intro u j hu hj
    exact mv_vc hR (cl _ (by rw [hvw u j _ hu hj hm, hvw u j _ hu hj hc]; exact hms u hu)) (fun _ _ _ => ⟨rfl, rfl⟩) (fun _ _ => rfl) (h10 u j hu hj)
  · intro v u k hv hu hk e1
    by_cases e : v = w
    · subst e
      rw [hE] at e1
      rcases e1 with c | c
      · exact h11 v u k hv hu hk (Or.inl c)
      · exact absurd c (nN u k hu hk)
    · rw [hE' v e] at e1
      exact h11 v u k hv hu hk e1
  · intro v hv hc2
    by_cases e : v = w
    · subst e; exact h12 v hv hc
    · rw [hE' v e] at hc2; exact h12 v hv hc2
  · intro v u k hv hu hk e1
    by_cases e : v = w
    · subst e; rw [hE] at e1; exact absurd e1 (nN u k hu hk)
    · rw [hE' v e] at e1; exact h13 v u k hv hu hk e1
  · intro v u hv hu hn
    by_cases e : v = w
    · subst e
      rw [hE]
      exact ⟨(h14 v u hv hu hn).1, fun _ => (hms u hu).mpr ((h14 v u hv hu hn).2 hc)⟩
    · rw [hE' v e]; exact h14 v u hv hu hn
/-- committed numbers that nothing uses are forgotten -/
theorem mv_s_shr (h : mv_PI U R M E X C P O S L N T V K G) {Z : Int32 → Prop} (hC : ∀ n, C' n ↔ C n ∧ Z n) (hS : ∀ t n, t < 4 → (S' t n ↔ S t n ∧ Z n)) (hZ : ∀ v, U v → (M v = 0 ∨ Z (M v)) ∧ (E v = 0 ∨ Z (E v))) : mv_PI U R M E X C' P O S' L N T V K G := by
  obtain ⟨h1, h2, h3, h4, h5, h6, h7, h8, h9, h10, h11, h12, h13, h14, h15, h16⟩ := h
  have hR : ∀ v, U v → mv_row (R v) := fun v hv => (h1 v hv).2.1
  have cl : ∀ W W' : Int32 → Prop, (∀ x, Z x → (W' x ↔ W x)) → ∀ v, (U v ∧ mv_sees W' (M v) (E v)) ↔ (U v ∧ mv_sees W (M v) (E v)) := by
    intro W W' hW v
    have key : U v → (mv_sees W' (M v) (E v) ↔ mv_sees W (M v) (E v)) := by
      intro hv
      obtain ⟨a, b⟩ := hZ v hv
      refine mv_sees_c ?_ ?_
      · rcases a with a | a
        · exact ⟨fun _ => Or.inl a, fun _ => Or.inl a⟩
        · rw [hW _ a]
      · rcases b with b | b
        · exact ⟨fun _ => Or.inl b, fun _ => Or.inl b⟩
        · rw [hW _ b]
    exact ⟨fun z => ⟨z.1, (key z.1).mp z.2⟩, fun z => ⟨z.1, (key z.1).mpr z.2⟩⟩
  have qC : ∀ x, Z x → (C' x ↔ C x) := fun x hx => by rw [hC]; exact ⟨fun z => z.1, fun z => ⟨z, hx⟩⟩
  have qS : ∀ u x, O u → Z x → (S' u x ↔ S u x) := fun u x hu hx => by rw [hS u x (h2 u hu).1]; exact ⟨fun z => z.1, fun z => ⟨z, hx⟩⟩
  have qV : ∀ u j x, O u → Z x → (mv_vw S' N u j x ↔ mv_vw S N u j x) := by
    intro u j x hu hx
    unfold mv_vw
    rw [qS u x hu hx]
  refine ⟨h1, h2, h3, h4, h5, ?_, ?_, ?_, ?_, ?_, h11, ?_, ?_, ?_, h15, h16⟩
  · exact fun n hn => h6 n ((hC n).mp hn).1
  · intro u n hu hn
    obtain ⟨a, b⟩ := (hS u n (h2 u hu).1).mp hn
    exact (hC n).mpr ⟨h7 u n hu a, b⟩
  · exact mv_vc hR (cl C C' qC) (fun _ _ _ => ⟨rfl, rfl⟩) (fun _ _ => rfl) h8
  · intro u hu
    exact mv_vcu (fun v => (cl (S u) (S' u) (fun x => qS u x hu) v).mp) (fun _ _ _ => rfl) (h9 u hu)
  · intro u j hu hj
    exact mv_vc hR (cl _ _ (fun x => qV u j x hu)) (fun _ _ _ => ⟨rfl, rfl⟩) (fun _ _ => rfl) (h10 u j hu hj)
  · intro v hv hc
    rcases h12 v hv ((hC _).mp hc).1 with c | c
    · exact Or.inl c
    · rcases (hZ v hv).1 with d | d
      · exact Or.inl d
      · exact Or.inr ((hC _).mpr ⟨c, d⟩)
  · intro v u k hv hu hk e1
    rcases h13 v u k hv hu hk e1 with c | c
    · exact Or.inl c
    · rcases (hZ v hv).1 with d | d
      · exact Or.inl d
      · exact Or.inr ((qV u k _ hu d).mpr c)
  · intro v u hv hu hn
    obtain ⟨a, b⟩ := h14 v u hv hu hn
    refine ⟨fun c => ?_, fun c => ?_⟩
    · obtain ⟨c1, c2⟩ := (hC _).mp c
      exact (hS u _ (h2 u hu).1).mpr ⟨a c1, c2⟩
    · obtain ⟨c1, c2⟩ := (hC _).mp c
      exact (hS u _ (h2 u hu).1).mpr ⟨b c1, c2⟩
end
end
section
/-! counts: a free version and a free number after tidying -/
theorem mv_php : ∀ (n : Nat) (f : Nat → Nat), (∀ i, i < n + 1 → f i < n) → ∃ i j, i < j ∧ j < n + 1 ∧ f i = f j := by
  intro n
  induction n with
  | zero => intro f h; exact absurd (h 0 (by omega)) (by omega)
  | succ n ih =>
    intro f h
    by_cases c : ∃ i, i < n + 1 ∧ f i = f (n + 1)
    · obtain ⟨i, hi, e⟩ := c
      exact ⟨i, n + 1, hi, by omega, e⟩
    · have hc : ∀ i, i < n + 1 → f i ≠ f (n + 1) := fun i hi e => c ⟨i, hi, e⟩
      have hl := h (n + 1) (by omega)
      obtain ⟨i, j, hij, hj, e⟩ := ih (fun i => if f i = n then f (n + 1) else f i) (by
        intro i hi
        have a := h i (by omega)
        have b := hc i hi
        show (if f i = n then f (n + 1) else f i) < n
        by_cases d : f i = n
        · rw [if_pos d]; omega
        · rw [if_neg d]; omega)
      refine ⟨i, j, hij, by omega, ?_⟩
      have ei : (if f i = n then f (n + 1) else f i) = (if f j = n then f (n + 1) else f j) := e
      have bi := hc i (by omega)
      have bj := hc j (by omega)
      by_cases d : f i = n
      · rw [if_pos d] at ei
        by_cases d2 : f j = n
        · omega
        · rw [if_neg d2] at ei; exact absurd ei.symm bj
      · rw [if_neg d] at ei
        by_cases d2 : f j = n
        · rw [if_pos d2] at ei; exact absurd ei bi
        · rw [if_neg d2] at ei; exact ei
/-- places told apart by codes below n are at most n -/
theorem mv_phr (n m : Nat) (hm : n < m) (Q : Nat → Nat → Prop) (h1 : ∀ i, i < m → ∃ c, c < n ∧ Q i c) (h2 : ∀ i j c, i < m → j < m → Q i c → Q j c → i = j) : False := by
  have hch : ∀ i, ∃ c, i < m → c < n ∧ Q i c := by
    intro i
    by_cases hi : i < m
    · obtain ⟨c, hc⟩ := h1 i hi
      exact ⟨c, fun _ => hc⟩
    · exact ⟨0, fun z => absurd z hi⟩
  obtain ⟨f, hf⟩ := Classical.axiomOfChoice hch
  obtain ⟨i, j, hij, hj, e⟩ := mv_php n f (fun i hi => (hf i (by omega)).1)
  have a := hf i (by omega)
  have b := hf j (by omega)
  rw [e] at a
  have := h2 i j (f j) (by omega) (by omega) a.2 b.2
  omega
section
variable {U : Nat → Prop} {R M E X : Nat → Int32} {C P : Int32 → Prop} {O : Nat → Prop} {S : Nat → Int32 → Prop} {L : Nat → Nat} {N : Nat → Nat → Int32} {T : Nat → Nat → Int32 → Prop} {V : Nat → Int32 → Prop} {K : Int32 → Option Int32} {G : Nat → Nat → Int32 → Option Int32}
variable {U' : Nat → Prop} {R' M' E' X' : Nat → Int32} {C' P' : Int32 → Prop} {O' : Nat → Prop} {S' : Nat → Int32 → Prop} {L' : Nat → Nat} {N' : Nat → Nat → Int32} {T' : Nat → Nat → Int32 → Prop} {V' : Nat → Int32 → Prop} {K' : Int32 → Option Int32} {G' : Nat → Nat → Int32 → Option Int32}
theorem mv_cnt_n (h : mv_PI U R M E X C P O S L N T V K G) {al : Nat → Int32} (ha : ∀ n, C n → ∃ p, p < 16 ∧ al p = n) : ∃ n, mv_ok n ∧ ¬ C n ∧ ¬ P n := by
  obtain ⟨h1, h2, h3, h4, h5, h6, h7, h8, h9, h10, h11, h12, h13, h14, h15, h16⟩ := h
  apply Classical.byContradiction
  intro hn
  have hall : ∀ n, mv_ok n → C n ∨ P n := by
    intro n hk
    apply Classical.byContradiction
    intro c
    exact hn ⟨n, hk, fun z => c (Or.inl z), fun z => c (Or.inr z)⟩
  refine mv_phr 32 62 (by omega) (fun i c => (c < 16 ∧ al c = nI (i + 1)) ∨ (∃ t k, t < 4 ∧ k < 4 ∧ c = 16 + (4 * t + k) ∧ N t k = nI (i + 1))) ?_ ?_
  · intro i hi
    rcases hall _ (mv_ok_nI (j := i + 1) (by omega) (by omega)) with c | c
    · obtain ⟨p, hp, e⟩ := ha _ c
      exact ⟨p, by omega, Or.inl ⟨hp, e⟩⟩
    · obtain ⟨_, t, k, ht, hk, e⟩ := h4 _ c
      obtain ⟨a, b⟩ := h2 t ht
      exact ⟨16 + (4 * t + k), by omega, Or.inr ⟨t, k, a, by omega, rfl, e⟩⟩
  · intro i j c hi hj qi qj
    have hinj : nI (i + 1) = nI (j + 1) → i = j := by
      intro e
      have := (nI_eq (by omega) (by omega)).mp e
      omega
    rcases qi with ⟨a, b⟩ | ⟨t, k, t4, k4, e, b⟩
    · rcases qj with ⟨a', b'⟩ | ⟨t', k', t4', k4', e', b'⟩
      · exact hinj (b.symm.trans b')
      · omega
    · rcases qj with ⟨a', b'⟩ | ⟨t', k', t4', k4', e', b'⟩
      · omega
      · have e1 : t = t' := by omega
        have e2 : k = k' := by omega
        subst e1; subst e2
        exact hinj (b.symm.trans b')
theorem mv_cnt_v (h : mv_PI U R M E X C P O S L N T V K G) (hd : ∀ v, U v → ¬ mv_dead C P O S (M v) (E v)) : ∃ v, v < 96 ∧ ¬ U v := by
  obtain ⟨h1, h2, h3, h4, h5, h6, h7, h8, h9, h10, h11, h12, h13, h14, h15, h16⟩ := h
  apply Classical.byContradiction
  intro hn
  have hall : ∀ v, v < 96 → U v := by
    intro v hv
    apply Classical.byContradiction
    intro c
    exact hn ⟨v, hv, c⟩
  have key : ∀ v t k, U v → O t → k ≤ L t → M v = N t k → E v ≠ M v → mv_sees (mv_vw S N t k) (M v) (E v) := by
    intro v t k hv ht hk e hne
    refine ⟨Or.inr (Or.inr ⟨k, Nat.le_refl _, e.symm⟩), Or.inr ?_⟩
    have hp : P (M v) := e ▸ h3 t k ht hk
    have nc : ¬ C (M v) := fun c => (h6 _ c).2 hp
    rintro (c | ⟨i, hi, c⟩)
    · rcases h12 v hv (h7 t _ ht c) with d | d
      · exact mv_ok_ne (h4 _ hp).1 d
      · exact nc d
    · rcases h13 v t i hv ht (by omega) c.symm with d | d | ⟨i2, hi2, d⟩
      · exact mv_ok_ne (h4 _ hp).1 d
      · exact nc (h7 t _ ht d)
      · have := (h5 t i2 t k ht (by omega) ht hk (d.trans e)).2
        have e3 : i = k := by omega
        subst e3
        exact hne (c.symm.trans e.symm)
  refine mv_phr 72 96 (by omega) (fun v c => ∃ r d, r < 8 ∧ d < 9 ∧ c = 9 * r + d ∧ R v = nI r ∧ ((d = 0 ∧ mv_sees C (M v) (E v)) ∨ (∃ t, d = 1 + t ∧ O t ∧ mv_sees (S t) (M v) (E v)) ∨ (∃ t k, d = 5 + k ∧ O t ∧ k ≤ L t ∧ M v = N t k ∧ E v ≠ M v))) ?_ ?_
  · intro v hv
    have hu := hall v hv
    obtain ⟨_, ⟨r, hr, er⟩, _, _⟩ := h1 v hu
    have hdv := hd v hu
    suffices hs : ∃ d, d < 9 ∧ ((d = 0 ∧ mv_sees C (M v) (E v)) ∨ (∃ t, d = 1 + t ∧ O t ∧ mv_sees (S t) (M v) (E v)) ∨ (∃ t k, d = 5 + k ∧ O t ∧ k ≤ L t ∧ M v = N t k ∧ E v ≠ M v)) by
      obtain ⟨d, d9, hq⟩ := hs
      exact ⟨9 * r + d, by omega, r, d, hr, d9, rfl, er, hq⟩
    by_cases hp : P (M v)
    · obtain ⟨ok, t, k, ht, hk, e⟩ := h4 _ hp
      refine ⟨5 + k, by have := (h2 t ht).2; omega, Or.inr (Or.inr ⟨t, k, rfl, ht, hk, e.symm, fun z => hdv (Or.inr (Or.inl ⟨z.symm, mv_ok_ne ok⟩))⟩)⟩
    · have hin : mv_in C (M v) := by
        apply Classical.byContradiction
        intro c
        exact hdv (Or.inl ⟨fun z => c (Or.inl z), fun z => c (Or.inr z), hp⟩)
      by_cases he : C (E v)
      · have : ∃ t, O t ∧ mv_sees (S t) (M v) (E v) := by
          apply Classical.byContradiction
          intro c
          exact hdv (Or.inr (Or.inr ⟨mv_ok_ne (h6 _ he).1, he, hin, fun t ht hs => c ⟨t, ht, hs⟩⟩))
        obtain ⟨t, ht, hs⟩ := this
        exact ⟨1 + t, by have := (h2 t ht).1; omega, Or.inr (Or.inl ⟨t, rfl, ht, hs⟩)⟩
      · exact ⟨0, by omega, Or.inl ⟨rfl, hin, Or.inr he⟩⟩
  · rintro v w c hv hw ⟨r, d, r8, d9, e, er, q⟩ ⟨r', d', r8', d9', e', er', q'⟩
    have e1 : r = r' := by omega
    have e2 : d = d' := by omega
    subst e1; subst e2
    have uv := hall v hv
    have uw := hall w hw
    have eR : R v = R w := by rw [er, er']
    rcases q with ⟨d0, s⟩ | ⟨t, dt, ht, s⟩ | ⟨t, k, dk, ht, hk, em, hne⟩
    · rcases q' with ⟨d0', s'⟩ | ⟨t', dt', ht', s'⟩ | ⟨t', k', dk', ht', hk', em', hne'⟩
      · exact h8.1 v w uv uw eR s s'
      · omega
      · omega
    · have t4 := (h2 t ht).1
      rcases q' with ⟨d0', s'⟩ | ⟨t', dt', ht', s'⟩ | ⟨t', k', dk', ht', hk', em', hne'⟩
      · omega
      · have : t = t' := by omega
        subst this
        exact h9 t ht v w uv uw eR s s'
      · omega
    · rcases q' with ⟨d0', s'⟩ | ⟨t', dt', ht', s'⟩ | ⟨t', k', dk', ht', hk', em', hne'⟩
      · omega
      · have := (h2 t' ht').1
        omega
      · have : k = k' := by omega
        subst this
        have a := h11 v t k uv ht hk (Or.inl em)
        have b := h11 w t' k uw ht' hk' (Or.inl em')
        have et : t = t' := by
          apply Classical.byContradiction
          intro hn
          rw [eR] at a
          exact h15 t t' k k _ ht ht' hn hk hk' a b
        subst et
        exact (h10 t k ht hk).1 v w uv uw eR (key v t k uv ht hk em hne) (key w t k uw ht hk em' hne')
end
end
section
/-! the relation of the two states -/
def mv_U (us : Nat → Int32) (v : Nat) : Prop := v < 96 ∧ us v ≠ 0
def mv_O (op : Nat → Int32) (t : Nat) : Prop := t < 4 ∧ op t ≠ 0
def mv_L (lv : Nat → Int32) (t : Nat) : Nat := (lv t).toNatClampNeg
def mv_N (nu : Nat → Int32) (t k : Nat) : Int32 := nu (t * 4 + k)
def mv_T (tc : Nat → Int32) (t k : Nat) : Int32 → Prop := mv_tb (tc (t * 4 + k))
def mv_S (sn : Nat → Int64) (t : Nat) : Int32 → Prop := mv_mem (sn t)
def mv_V (ov : Nat → Int32) (t : Nat) : Int32 → Prop := mv_tb (ov t)
def mv_ce (th vs : Nat → Int32) (s : Nat) (r : Int32) : Option Int32 :=
  if r.toNatClampNeg < 8 then (if th (8 * s + r.toNatClampNeg) = 0 then none else some (vs (8 * s + r.toNatClampNeg))) else none
def mv_sl (l t j : Nat) : Nat := if j = l then t else 5 + 3 * t + j
def mv_G (th vs lv : Nat → Int32) (t j : Nat) : Int32 → Option Int32 := mv_ce th vs (mv_sl (mv_L lv t) t j)
def mv_I (c p : Int64) (us ro vl mk en op : Nat → Int32) (sn : Nat → Int64) (lv nu tc ov th vs : Nat → Int32) : Prop :=
  mv_PI (mv_U us) ro mk en vl (mv_mem c) (mv_mem p) (mv_O op) (mv_S sn) (mv_L lv) (mv_N nu) (mv_T tc) (mv_V ov) (mv_ce th vs 4) (mv_G th vs lv)
def mv_tc (tc : Nat → Int32) (t j : Nat) : Int32 := mv_ort (fun k => tc (t * 4 + k)) (j + 1)
def mv_Rel (c p : Int64) (us ro vl mk en op : Nat → Int32) (sn : Nat → Int64) (lv nu tc ov th vs ch : Nat → Int32) : Prop :=
  mv_I c p us ro vl mk en op sn lv nu tc ov th vs ∧ (∀ i, i < 136 → th i = 0 ∨ th i = 1) ∧ (∀ t, t < 4 → ∃ l, l < 4 ∧ lv t = nI l) ∧ (∀ t j, mv_O op t → j ≤ mv_L lv t → ch (mv_sl (mv_L lv t) t j) = mv_tc tc t j)
theorem mv_ce_c {th vs th' vs' : Nat → Int32} {s s' : Nat} (h : ∀ i, i < 8 → th' (8 * s' + i) = th (8 * s + i) ∧ vs' (8 * s' + i) = vs (8 * s + i)) : mv_ce th' vs' s' = mv_ce th vs s := by
  funext r
  unfold mv_ce
  by_cases e : r.toNatClampNeg < 8
  · rw [if_pos e, if_pos e, (h _ e).1, (h _ e).2]
  · rw [if_neg e, if_neg e]
theorem mv_ce_nI {th vs : Nat → Int32} {s r : Nat} (h : r < 8) : mv_ce th vs s (nI r) = if th (8 * s + r) = 0 then none else some (vs (8 * s + r)) := by
  unfold mv_ce
  rw [nI_clamp (by omega), if_pos h]
theorem mv_ce_0 {th vs : Nat → Int32} {s r : Nat} (h : r < 8) (e : th (8 * s + r) = 0) : mv_ce th vs s (nI r) = none := by
  rw [mv_ce_nI h, if_pos e]
theorem mv_ce_1 {th vs : Nat → Int32} {s r : Nat} (h : r < 8) (e : th (8 * s + r) ≠ 0) : mv_ce th vs s (nI r) = some (vs (8 * s + r)) := by
  rw [mv_ce_nI h, if_neg e]
theorem mv_sl_l (l t : Nat) : mv_sl l t l = t := if_pos rfl
theorem mv_sl_n {l t j : Nat} (h : j ≠ l) : mv_sl l t j = 5 + 3 * t + j := if_neg h
theorem mv_L_nI {lv : Nat → Int32} {t l : Nat} (h : lv t = nI l) (hl : l < 4) : mv_L lv t = l := by
  unfold mv_L
  rw [h, nI_clamp (by omega)]
/-- the slots of two views meet only where the views are one -/
theorem mv_sl_i {l l' t t' j j' : Nat} (hj : j ≤ l) (hj' : j' ≤ l') (hl : l < 4) (hl' : l' < 4) (ht : t < 4) (ht' : t' < 4) (h : mv_sl l t j = mv_sl l' t' j') (e : t = t' → l = l') : t = t' ∧ j = j' := by
  by_cases a : j = l
  · subst a
    rw [mv_sl_l] at h
    by_cases b : j' = l'
    · subst b
      rw [mv_sl_l] at h
      exact ⟨h, e h⟩
    · rw [mv_sl_n b] at h; omega
  · rw [mv_sl_n a] at h
    by_cases b : j' = l'
    · subst b; rw [mv_sl_l] at h; omega
    · rw [mv_sl_n b] at h; omega
theorem mv_sl_4 {l t j : Nat} (ht : t < 4) : mv_sl l t j ≠ 4 := by
  by_cases a : j = l
  · rw [a, mv_sl_l]; omega
  · rw [mv_sl_n a]; omega
theorem mv_sl_17 {l t j : Nat} (ht : t < 4) (hl : l < 4) (hj : j ≤ l) : mv_sl l t j < 17 := by
  by_cases a : j = l
  · rw [a, mv_sl_l]; omega
  · rw [mv_sl_n a]; omega
theorem mv_row_cl {r : Int32} (h : mv_row r) : ∃ i, i < 8 ∧ r = nI i := h
section
variable {c p : Int64} {us ro vl mk en op : Nat → Int32} {sn : Nat → Int64} {lv nu tc ov al : Nat → Int32}
variable {th vs ch : Nat → Int32}
theorem mv_r1 (H : mv_Rel c p us ro vl mk en op sn lv nu tc ov th vs ch) {v : Nat} (h : mv_U us v) : v < 96 ∧ mv_row (ro v) ∧ (mk v = 0 ∨ mv_ok (mk v)) ∧ (en v = 0 ∨ mv_ok (en v)) := H.1.1 v h
theorem mv_rl (H : mv_Rel c p us ro vl mk en op sn lv nu tc ov th vs ch) {t : Nat} (h : t < 4) : ∃ l, l < 4 ∧ lv t = nI l ∧ mv_L lv t = l := by
  obtain ⟨l, a, b⟩ := H.2.2.1 t h
  exact ⟨l, a, b, mv_L_nI b a⟩
theorem mv_rn (H : mv_Rel c p us ro vl mk en op sn lv nu tc ov th vs ch) {t k : Nat} (h : mv_O op t) (hk : k ≤ mv_L lv t) : mv_ok (nu (t * 4 + k)) ∧ mv_mem p (nu (t * 4 + k)) := by
  obtain ⟨h1, h2, h3, h4, h5, h6, h7, h8, h9, h10, h11, h12, h13, h14, h15, h16⟩ := H.1
  exact ⟨(h4 _ (h3 t k h hk)).1, h3 t k h hk⟩
end
end
section
/-! walks of the component's inner methods that only read -/
theorem mv_ix (t k : Nat) : nI t * 4 + nI k = nI (t * 4 + k) := by
  rw [show (4 : Int32) = nI 4 from rfl, pk_mul, nI_add]
section
variable {c p : Int64} {us ro vl mk en op : Nat → Int32} {sn : Nat → Int64} {lv nu tc ov al : Nat → Int32}
variable {th vs ch : Nat → Int32}
theorem mv_xin {post : Int32 → Prop} {s : Int64} {n : Int32} (hn : n = 0 ∨ mv_ok n) (h1 : mv_in (mv_mem s) n → post 1) (h0 : ¬ mv_in (mv_mem s) n → post 0) : wpX_in post (c, p, us, ro, vl, mk, en, op, sn, lv, nu, tc, ov, al) s n := by
  refine br_c (fun e => h1 (Or.inl e)) (fun e => ?_)
  have hk := hn.resolve_left e
  exact br_c (fun q => h1 (Or.inr ((mv_tst hk).mp q))) (fun q => h0 (fun z => z.elim e (fun m => q ((mv_tst hk).mpr m))))
theorem mv_xown5 {post : Int64 → Prop} {t l : Nat} (ht : t < 4) (hl : l < 4) (hlv : lv t = nI l) (hp : post (mv_ors (fun k => nu (t * 4 + k)) (l + 1))) : ∀ d k, k + d = l + 1 → wX_ownSet_5 post (nI t) c p us ro vl mk en op sn lv nu tc ov al (d + 1) (mv_ors (fun k => nu (t * 4 + k)) k) (nI k) := by
  have ct : (nI t).toNatClampNeg = t := nI_clamp (by omega)
  intro d
  induction d with
  | zero =>
    intro k hk
    rw [wX_ownSet_5]; simp only [ct, hlv]
    have : k = l + 1 := by omega
    subst this
    exact ⟨vp_in_nI ht (by omega), br_t (nI_lt (by omega) (by omega)) hp⟩
  | succ d ih =>
    intro k hk
    have ci : (nI t * 4 + nI k).toNatClampNeg = t * 4 + k := by rw [mv_ix, nI_clamp (by omega)]
    have hi : vp_in (nI t * 4 + nI k) 16 := by rw [mv_ix]; exact vp_in_nI (by omega) (by omega)
    rw [wX_ownSet_5]; simp only [ct, hlv, ci]
    refine ⟨vp_in_nI ht (by omega), br_f (nI_nlt (by omega) (by omega)) ⟨hi, ?_⟩⟩
    intro x ex y ey
    rw [ex, ey, nI_1]
    exact ih (k + 1) (by omega)
theorem mv_xown {post : Int64 → Prop} {t l : Nat} (ht : t < 4) (hl : l < 4) (hlv : lv t = nI l) (hp : post (mv_ors (fun k => nu (t * 4 + k)) (l + 1))) : wpX_ownSet post (c, p, us, ro, vl, mk, en, op, sn, lv, nu, tc, ov, al) (nI t) :=
  ⟨_, mv_xown5 ht hl hlv hp (l + 1) 0 (by omega)⟩
theorem mv_xcb4 {post : Int32 → Prop} {t l : Nat} (ht : t < 4) (hl : l < 4) (hlv : lv t = nI l) (hp : post (mv_tc tc t l)) : ∀ d k, k + d = l + 1 → wX_changedBy_4 post (nI t) c p us ro vl mk en op sn lv nu tc ov al (d + 1) (mv_ort (fun k => tc (t * 4 + k)) k) (nI k) := by
  have ct : (nI t).toNatClampNeg = t := nI_clamp (by omega)
  intro d
  induction d with
  | zero =>
    intro k hk
    rw [wX_changedBy_4]; simp only [ct, hlv]
    have : k = l + 1 := by omega
    subst this
    exact ⟨vp_in_nI ht (by omega), br_t (nI_lt (by omega) (by omega)) hp⟩
  | succ d ih =>
    intro k hk
    have ci : (nI t * 4 + nI k).toNatClampNeg = t * 4 + k := by rw [mv_ix, nI_clamp (by omega)]
    have hi : vp_in (nI t * 4 + nI k) 16 := by rw [mv_ix]; exact vp_in_nI (by omega) (by omega)
    rw [wX_changedBy_4]; simp only [ct, hlv, ci]
    refine ⟨vp_in_nI ht (by omega), br_f (nI_nlt (by omega) (by omega)) ⟨hi, ?_⟩⟩
    intro x ex y ey
    rw [ex, ey, nI_1]
    exact ih (k + 1) (by omega)
theorem mv_xcb {post : Int32 → Prop} {t l : Nat} (ht : t < 4) (hl : l < 4) (hlv : lv t = nI l) (hp : post (mv_tc tc t l)) : wpX_changedBy post (c, p, us, ro, vl, mk, en, op, sn, lv, nu, tc, ov, al) (nI t) :=
  ⟨_, mv_xcb4 ht hl hlv hp (l + 1) 0 (by omega)⟩
theorem mv_xsees {post : Int32 → Prop} {s : Int64} {v : Nat} (hv : v < 96) (hm : mk v = 0 ∨ mv_ok (mk v)) (he : en v = 0 ∨ mv_ok (en v)) (h1 : mv_sees (mv_mem s) (mk v) (en v) → post 1) (h0 : ¬ mv_sees (mv_mem s) (mk v) (en v) → post 0) : wpX_sees post (c, p, us, ro, vl, mk, en, op, sn, lv, nu, tc, ov, al) s (nI v) := by
  have cv : (nI v).toNatClampNeg = v := nI_clamp (by omega)
  have hi : vp_in (nI v) 96 := vp_in_nI hv (by omega)
  simp only [wpX_sees, cv]
  refine ⟨hi, mv_xin hm (fun a => br_f (by decide) ⟨hi, br_c (fun e => h1 ⟨a, Or.inl e⟩) (fun e => ⟨hi, mv_xin he (fun b => br_f (by decide) (h0 (fun z => z.2.elim e (fun m => m (b.resolve_left e))))) (fun b => br_t rfl (h1 ⟨a, Or.inr (fun m => b (Or.inr m))⟩))⟩)⟩) (fun a => br_t rfl (h0 (fun z => a z.1)))⟩
/-- the search for a version -/
theorem mv_xvf3 {s : Int64} {r : Int32} (hr : ∀ v, mv_U us v → (mk v = 0 ∨ mv_ok (mk v)) ∧ (en v = 0 ∨ mv_ok (en v))) : ∀ d v, v + d = 96 → ∃ z : Int32, (∀ post : Int32 → Prop, post z → wX_versionFor_3 post s r c p us ro vl mk en op sn lv nu tc ov al (d + 1) (nI v)) ∧ ((z = -1 ∧ ∀ w, v ≤ w → mv_U us w → ro w = r → ¬ mv_sees (mv_mem s) (mk w) (en w)) ∨ ∃ w, z = nI w ∧ mv_U us w ∧ ro w = r ∧ mv_sees (mv_mem s) (mk w) (en w)) := by
  intro d
  induction d with
  | zero =>
    intro v hv
    refine ⟨-1, fun post hp => ?_, Or.inl ⟨rfl, fun w hw hu => absurd hu.1 (by omega)⟩⟩
    simp only [wX_versionFor_3]
    exact br_t (nI_le (a := 96) (by omega) (by omega)) hp
  | succ d ih =>
    intro v hv
    have cv : (nI v).toNatClampNeg = v := nI_clamp (by omega)
    have hi : vp_in (nI v) 96 := vp_in_nI (by omega) (by omega)
    have hn : ¬ (96 : Int32) ≤ nI v := nI_ge (b := 96) (by omega) (by omega)
    obtain ⟨z, hz, hq⟩ := ih (v + 1) (by omega)
    have skip : (¬ (mv_U us v ∧ ro v = r ∧ mv_sees (mv_mem s) (mk v) (en v))) → ((z = -1 ∧ ∀ w, v ≤ w → mv_U us w → ro w = r → ¬ mv_sees (mv_mem s) (mk w) (en w)) ∨ ∃ w, z = nI w ∧ mv_U us w ∧ ro w = r ∧ mv_sees (mv_mem s) (mk w) (en w)) := by
      intro hne
      rcases hq with ⟨a, b⟩ | b
      · refine Or.inl ⟨a, fun w hw hu e hs => ?_⟩
        by_cases ew : w = v
        · subst ew; exact hne ⟨hu, e, hs⟩
        · exact b w (by omega) hu e hs
      · exact Or.inr b
    by_cases c1 : us v = 0
    · refine ⟨z, fun post hp => ?_, skip (fun q => q.1.2 c1)⟩
      rw [wX_versionFor_3]; simp only [cv]
      refine br_f hn ⟨hi, br_t c1 (nm_r (nI_1 v) (hz post hp))⟩
    · have hu : mv_U us v := ⟨by omega, c1⟩
      by_cases c2 : ro v = r
      · by_cases c3 : mv_sees (mv_mem s) (mk v) (en v)
        · refine ⟨nI v, fun post hp => ?_, Or.inr ⟨v, rfl, hu, c2, c3⟩⟩
          rw [wX_versionFor_3]; simp only [cv]
          exact br_f hn ⟨hi, br_f c1 ⟨hi, br_t c2 (mv_xsees (by omega) (hr v hu).1 (hr v hu).2 (fun _ => br_f (by decide) hp) (fun a => absurd c3 a))⟩⟩
        · refine ⟨z, fun post hp => ?_, skip (fun q => c3 q.2.2)⟩
          rw [wX_versionFor_3]; simp only [cv]
          exact br_f hn ⟨hi, br_f c1 ⟨hi, br_t c2 (mv_xsees (by omega) (hr v hu).1 (hr v hu).2 (fun a => absurd a c3) (fun _ => br_t rfl (nm_r (nI_1 v) (hz post hp))))⟩⟩
      · refine ⟨z, fun post hp => ?_, skip (fun q => c2 q.2.1)⟩
        rw [wX_versionFor_3]; simp only [cv]
        exact br_f hn ⟨hi, br_f c1 ⟨hi, br_f c2 (nm_r (nI_1 v) (hz post hp))⟩⟩
theorem mv_xvf (s : Int64) (r : Int32) (hr : ∀ v, mv_U us v → (mk v = 0 ∨ mv_ok (mk v)) ∧ (en v = 0 ∨ mv_ok (en v))) : ∃ z : Int32, (∀ post : Int32 → Prop, post z → wpX_versionFor post (c, p, us, ro, vl, mk, en, op, sn, lv, nu, tc, ov, al) s r) ∧ ((z = -1 ∧ ∀ w, mv_U us w → ro w = r → ¬ mv_sees (mv_mem s) (mk w) (en w)) ∨ ∃ w, z = nI w ∧ mv_U us w ∧ ro w = r ∧ mv_sees (mv_mem s) (mk w) (en w)) := by
  obtain ⟨z, hz, hq⟩ := mv_xvf3 (s := s) (r := r) (c := c) (p := p) (vl := vl) (op := op) (sn := sn) (lv := lv) (nu := nu) (tc := tc) (ov := ov) (al := al) hr 96 0 (by omega)
  refine ⟨z, fun post hp => ⟨_, hz post hp⟩, ?_⟩
  rcases hq with ⟨a, b⟩ | b
  · exact Or.inl ⟨a, fun w => b w (by omega)⟩
  · exact Or.inr b
theorem mv_xover {post : Int32 → Prop} {n : Int32} (hn : n = 0 ∨ mv_ok n) (h1 : n ≠ 0 ∧ ¬ mv_mem c n ∧ ¬ mv_mem p n → post 1) (h0 : ¬ (n ≠ 0 ∧ ¬ mv_mem c n ∧ ¬ mv_mem p n) → post 0) : wpX_over post (c, p, us, ro, vl, mk, en, op, sn, lv, nu, tc, ov, al) n := by
  refine br_c (fun e => h0 (fun z => z.1 e)) (fun e => mv_xin hn (fun a => br_f (by decide) (h0 (fun z => ?_))) (fun a => br_t rfl (h1 ⟨e, fun m => a (Or.inr ((mv_mem_or _ _ _).mpr (Or.inl m))), fun m => a (Or.inr ((mv_mem_or _ _ _).mpr (Or.inr m)))⟩)))
  rcases (mv_mem_or _ _ _).mp (a.resolve_left e) with m | m
  · exact z.2.1 m
  · exact z.2.2 m
theorem mv_xd86 {post : Int32 → Prop} {v : Nat} (hv : v < 96) (hm : mk v = 0 ∨ mv_ok (mk v)) (he : en v = 0 ∨ mv_ok (en v)) (h1 : (∀ t, mv_O op t → ¬ mv_sees (mv_S sn t) (mk v) (en v)) → post 1) (h0 : (¬ ∀ t, mv_O op t → ¬ mv_sees (mv_S sn t) (mk v) (en v)) → post 0) : ∀ d t, t + d = 4 → (∀ i, i < t → mv_O op i → ¬ mv_sees (mv_S sn i) (mk v) (en v)) → wX_dead_86 post (nI v) c p us ro vl mk en op sn lv nu tc ov al (d + 1) (nI t) := by
  intro d
  induction d with
  | zero =>
    intro t ht hq
    simp only [wX_dead_86]
    exact br_t (nI_le (a := 4) (by omega) (by omega)) (h1 (fun i hi => hq i (by have := hi.1; omega) hi))
  | succ d ih =>
    intro t ht hq
    have ct : (nI t).toNatClampNeg = t := nI_clamp (by omega)
    have hi : vp_in (nI t) 4 := vp_in_nI (by omega) (by omega)
    have next : (¬ (mv_O op t ∧ mv_sees (mv_S sn t) (mk v) (en v))) → wX_dead_86 post (nI v) c p us ro vl mk en op sn lv nu tc ov al (d + 1) (nI (t + 1)) := by
      intro hne
      refine ih (t + 1) (by omega) (fun i hi ho hs => ?_)
      by_cases e : i = t
      · subst e; exact hne ⟨ho, hs⟩
      · exact hq i (by omega) ho hs
    rw [wX_dead_86]; simp only [ct]
    refine br_f (nI_ge (b := 4) (by omega) (by omega)) ⟨hi, br_c (fun e => nm_r (nI_1 t) (next (fun q => q.1.2 e))) (fun e => ⟨hi, mv_xsees hv hm he (fun a => br_f (by decide) (h0 (fun q => q t ⟨by omega, e⟩ a))) (fun a => br_t rfl (nm_r (nI_1 t) (next (fun q => a q.2))))⟩)⟩
theorem mv_xd39 {post : Int32 → Prop} {v : Nat} (hv : v < 96) (hm : mk v = 0 ∨ mv_ok (mk v)) (he : en v = 0 ∨ mv_ok (en v)) (h1 : (en v ≠ 0 ∧ mv_mem c (en v) ∧ mv_in (mv_mem c) (mk v) ∧ ∀ t, mv_O op t → ¬ mv_sees (mv_S sn t) (mk v) (en v)) → post 1) (h0 : ¬ (en v ≠ 0 ∧ mv_mem c (en v) ∧ mv_in (mv_mem c) (mk v) ∧ ∀ t, mv_O op t → ¬ mv_sees (mv_S sn t) (mk v) (en v)) → post 0) : wX_dead_39 post (nI v) c p us ro vl mk en op sn lv nu tc ov al := by
  have cv : (nI v).toNatClampNeg = v := nI_clamp (by omega)
  have hi : vp_in (nI v) 96 := vp_in_nI hv (by omega)
  rw [wX_dead_39]; simp only [cv]
  refine ⟨hi, br_c (fun e => h0 (fun q => q.1 e)) (fun e => ⟨hi, mv_xin he (fun a => br_f (by decide) ⟨hi, mv_xin hm (fun b => br_f (by decide) ⟨_, mv_xd86 hv hm he (fun d => h1 ⟨e, a.resolve_left e, b, d⟩) (fun d => h0 (fun q => d q.2.2.2)) 4 0 (by omega) (fun i hi => absurd hi (by omega))⟩) (fun b => br_t rfl (h0 (fun q => b q.2.2.1)))⟩) (fun a => br_t rfl (h0 (fun q => a (Or.inr q.2.1))))⟩)⟩
theorem mv_xdead {post : Int32 → Prop} {v : Nat} (hv : v < 96) (hm : mk v = 0 ∨ mv_ok (mk v)) (he : en v = 0 ∨ mv_ok (en v)) (h1 : mv_dead (mv_mem c) (mv_mem p) (mv_O op) (mv_S sn) (mk v) (en v) → post 1) (h0 : ¬ mv_dead (mv_mem c) (mv_mem p) (mv_O op) (mv_S sn) (mk v) (en v) → post 0) : wpX_dead post (c, p, us, ro, vl, mk, en, op, sn, lv, nu, tc, ov, al) (nI v) := by
  have cv : (nI v).toNatClampNeg = v := nI_clamp (by omega)
  have hi : vp_in (nI v) 96 := vp_in_nI hv (by omega)
  simp only [wpX_dead, cv]
  refine ⟨hi, mv_xover hm (fun a => br_f (by decide) (h1 (Or.inl a))) (fun a => br_t rfl ⟨hi, hi, ?_⟩)⟩
  refine br_c (fun e => ⟨hi, br_c (fun f => ?_) (fun f => h1 (Or.inr (Or.inl ⟨e, f⟩)))⟩) (fun e => ?_)
  · exact mv_xd39 hv hm he (fun q => h1 (Or.inr (Or.inr q))) (fun q => h0 (fun z => z.elim a (fun z => z.elim (fun y => y.2 f) q)))
  · exact mv_xd39 hv hm he (fun q => h1 (Or.inr (Or.inr q))) (fun q => h0 (fun z => z.elim a (fun z => z.elim (fun y => e y.1) q)))
/-- patterns -/
theorem mv_xfb {n : Int32} (hn : mv_ok n) (t : Nat) : (decide (op t = 0) || (sn t).toBitVec.getLsbD n.toNatClampNeg) = true ↔ op t = 0 ∨ mv_mem (sn t) n := by
  rw [Bool.or_eq_true, decide_eq_true_iff]
  exact ⟨fun z => z.elim Or.inl (fun y => Or.inr ⟨hn, y⟩), fun z => z.elim Or.inl (fun y => Or.inr y.2)⟩
end
def mv_fb (op : Nat → Int32) (sn : Nat → Int64) (n : Int32) (t : Nat) : Bool := decide (op t = 0) || (sn t).toBitVec.getLsbD n.toNatClampNeg
def mv_pp (op : Nat → Int32) (sn : Nat → Int64) (n : Int32) : Nat := mv_pat (mv_fb op sn n) 4
section
variable {c p : Int64} {us ro vl mk en op : Nat → Int32} {sn : Nat → Int64} {lv nu tc ov al : Nat → Int32}
variable {th vs ch : Nat → Int32}
theorem mv_xpat4 {post : Int32 → Prop} {n : Int32} (hn : mv_ok n) (hp : post (nI (mv_pp op sn n))) : ∀ d t, t + d = 4 → wX_pattern_4 post n c p us ro vl mk en op sn lv nu tc ov al (d + 1) (nI (mv_pat (mv_fb op sn n) t)) (nI t) := by
  intro d
  induction d with
  | zero =>
    intro t ht
    have : t = 4 := by omega
    subst this
    simp only [wX_pattern_4]
    exact br_t (nI_le (a := 4) (by omega) (by omega)) hp
  | succ d ih =>
    intro t ht
    have ct : (nI t).toNatClampNeg = t := nI_clamp (by omega)
    have hi : vp_in (nI t) 4 := vp_in_nI (by omega) (by omega)
    have yes : mv_fb op sn n t = true → wX_pattern_32 post (wX_pattern_4 post n c p us ro vl mk en op sn lv nu tc ov al (d + 1)) n (nI (mv_pat (mv_fb op sn n) t)) (nI t) c p us ro vl mk en op sn lv nu tc ov al := by
      intro e
      unfold wX_pattern_32
      refine nm_r (mv_pat_or _ (by omega)) (nm_r (nI_1 t) ?_)
      have q := ih (t + 1) (by omega)
      rw [show mv_pat (mv_fb op sn n) (t + 1) = mv_pat (mv_fb op sn n) t + cond (mv_fb op sn n t) (2 ^ t) 0 from rfl, e] at q
      exact q
    have no : ¬ mv_fb op sn n t = true → wX_pattern_4 post n c p us ro vl mk en op sn lv nu tc ov al (d + 1) (nI (mv_pat (mv_fb op sn n) t)) (nI (t + 1)) := by
      intro e
      have q := ih (t + 1) (by omega)
      rw [show mv_pat (mv_fb op sn n) (t + 1) = mv_pat (mv_fb op sn n) t + cond (mv_fb op sn n t) (2 ^ t) 0 from rfl, ts_nt e] at q
      exact q
    rw [wX_pattern_4]; simp only [ct]
    refine br_f (nI_ge (b := 4) (by omega) (by omega)) ⟨hi, br_c (fun e => yes ((mv_xfb hn t).mpr (Or.inl e))) (fun e => ⟨hi, mv_xin (Or.inr hn) (fun a => br_f (by decide) (yes ((mv_xfb hn t).mpr (Or.inr (a.resolve_left (mv_ok_ne hn)))))) (fun a => br_t rfl (nm_r (nI_1 t) (no (fun q => ((mv_xfb hn t).mp q).elim e (fun m => a (Or.inr m))))))⟩)⟩
theorem mv_xpat {post : Int32 → Prop} {n : Int32} (hn : mv_ok n) (hp : post (nI (mv_pp op sn n))) : wpX_pattern post (c, p, us, ro, vl, mk, en, op, sn, lv, nu, tc, ov, al) n :=
  ⟨_, mv_xpat4 hn hp 4 0 (by omega)⟩
end
/-- what the table of standing numbers holds -/
def mv_AL (c : Int64) (op : Nat → Int32) (sn : Nat → Int64) (al : Nat → Int32) : Prop := ∀ q, q < 16 → al q ≠ 0 → mv_mem c (al q) ∧ mv_pp op sn (al q) = q
theorem mv_pp_lt (op : Nat → Int32) (sn : Nat → Int64) (n : Int32) : mv_pp op sn n < 16 := mv_pat_lt _ 4
theorem mv_pp_eq {op : Nat → Int32} {sn : Nat → Int64} {m n : Int32} (hm : mv_ok m) (hn : mv_ok n) (h : mv_pp op sn m = mv_pp op sn n) : ∀ t, mv_O op t → (mv_S sn t m ↔ mv_S sn t n) := by
  intro t ht
  have e := mv_pat_inj h t ht.1
  have a := mv_xfb (op := op) (sn := sn) hm t
  have b := mv_xfb (op := op) (sn := sn) hn t
  have e2 : (decide (op t = 0) || (sn t).toBitVec.getLsbD m.toNatClampNeg) = (decide (op t = 0) || (sn t).toBitVec.getLsbD n.toNatClampNeg) := e
  rw [e2] at a
  exact ⟨fun z => (b.mp (a.mpr (Or.inr z))).resolve_left ht.2, fun z => (a.mp (b.mpr (Or.inr z))).resolve_left ht.2⟩
theorem mv_pp_15 {op : Nat → Int32} {sn : Nat → Int64} {n : Int32} (hn : mv_ok n) (h : mv_pp op sn n = 15) : ∀ t, mv_O op t → mv_S sn t n := by
  intro t ht
  exact ((mv_xfb hn t).mp (mv_pat_15 h t ht.1)).resolve_left ht.2
section
variable {c p : Int64} {us ro vl mk en op : Nat → Int32} {sn : Nat → Int64} {lv nu tc ov al : Nat → Int32}
variable {th vs ch : Nat → Int32}
theorem mv_xst {n : Int32} (hn : n = 0 ∨ mv_ok n) (ha : mv_AL c op sn al) : ∃ (m : Int32) (al' : Nat → Int32), (∀ post : Int32 → SX → Prop, post m (c, p, us, ro, vl, mk, en, op, sn, lv, nu, tc, ov, al') → wpX_standing post (c, p, us, ro, vl, mk, en, op, sn, lv, nu, tc, ov, al) n) ∧ mv_AL c op sn al' ∧ (∀ q, q < 16 → al q ≠ 0 → al' q = al q) ∧ ((¬ mv_mem c n ∧ m = n) ∨ (mv_mem c n ∧ ((m = 0 ∧ ∀ t, mv_O op t → mv_S sn t n) ∨ (mv_mem c m ∧ (∀ t, mv_O op t → (mv_S sn t m ↔ mv_S sn t n)) ∧ ∃ q, q < 16 ∧ al' q = m)))) := by
  by_cases c0 : n = 0
  · refine ⟨n, al, fun post hp => ?_, ha, fun _ _ _ => rfl, Or.inl ⟨fun z => mv_ok_ne z.1 c0, rfl⟩⟩
    exact br_t c0 hp
  have hk := hn.resolve_left c0
  by_cases c1 : mv_mem c n
  · have n1 := fun z => (mv_tst0 (s := c) hk).mp z c1
    have hlt := mv_pp_lt op sn n
    by_cases c2 : mv_pp op sn n = 15
    · refine ⟨0, al, fun post hp => ?_, ha, fun _ _ _ => rfl, Or.inr ⟨c1, Or.inl ⟨rfl, mv_pp_15 hk c2⟩⟩⟩
      exact br_f c0 (br_f n1 (mv_xpat hk (br_t (by rw [c2]; rfl) hp)))
    · have n2 : ¬ nI (mv_pp op sn n) = 15 := fun z => c2 ((nI_eq (b := 15) (by omega) (by omega)).mp z)
      have hi : vp_in (nI (mv_pp op sn n)) 16 := vp_in_nI hlt (by omega)
      have cq : (nI (mv_pp op sn n)).toNatClampNeg = mv_pp op sn n := nI_clamp (by omega)
      by_cases c3 : al (mv_pp op sn n) = 0
      · refine ⟨n, upd al (mv_pp op sn n) n, fun post hp => ?_, ?_, ?_, Or.inr ⟨c1, Or.inr ⟨c1, fun _ _ => Iff.rfl, mv_pp op sn n, hlt, pk_us⟩⟩⟩
        · refine br_f c0 (br_f n1 (mv_xpat hk (br_f n2 ⟨hi, ?_⟩)))
          simp only [cq]
          exact br_t c3 ⟨hi, fun y ey => ⟨hi, by rw [ey, pk_us]; exact hp⟩⟩
        · intro q hq hne
          by_cases e : q = mv_pp op sn n
          · subst e; rw [pk_us]; exact ⟨c1, rfl⟩
          · rw [pk_un e] at hne ⊢; exact ha q hq hne
        · intro q hq hne
          by_cases e : q = mv_pp op sn n
          · subst e; exact absurd c3 hne
          · exact pk_un e
      · obtain ⟨d1, d2⟩ := ha _ hlt c3
        refine ⟨al (mv_pp op sn n), al, fun post hp => ?_, ha, fun _ _ _ => rfl, Or.inr ⟨c1, Or.inr ⟨d1, mv_pp_eq d1.1 hk d2, _, hlt, rfl⟩⟩⟩
        refine br_f c0 (br_f n1 (mv_xpat hk (br_f n2 ⟨hi, ?_⟩)))
        simp only [cq]
        exact br_f c3 ⟨hi, hp⟩
  · refine ⟨n, al, fun post hp => ?_, ha, fun _ _ _ => rfl, Or.inl ⟨c1, rfl⟩⟩
    exact br_f c0 (br_t ((mv_tst0 hk).mpr c1) hp)
end
end
section
/-! the walk of tidy -/
theorem mv_U_1 {us : Nat → Int32} {i : Nat} (h : us i ≠ 0) : mv_U (upd us i 1) = mv_U us := by
  funext v
  apply propext
  unfold mv_U
  by_cases e : v = i
  · subst e; rw [pk_us]; exact ⟨fun z => ⟨z.1, h⟩, fun z => ⟨z.1, by decide⟩⟩
  · rw [pk_un e]
theorem mv_U_0 (us : Nat → Int32) (i v : Nat) : mv_U (upd us i 0) v ↔ mv_U us v ∧ v ≠ i := by
  unfold mv_U
  by_cases e : v = i
  · subst e; rw [pk_us]; exact ⟨fun z => absurd rfl z.2, fun z => absurd rfl z.2⟩
  · rw [pk_un e]; exact ⟨fun z => ⟨z, e⟩, fun z => z.1⟩
theorem mv_upd_id (f : Nat → Int32) (i : Nat) : upd f i (f i) = f := by
  funext j
  by_cases e : j = i
  · subst e; exact pk_us
  · exact pk_un e
section
variable {C P : Int32 → Prop} {O : Nat → Prop} {S : Nat → Int32 → Prop}
theorem mv_dead_mk (hk : ∀ n, C n → mv_ok n) {m n e : Int32} (hc : C n) (hm : (m = 0 ∧ ∀ t, O t → S t n) ∨ (C m ∧ ∀ t, O t → (S t m ↔ S t n))) (hd : mv_dead C P O S m e) : mv_dead C P O S n e := by
  have n0 : n ≠ 0 := mv_ok_ne (hk _ hc)
  rcases hd with ⟨a, b, _⟩ | ⟨a, b⟩ | ⟨a, b, d, f⟩
  · rcases hm with ⟨x, _⟩ | ⟨x, _⟩
    · exact absurd x a
    · exact absurd x b
  · rcases hm with ⟨x, _⟩ | ⟨x, y⟩
    · exact absurd x b
    · subst a
      refine Or.inr (Or.inr ⟨b, x, Or.inr hc, fun t ht hs => ?_⟩)
      have := (y t ht).mpr (hs.1.resolve_left n0)
      exact (hs.2.resolve_left b) this
  · refine Or.inr (Or.inr ⟨a, b, Or.inr hc, fun t ht hs => f t ht ⟨?_, hs.2⟩⟩)
    rcases hm with ⟨x, _⟩ | ⟨_, y⟩
    · exact Or.inl x
    · exact Or.inr ((y t ht).mpr (hs.1.resolve_left n0))
theorem mv_dead_en (hk : ∀ n, C n → mv_ok n) {m e e' : Int32} (hc : C e) (hc' : C e') (hm : ∀ t, O t → (S t e' ↔ S t e)) (hd : mv_dead C P O S m e') : mv_dead C P O S m e := by
  have e0 : e ≠ 0 := mv_ok_ne (hk _ hc)
  rcases hd with a | ⟨a, b⟩ | ⟨a, b, d, f⟩
  · exact Or.inl a
  · subst a
    refine Or.inr (Or.inr ⟨e0, hc, Or.inr hc', fun t ht hs => ?_⟩)
    exact (hs.2.resolve_left e0) ((hm t ht).mp (hs.1.resolve_left b))
  · exact Or.inr (Or.inr ⟨e0, hc, d, fun t ht hs => f t ht ⟨hs.1, Or.inr (fun z => (hs.2.resolve_left e0) ((hm t ht).mp z))⟩⟩)
end
section
variable {c p : Int64} {us ro vl mk en op : Nat → Int32} {sn : Nat → Int64} {lv nu tc ov al : Nat → Int32}
variable {th vs ch : Nat → Int32}
theorem mv_rmem (H : mv_Rel c p us ro vl mk en op sn lv nu tc ov th vs ch) {n : Int32} (h : mv_mem c n) : mv_ok n ∧ ¬ mv_mem p n := by
  obtain ⟨h1, h2, h3, h4, h5, h6, h7, h8, h9, h10, h11, h12, h13, h14, h15, h16⟩ := H.1
  exact h6 n h
/-- the first loop's end of a step -/
theorem mv_xt63 {post : SX → Prop} {x1 : Int64} {J : Int32 → (Nat → Int32) → (Nat → Int32) → (Nat → Int32) → (Nat → Int32) → (Nat → Int32) → (Nat → Int32) → (Nat → Int64) → (Nat → Int32) → (Nat → Int32) → (Nat → Int32) → (Nat → Int32) → (Nat → Int32) → Prop} {i : Nat} (H : mv_Rel c p us ro vl mk en op sn lv nu tc ov th vs ch) (hu : mv_U us i) (hJ : ∀ us' : Nat → Int32, mv_Rel c p us' ro vl mk en op sn lv nu tc ov th vs ch → (∀ v, v ≠ i → (mv_U us' v ↔ mv_U us v)) → (mv_U us' i → ¬ mv_dead (mv_mem c) (mv_mem p) (mv_O op) (mv_S sn) (mk i) (en i)) → J (nI (i + 1)) us' ro vl mk en op sn lv nu tc ov al) : wX_tidy_63 post J x1 (nI i) c p us ro vl mk en op sn lv nu tc ov al := by
  have ci : (nI i).toNatClampNeg = i := nI_clamp (by have := hu.1; omega)
  have hi : vp_in (nI i) 96 := vp_in_nI hu.1 (by omega)
  obtain ⟨_, _, r3, r4⟩ := mv_r1 H hu
  rw [wX_tidy_63]; simp only [ci]
  refine mv_xdead hu.1 r3 r4 (fun d => br_f (by decide) ⟨hi, fun us' eu => nm_r (nI_1 i) ?_⟩) (fun d => br_t rfl ⟨hi, fun us' eu => nm_r (nI_1 i) ?_⟩)
  · have eu' : us' = upd us i 0 := eu
    subst eu'
    refine hJ _ ⟨mv_s_rm H.1 d (mv_U_0 us i), H.2⟩ (fun v hv => ?_) (fun z => absurd rfl ((mv_U_0 us i i).mp z).2)
    rw [mv_U_0]; exact ⟨fun z => z.1, fun z => ⟨z, hv⟩⟩
  · have eu' : us' = upd us i 1 := eu
    subst eu'
    refine hJ _ ⟨?_, H.2⟩ (fun v hv => by rw [mv_U_1 hu.2]) (fun _ => d)
    unfold mv_I
    rw [mv_U_1 hu.2]
    exact H.1
def mv_g28 (c p : Int64) (op : Nat → Int32) (sn : Nat → Int64) (m e : Int32) : Prop := ¬ mv_dead (mv_mem c) (mv_mem p) (mv_O op) (mv_S sn) m e ∧ (e = 0 ∨ mv_mem c e ∨ mv_mem p e)
theorem mv_g28_i {e : Int32} (h : ¬ (e ≠ 0 ∧ ¬ mv_mem c e ∧ ¬ mv_mem p e)) : e = 0 ∨ mv_mem c e ∨ mv_mem p e := by
  apply Classical.byContradiction
  intro n
  exact h ⟨fun z => n (Or.inl z), fun z => n (Or.inr (Or.inl z)), fun z => n (Or.inr (Or.inr z))⟩
theorem mv_xt28 {post : SX → Prop} {x1 : Int64} (J : ∀ us en : Nat → Int32, mv_Rel c p us ro vl mk en op sn lv nu tc ov th vs ch → (∀ v, mv_U us v → mv_g28 c p op sn (mk v) (en v)) → ∃ n, wX_tidy_90 post n x1 0 c p us ro vl mk en op sn lv nu tc ov al) : ∀ d i (us en : Nat → Int32), i + d = 96 → mv_Rel c p us ro vl mk en op sn lv nu tc ov th vs ch → (∀ v, v < i → mv_U us v → mv_g28 c p op sn (mk v) (en v)) → wX_tidy_28 post x1 c p (d + 1) (nI i) us ro vl mk en op sn lv nu tc ov al := by
  intro d
  induction d with
  | zero =>
    intro i us en hi H hq
    simp only [wX_tidy_28]
    exact br_t (nI_le (a := 96) (by omega) (by omega)) (J us en H (fun v hv => hq v (by have := hv.1; omega) hv))
  | succ d ih =>
    intro i us en hid H hq
    have ci : (nI i).toNatClampNeg = i := nI_clamp (by omega)
    have hi : vp_in (nI i) 96 := vp_in_nI (by omega) (by omega)
    rw [wX_tidy_28]; simp only [ci]
    refine br_f (nI_ge (b := 96) (by omega) (by omega)) ⟨hi, br_c (fun e => nm_r (nI_1 i) ?_) (fun e => ⟨hi, ?_⟩)⟩
    · refine ih (i + 1) us en (by omega) H (fun v hv hu => ?_)
      by_cases ev : v = i
      · subst ev; exact absurd e hu.2
      · exact hq v (by omega) hu
    · have hu : mv_U us i := ⟨by omega, e⟩
      obtain ⟨_, _, r3, r4⟩ := mv_r1 H hu
      refine mv_xover r4 (fun a => br_f (by decide) ⟨hi, nm_e ?_⟩) (fun a => br_t rfl ?_)
      · have H' : mv_Rel c p us ro vl mk (upd en i 0) op sn lv nu tc ov th vs ch := ⟨mv_s_clr H.1 a.2.1 a.2.2 pk_us (fun v hv => pk_un hv), H.2⟩
        refine mv_xt63 H' hu (fun us' HH hv hd => ih (i + 1) us' _ (by omega) HH (fun v hvi hu' => ?_))
        by_cases ev : v = i
        · subst ev; rw [pk_us]; rw [pk_us] at hd; exact ⟨hd hu', Or.inl rfl⟩
        · rw [pk_un ev]; exact hq v (by omega) ((hv v ev).mp hu')
      · refine mv_xt63 H hu (fun us' HH hv hd => ih (i + 1) us' _ (by omega) HH (fun v hvi hu' => ?_))
        by_cases ev : v = i
        · subst ev; exact ⟨hd hu', mv_g28_i a⟩
        · exact hq v (by omega) ((hv v ev).mp hu')
/-- the last loop -/
theorem mv_xt179 {post : SX → Prop} {x1 : Int64} (hp : post (c, p, us, ro, vl, mk, en, op, fun u => if u < 4 then sn u &&& x1 else sn u, lv, nu, tc, ov, al)) : ∀ d t, t + d = 4 → wX_tidy_179 post x1 c p (d + 1) (nI t) us ro vl mk en op (fun u => if u < t then sn u &&& x1 else sn u) lv nu tc ov al := by
  intro d
  induction d with
  | zero =>
    intro t ht
    have : t = 4 := by omega
    subst this
    simp only [wX_tidy_179]
    exact br_t (nI_le (a := 4) (by omega) (by omega)) hp
  | succ d ih =>
    intro t ht
    have ct : (nI t).toNatClampNeg = t := nI_clamp (by omega)
    have hi : vp_in (nI t) 4 := vp_in_nI (by omega) (by omega)
    rw [wX_tidy_179]; simp only [ct]
    refine br_f (nI_ge (b := 4) (by omega) (by omega)) ⟨hi, hi, ?_⟩
    intro s es
    refine nm_r (nI_1 t) ?_
    have e : s = fun u => if u < t + 1 then sn u &&& x1 else sn u := by
      rw [es]
      funext u
      by_cases a : u = t
      · subst a; rw [pk_uLs, if_neg (Nat.lt_irrefl _), if_pos (Nat.lt_succ_self _)]
      · rw [pk_uLn a]
        by_cases b : u < t
        · rw [if_pos b, if_pos (by omega)]
        · rw [if_neg b, if_neg (by omega)]
    rw [e]
    exact ih (t + 1) (by omega)
end
def mv_std (c p : Int64) (al : Nat → Int32) (n : Int32) : Prop := n = 0 ∨ mv_mem p n ∨ (mv_mem c n ∧ ∃ q, q < 16 ∧ al q = n)
def mv_K9 (c p : Int64) (us ro vl mk en op : Nat → Int32) (sn : Nat → Int64) (lv nu tc ov th vs ch al : Nat → Int32) (x1 : Int64) (i : Nat) : Prop :=
  mv_Rel c p us ro vl mk en op sn lv nu tc ov th vs ch ∧ mv_AL c op sn al ∧ (∀ v, mv_U us v → mv_g28 c p op sn (mk v) (en v)) ∧ (∀ v, v < i → mv_U us v → mv_std c p al (mk v) ∧ mv_std c p al (en v)) ∧ (∀ n, mv_mem x1 n ↔ mv_mem p n ∨ (mv_ok n ∧ ∃ v, v < i ∧ mv_U us v ∧ (mk v = n ∨ en v = n)))
theorem mv_std_x {c p : Int64} {al al' : Nat → Int32} {n : Int32} (h : mv_std c p al n) (hx : ∀ q, q < 16 → al q ≠ 0 → al' q = al q) : mv_std c p al' n := by
  rcases h with h | h | ⟨h, q, hq, e⟩
  · exact Or.inl h
  · exact Or.inr (Or.inl h)
  · exact Or.inr (Or.inr ⟨h, q, hq, by rw [hx q hq (by rw [e]; exact mv_ok_ne h.1), e]⟩)
section
variable {c p : Int64} {us ro vl mk en op : Nat → Int32} {sn : Nat → Int64} {lv nu tc ov al : Nat → Int32}
variable {th vs ch : Nat → Int32}
theorem mv_k9s {x1 : Int64} {i : Nat} (k : mv_K9 c p us ro vl mk en op sn lv nu tc ov th vs ch al x1 i) (hu : mv_U us i) : ∃ (m : Int32) (al1 : Nat → Int32) (e : Int32) (al2 : Nat → Int32), (∀ post : Int32 → SX → Prop, post m (c, p, us, ro, vl, mk, en, op, sn, lv, nu, tc, ov, al1) → wpX_standing post (c, p, us, ro, vl, mk, en, op, sn, lv, nu, tc, ov, al) (mk i)) ∧ (∀ post : Int32 → SX → Prop, post e (c, p, us, ro, vl, upd mk i m, en, op, sn, lv, nu, tc, ov, al2) → wpX_standing post (c, p, us, ro, vl, upd mk i m, en, op, sn, lv, nu, tc, ov, al1) (en i)) ∧ mv_K9 c p us ro vl (upd mk i m) (upd en i e) op sn lv nu tc ov th vs ch al2 ((x1 ||| mv_bit m) ||| mv_bit e) (i + 1) := by
  obtain ⟨H, hal, hg, hs, hx⟩ := k
  obtain ⟨_, _, r3, r4⟩ := mv_r1 H hu
  have hkC : ∀ n, mv_mem c n → mv_ok n := fun n z => z.1
  obtain ⟨m, al1, w1, a1, x1x, q1⟩ := mv_xst (c := c) (p := p) (us := us) (ro := ro) (vl := vl) (mk := mk) (en := en) (op := op) (sn := sn) (lv := lv) (nu := nu) (tc := tc) (ov := ov) (al := al) r3 hal
  obtain ⟨e, al2, w2, a2, x2x, q2⟩ := mv_xst (c := c) (p := p) (us := us) (ro := ro) (vl := vl) (mk := upd mk i m) (en := en) (op := op) (sn := sn) (lv := lv) (nu := nu) (tc := tc) (ov := ov) (al := al1) r4 a1
  -- the maker
  have hm : ¬ mv_mem c (mk i) ∧ m = mk i ∨ mv_mem c (mk i) ∧ ((m = 0 ∧ ∀ t, mv_O op t → mv_S sn t (mk i)) ∨ (mv_mem c m ∧ ∀ t, mv_O op t → (mv_S sn t m ↔ mv_S sn t (mk i)))) := by
    rcases q1 with z | ⟨z, y | ⟨y, w, _⟩⟩
    · exact Or.inl z
    · exact Or.inr ⟨z, Or.inl y⟩
    · exact Or.inr ⟨z, Or.inr ⟨y, w⟩⟩
  have H1 : mv_Rel c p us ro vl (upd mk i m) en op sn lv nu tc ov th vs ch := by
    rcases hm with ⟨z, y⟩ | ⟨z, y⟩
    · rw [y, mv_upd_id]; exact H
    · exact ⟨mv_s_mk H.1 z y pk_us (fun v hv => pk_un hv), H.2⟩
  have g1 : mv_g28 c p op sn m (en i) := by
    refine ⟨fun d => (hg i hu).1 ?_, (hg i hu).2⟩
    rcases hm with ⟨z, y⟩ | ⟨z, y⟩
    · rw [y] at d; exact d
    · exact mv_dead_mk hkC z y d
  have s1 : mv_std c p al2 m := by
    rcases q1 with ⟨z, y⟩ | ⟨z, y | ⟨y, w, q, hq, eq⟩⟩
    · subst y
      apply Classical.byContradiction
      intro n
      exact (hg i hu).1 (Or.inl ⟨fun a => n (Or.inl a), z, fun a => n (Or.inr (Or.inl a))⟩)
    · exact Or.inl y.1
    · exact mv_std_x (Or.inr (Or.inr ⟨y, q, hq, eq⟩)) x2x
  have mk0 : m = 0 ∨ mv_ok m := by
    rcases s1 with z | z | z
    · exact Or.inl z
    · exact Or.inr z.1
    · exact Or.inr z.1.1
  -- the ender
  have he : ¬ mv_mem c (en i) ∧ e = en i ∨ mv_mem c (en i) ∧ mv_mem c e ∧ (∀ t, mv_O op t → (mv_S sn t e ↔ mv_S sn t (en i))) ∧ ∃ q, q < 16 ∧ al2 q = e := by
    rcases q2 with z | ⟨z, y | y⟩
    · exact Or.inl z
    · exfalso
      have e0 := mv_ok_ne z.1
      obtain ⟨h1, h2, h3, h4, h5, h6, h7, h8, h9, h10, h11, h12, h13, h14, h15, h16⟩ := H1.1
      have hin := h12 i hu z
      rw [pk_us] at hin
      exact g1.1 (Or.inr (Or.inr ⟨e0, z, hin, fun t ht hs => (hs.2.resolve_left e0) (y.2 t ht)⟩))
    · exact Or.inr ⟨z, y⟩
  have H2 : mv_Rel c p us ro vl (upd mk i m) (upd en i e) op sn lv nu tc ov th vs ch := by
    rcases he with ⟨z, y⟩ | ⟨z, y, w, _⟩
    · rw [y, mv_upd_id]; exact H1
    · exact ⟨mv_s_en H1.1 z y w pk_us (fun v hv => pk_un hv), H1.2⟩
  have g2 : mv_g28 c p op sn m e := by
    rcases he with ⟨z, y⟩ | ⟨z, y, w, _⟩
    · rw [y]; exact g1
    · exact ⟨fun d => g1.1 (mv_dead_en hkC z y w d), Or.inr (Or.inl y)⟩
  have s2 : mv_std c p al2 e := by
    rcases he with ⟨z, y⟩ | ⟨z, y, w, q⟩
    · rw [y]
      rcases (hg i hu).2 with a | a | a
      · exact Or.inl a
      · exact absurd a z
      · exact Or.inr (Or.inl a)
    · exact Or.inr (Or.inr ⟨y, q⟩)
  have en0 : e = 0 ∨ mv_ok e := by
    rcases s2 with z | z | z
    · exact Or.inl z
    · exact Or.inr z.1
    · exact Or.inr z.1.1
  refine ⟨m, al1, e, al2, w1, w2, H2, a2, ?_, ?_, ?_⟩
  · intro v hv
    by_cases ev : v = i
    · subst ev; rw [pk_us, pk_us]; exact g2
    · rw [pk_un ev, pk_un ev]; exact hg v hv
  · intro v hvi hv
    by_cases ev : v = i
    · subst ev; rw [pk_us, pk_us]; exact ⟨s1, s2⟩
    · rw [pk_un ev, pk_un ev]
      obtain ⟨a, b⟩ := hs v (by omega) hv
      exact ⟨mv_std_x (mv_std_x a x1x) x2x, mv_std_x (mv_std_x b x1x) x2x⟩
  · intro n
    rw [mv_mem_or, mv_mem_or, hx, mv_mem_bit mk0, mv_mem_bit en0]
    constructor
    · rintro (((z | ⟨z, v, hv, hvu, y⟩) | ⟨z, y⟩) | ⟨z, y⟩)
      · exact Or.inl z
      · refine Or.inr ⟨z, v, by omega, hvu, ?_⟩
        rw [pk_un (by omega), pk_un (by omega)]; exact y
      · exact Or.inr ⟨z, i, by omega, hu, Or.inl (by rw [pk_us, y])⟩
      · exact Or.inr ⟨z, i, by omega, hu, Or.inr (by rw [pk_us, y])⟩
    · rintro (z | ⟨z, v, hv, hvu, y⟩)
      · exact Or.inl (Or.inl (Or.inl z))
      · by_cases ev : v = i
        · subst ev
          rw [pk_us, pk_us] at y
          rcases y with y | y
          · exact Or.inl (Or.inr ⟨z, y.symm⟩)
          · exact Or.inr ⟨z, y.symm⟩
        · rw [pk_un ev, pk_un ev] at y
          exact Or.inl (Or.inl (Or.inr ⟨z, v, by omega, hvu, y⟩))
theorem mv_k9f {x1 : Int64} (k : mv_K9 c p us ro vl mk en op sn lv nu tc ov th vs ch al x1 96) : mv_Rel (c &&& x1) p us ro vl mk en op (fun u => if u < 4 then sn u &&& x1 else sn u) lv nu tc ov th vs ch ∧ (∃ v, v < 96 ∧ us v = 0) ∧ (∃ n, mv_ok n ∧ ¬ mv_mem (c &&& x1) n ∧ ¬ mv_mem p n ∧ ∀ v, mv_U us v → mk v ≠ n ∧ en v ≠ n) := by
  obtain ⟨H, hal, hg, hs, hx⟩ := k
  have hZ : ∀ v, mv_U us v → (mk v = 0 ∨ mv_mem x1 (mk v)) ∧ (en v = 0 ∨ mv_mem x1 (en v)) := by
    intro v hv
    obtain ⟨a, _, r3, r4⟩ := mv_r1 H hv
    refine ⟨r3.elim Or.inl (fun z => Or.inr ((hx _).mpr (Or.inr ⟨z, v, a, hv, Or.inl rfl⟩))), r4.elim Or.inl (fun z => Or.inr ((hx _).mpr (Or.inr ⟨z, v, a, hv, Or.inr rfl⟩)))⟩
  have H' : mv_Rel (c &&& x1) p us ro vl mk en op (fun u => if u < 4 then sn u &&& x1 else sn u) lv nu tc ov th vs ch := by
    refine ⟨mv_s_shr H.1 (Z := mv_mem x1) (mv_mem_and c x1) (fun t n ht => ?_) hZ, H.2⟩
    unfold mv_S
    dsimp only
    rw [if_pos ht]
    exact mv_mem_and _ _ _
  refine ⟨H', ?_, ?_⟩
  · obtain ⟨v, a, b⟩ := mv_cnt_v H.1 (fun v hv => (hg v hv).1)
    refine ⟨v, a, Classical.byContradiction (fun z => b ⟨a, z⟩)⟩
  · have hstd : ∀ n, mv_mem (c &&& x1) n → ∃ q, q < 16 ∧ al q = n := by
      intro n hn
      obtain ⟨a, b⟩ := (mv_mem_and _ _ _).mp hn
      have np := (mv_rmem H a).2
      rcases (hx n).mp b with z | ⟨z, v, hv, hvu, y⟩
      · exact absurd z np
      · have key : mv_std c p al n := by
          rcases y with y | y
          · rw [← y]; exact (hs v hv hvu).1
          · rw [← y]; exact (hs v hv hvu).2
        rcases key with w | w | w
        · exact absurd w (mv_ok_ne z)
        · exact absurd w np
        · exact w.2
    obtain ⟨n, nk, nC, nP⟩ := mv_cnt_n H'.1 hstd
    refine ⟨n, nk, nC, nP, fun v hv => ?_⟩
    have hno : ∀ y, mv_std c p al y → (y = 0 ∨ mv_mem x1 y) → y ≠ n := by
      rintro y hy hy2 rfl
      have y0 := mv_ok_ne nk
      rcases hy with w | w | w
      · exact y0 w
      · exact nP w
      · exact nC ((mv_mem_and _ _ _).mpr ⟨w.1, hy2.resolve_left y0⟩)
    exact ⟨hno _ (hs v hv.1 hv).1 (hZ v hv).1, hno _ (hs v hv.1 hv).2 (hZ v hv).2⟩
end
end
section
section
variable {c p : Int64} {us ro vl mk en op : Nat → Int32} {sn : Nat → Int64} {lv nu tc ov al : Nat → Int32}
variable {th vs ch : Nat → Int32}
theorem mv_xt90 {post : SX → Prop} (hp : ∀ (c' : Int64) (mk' en' : Nat → Int32) (sn' : Nat → Int64) (al' : Nat → Int32), mv_Rel c' p us ro vl mk' en' op sn' lv nu tc ov th vs ch → (∃ v, v < 96 ∧ us v = 0) → (∃ n, mv_ok n ∧ ¬ mv_mem c' n ∧ ¬ mv_mem p n ∧ ∀ v, mv_U us v → mk' v ≠ n ∧ en' v ≠ n) → post (c', p, us, ro, vl, mk', en', op, sn', lv, nu, tc, ov, al')) : ∀ d i (mk en al : Nat → Int32) (x1 : Int64), i + d = 96 → mv_K9 c p us ro vl mk en op sn lv nu tc ov th vs ch al x1 i → wX_tidy_90 post (d + 1) x1 (nI i) c p us ro vl mk en op sn lv nu tc ov al := by
  intro d
  induction d with
  | zero =>
    intro i mk en al x1 hi k
    have : i = 96 := by omega
    subst this
    obtain ⟨H, a, b⟩ := mv_k9f k
    simp only [wX_tidy_90]
    refine br_t (nI_le (a := 96) (by omega) (by omega)) (nm_e ⟨5, ?_⟩)
    exact mv_xt179 (sn := sn) (hp _ _ _ _ _ H a b) 4 0 (by omega)
  | succ d ih =>
    intro i mk en al x1 hid k
    have ci : (nI i).toNatClampNeg = i := nI_clamp (by omega)
    have hi : vp_in (nI i) 96 := vp_in_nI (by omega) (by omega)
    rw [wX_tidy_90]; simp only [ci]
    refine br_f (nI_ge (b := 96) (by omega) (by omega)) ⟨hi, br_c (fun e => nm_r (nI_1 i) ?_) (fun e => ⟨hi, ?_⟩)⟩
    · refine ih (i + 1) mk en al x1 (by omega) ?_
      obtain ⟨H, hal, hg, hs, hx⟩ := k
      have ni : ∀ v, v < i + 1 → mv_U us v → v < i := by
        intro v hv hu
        by_cases ev : v = i
        · subst ev; exact absurd e hu.2
        · omega
      refine ⟨H, hal, hg, fun v hv hu => hs v (ni v hv hu) hu, fun n => ?_⟩
      rw [hx]
      exact ⟨fun z => z.elim Or.inl (fun ⟨a, v, b, f, g⟩ => Or.inr ⟨a, v, by omega, f, g⟩), fun z => z.elim Or.inl (fun ⟨a, v, b, f, g⟩ => Or.inr ⟨a, v, ni v b f, f, g⟩)⟩
    · obtain ⟨m, al1, f, al2, w1, w2, k'⟩ := mv_k9s k ⟨by omega, e⟩
      refine w1 _ ⟨hi, nm_e ⟨hi, w2 _ ⟨hi, nm_e ⟨hi, ?_⟩⟩⟩⟩
      refine And.intro hi ?_
      refine nm_e (nm_r (nI_1 i) ?_)
      have q := ih (i + 1) _ _ _ _ (by omega) k'
      dsimp only
      rw [pk_us, pk_us]
      exact q
theorem mv_xt2 {post : SX → Prop} (hp : ∃ n, wX_tidy_28 post p c p n 0 us ro vl mk en op sn lv nu tc ov (fun q => if q < 16 then 0 else al q)) : ∀ d i, i + d = 16 → wX_tidy_2 post c p (d + 1) (nI i) us ro vl mk en op sn lv nu tc ov (fun q => if q < i then 0 else al q) := by
  intro d
  induction d with
  | zero =>
    intro i hi
    have : i = 16 := by omega
    subst this
    simp only [wX_tidy_2]
    exact br_t (nI_le (a := 16) (by omega) (by omega)) hp
  | succ d ih =>
    intro i hid
    have ci : (nI i).toNatClampNeg = i := nI_clamp (by omega)
    have hi : vp_in (nI i) 16 := vp_in_nI (by omega) (by omega)
    rw [wX_tidy_2]; simp only [ci]
    refine br_f (nI_ge (b := 16) (by omega) (by omega)) ⟨hi, ?_⟩
    intro s es
    refine nm_r (nI_1 i) ?_
    have e : s = fun q => if q < i + 1 then 0 else al q := by
      rw [es]
      funext u
      by_cases a : u = i
      · subst a; rw [pk_us, if_pos (Nat.lt_succ_self _)]
      · rw [pk_un a]
        by_cases b : u < i
        · rw [if_pos b, if_pos (by omega)]
        · rw [if_neg b, if_neg (by omega)]
    rw [e]
    exact ih (i + 1) (by omega)
theorem mv_xtidy {post : SX → Prop} (H : mv_Rel c p us ro vl mk en op sn lv nu tc ov th vs ch) (hp : ∀ (c' : Int64) (us' mk' en' : Nat → Int32) (sn' : Nat → Int64) (al' : Nat → Int32), mv_Rel c' p us' ro vl mk' en' op sn' lv nu tc ov th vs ch → (∃ v, v < 96 ∧ us' v = 0) → (∃ n, mv_ok n ∧ ¬ mv_mem c' n ∧ ¬ mv_mem p n ∧ ∀ v, mv_U us' v → mk' v ≠ n ∧ en' v ≠ n) → post (c', p, us', ro, vl, mk', en', op, sn', lv, nu, tc, ov, al')) : wpX_tidy post (c, p, us, ro, vl, mk, en, op, sn, lv, nu, tc, ov, al) := by
  have q := mv_xt2 (post := post) (c := c) (p := p) (us := us) (ro := ro) (vl := vl) (mk := mk) (en := en) (op := op) (sn := sn) (lv := lv) (nu := nu) (tc := tc) (ov := ov) (al := al) ⟨97, ?_⟩ 16 0 (by omega)
  · exact ⟨17, q⟩
  · refine mv_xt28 (al := fun q => if q < 16 then 0 else al q) (fun us en H hg => ⟨97, ?_⟩) 96 0 us en (by omega) H (fun v hv => absurd hv (by omega))
    refine mv_xt90 (fun c' mk' en' sn' al' H' a b => hp c' us mk' en' sn' al' H' a b) 96 0 mk en _ p (by omega) ⟨H, ?_, hg, fun v hv => absurd hv (by omega), fun n => ⟨Or.inl, ?_⟩⟩
    · intro q hq hne
      exact absurd (if_pos hq) hne
    · rintro (z | ⟨_, v, hv, _⟩)
      · exact z
      · exact absurd hv (by omega)
theorem mv_xfl2 {post : SX → Prop} (hp : ∀ en : Nat → Int32, mv_Rel c p us ro vl mk en op sn lv nu tc ov th vs ch → post (c, p, us, ro, vl, mk, en, op, sn, lv, nu, tc, ov, al)) : ∀ d i (en : Nat → Int32), i + d = 96 → mv_Rel c p us ro vl mk en op sn lv nu tc ov th vs ch → wX_flush_2 post c p (d + 1) (nI i) us ro vl mk en op sn lv nu tc ov al := by
  intro d
  induction d with
  | zero =>
    intro i en hi H
    simp only [wX_flush_2]
    exact br_t (nI_le (a := 96) (by omega) (by omega)) (hp en H)
  | succ d ih =>
    intro i en hid H
    have ci : (nI i).toNatClampNeg = i := nI_clamp (by omega)
    have hi : vp_in (nI i) 96 := vp_in_nI (by omega) (by omega)
    rw [wX_flush_2]; simp only [ci]
    refine br_f (nI_ge (b := 96) (by omega) (by omega)) ⟨hi, br_c (fun e => nm_r (nI_1 i) (ih (i + 1) en (by omega) H)) (fun e => ⟨hi, ?_⟩)⟩
    obtain ⟨_, _, r3, r4⟩ := mv_r1 H ⟨by omega, e⟩
    refine mv_xover r4 (fun a => br_f (by decide) ⟨hi, nm_e (nm_r (nI_1 i) ?_)⟩) (fun a => br_t rfl (nm_r (nI_1 i) (ih (i + 1) en (by omega) H)))
    exact ih (i + 1) _ (by omega) ⟨mv_s_clr H.1 a.2.1 a.2.2 pk_us (fun v hv => pk_un hv), H.2⟩
end
end
section
/-! new numbers and new versions -/
section
variable {c p : Int64} {us ro vl mk en op : Nat → Int32} {sn : Nat → Int64} {lv nu tc ov al : Nat → Int32}
variable {th vs ch : Nat → Int32}
theorem mv_xfn59 {x : Int64} : ∀ d j, 1 ≤ j → j + d = 63 → ∃ z : Int32, (∀ post : Int32 → Prop, post z → wX_freeNumber_59 post x c p us ro vl mk en op sn lv nu tc ov al (d + 1) (nI j)) ∧ ((z = 0 ∧ ∀ i, j ≤ i → i < 63 → mv_mem x (nI i)) ∨ (mv_ok z ∧ ¬ mv_mem x z)) := by
  intro d
  induction d with
  | zero =>
    intro j h1 hj
    refine ⟨0, fun post hp => ?_, Or.inl ⟨rfl, fun i a b => absurd b (by omega)⟩⟩
    simp only [wX_freeNumber_59]
    exact br_t (nI_le (a := 63) (by omega) (by omega)) hp
  | succ d ih =>
    intro j h1 hj
    have hk : mv_ok (nI j) := mv_ok_nI h1 (by omega)
    have hn : ¬ (63 : Int32) ≤ nI j := nI_ge (b := 63) (by omega) (by omega)
    by_cases c1 : mv_mem x (nI j)
    · obtain ⟨z, hz, hq⟩ := ih (j + 1) (by omega) (by omega)
      refine ⟨z, fun post hp => ?_, ?_⟩
      · simp only [wX_freeNumber_59]
        exact br_f hn (br_f (fun q => (mv_tst0 hk).mp q c1) (nm_r (nI_1 j) (hz post hp)))
      · rcases hq with ⟨a, b⟩ | a
        · refine Or.inl ⟨a, fun i hi hi2 => ?_⟩
          by_cases e : i = j
          · subst e; exact c1
          · exact b i (by omega) hi2
        · exact Or.inr a
    · refine ⟨nI j, fun post hp => ?_, Or.inr ⟨hk, c1⟩⟩
      simp only [wX_freeNumber_59]
      exact br_f hn (br_t ((mv_tst0 hk).mpr c1) hp)
def mv_fr (c p : Int64) (us mk en : Nat → Int32) (n : Int32) : Prop := mv_ok n ∧ ¬ mv_mem c n ∧ ¬ mv_mem p n ∧ ∀ v, mv_U us v → mk v ≠ n ∧ en v ≠ n
theorem mv_xfn12 (hr : ∀ v, mv_U us v → (mk v = 0 ∨ mv_ok (mk v)) ∧ (en v = 0 ∨ mv_ok (en v))) : ∀ d i (x : Int64), i + d = 96 → (∀ n, mv_mem x n ↔ mv_mem c n ∨ mv_mem p n ∨ (mv_ok n ∧ ∃ v, v < i ∧ mv_U us v ∧ (mk v = n ∨ en v = n))) → ∃ z : Int32, (∀ post : Int32 → Prop, post z → wX_freeNumber_12 post c p us ro vl mk en op sn lv nu tc ov al (d + 1) x (nI i)) ∧ ((z = 0 ∧ ∀ n, ¬ mv_fr c p us mk en n) ∨ mv_fr c p us mk en z) := by
  intro d
  induction d with
  | zero =>
    intro i x hi hx
    obtain ⟨z, hz, hq⟩ := mv_xfn59 (x := x) (c := c) (p := p) (us := us) (ro := ro) (vl := vl) (mk := mk) (en := en) (op := op) (sn := sn) (lv := lv) (nu := nu) (tc := tc) (ov := ov) (al := al) 62 1 (by omega) (by omega)
    refine ⟨z, fun post hp => ?_, ?_⟩
    · simp only [wX_freeNumber_12]
      exact br_t (nI_le (a := 96) (by omega) (by omega)) ⟨63, hz post hp⟩
    · rcases hq with ⟨a, b⟩ | ⟨a, b⟩
      · refine Or.inl ⟨a, fun n hn => ?_⟩
        obtain ⟨nk, nC, nP, nU⟩ := hn
        obtain ⟨j, j1, j2, rfl⟩ := nk
        rcases (hx _).mp (b j j1 j2) with w | w | ⟨_, v, _, hu, w⟩
        · exact nC w
        · exact nP w
        · exact w.elim (nU v hu).1 (nU v hu).2
      · refine Or.inr ⟨a, fun w => b ((hx _).mpr (Or.inl w)), fun w => b ((hx _).mpr (Or.inr (Or.inl w))), fun v hu => ⟨fun w => b ((hx _).mpr (Or.inr (Or.inr ⟨a, v, by have := hu.1; omega, hu, Or.inl w⟩))), fun w => b ((hx _).mpr (Or.inr (Or.inr ⟨a, v, by have := hu.1; omega, hu, Or.inr w⟩)))⟩⟩
  | succ d ih =>
    intro i x hid hx
    have ci : (nI i).toNatClampNeg = i := nI_clamp (by omega)
    have hi : vp_in (nI i) 96 := vp_in_nI (by omega) (by omega)
    have hn : ¬ (96 : Int32) ≤ nI i := nI_ge (b := 96) (by omega) (by omega)
    by_cases c1 : us i = 0
    · obtain ⟨z, hz, hq⟩ := ih (i + 1) x (by omega) (by
        intro n
        rw [hx]
        refine ⟨fun z => z.imp id (fun z => z.imp id (fun ⟨a, v, b, f, g⟩ => ⟨a, v, by omega, f, g⟩)), fun z => z.imp id (fun z => z.imp id (fun ⟨a, v, b, f, g⟩ => ⟨a, v, ?_, f, g⟩))⟩
        by_cases e : v = i
        · subst e; exact absurd c1 f.2
        · omega)
      refine ⟨z, fun post hp => ?_, hq⟩
      rw [wX_freeNumber_12]; simp only [ci]
      exact br_f hn ⟨hi, br_t c1 (nm_r (nI_1 i) (hz post hp))⟩
    · have hu : mv_U us i := ⟨by omega, c1⟩
      obtain ⟨r3, r4⟩ := hr i hu
      obtain ⟨z, hz, hq⟩ := ih (i + 1) ((x ||| mv_bit (mk i)) ||| mv_bit (en i)) (by omega) (by
        intro n
        rw [mv_mem_or, mv_mem_or, hx, mv_mem_bit r3, mv_mem_bit r4]
        constructor
        · rintro (((w | w | ⟨w, v, a, b, f⟩) | ⟨w, y⟩) | ⟨w, y⟩)
          · exact Or.inl w
          · exact Or.inr (Or.inl w)
          · exact Or.inr (Or.inr ⟨w, v, by omega, b, f⟩)
          · exact Or.inr (Or.inr ⟨w, i, by omega, hu, Or.inl y.symm⟩)
          · exact Or.inr (Or.inr ⟨w, i, by omega, hu, Or.inr y.symm⟩)
        · rintro (w | w | ⟨w, v, a, b, f⟩)
          · exact Or.inl (Or.inl (Or.inl w))
          · exact Or.inl (Or.inl (Or.inr (Or.inl w)))
          · by_cases e : v = i
            · subst e
              rcases f with f | f
              · exact Or.inl (Or.inr ⟨w, f.symm⟩)
              · exact Or.inr ⟨w, f.symm⟩
            · exact Or.inl (Or.inl (Or.inr (Or.inr ⟨w, v, by omega, b, f⟩))))
      refine ⟨z, fun post hp => ?_, hq⟩
      rw [wX_freeNumber_12]; simp only [ci]
      refine br_f hn ⟨hi, br_f c1 ⟨hi, ?_⟩⟩
      refine And.intro hi ?_
      exact nm_e (nm_r (nI_1 i) (hz post hp))
theorem mv_xfn (H : mv_Rel c p us ro vl mk en op sn lv nu tc ov th vs ch) : ∃ z : Int32, (∀ post : Int32 → Prop, post z → wpX_freeNumber post (c, p, us, ro, vl, mk, en, op, sn, lv, nu, tc, ov, al)) ∧ ((z = 0 ∧ ∀ n, ¬ mv_fr c p us mk en n) ∨ mv_fr c p us mk en z) := by
  obtain ⟨z, hz, hq⟩ := mv_xfn12 (c := c) (p := p) (us := us) (ro := ro) (vl := vl) (mk := mk) (en := en) (op := op) (sn := sn) (lv := lv) (nu := nu) (tc := tc) (ov := ov) (al := al) (fun v hv => (mv_r1 H hv).2.2) 96 0 (c ||| p) (by omega) (by
    intro n
    rw [mv_mem_or]
    exact ⟨fun z => z.imp id Or.inl, fun z => z.imp id (fun y => y.elim id (fun ⟨_, v, a, _⟩ => absurd a (by omega)))⟩)
  exact ⟨z, fun post hp => nm_e ⟨97, hz post hp⟩, hq⟩
theorem mv_xnew {post : Int32 → SX → Prop} (H : mv_Rel c p us ro vl mk en op sn lv nu tc ov th vs ch) (hp : ∀ (n : Int32) (c' : Int64) (us' mk' en' : Nat → Int32) (sn' : Nat → Int64) (al' : Nat → Int32), mv_Rel c' p us' ro vl mk' en' op sn' lv nu tc ov th vs ch → mv_fr c' p us' mk' en' n → post n (c', p ||| mv_bit n, us', ro, vl, mk', en', op, sn', lv, nu, tc, ov, al')) : wpX_newNumber post (c, p, us, ro, vl, mk, en, op, sn, lv, nu, tc, ov, al) := by
  obtain ⟨z, hz, hq⟩ := mv_xfn (al := al) H
  refine hz _ ?_
  rcases hq with ⟨a, _⟩ | a
  · refine br_t a (mv_xtidy H (fun c' us' mk' en' sn' al' H' _ hf => ?_))
    obtain ⟨z', hz', hq'⟩ := mv_xfn (al := al') H'
    refine hz' _ ?_
    rcases hq' with ⟨_, b⟩ | b
    · obtain ⟨n, hn⟩ := hf
      exact absurd hn (b n)
    · exact nm_e (hp z' c' us' mk' en' sn' al' H' b)
  · exact br_f (mv_ok_ne a.1) (nm_e (hp z c us mk en sn al H a))
theorem mv_xfv2 : ∀ d i, i + d = 96 → ∃ z : Int32, (∀ post : Int32 → Prop, post z → wX_freeVersion_2 post c p us ro vl mk en op sn lv nu tc ov al (d + 1) (nI i)) ∧ ((z = -1 ∧ ∀ v, i ≤ v → v < 96 → us v ≠ 0) ∨ ∃ v, v < 96 ∧ z = nI v ∧ us v = 0) := by
  intro d
  induction d with
  | zero =>
    intro i hi
    refine ⟨-1, fun post hp => ?_, Or.inl ⟨rfl, fun v a b => absurd b (by omega)⟩⟩
    simp only [wX_freeVersion_2]
    exact br_t (nI_le (a := 96) (by omega) (by omega)) hp
  | succ d ih =>
    intro i hid
    have ci : (nI i).toNatClampNeg = i := nI_clamp (by omega)
    have hi : vp_in (nI i) 96 := vp_in_nI (by omega) (by omega)
    have hn : ¬ (96 : Int32) ≤ nI i := nI_ge (b := 96) (by omega) (by omega)
    by_cases c1 : us i = 0
    · refine ⟨nI i, fun post hp => ?_, Or.inr ⟨i, by omega, rfl, c1⟩⟩
      rw [wX_freeVersion_2]; simp only [ci]
      exact br_f hn ⟨hi, br_t c1 hp⟩
    · obtain ⟨z, hz, hq⟩ := ih (i + 1) (by omega)
      refine ⟨z, fun post hp => ?_, ?_⟩
      · rw [wX_freeVersion_2]; simp only [ci]
        exact br_f hn ⟨hi, br_f c1 (nm_r (nI_1 i) (hz post hp))⟩
      · rcases hq with ⟨a, b⟩ | a
        · refine Or.inl ⟨a, fun v h1 h2 => ?_⟩
          by_cases e : v = i
          · subst e; exact c1
          · exact b v (by omega) h2
        · exact Or.inr a
theorem mv_xfv : ∃ z : Int32, (∀ post : Int32 → Prop, post z → wpX_freeVersion post (c, p, us, ro, vl, mk, en, op, sn, lv, nu, tc, ov, al)) ∧ ((z = -1 ∧ ∀ v, v < 96 → us v ≠ 0) ∨ ∃ v, v < 96 ∧ z = nI v ∧ us v = 0) := by
  obtain ⟨z, hz, hq⟩ := mv_xfv2 (c := c) (p := p) (us := us) (ro := ro) (vl := vl) (mk := mk) (en := en) (op := op) (sn := sn) (lv := lv) (nu := nu) (tc := tc) (ov := ov) (al := al) 96 0 (by omega)
  refine ⟨z, fun post hp => ⟨97, hz post hp⟩, ?_⟩
  rcases hq with ⟨a, b⟩ | a
  · exact Or.inl ⟨a, fun v hv => b v (by omega) hv⟩
  · exact Or.inr a
/-- the cells of a change: slot t, row r -/
theorem mv_gch {x : Int32} {t r : Nat} (H : mv_Rel c p us ro vl mk en op sn lv nu tc ov th vs ch) (ht : mv_O op t) (hr : r < 8) (b : Int32) : (∀ u j q, mv_O op u → j ≤ mv_L lv u → mv_row q → ¬ (u = t ∧ j = mv_L lv t ∧ q = nI r) → mv_G (upd th (8 * t + r) b) (upd vs (8 * t + r) x) lv u j q = mv_G th vs lv u j q) ∧ mv_ce (upd th (8 * t + r) b) (upd vs (8 * t + r) x) 4 = mv_ce th vs 4 := by
  have t4 := ht.1
  constructor
  · intro u j q hu hj hq hne
    obtain ⟨i, hi, rfl⟩ := hq
    have u4 := hu.1
    obtain ⟨l, l4, _, el⟩ := mv_rl H u4
    obtain ⟨l', l4', _, el'⟩ := mv_rl H t4
    have key : 8 * mv_sl (mv_L lv u) u j + i ≠ 8 * t + r := by
      intro e
      have e1 : mv_sl (mv_L lv u) u j = mv_sl (mv_L lv t) t (mv_L lv t) := by rw [mv_sl_l]; omega
      obtain ⟨e2, e3⟩ := mv_sl_i hj (Nat.le_refl _) (by omega) (by omega) u4 t4 e1 (fun z => by rw [z])
      rw [mv_sl_l] at e1
      exact hne ⟨e2, e3, by rw [show i = r by omega]⟩
    unfold mv_G
    rw [mv_ce_nI hi, mv_ce_nI hi, pk_un key, pk_un key]
  · apply mv_ce_c
    intro i hi
    rw [pk_un (by omega), pk_un (by omega)]
    exact ⟨rfl, rfl⟩
theorem mv_th1 {t r : Nat} {b : Int32} (hb : b = 0 ∨ b = 1) (h : ∀ i, i < 136 → th i = 0 ∨ th i = 1) : ∀ i, i < 136 → upd th (8 * t + r) b i = 0 ∨ upd th (8 * t + r) b i = 1 := by
  intro i hi
  by_cases e : i = 8 * t + r
  · subst e; rw [pk_us]; exact hb
  · rw [pk_un e]; exact h i hi
theorem mv_Rmake {x : Int32} {t r w : Nat} (H : mv_Rel c p us ro vl mk en op sn lv nu tc ov th vs ch) (ht : mv_O op t) (hr : r < 8) (hT : mv_T tc t (mv_L lv t) (nI r)) (h0 : th (8 * t + r) = 0) (w96 : w < 96) (hw : us w = 0) : mv_Rel c p (upd us w 1) (upd ro w (nI r)) (upd vl w x) (upd mk w (nu (t * 4 + mv_L lv t))) (upd en w 0) op sn lv nu tc ov (upd th (8 * t + r) 1) (upd vs (8 * t + r) x) ch := by
  obtain ⟨g1, g2⟩ := mv_gch (x := x) H ht hr 1
  refine ⟨?_, mv_th1 (Or.inr rfl) H.2.1, H.2.2⟩
  unfold mv_I
  rw [g2]
  refine mv_s_make (w := w) (r := nI r) (x := x) H.1 ht w96 (fun z => z.2 hw) (mv_row_nI hr) hT ?_ ?_ pk_us (fun v hv => pk_un hv) pk_us (fun v hv => pk_un hv) pk_us (fun v hv => pk_un hv) pk_us (fun v hv => pk_un hv) ?_ g1
  · unfold mv_G
    rw [mv_sl_l]
    exact mv_ce_0 hr h0
  · intro v
    unfold mv_U
    by_cases e : v = w
    · subst e; rw [pk_us]; exact ⟨fun _ => Or.inr rfl, fun _ => ⟨w96, by decide⟩⟩
    · rw [pk_un e]; exact ⟨Or.inl, fun z => z.resolve_right e⟩
  · unfold mv_G
    rw [mv_sl_l, mv_ce_1 hr (by rw [pk_us]; decide), pk_us]
theorem mv_xmv21 {post : SX → Prop} {x : Int32} {t r w : Nat} (H : mv_Rel c p us ro vl mk en op sn lv nu tc ov th vs ch) (ht : mv_O op t) (hr : r < 8) (hT : mv_T tc t (mv_L lv t) (nI r)) (h0 : th (8 * t + r) = 0) (w96 : w < 96) (hw : us w = 0) (hp : ∀ us' ro' vl' mk' en' : Nat → Int32, mv_Rel c p us' ro' vl' mk' en' op sn lv nu tc ov (upd th (8 * t + r) 1) (upd vs (8 * t + r) x) ch → post (c, p, us', ro', vl', mk', en', op, sn, lv, nu, tc, ov, al)) : wX_makeVersion_21 post (nI r) x (nu (t * 4 + mv_L lv t)) (nI w) c p us ro vl mk en op sn lv nu tc ov al := by
  have ci : (nI w).toNatClampNeg = w := nI_clamp (by omega)
  have hi : vp_in (nI w) 96 := vp_in_nI w96 (by omega)
  rw [wX_makeVersion_21]; simp only [ci]
  refine ⟨hi, fun a ea => ⟨hi, fun b eb => ⟨hi, fun d ed => ⟨hi, fun e ee => ⟨hi, fun f ef => ?_⟩⟩⟩⟩⟩
  have ea' : a = upd us w 1 := ea
  subst ea' eb ed ee ef
  exact hp _ _ _ _ _ (mv_Rmake H ht hr hT h0 w96 hw)
theorem mv_xmake {post : SX → Prop} {x : Int32} {t r : Nat} (H : mv_Rel c p us ro vl mk en op sn lv nu tc ov th vs ch) (ht : mv_O op t) (hr : r < 8) (hT : mv_T tc t (mv_L lv t) (nI r)) (h0 : th (8 * t + r) = 0) (hp : ∀ (c' : Int64) (us' ro' vl' mk' en' : Nat → Int32) (sn' : Nat → Int64) (al' : Nat → Int32), mv_Rel c' p us' ro' vl' mk' en' op sn' lv nu tc ov (upd th (8 * t + r) 1) (upd vs (8 * t + r) x) ch → post (c', p, us', ro', vl', mk', en', op, sn', lv, nu, tc, ov, al')) : wpX_makeVersion post (c, p, us, ro, vl, mk, en, op, sn, lv, nu, tc, ov, al) (nI r) x (nu (t * 4 + mv_L lv t)) := by
  obtain ⟨z, hz, hq⟩ := mv_xfv (c := c) (p := p) (us := us) (ro := ro) (vl := vl) (mk := mk) (en := en) (op := op) (sn := sn) (lv := lv) (nu := nu) (tc := tc) (ov := ov) (al := al)
  refine hz _ ?_
  rcases hq with ⟨a, _⟩ | ⟨v, v96, a, hv⟩
  · subst a
    refine br_f (by decide) (mv_xtidy H (fun c' us' mk' en' sn' al' H' hf _ => ?_))
    obtain ⟨z', hz', hq'⟩ := mv_xfv (c := c') (p := p) (us := us') (ro := ro) (vl := vl) (mk := mk') (en := en') (op := op) (sn := sn') (lv := lv) (nu := nu) (tc := tc) (ov := ov) (al := al')
    refine hz' _ ?_
    rcases hq' with ⟨_, b⟩ | ⟨v, v96, a, hv⟩
    · obtain ⟨v, v96, hv⟩ := hf
      exact absurd hv (b v v96)
    · subst a
      exact mv_xmv21 H' ht hr hT h0 v96 hv (fun us'' ro' vl' mk'' en'' HH => hp c' us'' ro' vl' mk'' en'' sn' al' HH)
  · subst a
    exact br_t (nI_pos' (by omega)) (mv_xmv21 H ht hr hT h0 v96 hv (fun us' ro' vl' mk' en' HH => hp c us' ro' vl' mk' en' sn al HH))
end
end
section
/-! both sides' tests and readings -/
section
variable {c p : Int64} {us ro vl mk en op : Nat → Int32} {sn : Nat → Int64} {lv nu tc ov al : Nat → Int32}
variable {th vs ch : Nat → Int32}
theorem mv_vwm (H : mv_Rel c p us ro vl mk en op sn lv nu tc ov th vs ch) {t : Nat} (ht : mv_O op t) : mv_mem (sn t ||| mv_ors (fun k => nu (t * 4 + k)) (mv_L lv t + 1)) = mv_vw (mv_S sn) (mv_N nu) t (mv_L lv t) := by
  funext n
  apply propext
  rw [mv_mem_or, mv_ors_mem (fun k hk => (mv_rn H ht (by omega)).1)]
  unfold mv_vw mv_S mv_N
  exact ⟨fun z => z.imp id (fun ⟨k, a, b⟩ => ⟨k, by omega, b⟩), fun z => z.imp id (fun ⟨k, a, b⟩ => ⟨k, by omega, b⟩)⟩
theorem mv_rr (H : mv_Rel c p us ro vl mk en op sn lv nu tc ov th vs ch) : ∀ v, mv_U us v → (mk v = 0 ∨ mv_ok (mk v)) ∧ (en v = 0 ∨ mv_ok (en v)) := fun v hv => (mv_r1 H hv).2.2
/-- a search by a view answers as the cell of the view's slot says -/
theorem mv_vans {W : Int32 → Prop} {s r : Nat} (hr : r < 8) {z : Int32} (h : mv_uq (mv_U us) ro mk en W ∧ mv_mt (mv_U us) ro mk en vl W (mv_ce th vs s)) (hq : (z = -1 ∧ ∀ w, mv_U us w → ro w = nI r → ¬ mv_sees W (mk w) (en w)) ∨ ∃ w, z = nI w ∧ mv_U us w ∧ ro w = nI r ∧ mv_sees W (mk w) (en w)) : (th (8 * s + r) = 0 ∧ z = -1) ∨ (th (8 * s + r) ≠ 0 ∧ ∃ v, z = nI v ∧ mv_U us v ∧ ro v = nI r ∧ mv_sees W (mk v) (en v) ∧ vl v = vs (8 * s + r)) := by
  by_cases c0 : th (8 * s + r) = 0
  · refine Or.inl ⟨c0, ?_⟩
    rcases hq with ⟨a, _⟩ | ⟨w, _, hu, e, hs⟩
    · exact a
    · have := h.2.1 w hu hs
      rw [e, mv_ce_0 hr c0] at this
      exact absurd this (by simp)
  · refine Or.inr ⟨c0, ?_⟩
    rcases hq with ⟨_, b⟩ | ⟨w, a, hu, e, hs⟩
    · obtain ⟨v, hu, e, hs⟩ := h.2.2 (nI r) _ (mv_row_nI hr) (mv_ce_1 hr c0)
      exact absurd hs (b v hu e)
    · refine ⟨w, a, hu, e, hs, ?_⟩
      have := h.2.1 w hu hs
      rw [e, mv_ce_1 hr c0] at this
      exact (Option.some.inj this).symm
theorem mv_xvo (H : mv_Rel c p us ro vl mk en op sn lv nu tc ov th vs ch) {t r : Nat} (ht : mv_O op t) (hr : r < 8) : ∃ z : Int32, (∀ post : Int32 → Prop, post z → wpX_versionOf post (c, p, us, ro, vl, mk, en, op, sn, lv, nu, tc, ov, al) (nI t) (nI r)) ∧ ((th (8 * t + r) = 0 ∧ z = -1) ∨ (th (8 * t + r) ≠ 0 ∧ ∃ v, z = nI v ∧ mv_U us v ∧ ro v = nI r ∧ mv_sees (mv_vw (mv_S sn) (mv_N nu) t (mv_L lv t)) (mk v) (en v) ∧ vl v = vs (8 * t + r))) := by
  have t4 := ht.1
  obtain ⟨l, l4, hl, el⟩ := mv_rl H t4
  obtain ⟨z, hz, hq⟩ := mv_xvf (c := c) (p := p) (us := us) (ro := ro) (vl := vl) (mk := mk) (en := en) (op := op) (sn := sn) (lv := lv) (nu := nu) (tc := tc) (ov := ov) (al := al) (sn t ||| mv_ors (fun k => nu (t * 4 + k)) (mv_L lv t + 1)) (nI r) (mv_rr H)
  rw [mv_vwm H ht] at hq
  have ct : (nI t).toNatClampNeg = t := nI_clamp (by omega)
  refine ⟨z, fun post hp => ?_, ?_⟩
  · refine mv_xown t4 l4 hl ⟨vp_in_nI t4 (by omega), ?_⟩
    rw [ct, ← el]
    exact hz _ hp
  · obtain ⟨h1, h2, h3, h4, h5, h6, h7, h8, h9, h10, h11, h12, h13, h14, h15, h16⟩ := H.1
    have k := h10 t (mv_L lv t) ht (Nat.le_refl _)
    unfold mv_G at k
    rw [mv_sl_l] at k
    exact mv_vans hr k hq
theorem mv_xvc (H : mv_Rel c p us ro vl mk en op sn lv nu tc ov th vs ch) {r : Nat} (hr : r < 8) : ∃ z : Int32, (∀ post : Int32 → Prop, post z → wpX_versionFor post (c, p, us, ro, vl, mk, en, op, sn, lv, nu, tc, ov, al) c (nI r)) ∧ ((th (8 * 4 + r) = 0 ∧ z = -1) ∨ (th (8 * 4 + r) ≠ 0 ∧ ∃ v, z = nI v ∧ mv_U us v ∧ ro v = nI r ∧ mv_sees (mv_mem c) (mk v) (en v) ∧ vl v = vs (8 * 4 + r))) := by
  obtain ⟨z, hz, hq⟩ := mv_xvf (c := c) (p := p) (us := us) (ro := ro) (vl := vl) (mk := mk) (en := en) (op := op) (sn := sn) (lv := lv) (nu := nu) (tc := tc) (ov := ov) (al := al) c (nI r) (mv_rr H)
  refine ⟨z, hz, ?_⟩
  obtain ⟨h1, h2, h3, h4, h5, h6, h7, h8, h9, h10, h11, h12, h13, h14, h15, h16⟩ := H.1
  exact mv_vans hr h8 hq
/-- the tests of an argument t -/
theorem mv_ref (a : Int32) : ∃ z : Int32, (∀ post : Int32 → Prop, post z → wpX_refused post (c, p, us, ro, vl, mk, en, op, sn, lv, nu, tc, ov, al) a) ∧ (∀ post : Int32 → Prop, post z → wpY_test post (th, vs, ch, op, ov, lv) a) ∧ ((z = 0 ∧ ∃ t, a = nI t ∧ mv_O op t) ∨ (z = -1) ∨ (z = -2 ∧ ∃ t, a = nI t ∧ t < 4 ∧ op t = 0)) := by
  rcases pk_ix a (n := 4) (by omega) with h | h | ⟨t, t4, rfl⟩
  · exact ⟨-1, fun post hp => br_t h hp, fun post hp => br_t h hp, Or.inr (Or.inl rfl)⟩
  · have h4 : ¬ a < 4 := Int32.not_lt.mpr h
    have h0 : ¬ a < 0 := fun z => h4 (Int32.lt_trans z (by decide))
    have h3 : ¬ a ≤ 3 := fun z => h4 (Int32.lt_of_le_of_lt z (by decide))
    exact ⟨-1, fun post hp => br_f h0 (br_f h4 hp), fun post hp => br_f h0 (br_f h3 hp), Or.inr (Or.inl rfl)⟩
  · have ct : (nI t).toNatClampNeg = t := nI_clamp (by omega)
    have h0 : ¬ nI t < 0 := nI_pos (by omega)
    have h4 : nI t < 4 := nI_lt (b := 4) (by omega) (by omega)
    have h3 : nI t ≤ 3 := nI_le (b := 3) (by omega) (by omega)
    have hi : vp_in (nI t) 4 := vp_in_nI t4 (by omega)
    by_cases e : op t = 0
    · refine ⟨-2, fun post hp => ?_, fun post hp => ?_, Or.inr (Or.inr ⟨rfl, t, rfl, t4, e⟩)⟩
      · simp only [wpX_refused, ct]
        exact br_f h0 (br_t h4 ⟨hi, br_t e hp⟩)
      · simp only [wpY_test, ct]
        exact br_f h0 (br_t h3 ⟨hi, br_t e hp⟩)
    · refine ⟨0, fun post hp => ?_, fun post hp => ?_, Or.inl ⟨rfl, t, rfl, t4, e⟩⟩
      · simp only [wpX_refused, ct]
        exact br_f h0 (br_t h4 ⟨hi, br_f e hp⟩)
      · simp only [wpY_test, ct]
        exact br_f h0 (br_t h3 ⟨hi, br_f e hp⟩)
theorem mv_refr (a b : Int32) : ∃ z : Int32, (∀ post : Int32 → Prop, post z → wpX_refusedRow post (c, p, us, ro, vl, mk, en, op, sn, lv, nu, tc, ov, al) a b) ∧ (∀ post : Int32 → Prop, post z → wpY_testRow post (th, vs, ch, op, ov, lv) a b) ∧ ((z = 0 ∧ ∃ t r, a = nI t ∧ mv_O op t ∧ r < 8 ∧ b = nI r) ∨ z = -1 ∨ z = -2) := by
  obtain ⟨z, hX, hY, hq⟩ := mv_ref (c := c) (p := p) (us := us) (ro := ro) (vl := vl) (mk := mk) (en := en) (op := op) (sn := sn) (lv := lv) (nu := nu) (tc := tc) (ov := ov) (al := al) (th := th) (vs := vs) (ch := ch) a
  rcases hq with ⟨rfl, t, ea, ht⟩ | rfl | ⟨rfl, _⟩
  · rcases pk_ix b (n := 8) (by omega) with h | h | ⟨r, r8, rfl⟩
    · exact ⟨-1, fun post hp => by unfold wpX_refusedRow; exact hX _ (br_t (by decide) (br_t h hp)), fun post hp => by unfold wpY_testRow; exact hY _ (br_t rfl (br_t h hp)), Or.inr (Or.inl rfl)⟩
    · have h8 : ¬ b < 8 := Int32.not_lt.mpr h
      have h0 : ¬ b < 0 := fun z => h8 (Int32.lt_trans z (by decide))
      have h7 : ¬ b ≤ 7 := fun z => h8 (Int32.lt_of_le_of_lt z (by decide))
      exact ⟨-1, fun post hp => by unfold wpX_refusedRow; exact hX _ (br_t (by decide) (br_f h0 (br_f h8 hp))), fun post hp => by unfold wpY_testRow; exact hY _ (br_t rfl (br_f h0 (br_f h7 hp))), Or.inr (Or.inl rfl)⟩
    · have h0 : ¬ nI r < 0 := nI_pos (by omega)
      have h8 : nI r < 8 := nI_lt (b := 8) (by omega) (by omega)
      have h7 : nI r ≤ 7 := nI_le (b := 7) (by omega) (by omega)
      exact ⟨0, fun post hp => by unfold wpX_refusedRow; exact hX _ (br_t (by decide) (br_f h0 (br_t h8 hp))), fun post hp => by unfold wpY_testRow; exact hY _ (br_t rfl (br_f h0 (br_t h7 hp))), Or.inl ⟨rfl, t, r, ea, ht, r8, rfl⟩⟩
  · exact ⟨-1, fun post hp => by unfold wpX_refusedRow; exact hX _ (br_f (by decide) hp), fun post hp => by unfold wpY_testRow; exact hY _ (br_f (by decide) hp), Or.inr (Or.inl rfl)⟩
  · exact ⟨-2, fun post hp => by unfold wpX_refusedRow; exact hX _ (br_f (by decide) hp), fun post hp => by unfold wpY_testRow; exact hY _ (br_f (by decide) hp), Or.inr (Or.inr rfl)⟩
theorem mv_chl (H : mv_Rel c p us ro vl mk en op sn lv nu tc ov th vs ch) {u : Nat} (hu : mv_O op u) : ch u = mv_tc tc u (mv_L lv u) := by
  have := H.2.2.2 u (mv_L lv u) hu (Nat.le_refl _)
  rw [mv_sl_l] at this
  exact this
theorem mv_tct (tc : Nat → Int32) (u l : Nat) (r : Int32) : mv_tb (mv_tc tc u l) r ↔ ∃ k, k ≤ l ∧ mv_T tc u k r := by
  unfold mv_tc
  rw [mv_ort_tb]
  exact ⟨fun ⟨k, a, b⟩ => ⟨k, by omega, b⟩, fun ⟨k, a, b⟩ => ⟨k, by omega, b⟩⟩
theorem mv_blk2 (H : mv_Rel c p us ro vl mk en op sn lv nu tc ov th vs ch) {t r : Nat} (ht : mv_O op t) (hr : r < 8) : ∀ d u, u + d = 4 → ∃ z : Int32, (∀ post : Int32 → Prop, post z → wX_blocked_2 post (nI t) (nI r) c p us ro vl mk en op sn lv nu tc ov al (d + 1) (nI u)) ∧ (∀ post : Int32 → Prop, post z → wY_testChange_2 post (nI t) (nI r) th vs ch op ov lv (d + 1) (nI u)) ∧ ((z = 0 ∧ (∀ w k, u ≤ w → mv_O op w → w ≠ t → k ≤ mv_L lv w → ¬ mv_T tc w k (nI r)) ∧ ¬ mv_V ov t (nI r)) ∨ z = -4 ∨ z = -5) := by
  have t4 := ht.1
  have ct : (nI t).toNatClampNeg = t := nI_clamp (by omega)
  have hit : vp_in (nI t) 4 := vp_in_nI t4 (by omega)
  intro d
  induction d with
  | zero =>
    intro u hu
    have h4 : (4 : Int32) ≤ nI u := nI_le (a := 4) (by omega) (by omega)
    by_cases e : mv_V ov t (nI r)
    · have e2 := (mv_tbt (x := ov t) (mv_row_nI hr)).mpr e
      refine ⟨-5, fun post hp => ?_, fun post hp => ?_, Or.inr (Or.inr rfl)⟩
      · rw [wX_blocked_2]; simp only [ct]
        exact br_t h4 ⟨hit, br_t e2 hp⟩
      · rw [wY_testChange_2]; simp only [ct]
        exact br_t h4 ⟨hit, br_t e2 hp⟩
    · have e2 := fun z => e ((mv_tbt (x := ov t) (mv_row_nI hr)).mp z)
      refine ⟨0, fun post hp => ?_, fun post hp => ?_, Or.inl ⟨rfl, fun w k hw ho => absurd ho.1 (by omega), e⟩⟩
      · rw [wX_blocked_2]; simp only [ct]
        exact br_t h4 ⟨hit, br_f e2 hp⟩
      · rw [wY_testChange_2]; simp only [ct]
        exact br_t h4 ⟨hit, br_f e2 hp⟩
  | succ d ih =>
    intro u hud
    have cu : (nI u).toNatClampNeg = u := nI_clamp (by omega)
    have hiu : vp_in (nI u) 4 := vp_in_nI (by omega) (by omega)
    have hiu17 : vp_in (nI u) 17 := vp_in_nI (by omega) (by omega)
    have h4 : ¬ (4 : Int32) ≤ nI u := nI_ge (b := 4) (by omega) (by omega)
    obtain ⟨z, hX, hY, hq⟩ := ih (u + 1) (by omega)
    have skip : (mv_O op u → u ≠ t → ∀ k, k ≤ mv_L lv u → ¬ mv_T tc u k (nI r)) → ((z = 0 ∧ (∀ w k, u ≤ w → mv_O op w → w ≠ t → k ≤ mv_L lv w → ¬ mv_T tc w k (nI r)) ∧ ¬ mv_V ov t (nI r)) ∨ z = -4 ∨ z = -5) := by
      intro hs
      rcases hq with ⟨a, b, f⟩ | hq
      · refine Or.inl ⟨a, fun w k hw ho hn hk => ?_, f⟩
        by_cases ew : w = u
        · subst ew; exact hs ho hn k hk
        · exact b w k (by omega) ho hn hk
      · exact Or.inr hq
    by_cases c1 : nI u = nI t
    · have eu : u = t := (nI_eq (by omega) (by omega)).mp c1
      refine ⟨z, fun post hp => ?_, fun post hp => ?_, skip (fun _ hn => absurd eu hn)⟩
      · simp only [wX_blocked_2]
        exact br_f h4 (br_t c1 (nm_r (nI_1 u) (hX post hp)))
      · simp only [wY_testChange_2]
        exact br_f h4 (br_t c1 (nm_r (nI_1 u) (hY post hp)))
    · by_cases c2 : op u = 0
      · refine ⟨z, fun post hp => ?_, fun post hp => ?_, skip (fun ho => absurd c2 ho.2)⟩
        · rw [wX_blocked_2]; simp only [cu]
          exact br_f h4 (br_f c1 ⟨hiu, br_t c2 (nm_r (nI_1 u) (hX post hp))⟩)
        · rw [wY_testChange_2]; simp only [cu]
          exact br_f h4 (br_f c1 ⟨hiu, br_t c2 (nm_r (nI_1 u) (hY post hp))⟩)
      · have ho : mv_O op u := ⟨by omega, c2⟩
        obtain ⟨l, l4, hl, el⟩ := mv_rl H ho.1
        have ec := mv_chl H ho
        by_cases c3 : mv_tb (mv_tc tc u (mv_L lv u)) (nI r)
        · have e3 := (mv_tbt (mv_row_nI hr)).mpr c3
          refine ⟨-4, fun post hp => ?_, fun post hp => ?_, Or.inr (Or.inl rfl)⟩
          · rw [wX_blocked_2]; simp only [cu]
            refine br_f h4 (br_f c1 ⟨hiu, br_f c2 (mv_xcb ho.1 l4 hl ?_)⟩)
            rw [el] at e3
            exact br_t e3 hp
          · rw [wY_testChange_2]; simp only [cu]
            refine br_f h4 (br_f c1 ⟨hiu, br_f c2 ⟨hiu17, ?_⟩⟩)
            rw [ec]
            exact br_t e3 hp
        · have e3 := fun z => c3 ((mv_tbt (mv_row_nI hr)).mp z)
          refine ⟨z, fun post hp => ?_, fun post hp => ?_, skip (fun _ _ k hk hT => c3 ((mv_tct _ _ _ _).mpr ⟨k, hk, hT⟩))⟩
          · rw [wX_blocked_2]; simp only [cu]
            refine br_f h4 (br_f c1 ⟨hiu, br_f c2 (mv_xcb ho.1 l4 hl ?_)⟩)
            rw [el] at e3
            exact br_f e3 (nm_r (nI_1 u) (hX post hp))
          · rw [wY_testChange_2]; simp only [cu]
            refine br_f h4 (br_f c1 ⟨hiu, br_f c2 ⟨hiu17, ?_⟩⟩)
            rw [ec]
            exact br_f e3 (nm_r (nI_1 u) (hY post hp))
theorem mv_blk (H : mv_Rel c p us ro vl mk en op sn lv nu tc ov th vs ch) {t r : Nat} (ht : mv_O op t) (hr : r < 8) : ∃ z : Int32, (∀ post : Int32 → Prop, post z → wpX_blocked post (c, p, us, ro, vl, mk, en, op, sn, lv, nu, tc, ov, al) (nI t) (nI r)) ∧ (∀ post : Int32 → Prop, post z → wpY_testChange post (th, vs, ch, op, ov, lv) (nI t) (nI r)) ∧ ((z = 0 ∧ (∀ w k, mv_O op w → w ≠ t → k ≤ mv_L lv w → ¬ mv_T tc w k (nI r)) ∧ ¬ mv_V ov t (nI r)) ∨ z = -4 ∨ z = -5) := by
  obtain ⟨z, hX, hY, hq⟩ := mv_blk2 (al := al) H ht hr 4 0 (by omega)
  refine ⟨z, fun post hp => ⟨5, hX post hp⟩, fun post hp => ⟨5, hY post hp⟩, ?_⟩
  rcases hq with ⟨a, b, f⟩ | hq
  · exact Or.inl ⟨a, fun w k ho => b w k (by omega) ho, f⟩
  · exact Or.inr hq
end
end
section
/-! the methods that only read, on both sides -/
theorem mv_i8 (t r : Nat) : 8 * nI t + nI r = nI (8 * t + r) := by
  rw [show (8 : Int32) = nI 8 from rfl, pk_mul, nI_add]
theorem mv_i8c {t r : Nat} (ht : t < 17) (hr : r < 8) : (8 * nI t + nI r).toNatClampNeg = 8 * t + r := by
  rw [mv_i8, nI_clamp (by omega)]
theorem mv_i8i {t r : Nat} (ht : t < 17) (hr : r < 8) : vp_in (8 * nI t + nI r) 136 := by
  rw [mv_i8]; exact vp_in_nI (by omega) (by omega)
theorem mv_i32 (r : Nat) : 32 + nI r = nI (8 * 4 + r) := by
  rw [show (32 : Int32) = nI (8 * 4) from rfl, nI_add]
theorem mv_i32c {r : Nat} (hr : r < 8) : (32 + nI r).toNatClampNeg = 8 * 4 + r := by
  rw [mv_i32, nI_clamp (by omega)]
theorem mv_i32i {r : Nat} (hr : r < 8) : vp_in (32 + nI r) 136 := by
  rw [mv_i32]; exact vp_in_nI (by omega) (by omega)
section
variable {c p : Int64} {us ro vl mk en op : Nat → Int32} {sn : Nat → Int64} {lv nu tc ov al : Nat → Int32}
variable {th vs ch : Nat → Int32}
theorem mv_get (H : mv_Rel c p us ro vl mk en op sn lv nu tc ov th vs ch) (a b : Int32) : ∃ z : Int32, (∀ post : Int32 → Prop, post z → wpX_get post (c, p, us, ro, vl, mk, en, op, sn, lv, nu, tc, ov, al) a b) ∧ (∀ post : Int32 → Prop, post z → wpY_get post (th, vs, ch, op, ov, lv) a b) := by
  obtain ⟨z, hX, hY, hq⟩ := mv_refr (c := c) (p := p) (us := us) (ro := ro) (vl := vl) (mk := mk) (en := en) (op := op) (sn := sn) (lv := lv) (nu := nu) (tc := tc) (ov := ov) (al := al) (th := th) (vs := vs) (ch := ch) a b
  rcases hq with ⟨rfl, t, r, rfl, ht, hr, rfl⟩ | hz
  · obtain ⟨w, hv, hw⟩ := mv_xvo (al := al) H ht hr
    have t17 : t < 17 := by have := ht.1; omega
    have cc := mv_i8c t17 hr
    have ii := mv_i8i t17 hr
    rcases hw with ⟨e, rfl⟩ | ⟨e, v, rfl, hu, _, _, ev⟩
    · refine ⟨0, fun post hp => ?_, fun post hp => ?_⟩
      · simp only [wpX_get]
        exact hX _ (br_t (by decide) (hv _ (br_f (by decide) hp)))
      · simp only [wpY_get, wpY_has, cc]
        exact hY _ (br_t rfl ⟨ii, br_t e (br_t (by trivial) hp)⟩)
    · have cv : (nI v).toNatClampNeg = v := nI_clamp (by have := hu.1; omega)
      refine ⟨vs (8 * t + r), fun post hp => ?_, fun post hp => ?_⟩
      · simp only [wpX_get]
        refine hX _ (br_t (by decide) (hv _ (br_t (nI_pos' (by have := hu.1; omega)) ⟨vp_in_nI hu.1 (by omega), ?_⟩)))
        rw [cv, ev]; exact hp
      · simp only [wpY_get, wpY_has, cc]
        exact hY _ (br_t rfl ⟨ii, br_f e (br_f (by decide) ⟨ii, hp⟩)⟩)
  · refine ⟨0, fun post hp => ?_, fun post hp => ?_⟩
    · simp only [wpX_get]
      refine hX _ (br_f ?_ hp)
      rcases hz with rfl | rfl <;> decide
    · simp only [wpY_get, wpY_has]
      refine hY _ (br_f ?_ (br_t (by trivial) hp))
      rcases hz with rfl | rfl <;> decide
theorem mv_has (H : mv_Rel c p us ro vl mk en op sn lv nu tc ov th vs ch) (a b : Int32) : ∃ z : Int32, (∀ post : Int32 → Prop, post z → wpX_has post (c, p, us, ro, vl, mk, en, op, sn, lv, nu, tc, ov, al) a b) ∧ (∀ post : Int32 → Prop, post z → wpY_has post (th, vs, ch, op, ov, lv) a b) := by
  obtain ⟨z, hX, hY, hq⟩ := mv_refr (c := c) (p := p) (us := us) (ro := ro) (vl := vl) (mk := mk) (en := en) (op := op) (sn := sn) (lv := lv) (nu := nu) (tc := tc) (ov := ov) (al := al) (th := th) (vs := vs) (ch := ch) a b
  rcases hq with ⟨rfl, t, r, rfl, ht, hr, rfl⟩ | hz
  · obtain ⟨w, hv, hw⟩ := mv_xvo (al := al) H ht hr
    have t17 : t < 17 := by have := ht.1; omega
    have cc := mv_i8c t17 hr
    have ii := mv_i8i t17 hr
    rcases hw with ⟨e, rfl⟩ | ⟨e, v, rfl, hu, _, _, ev⟩
    · refine ⟨0, fun post hp => ?_, fun post hp => ?_⟩
      · simp only [wpX_has]
        exact hX _ (br_t rfl (hv _ (br_t (by decide) hp)))
      · simp only [wpY_has, cc]
        exact hY _ (br_t rfl ⟨ii, br_t e hp⟩)
    · refine ⟨1, fun post hp => ?_, fun post hp => ?_⟩
      · simp only [wpX_has]
        exact hX _ (br_t rfl (hv _ (br_f (nI_pos (by have := hu.1; omega)) hp)))
      · simp only [wpY_has, cc]
        exact hY _ (br_t rfl ⟨ii, br_f e hp⟩)
  · refine ⟨0, fun post hp => ?_, fun post hp => ?_⟩
    · simp only [wpX_has]
      refine hX _ (br_f ?_ hp)
      rcases hz with rfl | rfl <;> decide
    · simp only [wpY_has]
      refine hY _ (br_f ?_ hp)
      rcases hz with rfl | rfl <;> decide
theorem mv_cnt17 (H : mv_Rel c p us ro vl mk en op sn lv nu tc ov th vs ch) {t : Nat} (ht : mv_O op t) : ∀ d r (s : Int32), r + d = 8 → ∃ z : Int32, (∀ post : Int32 → Prop, post z → wX_count_17 post (nI t) c p us ro vl mk en op sn lv nu tc ov al (d + 1) s (nI r)) ∧ (∀ post : Int32 → Prop, post z → wY_count_17 post (nI t) th vs ch op ov lv (d + 1) s (nI r)) := by
  intro d
  induction d with
  | zero =>
    intro r s hr
    have h8 : (8 : Int32) ≤ nI r := nI_le (a := 8) (by omega) (by omega)
    exact ⟨s, fun post hp => br_t h8 hp, fun post hp => br_t h8 hp⟩
  | succ d ih =>
    intro r s hr
    have h8 : ¬ (8 : Int32) ≤ nI r := nI_ge (b := 8) (by omega) (by omega)
    have t17 : t < 17 := by have := ht.1; omega
    have cc := mv_i8c (r := r) t17 (by omega)
    have ii := mv_i8i (r := r) t17 (by omega)
    obtain ⟨w, hv, hw⟩ := mv_xvo (al := al) (r := r) H ht (by omega)
    rcases hw with ⟨e, rfl⟩ | ⟨e, v, rfl, hu, _, _, ev⟩
    · obtain ⟨z, hX, hY⟩ := ih (r + 1) s (by omega)
      refine ⟨z, fun post hp => ?_, fun post hp => ?_⟩
      · rw [wX_count_17]
        exact br_f h8 (hv _ (br_f (by decide) (nm_r (nI_1 r) (hX post hp))))
      · rw [wY_count_17]; simp only [cc]
        exact br_f h8 ⟨ii, br_t e (nm_r (nI_1 r) (hY post hp))⟩
    · obtain ⟨z, hX, hY⟩ := ih (r + 1) (s + 1) (by omega)
      refine ⟨z, fun post hp => ?_, fun post hp => ?_⟩
      · rw [wX_count_17]
        exact br_f h8 (hv _ (br_t (nI_pos' (by have := hu.1; omega)) (nm_e (nm_r (nI_1 r) (hX post hp)))))
      · rw [wY_count_17]; simp only [cc]
        exact br_f h8 ⟨ii, br_f e (nm_e (nm_r (nI_1 r) (hY post hp)))⟩
theorem mv_count (H : mv_Rel c p us ro vl mk en op sn lv nu tc ov th vs ch) (a : Int32) : ∃ z : Int32, (∀ post : Int32 → Prop, post z → wpX_count post (c, p, us, ro, vl, mk, en, op, sn, lv, nu, tc, ov, al) a) ∧ (∀ post : Int32 → Prop, post z → wpY_count post (th, vs, ch, op, ov, lv) a) := by
  obtain ⟨z, hX, hY, hq⟩ := mv_ref (c := c) (p := p) (us := us) (ro := ro) (vl := vl) (mk := mk) (en := en) (op := op) (sn := sn) (lv := lv) (nu := nu) (tc := tc) (ov := ov) (al := al) (th := th) (vs := vs) (ch := ch) a
  have neg : (z = -1 ∨ z = -2) → ∃ z : Int32, (∀ post : Int32 → Prop, post z → wpX_count post (c, p, us, ro, vl, mk, en, op, sn, lv, nu, tc, ov, al) a) ∧ (∀ post : Int32 → Prop, post z → wpY_count post (th, vs, ch, op, ov, lv) a) := by
    intro hz
    refine ⟨z, fun post hp => ?_, fun post hp => ?_⟩
    · simp only [wpX_count]
      refine hX _ (br_f ?_ hp)
      rcases hz with rfl | rfl <;> decide
    · simp only [wpY_count]
      refine hY _ (br_f ?_ hp)
      rcases hz with rfl | rfl <;> decide
  rcases hq with ⟨rfl, t, rfl, ht⟩ | hz | ⟨hz, _⟩
  · obtain ⟨w, wX, wY⟩ := mv_cnt17 (al := al) H ht 8 0 0 (by omega)
    refine ⟨w, fun post hp => ?_, fun post hp => ?_⟩
    · simp only [wpX_count]
      exact hX _ (br_t (by decide) ⟨9, wX post hp⟩)
    · simp only [wpY_count]
      exact hY _ (br_t rfl ⟨9, wY post hp⟩)
  · exact neg (Or.inl hz)
  · exact neg (Or.inr hz)
theorem mv_rows4 (H : mv_Rel c p us ro vl mk en op sn lv nu tc ov th vs ch) : ∀ d r (s : Int32), r + d = 8 → ∃ z : Int32, (∀ post : Int32 → Prop, post z → wX_rows_4 post c p us ro vl mk en op sn lv nu tc ov al (d + 1) s (nI r)) ∧ (∀ post : Int32 → Prop, post z → wY_rows_4 post th vs ch op ov lv (d + 1) s (nI r)) := by
  intro d
  induction d with
  | zero =>
    intro r s hr
    have h8 : (8 : Int32) ≤ nI r := nI_le (a := 8) (by omega) (by omega)
    exact ⟨s, fun post hp => br_t h8 hp, fun post hp => br_t h8 hp⟩
  | succ d ih =>
    intro r s hr
    have h8 : ¬ (8 : Int32) ≤ nI r := nI_ge (b := 8) (by omega) (by omega)
    have cc := mv_i32c (r := r) (by omega)
    have ii := mv_i32i (r := r) (by omega)
    obtain ⟨w, hv, hw⟩ := mv_xvc (al := al) (r := r) H (by omega)
    rcases hw with ⟨e, rfl⟩ | ⟨e, v, rfl, hu, _, _, ev⟩
    · obtain ⟨z, hX, hY⟩ := ih (r + 1) s (by omega)
      refine ⟨z, fun post hp => ?_, fun post hp => ?_⟩
      · rw [wX_rows_4]
        exact br_f h8 (hv _ (br_f (by decide) (nm_r (nI_1 r) (hX post hp))))
      · rw [wY_rows_4]; simp only [cc]
        exact br_f h8 ⟨ii, br_t e (nm_r (nI_1 r) (hY post hp))⟩
    · obtain ⟨z, hX, hY⟩ := ih (r + 1) (s + 1) (by omega)
      refine ⟨z, fun post hp => ?_, fun post hp => ?_⟩
      · rw [wX_rows_4]
        exact br_f h8 (hv _ (br_t (nI_pos' (by have := hu.1; omega)) (nm_e (nm_r (nI_1 r) (hX post hp)))))
      · rw [wY_rows_4]; simp only [cc]
        exact br_f h8 ⟨ii, br_f e (nm_e (nm_r (nI_1 r) (hY post hp)))⟩
theorem mv_rows (H : mv_Rel c p us ro vl mk en op sn lv nu tc ov th vs ch) : ∃ z : Int32, (∀ post : Int32 → Prop, post z → wpX_rows post (c, p, us, ro, vl, mk, en, op, sn, lv, nu, tc, ov, al)) ∧ (∀ post : Int32 → Prop, post z → wpY_rows post (th, vs, ch, op, ov, lv)) := by
  obtain ⟨w, wX, wY⟩ := mv_rows4 (al := al) H 8 0 0 (by omega)
  exact ⟨w, fun post hp => ⟨9, wX post hp⟩, fun post hp => ⟨9, wY post hp⟩⟩
theorem mv_committed (H : mv_Rel c p us ro vl mk en op sn lv nu tc ov th vs ch) (a : Int32) : ∃ z : Int32, (∀ post : Int32 → Prop, post z → wpX_committed post (c, p, us, ro, vl, mk, en, op, sn, lv, nu, tc, ov, al) a) ∧ (∀ post : Int32 → Prop, post z → wpY_committed post (th, vs, ch, op, ov, lv) a) := by
  rcases pk_ix a (n := 8) (by omega) with h | h | ⟨r, r8, rfl⟩
  · exact ⟨0, fun post hp => br_t h hp, fun post hp => br_t h hp⟩
  · have h8 : ¬ a < 8 := Int32.not_lt.mpr h
    have h0 : ¬ a < 0 := fun z => h8 (Int32.lt_trans z (by decide))
    have h7 : 7 < a := Int32.lt_of_lt_of_le (by decide) h
    exact ⟨0, fun post hp => br_f h0 (br_f h8 hp), fun post hp => br_f h0 (br_t h7 hp)⟩
  · have h0 : ¬ nI r < 0 := nI_pos (by omega)
    have h8 : nI r < 8 := nI_lt (b := 8) (by omega) (by omega)
    have h7 : ¬ 7 < nI r := nI_nlt (a := 7) (by omega) (by omega)
    have cc := mv_i32c (r := r) (by omega)
    have ii := mv_i32i (r := r) (by omega)
    obtain ⟨w, hv, hw⟩ := mv_xvc (al := al) (r := r) H (by omega)
    rcases hw with ⟨e, rfl⟩ | ⟨e, v, rfl, hu, _, _, ev⟩
    · refine ⟨0, fun post hp => br_f h0 (br_t h8 (hv _ (br_f (by decide) hp))), fun post hp => ?_⟩
      simp only [wpY_committed, cc]
      exact br_f h0 (br_f h7 ⟨ii, br_t e hp⟩)
    · have cv : (nI v).toNatClampNeg = v := nI_clamp (by have := hu.1; omega)
      refine ⟨vs (8 * 4 + r), fun post hp => br_f h0 (br_t h8 (hv _ (br_t (nI_pos' (by have := hu.1; omega)) ⟨vp_in_nI hu.1 (by omega), ?_⟩))), fun post hp => ?_⟩
      · rw [cv, ev]; exact hp
      · simp only [wpY_committed, cc]
        exact br_f h0 (br_f h7 ⟨ii, br_f e ⟨ii, hp⟩⟩)
theorem mv_changed (H : mv_Rel c p us ro vl mk en op sn lv nu tc ov th vs ch) (a : Int32) : ∃ z : Int32, (∀ post : Int32 → Prop, post z → wpX_changed post (c, p, us, ro, vl, mk, en, op, sn, lv, nu, tc, ov, al) a) ∧ (∀ post : Int32 → Prop, post z → wpY_changed post (th, vs, ch, op, ov, lv) a) := by
  obtain ⟨z, hX, hY, hq⟩ := mv_ref (c := c) (p := p) (us := us) (ro := ro) (vl := vl) (mk := mk) (en := en) (op := op) (sn := sn) (lv := lv) (nu := nu) (tc := tc) (ov := ov) (al := al) (th := th) (vs := vs) (ch := ch) a
  have neg : (z = -1 ∨ z = -2) → ∃ z : Int32, (∀ post : Int32 → Prop, post z → wpX_changed post (c, p, us, ro, vl, mk, en, op, sn, lv, nu, tc, ov, al) a) ∧ (∀ post : Int32 → Prop, post z → wpY_changed post (th, vs, ch, op, ov, lv) a) := by
    intro hz
    refine ⟨z, fun post hp => ?_, fun post hp => ?_⟩
    · simp only [wpX_changed]
      refine hX _ (br_f ?_ hp)
      rcases hz with rfl | rfl <;> decide
    · simp only [wpY_changed]
      refine hY _ (br_f ?_ hp)
      rcases hz with rfl | rfl <;> decide
  rcases hq with ⟨rfl, t, rfl, ht⟩ | hz | ⟨hz, _⟩
  · obtain ⟨l, l4, hl, el⟩ := mv_rl H ht.1
    have t4 := ht.1
    have ec := mv_chl H ht
    have ct : (nI t).toNatClampNeg = t := nI_clamp (by omega)
    refine ⟨mv_tc tc t l, fun post hp => ?_, fun post hp => ?_⟩
    · simp only [wpX_changed]
      exact hX _ (br_t (by decide) (mv_xcb t4 l4 hl hp))
    · simp only [wpY_changed, ct]
      refine hY _ (br_t rfl ⟨vp_in_nI (by omega) (by omega), ?_⟩)
      rw [ec, el]; exact hp
  · exact neg (Or.inl hz)
  · exact neg (Or.inr hz)
theorem mv_yget (H : mv_Rel c p us ro vl mk en op sn lv nu tc ov th vs ch) {t r : Nat} (ht : mv_O op t) (hr : r < 8) {post : Int32 → Prop} (hp : post (if th (8 * t + r) = 0 then 0 else vs (8 * t + r))) : wpY_get post (th, vs, ch, op, ov, lv) (nI t) (nI r) := by
  have t17 : t < 17 := by have := ht.1; omega
  have cc := mv_i8c t17 hr
  have ii := mv_i8i t17 hr
  have t4 := ht.1
  have ct : (nI t).toNatClampNeg = t := nI_clamp (by omega)
  have h0 : ¬ nI t < 0 := nI_pos (by omega)
  have h3 : nI t ≤ 3 := nI_le (b := 3) (by omega) (by omega)
  have r0 : ¬ nI r < 0 := nI_pos (by omega)
  have r7 : nI r ≤ 7 := nI_le (b := 7) (by omega) (by omega)
  have hi : vp_in (nI t) 4 := vp_in_nI t4 (by omega)
  simp only [wpY_get, wpY_has, wpY_testRow, wpY_test, cc, ct]
  refine br_f h0 (br_t h3 ⟨hi, br_f ht.2 (br_t (by trivial) (br_f r0 (br_t r7 (br_t (by trivial) ⟨ii, br_c (fun e => br_t (by trivial) ?_) (fun e => br_f (by decide) ⟨ii, ?_⟩)⟩))))⟩)
  · rw [if_pos e] at hp; exact hp
  · rw [if_neg e] at hp; exact hp
theorem mv_sum4 (H : mv_Rel c p us ro vl mk en op sn lv nu tc ov th vs ch) {t : Nat} (ht : mv_O op t) : ∀ d r (s : Int32), r + d = 8 → ∃ z : Int32, (∀ post : Int32 → Prop, post z → wX_sum_17 post (nI t) c p us ro vl mk en op sn lv nu tc ov al (d + 1) s (nI r)) ∧ (∀ post : Int32 → Prop, post z → wY_sum_4 post (nI t) th vs ch op ov lv (d + 1) s (nI r)) := by
  intro d
  induction d with
  | zero =>
    intro r s hr
    have h8 : (8 : Int32) ≤ nI r := nI_le (a := 8) (by omega) (by omega)
    exact ⟨s, fun post hp => br_t h8 hp, fun post hp => br_t h8 hp⟩
  | succ d ih =>
    intro r s hr
    have h8 : ¬ (8 : Int32) ≤ nI r := nI_ge (b := 8) (by omega) (by omega)
    obtain ⟨w, hv, hw⟩ := mv_xvo (al := al) (r := r) H ht (by omega)
    rcases hw with ⟨e, rfl⟩ | ⟨e, v, rfl, hu, _, _, ev⟩
    · obtain ⟨z, hX, hY⟩ := ih (r + 1) s (by omega)
      refine ⟨z, fun post hp => ?_, fun post hp => ?_⟩
      · rw [wX_sum_17]
        exact br_f h8 (hv _ (br_f (by decide) (nm_r (nI_1 r) (hX post hp))))
      · rw [wY_sum_4]
        refine br_f h8 (mv_yget H ht (by omega) ?_)
        rw [if_pos e]
        exact nm_r (Int32.add_zero s) (nm_r (nI_1 r) (hY post hp))
    · have cv : (nI v).toNatClampNeg = v := nI_clamp (by have := hu.1; omega)
      obtain ⟨z, hX, hY⟩ := ih (r + 1) (s + vs (8 * t + r)) (by omega)
      refine ⟨z, fun post hp => ?_, fun post hp => ?_⟩
      · rw [wX_sum_17]
        refine br_f h8 (hv _ (br_t (nI_pos' (by have := hu.1; omega)) ⟨vp_in_nI hu.1 (by omega), ?_⟩))
        rw [cv, ev]
        exact nm_e (nm_r (nI_1 r) (hX post hp))
      · rw [wY_sum_4]
        refine br_f h8 (mv_yget H ht (by omega) ?_)
        rw [if_neg e]
        exact nm_e (nm_r (nI_1 r) (hY post hp))
theorem mv_ysum0 {a : Int32} (h : ∀ (r : Nat) (post : Int32 → Prop), post 0 → wpY_get post (th, vs, ch, op, ov, lv) a (nI r)) : ∀ d r, r + d = 8 → ∀ post : Int32 → Prop, post 0 → wY_sum_4 post a th vs ch op ov lv (d + 1) 0 (nI r) := by
  intro d
  induction d with
  | zero =>
    intro r hr post hp
    have h8 : (8 : Int32) ≤ nI r := nI_le (a := 8) (by omega) (by omega)
    exact br_t h8 hp
  | succ d ih =>
    intro r hr post hp
    have h8 : ¬ (8 : Int32) ≤ nI r := nI_ge (b := 8) (by omega) (by omega)
    rw [wY_sum_4]
    exact br_f h8 (h r _ (nm_r (Int32.add_zero 0) (nm_r (nI_1 r) (ih (r + 1) (by omega) post hp))))
theorem mv_sum (H : mv_Rel c p us ro vl mk en op sn lv nu tc ov th vs ch) (a : Int32) : ∃ z : Int32, (∀ post : Int32 → Prop, post z → wpX_sum post (c, p, us, ro, vl, mk, en, op, sn, lv, nu, tc, ov, al) a) ∧ (∀ post : Int32 → Prop, post z → wpY_sum post (th, vs, ch, op, ov, lv) a) := by
  obtain ⟨z, hX, hY, hq⟩ := mv_ref (c := c) (p := p) (us := us) (ro := ro) (vl := vl) (mk := mk) (en := en) (op := op) (sn := sn) (lv := lv) (nu := nu) (tc := tc) (ov := ov) (al := al) (th := th) (vs := vs) (ch := ch) a
  have neg : (z = -1 ∨ z = -2) → ∃ z : Int32, (∀ post : Int32 → Prop, post z → wpX_sum post (c, p, us, ro, vl, mk, en, op, sn, lv, nu, tc, ov, al) a) ∧ (∀ post : Int32 → Prop, post z → wpY_sum post (th, vs, ch, op, ov, lv) a) := by
    intro hz
    have zn : ¬ z = 0 := by rcases hz with rfl | rfl <;> decide
    refine ⟨0, fun post hp => ?_, fun post hp => ?_⟩
    · simp only [wpX_sum]
      refine hX _ (br_f ?_ hp)
      rcases hz with rfl | rfl <;> decide
    · refine ⟨9, mv_ysum0 (fun r post hp => ?_) 8 0 (by omega) post hp⟩
      simp only [wpY_get, wpY_has, wpY_testRow]
      exact hY _ (br_f zn (br_f zn (br_t (by trivial) hp)))
  rcases hq with ⟨rfl, t, rfl, ht⟩ | hz | ⟨hz, _⟩
  · obtain ⟨w, wX, wY⟩ := mv_sum4 (al := al) H ht 8 0 0 (by omega)
    refine ⟨w, fun post hp => ?_, fun post hp => ⟨9, wY post hp⟩⟩
    simp only [wpX_sum]
    exact hX _ (br_t (by decide) ⟨9, wX post hp⟩)
  · exact neg (Or.inl hz)
  · exact neg (Or.inr hz)
theorem mv_find26 (H : mv_Rel c p us ro vl mk en op sn lv nu tc ov th vs ch) {t : Nat} (ht : mv_O op t) (f x : Int32) : ∀ d r, r + d = 8 → (∀ i, r ≤ i → i < 8 → ¬ nI i < f) → ∃ z : Int32, (∀ post : Int32 → Prop, post z → wX_find_26 post (nI t) x c p us ro vl mk en op sn lv nu tc ov al (d + 1) (nI r)) ∧ (∀ post : Int32 → Prop, post z → wY_find_18 post (nI t) f x th vs ch op ov lv (d + 1) (nI r)) := by
  intro d
  induction d with
  | zero =>
    intro r hr hf
    have h8 : (8 : Int32) ≤ nI r := nI_le (a := 8) (by omega) (by omega)
    exact ⟨-3, fun post hp => br_t h8 hp, fun post hp => br_t h8 hp⟩
  | succ d ih =>
    intro r hr hf
    have h8 : ¬ (8 : Int32) ≤ nI r := nI_ge (b := 8) (by omega) (by omega)
    have hff := hf r (Nat.le_refl _) (by omega)
    have t17 : t < 17 := by have := ht.1; omega
    have cc := mv_i8c (r := r) t17 (by omega)
    have ii := mv_i8i (r := r) t17 (by omega)
    obtain ⟨z, hX, hY⟩ := ih (r + 1) (by omega) (fun i a b => hf i (by omega) b)
    obtain ⟨w, hv, hw⟩ := mv_xvo (al := al) (r := r) H ht (by omega)
    rcases hw with ⟨e, rfl⟩ | ⟨e, v, rfl, hu, _, _, ev⟩
    · refine ⟨z, fun post hp => ?_, fun post hp => ?_⟩
      · rw [wX_find_26]
        exact br_f h8 (hv _ (br_t (by decide) (nm_r (nI_1 r) (hX post hp))))
      · rw [wY_find_18]; simp only [cc]
        exact br_f h8 (br_f hff ⟨ii, br_t e (nm_r (nI_1 r) (hY post hp))⟩)
    · have cv : (nI v).toNatClampNeg = v := nI_clamp (by have := hu.1; omega)
      have hi : vp_in (nI v) 96 := vp_in_nI hu.1 (by omega)
      have hn : ¬ nI v < 0 := nI_pos (by have := hu.1; omega)
      by_cases c3 : vs (8 * t + r) < x
      · refine ⟨z, fun post hp => ?_, fun post hp => ?_⟩
        · rw [wX_find_26]
          refine br_f h8 (hv _ (br_f hn ⟨hi, ?_⟩))
          rw [cv, ev]
          exact br_t c3 (nm_r (nI_1 r) (hX post hp))
        · rw [wY_find_18]; simp only [cc]
          exact br_f h8 (br_f hff ⟨ii, br_f e ⟨ii, br_t c3 (nm_r (nI_1 r) (hY post hp))⟩⟩)
      · refine ⟨nI r, fun post hp => ?_, fun post hp => ?_⟩
        · rw [wX_find_26]
          refine br_f h8 (hv _ (br_f hn ⟨hi, ?_⟩))
          rw [cv, ev]
          exact br_f c3 hp
        · rw [wY_find_18]; simp only [cc]
          exact br_f h8 (br_f hff ⟨ii, br_f e ⟨ii, br_f c3 hp⟩⟩)
theorem mv_yskip {a f x : Int32} {post : Int32 → Prop} {m d : Nat} (m8 : m ≤ 8) (hf : ∀ i, i < m → nI i < f) (h : wY_find_18 post a f x th vs ch op ov lv d (nI m)) : ∀ e r, r + e = m → wY_find_18 post a f x th vs ch op ov lv (d + e) (nI r) := by
  intro e
  induction e with
  | zero =>
    intro r hr
    have : r = m := by omega
    subst this
    exact h
  | succ e ih =>
    intro r hr
    have h8 : ¬ (8 : Int32) ≤ nI r := nI_ge (b := 8) (by omega) (by omega)
    rw [show d + (e + 1) = (d + e) + 1 by omega, wY_find_18]
    exact br_f h8 (br_t (hf r (by omega)) (nm_r (nI_1 r) (ih (r + 1) (by omega))))
theorem mv_find (H : mv_Rel c p us ro vl mk en op sn lv nu tc ov th vs ch) (a f x : Int32) : ∃ z : Int32, (∀ post : Int32 → Prop, post z → wpX_find post (c, p, us, ro, vl, mk, en, op, sn, lv, nu, tc, ov, al) a f x) ∧ (∀ post : Int32 → Prop, post z → wpY_find post (th, vs, ch, op, ov, lv) a f x) := by
  obtain ⟨z, hX, hY, hq⟩ := mv_ref (c := c) (p := p) (us := us) (ro := ro) (vl := vl) (mk := mk) (en := en) (op := op) (sn := sn) (lv := lv) (nu := nu) (tc := tc) (ov := ov) (al := al) (th := th) (vs := vs) (ch := ch) a
  have neg : (z = -1 ∨ z = -2) → ∃ z : Int32, (∀ post : Int32 → Prop, post z → wpX_find post (c, p, us, ro, vl, mk, en, op, sn, lv, nu, tc, ov, al) a f x) ∧ (∀ post : Int32 → Prop, post z → wpY_find post (th, vs, ch, op, ov, lv) a f x) := by
    intro hz
    refine ⟨z, fun post hp => ?_, fun post hp => ?_⟩
    · simp only [wpX_find]
      refine hX _ (br_f ?_ hp)
      rcases hz with rfl | rfl <;> decide
    · simp only [wpY_find]
      refine hY _ (br_f ?_ hp)
      rcases hz with rfl | rfl <;> decide
  rcases hq with ⟨rfl, t, rfl, ht⟩ | hz | ⟨hz, _⟩
  · rcases pk_ix f (n := 8) (by omega) with h | h | ⟨r, r8, rfl⟩
    · have h0 : ¬ 0 ≤ f := Int32.not_le.mpr h
      obtain ⟨w, wX, wY⟩ := mv_find26 (al := al) H ht f x 8 0 (by omega) (fun i _ hi z => absurd (Int32.lt_trans z h) (nI_pos (by omega)))
      refine ⟨w, fun post hp => ?_, fun post hp => ?_⟩
      · simp only [wpX_find]
        exact hX _ (br_t (by decide) (br_f h0 ⟨9, wX post hp⟩))
      · simp only [wpY_find]
        exact hY _ (br_t rfl ⟨9, wY post hp⟩)
    · have h0 : 0 ≤ f := Int32.le_trans (by decide) h
      have h8 : (8 : Int32) ≤ f := h
      refine ⟨-3, fun post hp => ?_, fun post hp => ?_⟩
      · simp only [wpX_find]
        exact hX _ (br_t (by decide) (br_t h0 ⟨1, br_t h8 hp⟩))
      · simp only [wpY_find]
        refine hY _ (br_t rfl ⟨1 + 8, mv_yskip (m := 8) (d := 1) (by omega) (fun i hi => Int32.lt_of_lt_of_le (nI_lt (b := 8) hi (by omega)) h) ?_ 8 0 (by omega)⟩)
        exact br_t (nI_le (a := 8) (b := 8) (by omega) (by omega)) hp
    · have h0 : 0 ≤ nI r := nI_pos' (by omega)
      obtain ⟨w, wX, wY⟩ := mv_find26 (al := al) H ht (nI r) x (8 - r) r (by omega) (fun i hi _ => nI_nlt hi (by omega))
      refine ⟨w, fun post hp => ?_, fun post hp => ?_⟩
      · simp only [wpX_find]
        exact hX _ (br_t (by decide) (br_t h0 ⟨_, wX post hp⟩))
      · simp only [wpY_find]
        exact hY _ (br_t rfl ⟨_, mv_yskip (m := r) (by omega) (fun i hi => nI_lt hi (by omega)) (wY post hp) r 0 (by omega)⟩)
  · exact neg (Or.inl hz)
  · exact neg (Or.inr hz)
end
end
section
/-! steps of the relation: changes of a row -/
theorem mv_uu (f : Nat → Int32) (i : Nat) (a b : Int32) : upd (upd f i a) i b = upd f i b := by
  funext j
  by_cases e : j = i
  · subst e; rw [pk_us, pk_us]
  · rw [pk_un e, pk_un e, pk_un e]
theorem mv_tc_s (tc : Nat → Int32) (t j : Nat) : mv_tc tc t j = mv_ort (fun k => tc (t * 4 + k)) j ||| tc (t * 4 + j) := rfl
theorem mv_tc_c {tc tc' : Nat → Int32} {t j : Nat} (h : ∀ k, k ≤ j → tc' (t * 4 + k) = tc (t * 4 + k)) : mv_tc tc' t j = mv_tc tc t j :=
  mv_ort_c (fun k hk => h k (by omega))
section
variable {c p : Int64} {us ro vl mk en op : Nat → Int32} {sn : Nat → Int64} {lv nu tc ov al : Nat → Int32}
variable {th vs ch : Nat → Int32}
theorem mv_Rtouch (H : mv_Rel c p us ro vl mk en op sn lv nu tc ov th vs ch) {t r : Nat} (ht : mv_O op t) (hr : r < 8) (hb : ∀ w k, mv_O op w → w ≠ t → k ≤ mv_L lv w → ¬ mv_T tc w k (nI r)) (hv : ¬ mv_V ov t (nI r)) : mv_Rel c p us ro vl mk en op sn lv nu (upd tc (t * 4 + mv_L lv t) (tc (t * 4 + mv_L lv t) ||| ((1 : Int32) <<< (nI r &&& 31)))) ov th vs (upd ch t (ch t ||| ((1 : Int32) <<< (nI r &&& 31)))) ∧ mv_T (upd tc (t * 4 + mv_L lv t) (tc (t * 4 + mv_L lv t) ||| ((1 : Int32) <<< (nI r &&& 31)))) t (mv_L lv t) (nI r) := by
  have t4 := ht.1
  obtain ⟨l, l4, hl, el⟩ := mv_rl H t4
  have hT : ∀ q, mv_T (upd tc (t * 4 + mv_L lv t) (tc (t * 4 + mv_L lv t) ||| ((1 : Int32) <<< (nI r &&& 31)))) t (mv_L lv t) q ↔ mv_T tc t (mv_L lv t) q ∨ q = nI r := by
    intro q
    unfold mv_T
    rw [pk_us, mv_tb_or, mv_tb_bit (mv_row_nI hr)]
  have hN : ∀ u k, mv_O op u → k ≤ mv_L lv u → ¬ (u = t ∧ k = mv_L lv t) → u * 4 + k ≠ t * 4 + mv_L lv t := by
    intro u k hu hk hne e
    obtain ⟨l', l4', _, el'⟩ := mv_rl H hu.1
    have e1 : u = t := by omega
    subst e1
    exact hne ⟨rfl, by omega⟩
  refine ⟨⟨mv_s_touch H.1 ht (r := nI r) hb hv hT (fun u k hu hk hne => ?_), H.2.1, H.2.2.1, ?_⟩, (hT _).mpr (Or.inr rfl)⟩
  · unfold mv_T
    rw [pk_un (hN u k hu hk hne)]
  · intro u j hu hj
    obtain ⟨l', l4', _, el'⟩ := mv_rl H hu.1
    by_cases e : u = t ∧ j = mv_L lv t
    · obtain ⟨rfl, rfl⟩ := e
      have ec := mv_chl H ht
      rw [mv_sl_l, pk_us, ec, mv_tc_s, mv_tc_s, pk_us, Int32.or_assoc]
      congr 1
      apply mv_ort_c
      intro k hk
      exact (pk_un (by omega)).symm
    · have hs : mv_sl (mv_L lv u) u j ≠ t := by
        intro e1
        have e2 : mv_sl (mv_L lv u) u j = mv_sl (mv_L lv t) t (mv_L lv t) := by rw [mv_sl_l]; exact e1
        exact e (mv_sl_i hj (Nat.le_refl _) (by omega) (by omega) hu.1 t4 e2 (fun z => by rw [z]))
      rw [pk_un hs, H.2.2.2 u j hu hj]
      refine (mv_tc_c (fun k hk => pk_un (hN u k hu (by omega) (fun z => ?_)))).symm
      obtain ⟨rfl, rfl⟩ := z
      exact e ⟨rfl, by omega⟩
theorem mv_Rend (H : mv_Rel c p us ro vl mk en op sn lv nu tc ov th vs ch) {t r w : Nat} (y : Int32) (ht : mv_O op t) (hr : r < 8) (hT : mv_T tc t (mv_L lv t) (nI r)) (hw : mv_U us w) (hro : ro w = nI r) (hs : mv_sees (mv_vw (mv_S sn) (mv_N nu) t (mv_L lv t)) (mk w) (en w)) : mv_Rel c p us ro vl mk (upd en w (nu (t * 4 + mv_L lv t))) op sn lv nu tc ov (upd th (8 * t + r) 0) (upd vs (8 * t + r) y) ch := by
  obtain ⟨g1, g2⟩ := mv_gch (x := y) H ht hr 0
  refine ⟨?_, mv_th1 (Or.inl rfl) H.2.1, H.2.2⟩
  unfold mv_I
  rw [g2]
  refine mv_s_end (w := w) H.1 ht hw (by rw [hro]; exact hT) hs pk_us (fun v hv => pk_un hv) ?_ ?_
  · unfold mv_G
    rw [mv_sl_l, hro]
    exact mv_ce_0 hr pk_us
  · rw [hro]; exact g1
theorem mv_Rset (H : mv_Rel c p us ro vl mk en op sn lv nu tc ov th vs ch) {t r w : Nat} (y : Int32) (ht : mv_O op t) (hr : r < 8) (hw : mv_U us w) (hro : ro w = nI r) (hm : mk w = nu (t * 4 + mv_L lv t)) (hs : mv_sees (mv_vw (mv_S sn) (mv_N nu) t (mv_L lv t)) (mk w) (en w)) : mv_Rel c p us ro (upd vl w y) mk en op sn lv nu tc ov (upd th (8 * t + r) 1) (upd vs (8 * t + r) y) ch := by
  obtain ⟨g1, g2⟩ := mv_gch (x := y) H ht hr 1
  refine ⟨?_, mv_th1 (Or.inr rfl) H.2.1, H.2.2⟩
  unfold mv_I
  rw [g2]
  refine mv_s_set (w := w) (x := y) H.1 ht hw hm hs pk_us (fun v hv => pk_un hv) ?_ ?_
  · unfold mv_G
    rw [mv_sl_l, hro, mv_ce_1 hr (by rw [pk_us]; decide), pk_us]
  · rw [hro]; exact g1
theorem mv_x74 {post : SX → Prop} {t r : Nat} {y n : Int32} (H : mv_Rel c p us ro vl mk en op sn lv nu tc ov th vs ch) (ht : mv_O op t) (hr : r < 8) (hT : mv_T tc t (mv_L lv t) (nI r)) (h0 : th (8 * t + r) = 0) (hn : n = nu (t * 4 + mv_L lv t)) (hp : ∀ (c' : Int64) (us' ro' vl' mk' en' : Nat → Int32) (sn' : Nat → Int64) (al' : Nat → Int32), mv_Rel c' p us' ro' vl' mk' en' op sn' lv nu tc ov (upd th (8 * t + r) 1) (upd vs (8 * t + r) y) ch → post (c', p, us', ro', vl', mk', en', op, sn', lv, nu, tc, ov, al')) : wX_write_74 post (nI r) y n c p us ro vl mk en op sn lv nu tc ov al := by
  subst hn
  unfold wX_write_74
  exact mv_xmake H ht hr hT h0 hp
/-- the walk of write -/
theorem mv_xwrite {post : SX → Prop} {t r : Nat} {y z : Int32} (H : mv_Rel c p us ro vl mk en op sn lv nu tc ov th vs ch) (ht : mv_O op t) (hr : r < 8) (hb : ∀ w k, mv_O op w → w ≠ t → k ≤ mv_L lv w → ¬ mv_T tc w k (nI r)) (hv : ¬ mv_V ov t (nI r)) (hz : (th (8 * t + r) = 0 ∧ z = -1) ∨ (th (8 * t + r) ≠ 0 ∧ ∃ v, z = nI v ∧ mv_U us v ∧ ro v = nI r ∧ mv_sees (mv_vw (mv_S sn) (mv_N nu) t (mv_L lv t)) (mk v) (en v) ∧ vl v = vs (8 * t + r))) (hp : ∀ (c' : Int64) (us' ro' vl' mk' en' : Nat → Int32) (sn' : Nat → Int64) (tc' al' : Nat → Int32), mv_Rel c' p us' ro' vl' mk' en' op sn' lv nu tc' ov (upd th (8 * t + r) 1) (upd vs (8 * t + r) y) (upd ch t (ch t ||| ((1 : Int32) <<< (nI r &&& 31)))) → post (c', p, us', ro', vl', mk', en', op, sn', lv, nu, tc', ov, al')) : wpX_write post (c, p, us, ro, vl, mk, en, op, sn, lv, nu, tc, ov, al) (nI t) (nI r) z y := by
  have t4 := ht.1
  obtain ⟨l, l4, hl, el⟩ := mv_rl H t4
  obtain ⟨H1, hT⟩ := mv_Rtouch H ht hr hb hv
  have ct : (nI t).toNatClampNeg = t := nI_clamp (by omega)
  have hit : vp_in (nI t) 4 := vp_in_nI t4 (by omega)
  have ix : nI t * 4 + nI l = nI (t * 4 + mv_L lv t) := by rw [mv_ix, el]
  have cx : (nI (t * 4 + mv_L lv t)).toNatClampNeg = t * 4 + mv_L lv t := nI_clamp (by omega)
  have hix : vp_in (nI (t * 4 + mv_L lv t)) 16 := vp_in_nI (by omega) (by omega)
  simp only [wpX_write, wpX_current, ct, hl, ix, cx]
  refine ⟨hit, hix, fun n hn => ⟨hit, hit, hix, hix, nm_e ?_⟩⟩
  rcases hz with ⟨h0, rfl⟩ | ⟨h0, v, rfl, hu, hro, hs, ev⟩
  · refine br_t (by decide) ?_
    unfold wX_write_62
    refine br_t (by decide) (mv_x74 H1 ht hr hT h0 hn (fun c' us' ro' vl' mk' en' sn' al' HH => hp c' us' ro' vl' mk' en' sn' _ al' HH))
  · have cv : (nI v).toNatClampNeg = v := nI_clamp (by have := hu.1; omega)
    have hiv : vp_in (nI v) 96 := vp_in_nI hu.1 (by omega)
    have nn : ¬ nI v < 0 := nI_pos (by have := hu.1; omega)
    simp only [cv]
    refine br_f nn ⟨hiv, br_c (fun e => ⟨hiv, nm_e ?_⟩) (fun e => ?_)⟩
    · exact hp _ _ _ _ _ _ _ _ _ (mv_Rset H1 y ht hr hu hro (e.trans hn) hs)
    · unfold wX_write_62
      simp only [cv]
      refine br_f nn ⟨hiv, nm_e ?_⟩
      rw [hn]
      have H2 := mv_Rend H1 y ht hr hT hu hro hs
      refine mv_x74 H2 ht hr hT pk_us rfl (fun c' us' ro' vl' mk' en' sn' al' HH => ?_)
      rw [mv_uu, mv_uu] at HH
      exact hp c' us' ro' vl' mk' en' sn' _ al' HH
theorem mv_ych {post : SY → Prop} {t r : Nat} {b y : Int32} (t4 : t < 4) (hr : r < 8) (hp : post (upd th (8 * t + r) (vp_nar .boolean b), upd vs (8 * t + r) y, upd ch t (ch t ||| ((1 : Int32) <<< (nI r &&& 31))), op, ov, lv)) : wpY_change post (th, vs, ch, op, ov, lv) (nI t) (nI r) b y := by
  have ct : (nI t).toNatClampNeg = t := nI_clamp (by omega)
  have cc := mv_i8c (t := t) (r := r) (by omega) hr
  have ii := mv_i8i (t := t) (r := r) (by omega) hr
  have i17 : vp_in (nI t) 17 := vp_in_nI (by omega) (by omega)
  simp only [wpY_change, ct, cc]
  exact ⟨ii, nm_e ⟨ii, nm_e ⟨i17, i17, nm_e hp⟩⟩⟩
end
/-! the relation that is owed -/
def i_Rel (_ : Nat) (u : SX) (v : SY) : Prop := match u, v with
  | (a0, a1, a2, a3, a4, a5, a6, a7, a8, a9, a10, a11, a12, _), (b0, b1, b2, b3, b4, b5) => b3 = a7 ∧ b4 = a12 ∧ b5 = a9 ∧ mv_Rel a0 a1 a2 a3 a4 a5 a6 a7 a8 a9 a10 a11 a12 b0 b1 b2
section
variable {c p : Int64} {us ro vl mk en op : Nat → Int32} {sn : Nat → Int64} {lv nu tc ov al : Nat → Int32}
variable {th vs ch : Nat → Int32}
theorem mv_ri {k : Nat} (H : mv_Rel c p us ro vl mk en op sn lv nu tc ov th vs ch) : i_Rel k (c, p, us, ro, vl, mk, en, op, sn, lv, nu, tc, ov, al) (th, vs, ch, op, ov, lv) := And.intro rfl (And.intro rfl (And.intro rfl H))
theorem mv_el {k : Nat} {Q : SX → SY → Prop} (h : ∀ (c p : Int64) (us ro vl mk en op : Nat → Int32) (sn : Nat → Int64) (lv nu tc ov al th vs ch : Nat → Int32), mv_Rel c p us ro vl mk en op sn lv nu tc ov th vs ch → Q (c, p, us, ro, vl, mk, en, op, sn, lv, nu, tc, ov, al) (th, vs, ch, op, ov, lv)) {u : SX} {v : SY} (I : i_Rel k u v) : Q u v := by
  obtain ⟨c, p, us, ro, vl, mk, en, op, sn, lv, nu, tc, ov, al⟩ := u
  obtain ⟨th, vs, ch, op', ov', lv'⟩ := v
  obtain ⟨e1, e2, e3, H⟩ := I
  subst e1 e2 e3
  exact h _ _ _ _ _ _ _ _ _ _ _ _ _ _ _ _ _ H
theorem i_up {k : Nat} {u : SX} {v : SY} (h : i_Rel k u v) : i_Rel (k + 4) u v := h
end
end
section
/-! owed: reading, changing rows -/
section
variable {c p : Int64} {us ro vl mk en op : Nat → Int32} {sn : Nat → Int64} {lv nu tc ov al : Nat → Int32}
variable {th vs ch : Nat → Int32}
theorem mv_yput0 {post : Int32 → SY → Prop} {t r : Nat} {x w : Int32} (t4 : t < 4) (hr : r < 8) (hw : (th (8 * t + r) = 0 ∧ w = 0) ∨ (th (8 * t + r) ≠ 0 ∧ w = 1)) (hp : post w (upd th (8 * t + r) 1, upd vs (8 * t + r) x, upd ch t (ch t ||| ((1 : Int32) <<< (nI r &&& 31))), op, ov, lv)) : wY_put_24 post (nI t) (nI r) x 0 th vs ch op ov lv := by
  have cc := mv_i8c (t := t) (r := r) (by omega) hr
  have ii := mv_i8i (t := t) (r := r) (by omega) hr
  unfold wY_put_24
  refine br_t rfl ⟨ii, ?_⟩
  rw [cc]
  rcases hw with ⟨h0, rfl⟩ | ⟨h0, rfl⟩
  · refine br_t h0 ?_
    unfold wY_put_53
    exact mv_ych t4 hr hp
  · refine br_f h0 ?_
    unfold wY_put_53
    exact mv_ych t4 hr hp
theorem mv_yputz {post : Int32 → SY → Prop} {a b x z : Int32} (hz : ¬ z = 0) (hp : post z (th, vs, ch, op, ov, lv)) : wY_put_24 post a b x z th vs ch op ov lv := by
  unfold wY_put_24
  exact br_f hz hp
theorem mv_ys1 {post : Int32 → Prop} {a b z : Int32} (hY : ∀ post : Int32 → Prop, post z → wpY_testRow post (th, vs, ch, op, ov, lv) a b) (hz : ¬ z = 0) (hp : post z) : wpY_testSeen post (th, vs, ch, op, ov, lv) a b := by
  unfold wpY_testSeen
  exact hY _ (br_f hz hp)
theorem mv_ys2 {post : Int32 → Prop} {t r : Nat} (t4 : t < 4) (hr : r < 8) (hY : ∀ post : Int32 → Prop, post 0 → wpY_testRow post (th, vs, ch, op, ov, lv) (nI t) (nI r)) (h0 : th (8 * t + r) = 0) (hp : post (-3)) : wpY_testSeen post (th, vs, ch, op, ov, lv) (nI t) (nI r) := by
  have cc := mv_i8c (t := t) (r := r) (by omega) hr
  have ii := mv_i8i (t := t) (r := r) (by omega) hr
  unfold wpY_testSeen
  refine hY _ (br_t rfl ⟨ii, ?_⟩)
  rw [cc]
  exact br_t h0 hp
theorem mv_ys3 {post : Int32 → Prop} {t r : Nat} {z : Int32} (t4 : t < 4) (hr : r < 8) (hY : ∀ post : Int32 → Prop, post 0 → wpY_testRow post (th, vs, ch, op, ov, lv) (nI t) (nI r)) (h0 : th (8 * t + r) ≠ 0) (bY : ∀ post : Int32 → Prop, post z → wpY_testChange post (th, vs, ch, op, ov, lv) (nI t) (nI r)) (hp : post z) : wpY_testSeen post (th, vs, ch, op, ov, lv) (nI t) (nI r) := by
  have cc := mv_i8c (t := t) (r := r) (by omega) hr
  have ii := mv_i8i (t := t) (r := r) (by omega) hr
  unfold wpY_testSeen
  refine hY _ (br_t rfl ⟨ii, ?_⟩)
  rw [cc]
  exact br_f h0 (bY _ hp)
theorem mv_put {Q : Int32 → SX → Int32 → SY → Prop} (H : mv_Rel c p us ro vl mk en op sn lv nu tc ov th vs ch) (a b x : Int32) (hq : ∀ (r : Int32) (c p : Int64) (us ro vl mk en op : Nat → Int32) (sn : Nat → Int64) (lv nu tc ov al th vs ch : Nat → Int32), mv_Rel c p us ro vl mk en op sn lv nu tc ov th vs ch → Q r (c, p, us, ro, vl, mk, en, op, sn, lv, nu, tc, ov, al) r (th, vs, ch, op, ov, lv)) : wpX_put (fun r u' => wpY_put (fun r' v' => Q r u' r' v') (th, vs, ch, op, ov, lv) a b x) (c, p, us, ro, vl, mk, en, op, sn, lv, nu, tc, ov, al) a b x := by
  obtain ⟨z, hX, hY, hz⟩ := mv_refr (c := c) (p := p) (us := us) (ro := ro) (vl := vl) (mk := mk) (en := en) (op := op) (sn := sn) (lv := lv) (nu := nu) (tc := tc) (ov := ov) (al := al) (th := th) (vs := vs) (ch := ch) a b
  unfold wpX_put
  rcases hz with ⟨rfl, t, r, rfl, ht, hr, rfl⟩ | hz
  · obtain ⟨z2, bX, bY, hz2⟩ := mv_blk (al := al) H ht hr
    rcases hz2 with ⟨rfl, hb, hv⟩ | hz2
    · obtain ⟨w, hw, hwq⟩ := mv_xvo (al := al) H ht hr
      refine hX _ (br_t (by decide) (bX _ (br_t (by decide) (hw _ (mv_xwrite H ht hr hb hv hwq (fun c' us' ro' vl' mk' en' sn' tc' al' HH => ?_))))))
      rcases hwq with ⟨h0, rfl⟩ | ⟨h0, v, rfl, hu, _⟩
      · refine br_f (by decide) ?_
        unfold wpY_put
        exact hY _ (br_t rfl (bY _ (mv_yput0 ht.1 hr (Or.inl ⟨h0, rfl⟩) (hq _ _ _ _ _ _ _ _ _ _ _ _ _ _ _ _ _ _ HH))))
      · refine br_t (nI_pos' (by have := hu.1; omega)) ?_
        unfold wpY_put
        exact hY _ (br_t rfl (bY _ (mv_yput0 ht.1 hr (Or.inr ⟨h0, rfl⟩) (hq _ _ _ _ _ _ _ _ _ _ _ _ _ _ _ _ _ _ HH))))
    · refine hX _ (br_t (by decide) (bX _ (br_f (by rcases hz2 with rfl | rfl <;> decide) ?_)))
      unfold wpY_put
      exact hY _ (br_t rfl (bY _ (mv_yputz (by rcases hz2 with rfl | rfl <;> decide) (hq _ _ _ _ _ _ _ _ _ _ _ _ _ _ _ _ _ _ H))))
  · refine hX _ (br_f (by rcases hz with rfl | rfl <;> decide) ?_)
    unfold wpY_put
    have zn : ¬ z = 0 := by rcases hz with rfl | rfl <;> decide
    exact hY _ (br_f zn (mv_yputz zn (hq _ _ _ _ _ _ _ _ _ _ _ _ _ _ _ _ _ _ H)))
theorem mv_add {Q : Int32 → SX → Int32 → SY → Prop} (H : mv_Rel c p us ro vl mk en op sn lv nu tc ov th vs ch) (a b x : Int32) (hq : ∀ (r : Int32) (c p : Int64) (us ro vl mk en op : Nat → Int32) (sn : Nat → Int64) (lv nu tc ov al th vs ch : Nat → Int32), mv_Rel c p us ro vl mk en op sn lv nu tc ov th vs ch → Q r (c, p, us, ro, vl, mk, en, op, sn, lv, nu, tc, ov, al) r (th, vs, ch, op, ov, lv)) : wpX_add (fun r u' => wpY_add (fun r' v' => Q r u' r' v') (th, vs, ch, op, ov, lv) a b x) (c, p, us, ro, vl, mk, en, op, sn, lv, nu, tc, ov, al) a b x := by
  obtain ⟨z, hX, hY, hz⟩ := mv_refr (c := c) (p := p) (us := us) (ro := ro) (vl := vl) (mk := mk) (en := en) (op := op) (sn := sn) (lv := lv) (nu := nu) (tc := tc) (ov := ov) (al := al) (th := th) (vs := vs) (ch := ch) a b
  unfold wpX_add
  rcases hz with ⟨rfl, t, r, rfl, ht, hr, rfl⟩ | hz
  · obtain ⟨w, hw, hwq⟩ := mv_xvo (al := al) H ht hr
    have hwq' := hwq
    rcases hwq with ⟨h0, rfl⟩ | ⟨h0, v, rfl, hu, _, _, ev⟩
    · refine hX _ (br_t (by decide) (hw _ (br_f (by decide) ?_)))
      unfold wpY_add
      exact mv_ys2 ht.1 hr hY h0 (br_f (by decide) (hq _ _ _ _ _ _ _ _ _ _ _ _ _ _ _ _ _ _ H))
    · obtain ⟨z2, bX, bY, hz2⟩ := mv_blk (al := al) H ht hr
      have v0 : 0 ≤ nI v := nI_pos' (by have := hu.1; omega)
      rcases hz2 with ⟨rfl, hb, hv⟩ | hz2
      · have cv : (nI v).toNatClampNeg = v := nI_clamp (by have := hu.1; omega)
        refine hX _ (br_t (by decide) (hw _ (br_t v0 (bX _ (br_t (by decide) ⟨vp_in_nI hu.1 (by omega), ?_⟩)))))
        rw [cv, ev]
        refine mv_xwrite H ht hr hb hv hwq' (fun c' us' ro' vl' mk' en' sn' tc' al' HH => ?_)
        unfold wpY_add
        have t4 := ht.1
        have cc := mv_i8c (t := t) (r := r) (by omega) hr
        have ii := mv_i8i (t := t) (r := r) (by omega) hr
        refine mv_ys3 ht.1 hr hY h0 bY (br_t rfl ⟨ii, ?_⟩)
        rw [cc]
        exact mv_ych ht.1 hr (hq _ _ _ _ _ _ _ _ _ _ _ _ _ _ _ _ _ _ HH)
      · refine hX _ (br_t (by decide) (hw _ (br_t v0 (bX _ (br_f (by rcases hz2 with rfl | rfl <;> decide) ?_)))))
        unfold wpY_add
        exact mv_ys3 ht.1 hr hY h0 bY (br_f (by rcases hz2 with rfl | rfl <;> decide) (hq _ _ _ _ _ _ _ _ _ _ _ _ _ _ _ _ _ _ H))
  · refine hX _ (br_f (by rcases hz with rfl | rfl <;> decide) ?_)
    unfold wpY_add
    have zn : ¬ z = 0 := by rcases hz with rfl | rfl <;> decide
    exact mv_ys1 hY zn (br_f zn (hq _ _ _ _ _ _ _ _ _ _ _ _ _ _ _ _ _ _ H))
theorem mv_drop {Q : Int32 → SX → Int32 → SY → Prop} (H : mv_Rel c p us ro vl mk en op sn lv nu tc ov th vs ch) (a b : Int32) (hq : ∀ (r : Int32) (c p : Int64) (us ro vl mk en op : Nat → Int32) (sn : Nat → Int64) (lv nu tc ov al th vs ch : Nat → Int32), mv_Rel c p us ro vl mk en op sn lv nu tc ov th vs ch → Q r (c, p, us, ro, vl, mk, en, op, sn, lv, nu, tc, ov, al) r (th, vs, ch, op, ov, lv)) : wpX_drop (fun r u' => wpY_drop (fun r' v' => Q r u' r' v') (th, vs, ch, op, ov, lv) a b) (c, p, us, ro, vl, mk, en, op, sn, lv, nu, tc, ov, al) a b := by
  obtain ⟨z, hX, hY, hz⟩ := mv_refr (c := c) (p := p) (us := us) (ro := ro) (vl := vl) (mk := mk) (en := en) (op := op) (sn := sn) (lv := lv) (nu := nu) (tc := tc) (ov := ov) (al := al) (th := th) (vs := vs) (ch := ch) a b
  unfold wpX_drop
  rcases hz with ⟨rfl, t, r, rfl, ht, hr, rfl⟩ | hz
  · obtain ⟨w, hw, hwq⟩ := mv_xvo (al := al) H ht hr
    rcases hwq with ⟨h0, rfl⟩ | ⟨h0, v, rfl, hu, hro, hs, ev⟩
    · refine hX _ (br_t (by decide) (hw _ (br_f (by decide) ?_)))
      unfold wpY_drop
      exact mv_ys2 ht.1 hr hY h0 (br_f (by decide) (hq _ _ _ _ _ _ _ _ _ _ _ _ _ _ _ _ _ _ H))
    · obtain ⟨z2, bX, bY, hz2⟩ := mv_blk (al := al) H ht hr
      have v0 : 0 ≤ nI v := nI_pos' (by have := hu.1; omega)
      rcases hz2 with ⟨rfl, hb, hv⟩ | hz2
      · have cv : (nI v).toNatClampNeg = v := nI_clamp (by have := hu.1; omega)
        have hiv : vp_in (nI v) 96 := vp_in_nI hu.1 (by omega)
        have t4 := ht.1
        obtain ⟨l, l4, hl, el⟩ := mv_rl H t4
        have ct : (nI t).toNatClampNeg = t := nI_clamp (by omega)
        have hit : vp_in (nI t) 4 := vp_in_nI t4 (by omega)
        have ix : nI t * 4 + nI l = nI (t * 4 + mv_L lv t) := by rw [mv_ix, el]
        have cx : (nI (t * 4 + mv_L lv t)).toNatClampNeg = t * 4 + mv_L lv t := nI_clamp (by omega)
        have hix : vp_in (nI (t * 4 + mv_L lv t)) 16 := vp_in_nI (by omega) (by omega)
        obtain ⟨H1, hT⟩ := mv_Rtouch H ht hr hb hv
        refine hX _ (br_t (by decide) (hw _ (br_t v0 (bX _ (br_t (by decide) ?_)))))
        simp only [wpX_current, ct, hl, ix, cx, cv]
        refine ⟨hit, hit, hix, hix, nm_e ⟨hit, hix, hiv, nm_e ?_⟩⟩
        unfold wpY_drop
        exact mv_ys3 ht.1 hr hY h0 bY (br_t rfl (mv_ych ht.1 hr (hq _ _ _ _ _ _ _ _ _ _ _ _ _ _ _ _ _ _ (mv_Rend H1 0 ht hr hT hu hro hs))))
      · refine hX _ (br_t (by decide) (hw _ (br_t v0 (bX _ (br_f (by rcases hz2 with rfl | rfl <;> decide) ?_)))))
        unfold wpY_drop
        exact mv_ys3 ht.1 hr hY h0 bY (br_f (by rcases hz2 with rfl | rfl <;> decide) (hq _ _ _ _ _ _ _ _ _ _ _ _ _ _ _ _ _ _ H))
  · refine hX _ (br_f (by rcases hz with rfl | rfl <;> decide) ?_)
    unfold wpY_drop
    have zn : ¬ z = 0 := by rcases hz with rfl | rfl <;> decide
    exact mv_ys1 hY zn (br_f zn (hq _ _ _ _ _ _ _ _ _ _ _ _ _ _ _ _ _ _ H))
end
end
section
/-! opening, savepoints -/
def mv_cq (a : Nat → Int32) (f g r : Nat) : Nat → Int32 := fun j => if 8 * g ≤ j ∧ j < 8 * g + r then a (8 * f + (j - 8 * g)) else a j
theorem mv_cq_0 (a : Nat → Int32) (f g : Nat) : mv_cq a f g 0 = a := by
  funext j
  exact if_neg (by omega)
theorem mv_cq_at {a : Nat → Int32} {f g r i : Nat} (h : i < r) : mv_cq a f g r (8 * g + i) = a (8 * f + i) := by
  unfold mv_cq
  rw [if_pos (by omega), show 8 * g + i - 8 * g = i by omega]
theorem mv_cq_n {a : Nat → Int32} {f g r j : Nat} (h : ¬ (8 * g ≤ j ∧ j < 8 * g + r)) : mv_cq a f g r j = a j := if_neg h
theorem mv_cq_o {a : Nat → Int32} {f g s i : Nat} (h : s ≠ g) (hi : i < 8) : mv_cq a f g 8 (8 * s + i) = a (8 * s + i) := mv_cq_n (by omega)
theorem mv_cq_s {a : Nat → Int32} {f g r : Nat} (h : r < 8) (hfg : f ≠ g) : upd (mv_cq a f g r) (8 * g + r) (mv_cq a f g r (8 * f + r)) = mv_cq a f g (r + 1) := by
  funext j
  rw [mv_cq_n (show ¬ (8 * g ≤ 8 * f + r ∧ 8 * f + r < 8 * g + r) by omega)]
  by_cases e : j = 8 * g + r
  · subst e
    rw [pk_us, mv_cq_at (by omega)]
  · rw [pk_un e]
    unfold mv_cq
    by_cases b : 8 * g ≤ j ∧ j < 8 * g + r
    · rw [if_pos b, if_pos (by omega)]
    · rw [if_neg b, if_neg (by omega)]
theorem mv_ce_cq {th vs : Nat → Int32} {f g : Nat} : mv_ce (mv_cq th f g 8) (mv_cq vs f g 8) g = mv_ce th vs f :=
  mv_ce_c (fun _ hi => ⟨mv_cq_at hi, mv_cq_at hi⟩)
theorem mv_ce_cn {th vs : Nat → Int32} {f g s : Nat} (h : s ≠ g) : mv_ce (mv_cq th f g 8) (mv_cq vs f g 8) s = mv_ce th vs s :=
  mv_ce_c (fun _ hi => ⟨mv_cq_o h hi, mv_cq_o h hi⟩)
theorem mv_cq_1 {th : Nat → Int32} {f g : Nat} (hf : f < 17) (h : ∀ i, i < 136 → th i = 0 ∨ th i = 1) : ∀ i, i < 136 → mv_cq th f g 8 i = 0 ∨ mv_cq th f g 8 i = 1 := by
  intro i hi
  unfold mv_cq
  by_cases b : 8 * g ≤ i ∧ i < 8 * g + 8
  · rw [if_pos b]; exact h _ (by omega)
  · rw [if_neg b]; exact h i hi
theorem mv_nar {x : Int32} (h : x = 0 ∨ x = 1) : vp_nar .boolean x = x := by
  rcases h with rfl | rfl <;> rfl
section
variable {c p : Int64} {us ro vl mk en op : Nat → Int32} {sn : Nat → Int64} {lv nu tc ov al : Nat → Int32}
variable {th vs ch : Nat → Int32}
theorem mv_ycp2 {post : SY → Prop} {f g : Nat} (hf : f < 17) (hg : g < 17) (hfg : f ≠ g) (h1 : ∀ i, i < 136 → th i = 0 ∨ th i = 1) (hp : post (mv_cq th f g 8, mv_cq vs f g 8, upd ch g (ch f), op, ov, lv)) : ∀ d r, r + d = 8 → wY_copy_2 post (nI f) (nI g) (d + 1) (nI r) (mv_cq th f g r) (mv_cq vs f g r) ch op ov lv := by
  intro d
  induction d with
  | zero =>
    intro r hr
    have : r = 8 := by omega
    subst this
    have cf : (nI f).toNatClampNeg = f := nI_clamp (by omega)
    have cg : (nI g).toNatClampNeg = g := nI_clamp (by omega)
    rw [wY_copy_2]; simp only [cf, cg]
    exact br_t (nI_le (a := 8) (by omega) (by omega)) ⟨vp_in_nI hf (by omega), vp_in_nI hg (by omega), nm_e hp⟩
  | succ d ih =>
    intro r hr
    have cf := mv_i8c (r := r) hf (by omega)
    have cg := mv_i8c (r := r) hg (by omega)
    have jf := mv_i8i (r := r) hf (by omega)
    have jg := mv_i8i (r := r) hg (by omega)
    have q := ih (r + 1) (by omega)
    rw [wY_copy_2]; simp only [cf, cg]
    refine br_f (nI_ge (b := 8) (by omega) (by omega)) ⟨jf, jg, fun a ea => ⟨jf, jg, fun b eb => nm_r (nI_1 r) ?_⟩⟩
    rw [mv_nar (by rw [mv_cq_n (by omega)]; exact h1 _ (by omega)), mv_cq_s (by omega) hfg] at ea
    rw [mv_cq_s (by omega) hfg] at eb
    rw [ea, eb]
    exact q
theorem mv_ycp {post : SY → Prop} {f g : Nat} (hf : f < 17) (hg : g < 17) (hfg : f ≠ g) (h1 : ∀ i, i < 136 → th i = 0 ∨ th i = 1) (hp : post (mv_cq th f g 8, mv_cq vs f g 8, upd ch g (ch f), op, ov, lv)) : wpY_copy post (th, vs, ch, op, ov, lv) (nI f) (nI g) := by
  have q := mv_ycp2 hf hg hfg h1 hp 8 0 (by omega)
  rw [mv_cq_0, mv_cq_0] at q
  exact ⟨9, q⟩
theorem mv_hP {n : Int32} (nk : mv_ok n) (x : Int32) : mv_mem (p ||| mv_bit n) x ↔ mv_mem p x ∨ x = n := by
  rw [mv_mem_or, mv_mem_bit (Or.inr nk)]
  exact ⟨fun z => z.imp id (fun y => y.2), fun z => z.imp id (fun (y : x = n) => ⟨by rw [y]; exact nk, y⟩)⟩
theorem mv_Ropen (H : mv_Rel c p us ro vl mk en op sn lv nu tc ov th vs ch) {t : Nat} {n : Int32} (t4 : t < 4) (ho : op t = 0) (hn : mv_fr c p us mk en n) : mv_Rel c (p ||| mv_bit n) us ro vl mk en (upd op t 1) (vp_updL sn t c) (upd lv t 0) (upd nu (t * 4) n) (upd tc (t * 4) 0) (upd ov t 0) (mv_cq th 4 t 8) (mv_cq vs 4 t 8) (upd (upd ch t (ch 4)) t 0) := by
  obtain ⟨nk, nC, nP, nU⟩ := hn
  have L0 : mv_L (upd lv t 0) t = 0 := by unfold mv_L; rw [pk_us]; rfl
  have Ln : ∀ u, u ≠ t → mv_L (upd lv t 0) u = mv_L lv u := fun u hu => by unfold mv_L; rw [pk_un hu]
  have hO : ∀ u, mv_O (upd op t 1) u ↔ mv_O op u ∨ u = t := by
    intro u
    unfold mv_O
    by_cases e : u = t
    · subst e; rw [pk_us]; exact ⟨fun _ => Or.inr rfl, fun _ => ⟨t4, by decide⟩⟩
    · rw [pk_un e]; exact ⟨Or.inl, fun z => z.resolve_right e⟩
  have hs : ∀ u j, u < 4 → u ≠ t → mv_sl (mv_L lv u) u j ≠ t := by
    intro u j hu hne e
    by_cases a : j = mv_L lv u
    · rw [a, mv_sl_l] at e; exact hne e
    · rw [mv_sl_n a] at e; omega
  refine ⟨?_, mv_cq_1 (by omega) H.2.1, ?_, ?_⟩
  · unfold mv_I
    rw [mv_ce_cn (show 4 ≠ t by omega)]
    refine mv_s_open (n := n) H.1 t4 (fun z => z.2 ho) nk nC nP nU (mv_hP nk) hO ?_ ?_ L0 Ln ?_ ?_ ?_ ?_ ?_ ?_ ?_ ?_
    · unfold mv_S; rw [pk_uLs]
    · intro u hu; unfold mv_S; rw [pk_uLn hu]
    · exact pk_us
    · intro u k hu hk; unfold mv_N; exact pk_un (by omega)
    · intro r; unfold mv_T; rw [show t * 4 + 0 = t * 4 from rfl, pk_us]; exact mv_tb_0 r
    · intro u k hu hk; unfold mv_T; rw [pk_un (by omega)]
    · intro r; unfold mv_V; rw [pk_us]; exact mv_tb_0 r
    · intro u hu; unfold mv_V; rw [pk_un hu]
    · intro r _; unfold mv_G; rw [L0, mv_sl_l, mv_ce_cq]
    · intro u j r hu hne _ _; unfold mv_G; rw [Ln u hne, mv_ce_cn (hs u j hu.1 hne)]
  · intro u hu
    by_cases e : u = t
    · subst e; exact ⟨0, by omega, pk_us⟩
    · rw [pk_un e]; exact H.2.2.1 u hu
  · intro u j hu hj
    by_cases e : u = t
    · subst e
      rw [L0] at hj ⊢
      have : j = 0 := by omega
      subst this
      rw [mv_sl_l, pk_us, mv_tc_s, show u * 4 + 0 = u * 4 from rfl, pk_us]
      show (0 : Int32) = 0 ||| 0
      decide
    · have hu' : mv_O op u := ((hO u).mp hu).resolve_right e
      obtain ⟨l, l4, _, el⟩ := mv_rl H hu'.1
      rw [Ln u e] at hj ⊢
      rw [pk_un (hs u j hu'.1 e), pk_un (hs u j hu'.1 e), H.2.2.2 u j hu' hj]
      exact (mv_tc_c (fun k hk => pk_un (by omega))).symm
theorem mv_open {Q : Int32 → SX → Int32 → SY → Prop} (H : mv_Rel c p us ro vl mk en op sn lv nu tc ov th vs ch) (a : Int32) (hq : ∀ (r : Int32) (c p : Int64) (us ro vl mk en op : Nat → Int32) (sn : Nat → Int64) (lv nu tc ov al th vs ch : Nat → Int32), mv_Rel c p us ro vl mk en op sn lv nu tc ov th vs ch → Q r (c, p, us, ro, vl, mk, en, op, sn, lv, nu, tc, ov, al) r (th, vs, ch, op, ov, lv)) : wpX_open (fun r u' => wpY_open (fun r' v' => Q r u' r' v') (th, vs, ch, op, ov, lv) a) (c, p, us, ro, vl, mk, en, op, sn, lv, nu, tc, ov, al) a := by
  obtain ⟨z, hX, hY, hz⟩ := mv_ref (c := c) (p := p) (us := us) (ro := ro) (vl := vl) (mk := mk) (en := en) (op := op) (sn := sn) (lv := lv) (nu := nu) (tc := tc) (ov := ov) (al := al) (th := th) (vs := vs) (ch := ch) a
  unfold wpX_open
  rcases hz with ⟨rfl, t, rfl, ht⟩ | rfl | ⟨rfl, t, rfl, t4, ho⟩
  · refine hX _ (br_f (by decide) (br_f (by decide) ?_))
    unfold wpY_open
    exact hY _ (br_f (by decide) (br_t rfl (hq _ _ _ _ _ _ _ _ _ _ _ _ _ _ _ _ _ _ H)))
  · refine hX _ (br_f (by decide) (br_t rfl ?_))
    unfold wpY_open
    exact hY _ (br_f (by decide) (br_f (by decide) (hq _ _ _ _ _ _ _ _ _ _ _ _ _ _ _ _ _ _ H)))
  · have ct : (nI t).toNatClampNeg = t := nI_clamp (by omega)
    have hit : vp_in (nI t) 4 := vp_in_nI t4 (by omega)
    have i17 : vp_in (nI t) 17 := vp_in_nI (by omega) (by omega)
    have ix : nI t * 4 = nI (t * 4) := by rw [show (4 : Int32) = nI 4 from rfl, pk_mul]
    have cx : (nI (t * 4)).toNatClampNeg = t * 4 := nI_clamp (by omega)
    have hix : vp_in (nI (t * 4)) 16 := vp_in_nI (by omega) (by omega)
    refine hX _ (br_t rfl (mv_xnew H (fun n c' us' mk' en' sn' al' H' hn => ?_)))
    simp only [ct, ix, cx]
    refine ⟨hit, fun op' eop => ⟨hit, fun sn'' esn => ⟨hit, fun lv' elv => ⟨hix, fun nu' enu => ⟨hix, fun tc' etc => ⟨hit, fun ov' eov => ?_⟩⟩⟩⟩⟩⟩
    have eop' : op' = upd op t 1 := eop
    subst eop' esn elv enu etc eov
    have HH := mv_Ropen H' t4 ho hn
    unfold wpY_open
    refine hY _ (br_t rfl ⟨hit, fun op' eop => ?_⟩)
    have eop' : op' = upd op t 1 := by rw [eop, ct]; rfl
    subst eop'
    refine mv_ycp (f := 4) (g := t) (by omega) (by omega) (by omega) H.2.1 ?_
    simp only [ct]
    exact ⟨i17, nm_e ⟨hit, nm_e ⟨hit, nm_e (hq _ _ _ _ _ _ _ _ _ _ _ _ _ _ _ _ _ _ HH)⟩⟩⟩
/-- a savepoint -/
theorem mv_Rsave (H : mv_Rel c p us ro vl mk en op sn lv nu tc ov th vs ch) {t l : Nat} {n : Int32} (ht : mv_O op t) (hl : lv t = nI l) (l3 : l < 3) (hn : mv_fr c p us mk en n) : mv_Rel c (p ||| mv_bit n) us ro vl mk en op sn (upd lv t (nI (l + 1))) (upd nu (t * 4 + (l + 1)) n) (upd tc (t * 4 + (l + 1)) 0) ov (mv_cq th t (5 + 3 * t + l) 8) (mv_cq vs t (5 + 3 * t + l) 8) (upd ch (5 + 3 * t + l) (ch t)) := by
  obtain ⟨nk, nC, nP, nU⟩ := hn
  have t4 := ht.1
  have eL : mv_L lv t = l := mv_L_nI hl (by omega)
  have L1 : mv_L (upd lv t (nI (l + 1))) t = l + 1 := mv_L_nI pk_us (by omega)
  have Ln : ∀ u, u ≠ t → mv_L (upd lv t (nI (l + 1))) u = mv_L lv u := fun u hu => by unfold mv_L; rw [pk_un hu]
  have h4 : ∀ u, mv_O op u → mv_L lv u < 4 := by
    intro u hu
    obtain ⟨l', l4', _, el'⟩ := mv_rl H hu.1
    omega
  have hNe : ∀ u k, mv_O op u → k ≤ mv_L lv u → u * 4 + k ≠ t * 4 + (l + 1) := by
    intro u k hu hk e
    have := h4 u hu
    have e1 : u = t := by omega
    subst e1
    omega
  have hsn : ∀ u j, mv_O op u → u ≠ t → j ≤ mv_L lv u → mv_sl (mv_L lv u) u j ≠ 5 + 3 * t + l := by
    intro u j hu hne hj e
    have := h4 u hu
    have := hu.1
    by_cases a : j = mv_L lv u
    · rw [a, mv_sl_l] at e; omega
    · rw [mv_sl_n a] at e; omega
  -- the slots of t: before and after
  have hst : ∀ j, j ≤ l → mv_sl (l + 1) t j = 5 + 3 * t + j := fun j hj => mv_sl_n (by omega)
  have hcell : ∀ u j, mv_O op u → j ≤ mv_L lv u → mv_ce (mv_cq th t (5 + 3 * t + l) 8) (mv_cq vs t (5 + 3 * t + l) 8) (mv_sl (mv_L (upd lv t (nI (l + 1))) u) u j) = mv_ce th vs (mv_sl (mv_L lv u) u j) := by
    intro u j hu hj
    by_cases e : u = t
    · subst e
      rw [L1, eL]
      rw [eL] at hj
      rw [hst j hj]
      by_cases a : j = l
      · subst a; rw [mv_sl_l, mv_ce_cq]
      · rw [mv_sl_n a, mv_ce_cn (by omega)]
    · rw [Ln u e, mv_ce_cn (hsn u j hu e hj)]
  refine ⟨?_, mv_cq_1 (by omega) H.2.1, ?_, ?_⟩
  · unfold mv_I
    rw [mv_ce_cn (show 4 ≠ 5 + 3 * t + l by omega)]
    refine mv_s_save (n := n) (l := l) H.1 ht eL (by omega) nk nC nP nU (mv_hP nk) L1 Ln ?_ ?_ ?_ ?_ ?_ ?_
    · exact pk_us
    · intro u k hu hk; unfold mv_N; exact pk_un (hNe u k hu hk)
    · intro r; unfold mv_T; rw [pk_us]; exact mv_tb_0 r
    · intro u k hu hk; unfold mv_T; rw [pk_un (hNe u k hu hk)]
    · intro r _; unfold mv_G; rw [L1, eL, mv_sl_l, mv_sl_l, mv_ce_cn (by omega)]
    · intro u j r hu hj _; unfold mv_G; rw [hcell u j hu hj]
  · intro u hu
    by_cases e : u = t
    · subst e; exact ⟨l + 1, by omega, pk_us⟩
    · rw [pk_un e]; exact H.2.2.1 u hu
  · intro u j hu hj
    by_cases e : u = t
    · subst e
      rw [L1] at hj ⊢
      have ec := mv_chl H ht
      rw [eL] at ec
      have hc : ∀ i, i ≤ l → mv_tc (upd tc (u * 4 + (l + 1)) 0) u i = mv_tc tc u i := fun i hi => mv_tc_c (fun k hk => pk_un (by omega))
      by_cases a : j = l + 1
      · subst a
        rw [mv_sl_l, pk_un (by omega), ec, mv_tc_s (upd tc (u * 4 + (l + 1)) 0) u (l + 1), pk_us, Int32.or_zero]
        exact (hc l (Nat.le_refl _)).symm
      · rw [hst j (by omega), hc j (by omega)]
        by_cases b : j = l
        · subst b; rw [pk_us, ec]
        · rw [pk_un (by omega)]
          have := H.2.2.2 u j hu (by omega)
          rw [eL, mv_sl_n b] at this
          exact this
    · rw [Ln u e] at hj ⊢
      rw [pk_un (hsn u j hu e hj), H.2.2.2 u j hu hj]
      exact (mv_tc_c (fun k hk => pk_un (hNe u k hu (by omega)))).symm
theorem mv_Rback (H : mv_Rel c p us ro vl mk en op sn lv nu tc ov th vs ch) {t m : Nat} (ht : mv_O op t) (hl : lv t = nI (m + 1)) (m3 : m < 3) : mv_Rel c (p &&& (mv_bit (nu (t * 4 + (m + 1))) ^^^ (-1))) us ro vl mk en op sn (upd lv t (nI m)) nu tc ov (mv_cq th (5 + 3 * t + m) t 8) (mv_cq vs (5 + 3 * t + m) t 8) (upd ch t (ch (5 + 3 * t + m))) := by
  have t4 := ht.1
  have eL : mv_L lv t = m + 1 := mv_L_nI hl (by omega)
  have L1 : mv_L (upd lv t (nI m)) t = m := mv_L_nI pk_us (by omega)
  have Ln : ∀ u, u ≠ t → mv_L (upd lv t (nI m)) u = mv_L lv u := fun u hu => by unfold mv_L; rw [pk_un hu]
  have nk := (mv_rn H ht (show m + 1 ≤ mv_L lv t by omega)).1
  have hsn : ∀ u j, u < 4 → u ≠ t → mv_sl (mv_L lv u) u j ≠ t := by
    intro u j hu hne e
    by_cases a : j = mv_L lv u
    · rw [a, mv_sl_l] at e; exact hne e
    · rw [mv_sl_n a] at e; omega
  have hst : ∀ j, j ≤ m → mv_sl (m + 1) t j = 5 + 3 * t + j := fun j hj => mv_sl_n (by omega)
  refine ⟨?_, mv_cq_1 (by omega) H.2.1, ?_, ?_⟩
  · unfold mv_I
    rw [mv_ce_cn (show 4 ≠ t by omega)]
    refine mv_s_back (l := m) H.1 ht eL ?_ L1 Ln ?_
    · intro x
      rw [mv_mem_diff, mv_mem_bit (Or.inr nk)]
      exact ⟨fun z => ⟨z.1, fun e => z.2 ⟨z.1.1, e⟩⟩, fun z => ⟨z.1, fun e => z.2 e.2⟩⟩
    · intro u j r hu hj _
      unfold mv_G
      by_cases e : u = t
      · subst e
        rw [L1] at hj ⊢
        rw [eL, hst j hj]
        by_cases a : j = m
        · subst a; rw [mv_sl_l, mv_ce_cq]
        · rw [mv_sl_n a, mv_ce_cn (by omega)]
      · rw [Ln u e, mv_ce_cn (hsn u j hu.1 e)]
  · intro u hu
    by_cases e : u = t
    · subst e; exact ⟨m, by omega, pk_us⟩
    · rw [pk_un e]; exact H.2.2.1 u hu
  · intro u j hu hj
    by_cases e : u = t
    · subst e
      rw [L1] at hj ⊢
      have := H.2.2.2 u j hu (by omega)
      rw [eL, hst j hj] at this
      by_cases a : j = m
      · subst a; rw [mv_sl_l, pk_us]; exact this
      · rw [mv_sl_n a, pk_un (by omega)]; exact this
    · rw [Ln u e] at hj ⊢
      rw [pk_un (hsn u j hu.1 e)]
      exact H.2.2.2 u j hu hj
end
end
section
/-! walks of save and back -/
theorem mv_i5 (t l : Nat) : 5 + 3 * nI t + nI l = nI (5 + 3 * t + l) := by
  rw [show (3 : Int32) = nI 3 from rfl, show (5 : Int32) = nI 5 from rfl, pk_mul, nI_add, nI_add]
section
variable {c p : Int64} {us ro vl mk en op : Nat → Int32} {sn : Nat → Int64} {lv nu tc ov al : Nat → Int32}
variable {th vs ch : Nat → Int32}
theorem mv_save {Q : Int32 → SX → Int32 → SY → Prop} (H : mv_Rel c p us ro vl mk en op sn lv nu tc ov th vs ch) (a : Int32) (hq : ∀ (r : Int32) (c p : Int64) (us ro vl mk en op : Nat → Int32) (sn : Nat → Int64) (lv nu tc ov al th vs ch : Nat → Int32), mv_Rel c p us ro vl mk en op sn lv nu tc ov th vs ch → Q r (c, p, us, ro, vl, mk, en, op, sn, lv, nu, tc, ov, al) r (th, vs, ch, op, ov, lv)) : wpX_save (fun r u' => wpY_save (fun r' v' => Q r u' r' v') (th, vs, ch, op, ov, lv) a) (c, p, us, ro, vl, mk, en, op, sn, lv, nu, tc, ov, al) a := by
  obtain ⟨z, hX, hY, hz⟩ := mv_ref (c := c) (p := p) (us := us) (ro := ro) (vl := vl) (mk := mk) (en := en) (op := op) (sn := sn) (lv := lv) (nu := nu) (tc := tc) (ov := ov) (al := al) (th := th) (vs := vs) (ch := ch) a
  have neg : (z = -1 ∨ z = -2) → wpX_save (fun r u' => wpY_save (fun r' v' => Q r u' r' v') (th, vs, ch, op, ov, lv) a) (c, p, us, ro, vl, mk, en, op, sn, lv, nu, tc, ov, al) a := by
    intro hz
    unfold wpX_save
    refine hX _ (br_f (by rcases hz with rfl | rfl <;> decide) ?_)
    unfold wpY_save
    exact hY _ (br_f (by rcases hz with rfl | rfl <;> decide) (hq _ _ _ _ _ _ _ _ _ _ _ _ _ _ _ _ _ _ H))
  rcases hz with ⟨rfl, t, rfl, ht⟩ | hz | ⟨hz, _⟩
  · have t4 := ht.1
    obtain ⟨l, l4, hl, el⟩ := mv_rl H t4
    have ct : (nI t).toNatClampNeg = t := nI_clamp (by omega)
    have hit : vp_in (nI t) 4 := vp_in_nI t4 (by omega)
    unfold wpX_save
    refine hX _ (br_t (by decide) ⟨hit, ?_⟩)
    by_cases e3 : l = 3
    · have e : nI l = 3 := by rw [e3]; rfl
      rw [ct, hl]
      refine br_t e ?_
      unfold wpY_save
      refine hY _ (br_t rfl ⟨hit, ?_⟩)
      rw [ct, hl]
      exact br_t e (hq _ _ _ _ _ _ _ _ _ _ _ _ _ _ _ _ _ _ H)
    · have e : ¬ nI l = 3 := fun z => e3 ((nI_eq (b := 3) (by omega) (by omega)).mp z)
      have cx : (nI (t * 4 + (l + 1))).toNatClampNeg = t * 4 + (l + 1) := nI_clamp (by omega)
      have hix : vp_in (nI (t * 4 + (l + 1))) 16 := vp_in_nI (by omega) (by omega)
      rw [ct, hl]
      refine br_f e (mv_xnew H (fun n c' us' mk' en' sn' al' H' hn => ?_))
      simp only [wpX_current, ct, hl, nI_1]
      refine ⟨hit, hit, fun lv' elv => ?_⟩
      subst elv
      simp only [pk_us, mv_ix, cx]
      refine ⟨hit, hix, nm_e ⟨hit, hix, nm_e ⟨hit, ?_⟩⟩⟩
      have HH := mv_Rsave H' ht hl (by omega) hn
      unfold wpY_save
      refine hY _ (br_t rfl ⟨hit, ?_⟩)
      rw [ct, hl, mv_i5]
      refine br_f e ⟨hit, mv_ycp (by omega) (by omega) (by omega) H.2.1 ?_⟩
      simp only [ct, hl, nI_1]
      refine ⟨hit, hit, nm_e ⟨hit, ?_⟩⟩
      rw [pk_us]
      exact hq _ _ _ _ _ _ _ _ _ _ _ _ _ _ _ _ _ _ HH
  · exact neg (Or.inl hz)
  · exact neg (Or.inr hz)
theorem mv_back {Q : Int32 → SX → Int32 → SY → Prop} (H : mv_Rel c p us ro vl mk en op sn lv nu tc ov th vs ch) (a : Int32) (hq : ∀ (r : Int32) (c p : Int64) (us ro vl mk en op : Nat → Int32) (sn : Nat → Int64) (lv nu tc ov al th vs ch : Nat → Int32), mv_Rel c p us ro vl mk en op sn lv nu tc ov th vs ch → Q r (c, p, us, ro, vl, mk, en, op, sn, lv, nu, tc, ov, al) r (th, vs, ch, op, ov, lv)) : wpX_back (fun r u' => wpY_back (fun r' v' => Q r u' r' v') (th, vs, ch, op, ov, lv) a) (c, p, us, ro, vl, mk, en, op, sn, lv, nu, tc, ov, al) a := by
  obtain ⟨z, hX, hY, hz⟩ := mv_ref (c := c) (p := p) (us := us) (ro := ro) (vl := vl) (mk := mk) (en := en) (op := op) (sn := sn) (lv := lv) (nu := nu) (tc := tc) (ov := ov) (al := al) (th := th) (vs := vs) (ch := ch) a
  have neg : (z = -1 ∨ z = -2) → wpX_back (fun r u' => wpY_back (fun r' v' => Q r u' r' v') (th, vs, ch, op, ov, lv) a) (c, p, us, ro, vl, mk, en, op, sn, lv, nu, tc, ov, al) a := by
    intro hz
    unfold wpX_back
    refine hX _ (br_f (by rcases hz with rfl | rfl <;> decide) ?_)
    unfold wpY_back
    exact hY _ (br_f (by rcases hz with rfl | rfl <;> decide) (hq _ _ _ _ _ _ _ _ _ _ _ _ _ _ _ _ _ _ H))
  rcases hz with ⟨rfl, t, rfl, ht⟩ | hz | ⟨hz, _⟩
  · have t4 := ht.1
    obtain ⟨l, l4, hl, el⟩ := mv_rl H t4
    have ct : (nI t).toNatClampNeg = t := nI_clamp (by omega)
    have hit : vp_in (nI t) 4 := vp_in_nI t4 (by omega)
    unfold wpX_back
    refine hX _ (br_t (by decide) ⟨hit, ?_⟩)
    cases l with
    | zero =>
      have e : nI 0 = 0 := rfl
      rw [ct, hl]
      refine br_t e ?_
      unfold wpY_back
      refine hY _ (br_t rfl ⟨hit, ?_⟩)
      rw [ct, hl]
      exact br_t e (hq _ _ _ _ _ _ _ _ _ _ _ _ _ _ _ _ _ _ H)
    | succ m =>
      have e : ¬ nI (m + 1) = 0 := nI_ne0 (by omega) (by omega)
      have cx : (nI (t * 4 + (m + 1))).toNatClampNeg = t * 4 + (m + 1) := nI_clamp (by omega)
      have hix : vp_in (nI (t * 4 + (m + 1))) 16 := vp_in_nI (by omega) (by omega)
      rw [ct, hl]
      refine br_f e ?_
      simp only [wpX_current, ct, hl, mv_ix, cx, nI_pred]
      refine ⟨hit, hix, nm_e ⟨hit, hit, nm_e ⟨hit, ?_⟩⟩⟩
      have HH := mv_Rback H ht hl (by omega)
      unfold wpY_back
      refine hY _ (br_t rfl ⟨hit, ?_⟩)
      simp only [ct, hl, nI_pred]
      refine br_f e ⟨hit, hit, nm_e ⟨hit, ?_⟩⟩
      rw [pk_us, mv_i5]
      refine mv_ycp (by omega) (by omega) (by omega) H.2.1 ⟨hit, ?_⟩
      dsimp only
      rw [pk_us]
      exact hq _ _ _ _ _ _ _ _ _ _ _ _ _ _ _ _ _ _ HH
  · exact neg (Or.inl hz)
  · exact neg (Or.inr hz)
end
end
section
/-! ends of transactions -/
def mv_sz (x : Int32) : Nat → Int32
  | 0 => 0
  | r + 1 => mv_sz x r + ((x >>> (nI r &&& 31)) &&& 1)
def mv_oo (ov : Nat → Int32) (s : Int32) (i : Nat) : Nat → Int32 := fun u => if u < i then ov u ||| s else ov u
def mv_cm (a : Nat → Int32) (s : Int32) (t r : Nat) : Nat → Int32 := fun j => if 32 ≤ j ∧ j < 32 + r ∧ bt s (j - 32) = true then a (8 * t + (j - 32)) else a j
theorem mv_oo_s (ov : Nat → Int32) (s : Int32) (i : Nat) : upd (mv_oo ov s i) i (mv_oo ov s i i ||| s) = mv_oo ov s (i + 1) := by
  funext u
  by_cases e : u = i
  · subst e
    rw [pk_us]
    unfold mv_oo
    rw [if_neg (Nat.lt_irrefl _), if_pos (Nat.lt_succ_self _)]
  · rw [pk_un e]
    unfold mv_oo
    by_cases b : u < i
    · rw [if_pos b, if_pos (by omega)]
    · rw [if_neg b, if_neg (by omega)]
theorem mv_oo_0 (ov : Nat → Int32) (s : Int32) : mv_oo ov s 0 = ov := by
  funext u
  exact if_neg (by omega)
theorem mv_cm_0 (a : Nat → Int32) (s : Int32) (t : Nat) : mv_cm a s t 0 = a := by
  funext u
  exact if_neg (by omega)
theorem mv_cm_n {a : Nat → Int32} {s : Int32} {t r j : Nat} (h : j < 32 ∨ 40 ≤ j) (hr : r ≤ 8) : mv_cm a s t r j = a j := if_neg (by omega)
theorem mv_cm_s1 {a : Nat → Int32} {s : Int32} {t r : Nat} (t4 : t < 4) (hr : r < 8) (hb : bt s r = true) : upd (mv_cm a s t r) (8 * 4 + r) (mv_cm a s t r (8 * t + r)) = mv_cm a s t (r + 1) := by
  rw [mv_cm_n (Or.inl (by omega)) (by omega)]
  funext j
  by_cases e : j = 8 * 4 + r
  · subst e
    rw [pk_us]
    unfold mv_cm
    rw [show 8 * 4 + r - 32 = r by omega, if_pos ⟨by omega, by omega, hb⟩]
  · rw [pk_un e]
    unfold mv_cm
    by_cases b : 32 ≤ j ∧ j < 32 + r ∧ bt s (j - 32) = true
    · rw [if_pos b, if_pos ⟨b.1, by omega, b.2.2⟩]
    · rw [if_neg b, if_neg (fun z => b ⟨z.1, by omega, z.2.2⟩)]
theorem mv_cm_s0 {a : Nat → Int32} {s : Int32} {t r : Nat} (hb : ¬ bt s r = true) : mv_cm a s t r = mv_cm a s t (r + 1) := by
  funext j
  unfold mv_cm
  by_cases b : 32 ≤ j ∧ j < 32 + r ∧ bt s (j - 32) = true
  · rw [if_pos b, if_pos ⟨b.1, by omega, b.2.2⟩]
  · rw [if_neg b, if_neg (fun z => ?_)]
    have : j ≠ 32 + r := by
      rintro rfl
      have := z.2.2
      rw [show 32 + r - 32 = r by omega] at this
      exact hb this
    exact b ⟨z.1, by omega, z.2.2⟩
theorem mv_cm_1 {th : Nat → Int32} {s : Int32} {t : Nat} (t4 : t < 4) (h : ∀ i, i < 136 → th i = 0 ∨ th i = 1) : ∀ i, i < 136 → mv_cm th s t 8 i = 0 ∨ mv_cm th s t 8 i = 1 := by
  intro i hi
  unfold mv_cm
  by_cases b : 32 ≤ i ∧ i < 32 + 8 ∧ bt s (i - 32) = true
  · rw [if_pos b]; exact h _ (by omega)
  · rw [if_neg b]; exact h i hi
theorem mv_btb {s : Int32} {r : Nat} (hr : r < 8) : mv_tb s (nI r) ↔ bt s r = true := by
  unfold mv_tb
  rw [nI_clamp (by omega)]
  exact ⟨fun z => z.2, fun z => ⟨mv_row_nI hr, z⟩⟩
section
variable {U : Nat → Prop} {R M E X : Nat → Int32} {C P : Int32 → Prop} {O : Nat → Prop} {S : Nat → Int32 → Prop} {L : Nat → Nat} {N : Nat → Nat → Int32} {T : Nat → Nat → Int32 → Prop} {V : Nat → Int32 → Prop} {K : Int32 → Option Int32} {G G' : Nat → Nat → Int32 → Option Int32}
theorem mv_s_G (h : mv_PI U R M E X C P O S L N T V K G) (hG : ∀ u j r, O u → j ≤ L u → mv_row r → G' u j r = G u j r) : mv_PI U R M E X C P O S L N T V K G' := by
  obtain ⟨h1, h2, h3, h4, h5, h6, h7, h8, h9, h10, h11, h12, h13, h14, h15, h16⟩ := h
  exact ⟨h1, h2, h3, h4, h5, h6, h7, h8, h9, fun u j hu hj => mv_fc (fun v hv => (h1 v hv).2.1) (fun r hr => hG u j r hu hj hr) (h10 u j hu hj), h11, h12, h13, h14, h15, h16⟩
end
theorem mv_O_0 (op : Nat → Int32) (t u : Nat) : mv_O (upd op t 0) u ↔ mv_O op u ∧ u ≠ t := by
  unfold mv_O
  by_cases e : u = t
  · subst e; rw [pk_us]; exact ⟨fun z => absurd rfl z.2, fun z => absurd rfl z.2⟩
  · rw [pk_un e]; exact ⟨fun z => ⟨z, e⟩, fun z => z.1⟩
section
variable {c p : Int64} {us ro vl mk en op : Nat → Int32} {sn : Nat → Int64} {lv nu tc ov al : Nat → Int32}
variable {th vs ch : Nat → Int32}
theorem mv_own (H : mv_Rel c p us ro vl mk en op sn lv nu tc ov th vs ch) {t : Nat} (ht : mv_O op t) (n : Int32) : mv_mem (mv_ors (fun k => nu (t * 4 + k)) (mv_L lv t + 1)) n ↔ ∃ k, k ≤ mv_L lv t ∧ mv_N nu t k = n := by
  rw [mv_ors_mem (fun k hk => (mv_rn H ht (by omega)).1)]
  exact ⟨fun ⟨k, a, b⟩ => ⟨k, by omega, b⟩, fun ⟨k, a, b⟩ => ⟨k, by omega, b⟩⟩
theorem mv_Rabort (H : mv_Rel c p us ro vl mk en op sn lv nu tc ov th vs ch) {t : Nat} (ht : mv_O op t) : mv_Rel c (p &&& (mv_ors (fun k => nu (t * 4 + k)) (mv_L lv t + 1) ^^^ (-1))) us ro vl mk en (upd op t 0) sn lv nu tc ov th vs ch := by
  refine ⟨mv_s_abort H.1 ht (fun n => ?_) (mv_O_0 op t), H.2.1, H.2.2.1, fun u j hu hj => H.2.2.2 u j ((mv_O_0 op t u).mp hu).1 hj⟩
  rw [mv_mem_diff, mv_own H ht]
theorem mv_Rcommit (H : mv_Rel c p us ro vl mk en op sn lv nu tc ov th vs ch) {t : Nat} (ht : mv_O op t) : mv_Rel (c ||| mv_ors (fun k => nu (t * 4 + k)) (mv_L lv t + 1)) (p &&& (mv_ors (fun k => nu (t * 4 + k)) (mv_L lv t + 1) ^^^ (-1))) us ro vl mk en (upd op t 0) sn lv nu tc (mv_oo ov (mv_tc tc t (mv_L lv t)) 4) (mv_cm th (mv_tc tc t (mv_L lv t)) t 8) (mv_cm vs (mv_tc tc t (mv_L lv t)) t 8) ch := by
  have t4 := ht.1
  refine ⟨?_, mv_cm_1 t4 H.2.1, H.2.2.1, fun u j hu hj => H.2.2.2 u j ((mv_O_0 op t u).mp hu).1 hj⟩
  have hc : ∀ i, i < 8 → bt (mv_tc tc t (mv_L lv t)) i = true → ∀ a : Nat → Int32, mv_cm a (mv_tc tc t (mv_L lv t)) t 8 (8 * 4 + i) = a (8 * t + i) := by
    intro i hi hb a
    unfold mv_cm
    rw [show 8 * 4 + i - 32 = i by omega, if_pos ⟨by omega, by omega, hb⟩]
  have hc0 : ∀ i, i < 8 → ¬ bt (mv_tc tc t (mv_L lv t)) i = true → ∀ a : Nat → Int32, mv_cm a (mv_tc tc t (mv_L lv t)) t 8 (8 * 4 + i) = a (8 * 4 + i) := by
    intro i hi hb a
    unfold mv_cm
    rw [show 8 * 4 + i - 32 = i by omega, if_neg (fun z => hb z.2.2)]
  refine mv_s_G (G := mv_G th vs lv) (mv_s_commit H.1 ht (fun n => ?_) (mv_O_0 op t) (fun n => ?_) (fun u r hu => ?_) (fun r hr hT => ?_) (fun r hr hT => ?_)) (fun u j r hu hj hr => ?_)
  · rw [mv_mem_diff, mv_own H ht]
  · rw [mv_mem_or, mv_own H ht]
  · unfold mv_V mv_oo
    rw [if_pos hu, mv_tb_or, mv_tct]
  · obtain ⟨i, hi, rfl⟩ := hr
    have hb := (mv_btb hi).mp ((mv_tct tc t (mv_L lv t) (nI i)).mpr hT)
    unfold mv_G
    rw [mv_sl_l, mv_ce_nI hi, mv_ce_nI hi, hc i hi hb, hc i hi hb]
  · obtain ⟨i, hi, rfl⟩ := hr
    have hb : ¬ bt (mv_tc tc t (mv_L lv t)) i = true := fun z => hT ((mv_tct tc t (mv_L lv t) (nI i)).mp ((mv_btb hi).mpr z))
    rw [mv_ce_nI hi, mv_ce_nI hi, hc0 i hi hb, hc0 i hi hb]
  · unfold mv_G
    have hs : mv_sl (mv_L lv u) u j ≠ 4 := mv_sl_4 hu.1
    rw [mv_ce_c (th := th) (vs := vs) (s := mv_sl (mv_L lv u) u j)]
    intro i hi
    exact ⟨mv_cm_n (by omega) (Nat.le_refl _), mv_cm_n (by omega) (Nat.le_refl _)⟩
theorem mv_xsz4 {x : Int32} {post : Int32 → Prop} (hp : post (mv_sz x 8)) : ∀ d r, r + d = 8 → wX_sizeOf_4 post x c p us ro vl mk en op sn lv nu tc ov al (d + 1) (mv_sz x r) (nI r) := by
  intro d
  induction d with
  | zero =>
    intro r hr
    have : r = 8 := by omega
    subst this
    exact br_t (nI_le (a := 8) (by omega) (by omega)) hp
  | succ d ih =>
    intro r hr
    rw [wX_sizeOf_4]
    exact br_f (nI_ge (b := 8) (by omega) (by omega)) (nm_e (nm_r (nI_1 r) (ih (r + 1) (by omega))))
theorem mv_ysz4 {x : Int32} {post : Int32 → Prop} (hp : post (mv_sz x 8)) : ∀ d r, r + d = 8 → wY_bits_4 post x th vs ch op ov lv (d + 1) (mv_sz x r) (nI r) := by
  intro d
  induction d with
  | zero =>
    intro r hr
    have : r = 8 := by omega
    subst this
    exact br_t (nI_le (a := 8) (by omega) (by omega)) hp
  | succ d ih =>
    intro r hr
    rw [wY_bits_4]
    exact br_f (nI_ge (b := 8) (by omega) (by omega)) (nm_e (nm_r (nI_1 r) (ih (r + 1) (by omega))))
theorem mv_x81 {x : Int32} {post : Int32 → SX → Prop} (hp : post (mv_sz x 8) (c, p, us, ro, vl, mk, en, op, sn, lv, nu, tc, ov, al)) : wX_close_81 post x c p us ro vl mk en op sn lv nu tc ov al := by
  unfold wX_close_81
  exact ⟨9, mv_xsz4 (post := fun r => post r (c, p, us, ro, vl, mk, en, op, sn, lv, nu, tc, ov, al)) hp 8 0 (by omega)⟩
theorem mv_x53 {x : Int32} {post : Int32 → SX → Prop} (hp : post (mv_sz x 8) (c, p, us, ro, vl, mk, en, op, sn, lv, nu, tc, mv_oo ov x 4, al)) : ∀ d u, u + d = 4 → wX_close_53 post x c p (d + 1) (nI u) us ro vl mk en op sn lv nu tc (mv_oo ov x u) al := by
  intro d
  induction d with
  | zero =>
    intro u hu
    have : u = 4 := by omega
    subst this
    exact br_t (nI_le (a := 4) (by omega) (by omega)) (mv_x81 hp)
  | succ d ih =>
    intro u hu
    have cu : (nI u).toNatClampNeg = u := nI_clamp (by omega)
    have hi : vp_in (nI u) 4 := vp_in_nI (by omega) (by omega)
    rw [wX_close_53]; simp only [cu]
    refine br_f (nI_ge (b := 4) (by omega) (by omega)) ⟨hi, hi, ?_⟩
    exact nm_r (mv_oo_s ov x u) (nm_r (nI_1 u) (ih (u + 1) (by omega)))
theorem mv_ytest0 {post : Int32 → Prop} {t : Nat} (ht : mv_O op t) (hp : post 0) : wpY_test post (th, vs, ch, op, ov, lv) (nI t) := by
  have t4 := ht.1
  have ct : (nI t).toNatClampNeg = t := nI_clamp (by omega)
  simp only [wpY_test, ct]
  exact br_f (nI_pos (by omega)) (br_t (nI_le (b := 3) (by omega) (by omega)) ⟨vp_in_nI t4 (by omega), br_f ht.2 hp⟩)
theorem mv_yabort {post : Int32 → SY → Prop} {t : Nat} (ht : mv_O op t) (hp : post (mv_sz (ch t) 8) (th, vs, ch, upd op t 0, ov, lv)) : wpY_abort post (th, vs, ch, op, ov, lv) (nI t) := by
  have t4 := ht.1
  have ct : (nI t).toNatClampNeg = t := nI_clamp (by omega)
  unfold wpY_abort
  refine mv_ytest0 ht (br_t rfl ⟨vp_in_nI t4 (by omega), ?_⟩)
  intro op' eop
  have eop' : op' = upd op t 0 := by rw [eop, ct]; rfl
  subst eop'
  refine ⟨vp_in_nI (by omega) (by omega), ?_⟩
  rw [ct]
  exact ⟨9, mv_ysz4 (post := fun r => post r (th, vs, ch, upd op t 0, ov, lv)) hp 8 0 (by omega)⟩
theorem mv_y82 {post : Int32 → SY → Prop} {t : Nat} (ht : mv_O op t) (hp : post (mv_sz (ch t) 8) (th, vs, ch, upd op t 0, mv_oo ov (ch t) 4, lv)) : ∀ d u, u + d = 4 → wY_commit_82 post (nI t) (d + 1) (nI u) th vs ch op (mv_oo ov (ch t) u) lv := by
  have t4 := ht.1
  have ct : (nI t).toNatClampNeg = t := nI_clamp (by omega)
  have i17 : vp_in (nI t) 17 := vp_in_nI (by omega) (by omega)
  intro d
  induction d with
  | zero =>
    intro u hu
    have : u = 4 := by omega
    subst this
    exact br_t (nI_le (a := 4) (by omega) (by omega)) (mv_yabort ht hp)
  | succ d ih =>
    intro u hu
    have cu : (nI u).toNatClampNeg = u := nI_clamp (by omega)
    have hi : vp_in (nI u) 4 := vp_in_nI (by omega) (by omega)
    rw [wY_commit_82]; simp only [cu, ct]
    refine br_f (nI_ge (b := 4) (by omega) (by omega)) ⟨hi, i17, hi, ?_⟩
    exact nm_r (mv_oo_s ov (ch t) u) (nm_r (nI_1 u) (ih (u + 1) (by omega)))
theorem mv_y14 {post : Int32 → SY → Prop} {t : Nat} (ht : mv_O op t) (h1 : ∀ i, i < 136 → th i = 0 ∨ th i = 1) (hp : post (mv_sz (ch t) 8) (mv_cm th (ch t) t 8, mv_cm vs (ch t) t 8, ch, upd op t 0, mv_oo ov (ch t) 4, lv)) : ∀ d r, r + d = 8 → wY_commit_14 post (nI t) (d + 1) (nI r) (mv_cm th (ch t) t r) (mv_cm vs (ch t) t r) ch op ov lv := by
  have t4 := ht.1
  have ct : (nI t).toNatClampNeg = t := nI_clamp (by omega)
  have i17 : vp_in (nI t) 17 := vp_in_nI (by omega) (by omega)
  intro d
  induction d with
  | zero =>
    intro r hr
    have : r = 8 := by omega
    subst this
    have q := mv_y82 (th := mv_cm th (ch t) t 8) (vs := mv_cm vs (ch t) t 8) (lv := lv) (ov := ov) (ch := ch) ht hp 4 0 (by omega)
    rw [mv_oo_0] at q
    exact br_t (nI_le (a := 8) (by omega) (by omega)) ⟨5, q⟩
  | succ d ih =>
    intro r hr
    have c8 := mv_i8c (t := t) (r := r) (by omega) (by omega)
    have j8 := mv_i8i (t := t) (r := r) (by omega) (by omega)
    have c32 := mv_i32c (r := r) (by omega)
    have j32 := mv_i32i (r := r) (by omega)
    have q := ih (r + 1) (by omega)
    rw [wY_commit_14]; simp only [ct, c8, c32]
    refine br_f (nI_ge (b := 8) (by omega) (by omega)) ⟨i17, br_c (fun e => ?_) (fun e => ?_)⟩
    · have hb := (mv_btb (by omega)).mp ((mv_tbt (mv_row_nI (show r < 8 by omega))).mp e)
      refine ⟨j8, j32, fun a ea => ⟨j8, j32, fun b eb => nm_r (nI_1 r) ?_⟩⟩
      rw [mv_nar (by rw [mv_cm_n (Or.inl (by omega)) (by omega)]; exact h1 _ (by omega)), mv_cm_s1 t4 (by omega) hb] at ea
      rw [mv_cm_s1 t4 (by omega) hb] at eb
      rw [ea, eb]
      exact q
    · have hb : ¬ bt (ch t) r = true := fun z => e ((mv_tbt (mv_row_nI (show r < 8 by omega))).mpr ((mv_btb (by omega)).mpr z))
      refine nm_r (nI_1 r) ?_
      rw [mv_cm_s0 hb, mv_cm_s0 hb]
      exact q
theorem mv_commit {Q : Int32 → SX → Int32 → SY → Prop} (H : mv_Rel c p us ro vl mk en op sn lv nu tc ov th vs ch) (a : Int32) (hq : ∀ (r : Int32) (c p : Int64) (us ro vl mk en op : Nat → Int32) (sn : Nat → Int64) (lv nu tc ov al th vs ch : Nat → Int32), mv_Rel c p us ro vl mk en op sn lv nu tc ov th vs ch → Q r (c, p, us, ro, vl, mk, en, op, sn, lv, nu, tc, ov, al) r (th, vs, ch, op, ov, lv)) : wpX_commit (fun r u' => wpY_commit (fun r' v' => Q r u' r' v') (th, vs, ch, op, ov, lv) a) (c, p, us, ro, vl, mk, en, op, sn, lv, nu, tc, ov, al) a := by
  obtain ⟨z, hX, hY, hz⟩ := mv_ref (c := c) (p := p) (us := us) (ro := ro) (vl := vl) (mk := mk) (en := en) (op := op) (sn := sn) (lv := lv) (nu := nu) (tc := tc) (ov := ov) (al := al) (th := th) (vs := vs) (ch := ch) a
  have neg : (z = -1 ∨ z = -2) → wpX_commit (fun r u' => wpY_commit (fun r' v' => Q r u' r' v') (th, vs, ch, op, ov, lv) a) (c, p, us, ro, vl, mk, en, op, sn, lv, nu, tc, ov, al) a := by
    intro hz
    unfold wpX_commit
    refine hX _ (br_f (by rcases hz with rfl | rfl <;> decide) ?_)
    unfold wpY_commit
    exact hY _ (br_f (by rcases hz with rfl | rfl <;> decide) (hq _ _ _ _ _ _ _ _ _ _ _ _ _ _ _ _ _ _ H))
  rcases hz with ⟨rfl, t, rfl, ht⟩ | hz | ⟨hz, _⟩
  · have t4 := ht.1
    obtain ⟨l, l4, hl, el⟩ := mv_rl H t4
    have ct : (nI t).toNatClampNeg = t := nI_clamp (by omega)
    have hit : vp_in (nI t) 4 := vp_in_nI t4 (by omega)
    have HH := mv_Rcommit H ht
    have ec := mv_chl H ht
    rw [el] at HH ec
    unfold wpX_commit
    refine hX _ (br_t (by decide) ?_)
    unfold wpX_close
    refine mv_xcb t4 l4 hl (mv_xown t4 l4 hl (nm_e ⟨hit, fun op' eop => ?_⟩))
    have eop' : op' = upd op t 0 := by rw [eop, ct]; rfl
    subst eop'
    refine br_f (by decide) (nm_e ⟨5, ?_⟩)
    have q := mv_x53 (c := c ||| mv_ors (fun k => nu (t * 4 + k)) (l + 1)) (p := p &&& (mv_ors (fun k => nu (t * 4 + k)) (l + 1) ^^^ (-1))) (us := us) (ro := ro) (vl := vl) (mk := mk) (en := en) (op := upd op t 0) (sn := sn) (lv := lv) (nu := nu) (tc := tc) (ov := ov) (al := al) (x := mv_tc tc t l) (post := fun r u' => wpY_commit (fun r' v' => Q r u' r' v') (th, vs, ch, op, ov, lv) (nI t)) ?_ 4 0 (by omega)
    · rw [mv_oo_0] at q
      exact q
    · unfold wpY_commit
      have q := mv_y14 (post := fun r' v' => Q (mv_sz (mv_tc tc t l) 8) (c ||| mv_ors (fun k => nu (t * 4 + k)) (l + 1), p &&& (mv_ors (fun k => nu (t * 4 + k)) (l + 1) ^^^ (-1)), us, ro, vl, mk, en, upd op t 0, sn, lv, nu, tc, mv_oo ov (mv_tc tc t l) 4, al) r' v') (lv := lv) (ov := ov) (ch := ch) (vs := vs) ht H.2.1 (by rw [ec]; exact hq _ _ _ _ _ _ _ _ _ _ _ _ _ _ _ _ _ _ HH) 8 0 (by omega)
      rw [mv_cm_0, mv_cm_0] at q
      exact hY _ (br_t rfl ⟨9, q⟩)
  · exact neg (Or.inl hz)
  · exact neg (Or.inr hz)
theorem mv_abort {Q : Int32 → SX → Int32 → SY → Prop} (H : mv_Rel c p us ro vl mk en op sn lv nu tc ov th vs ch) (a : Int32) (hq : ∀ (r : Int32) (c p : Int64) (us ro vl mk en op : Nat → Int32) (sn : Nat → Int64) (lv nu tc ov al th vs ch : Nat → Int32), mv_Rel c p us ro vl mk en op sn lv nu tc ov th vs ch → Q r (c, p, us, ro, vl, mk, en, op, sn, lv, nu, tc, ov, al) r (th, vs, ch, op, ov, lv)) : wpX_abort (fun r u' => wpY_abort (fun r' v' => Q r u' r' v') (th, vs, ch, op, ov, lv) a) (c, p, us, ro, vl, mk, en, op, sn, lv, nu, tc, ov, al) a := by
  obtain ⟨z, hX, hY, hz⟩ := mv_ref (c := c) (p := p) (us := us) (ro := ro) (vl := vl) (mk := mk) (en := en) (op := op) (sn := sn) (lv := lv) (nu := nu) (tc := tc) (ov := ov) (al := al) (th := th) (vs := vs) (ch := ch) a
  have neg : (z = -1 ∨ z = -2) → wpX_abort (fun r u' => wpY_abort (fun r' v' => Q r u' r' v') (th, vs, ch, op, ov, lv) a) (c, p, us, ro, vl, mk, en, op, sn, lv, nu, tc, ov, al) a := by
    intro hz
    unfold wpX_abort
    refine hX _ (br_f (by rcases hz with rfl | rfl <;> decide) ?_)
    unfold wpY_abort
    exact hY _ (br_f (by rcases hz with rfl | rfl <;> decide) (hq _ _ _ _ _ _ _ _ _ _ _ _ _ _ _ _ _ _ H))
  rcases hz with ⟨rfl, t, rfl, ht⟩ | hz | ⟨hz, _⟩
  · have t4 := ht.1
    obtain ⟨l, l4, hl, el⟩ := mv_rl H t4
    have ct : (nI t).toNatClampNeg = t := nI_clamp (by omega)
    have hit : vp_in (nI t) 4 := vp_in_nI t4 (by omega)
    have HH := mv_Rabort H ht
    have ec := mv_chl H ht
    rw [el] at HH ec
    unfold wpX_abort
    refine hX _ (br_t (by decide) ?_)
    unfold wpX_close
    refine mv_xcb t4 l4 hl (mv_xown t4 l4 hl (nm_e ⟨hit, fun op' eop => ?_⟩))
    have eop' : op' = upd op t 0 := by rw [eop, ct]; rfl
    subst eop'
    refine br_t rfl (mv_x81 ?_)
    refine mv_yabort ht ?_
    rw [ec]
    exact hq _ _ _ _ _ _ _ _ _ _ _ _ _ _ _ _ _ _ HH
  · exact neg (Or.inl hz)
  · exact neg (Or.inr hz)
theorem mv_crash4 : ∀ d t (s : Int32) (op : Nat → Int32), t + d = 4 → ∃ (z : Int32) (op' : Nat → Int32), (∀ post : Int32 → SX → Prop, post z (c, 0, us, ro, vl, mk, en, op', sn, lv, nu, tc, ov, al) → wX_crash_4 post c p (d + 1) s (nI t) us ro vl mk en op sn lv nu tc ov al) ∧ (∀ post : Int32 → SY → Prop, post z (th, vs, ch, op', ov, lv) → wY_crash_4 post (d + 1) s (nI t) th vs ch op ov lv) ∧ (∀ u, t ≤ u → u < 4 → op' u = 0) ∧ (∀ u, u < t → op' u = op u) := by
  intro d
  induction d with
  | zero =>
    intro t s op ht
    have h4 : (4 : Int32) ≤ nI t := nI_le (a := 4) (by omega) (by omega)
    exact ⟨s, op, fun post hp => br_t h4 hp, fun post hp => br_t h4 hp, fun u a b => absurd b (by omega), fun _ _ => rfl⟩
  | succ d ih =>
    intro t s op ht
    have h4 : ¬ (4 : Int32) ≤ nI t := nI_ge (b := 4) (by omega) (by omega)
    have ct : (nI t).toNatClampNeg = t := nI_clamp (by omega)
    have hi : vp_in (nI t) 4 := vp_in_nI (by omega) (by omega)
    have fin : ∀ op' : Nat → Int32, (∀ u, t + 1 ≤ u → u < 4 → op' u = 0) → (∀ u, u < t + 1 → op' u = upd op t 0 u) → (∀ u, t ≤ u → u < 4 → op' u = 0) ∧ (∀ u, u < t → op' u = op u) := by
      intro op' a b
      refine ⟨fun u h1 h2 => ?_, fun u h1 => ?_⟩
      · by_cases e : u = t
        · subst e; rw [b u (by omega), pk_us]
        · exact a u (by omega) h2
      · rw [b u (by omega), pk_un (by omega)]
    by_cases c0 : op t = 0
    · obtain ⟨z, op', hX, hY, a, b⟩ := ih (t + 1) s (upd op t 0) (by omega)
      refine ⟨z, op', fun post hp => ?_, fun post hp => ?_, fin op' a b⟩
      · rw [wX_crash_4]; simp only [ct]
        exact br_f h4 ⟨hi, br_t c0 ⟨hi, fun o eo => nm_r (nI_1 t) (by rw [show o = upd op t 0 from eo]; exact hX post hp)⟩⟩
      · rw [wY_crash_4]; simp only [ct, wY_crash_25]
        exact br_f h4 ⟨hi, br_t c0 ⟨hi, fun o eo => nm_r (nI_1 t) (by rw [show o = upd op t 0 from eo]; exact hY post hp)⟩⟩
    · obtain ⟨z, op', hX, hY, a, b⟩ := ih (t + 1) (s + 1) (upd op t 0) (by omega)
      refine ⟨z, op', fun post hp => ?_, fun post hp => ?_, fin op' a b⟩
      · rw [wX_crash_4]; simp only [ct]
        exact br_f h4 ⟨hi, br_f c0 (nm_e ⟨hi, fun o eo => nm_r (nI_1 t) (by rw [show o = upd op t 0 from eo]; exact hX post hp)⟩)⟩
      · rw [wY_crash_4]; simp only [ct, wY_crash_25]
        exact br_f h4 ⟨hi, br_f c0 ⟨hi, fun o eo => nm_r (nI_1 t) (by rw [show o = upd op t 0 from eo]; exact hY post hp)⟩⟩
theorem mv_crash {Q : Int32 → SX → Int32 → SY → Prop} (H : mv_Rel c p us ro vl mk en op sn lv nu tc ov th vs ch) (hq : ∀ (r : Int32) (c p : Int64) (us ro vl mk en op : Nat → Int32) (sn : Nat → Int64) (lv nu tc ov al th vs ch : Nat → Int32), mv_Rel c p us ro vl mk en op sn lv nu tc ov th vs ch → Q r (c, p, us, ro, vl, mk, en, op, sn, lv, nu, tc, ov, al) r (th, vs, ch, op, ov, lv)) : wpX_crash (fun r u' => wpY_crash (fun r' v' => Q r u' r' v') (th, vs, ch, op, ov, lv)) (c, p, us, ro, vl, mk, en, op, sn, lv, nu, tc, ov, al) := by
  obtain ⟨z, op', hX, hY, a, _⟩ := mv_crash4 (c := c) (p := p) (us := us) (ro := ro) (vl := vl) (mk := mk) (en := en) (sn := sn) (lv := lv) (nu := nu) (tc := tc) (ov := ov) (al := al) (th := th) (vs := vs) (ch := ch) 4 0 0 op (by omega)
  have hO : ∀ u, ¬ mv_O op' u := fun u hu => hu.2 (a u (by omega) hu.1)
  have HH : mv_Rel c 0 us ro vl mk en op' sn lv nu tc ov th vs ch := ⟨mv_s_crash H.1 mv_mem_0 hO, H.2.1, H.2.2.1, fun u j hu => absurd hu (hO u)⟩
  exact ⟨5, hX _ ⟨5, hY _ (hq _ _ _ _ _ _ _ _ _ _ _ _ _ _ _ _ _ _ HH)⟩⟩
end
theorem mv_R0 : mv_Rel 0 0 (fun _ => 0) (fun _ => 0) (fun _ => 0) (fun _ => 0) (fun _ => 0) (fun _ => 0) (fun _ => 0) (fun _ => 0) (fun _ => 0) (fun _ => 0) (fun _ => 0) (fun _ => 0) (fun _ => 0) (fun _ => 0) := by
  have hU : ∀ v, ¬ mv_U (fun _ => 0) v := fun v hv => hv.2 rfl
  have hO : ∀ v, ¬ mv_O (fun _ => 0) v := fun v hv => hv.2 rfl
  have hK : ∀ r, mv_ce (fun _ => 0) (fun _ => 0) 4 r = none := by
    intro r
    unfold mv_ce
    by_cases e : r.toNatClampNeg < 8
    · rw [if_pos e, if_pos rfl]
    · rw [if_neg e]
  refine ⟨⟨fun v hv => absurd hv (hU v), fun u hu => absurd hu (hO u), fun u _ hu => absurd hu (hO u), fun n hn => absurd hn (mv_mem_0 n), fun u _ _ _ hu => absurd hu (hO u), fun n hn => absurd hn (mv_mem_0 n), fun u _ hu => absurd hu (hO u), ⟨fun v _ hv => absurd hv (hU v), fun v hv => absurd hv (hU v), fun r x _ hx => ?_⟩, fun u hu => absurd hu (hO u), fun u _ hu => absurd hu (hO u), fun v _ _ hv => absurd hv (hU v), fun v hv => absurd hv (hU v), fun v _ _ hv => absurd hv (hU v), fun v _ hv => absurd hv (hU v), fun u _ _ _ _ hu => absurd hu (hO u), fun u _ _ hu => absurd hu (hO u)⟩, fun _ _ => Or.inl rfl, fun _ _ => ⟨0, by omega, rfl⟩, fun u _ hu => absurd hu (hO u)⟩
  rw [hK] at hx
  exact absurd hx (by simp)
end
section
/-! the owed theorems -/
theorem i_vc0 : wpX_init (fun u => wpY_init (fun v => i_Rel 0 u v)) := mv_ri (k := 0) (al := fun _ => 0) mv_R0
theorem i_vc_open {k : Nat} {u : SX} {v : SY} (I : i_Rel k u v) (hk : k + 4 ≤ 2048) (v1 : Int32) : wpX_open (fun r u' => wpY_open (fun r' v' => r' = r ∧ i_Rel (k + 4) u' v') v v1) u v1 := by
  refine mv_el (Q := fun u v => wpX_open (fun r u' => wpY_open (fun r' v' => r' = r ∧ i_Rel (k + 4) u' v') v v1) u v1) ?_ I
  intro c p us ro vl mk en op sn lv nu tc ov al th vs ch H
  exact mv_open (Q := fun r u' r' v' => r' = r ∧ i_Rel (k + 4) u' v') H v1 (fun r c p us ro vl mk en op sn lv nu tc ov al th vs ch H' => ⟨rfl, mv_ri H'⟩)
theorem i_vc_put {k : Nat} {u : SX} {v : SY} (I : i_Rel k u v) (hk : k + 4 ≤ 2048) (v1 : Int32) (v2 : Int32) (v3 : Int32) : wpX_put (fun r u' => wpY_put (fun r' v' => r' = r ∧ i_Rel (k + 4) u' v') v v1 v2 v3) u v1 v2 v3 := by
  refine mv_el (Q := fun u v => wpX_put (fun r u' => wpY_put (fun r' v' => r' = r ∧ i_Rel (k + 4) u' v') v v1 v2 v3) u v1 v2 v3) ?_ I
  intro c p us ro vl mk en op sn lv nu tc ov al th vs ch H
  exact mv_put (Q := fun r u' r' v' => r' = r ∧ i_Rel (k + 4) u' v') H v1 v2 v3 (fun r c p us ro vl mk en op sn lv nu tc ov al th vs ch H' => ⟨rfl, mv_ri H'⟩)
theorem i_vc_add {k : Nat} {u : SX} {v : SY} (I : i_Rel k u v) (hk : k + 4 ≤ 2048) (v1 : Int32) (v2 : Int32) (v3 : Int32) : wpX_add (fun r u' => wpY_add (fun r' v' => r' = r ∧ i_Rel (k + 4) u' v') v v1 v2 v3) u v1 v2 v3 := by
  refine mv_el (Q := fun u v => wpX_add (fun r u' => wpY_add (fun r' v' => r' = r ∧ i_Rel (k + 4) u' v') v v1 v2 v3) u v1 v2 v3) ?_ I
  intro c p us ro vl mk en op sn lv nu tc ov al th vs ch H
  exact mv_add (Q := fun r u' r' v' => r' = r ∧ i_Rel (k + 4) u' v') H v1 v2 v3 (fun r c p us ro vl mk en op sn lv nu tc ov al th vs ch H' => ⟨rfl, mv_ri H'⟩)
theorem i_vc_drop {k : Nat} {u : SX} {v : SY} (I : i_Rel k u v) (hk : k + 4 ≤ 2048) (v1 : Int32) (v2 : Int32) : wpX_drop (fun r u' => wpY_drop (fun r' v' => r' = r ∧ i_Rel (k + 4) u' v') v v1 v2) u v1 v2 := by
  refine mv_el (Q := fun u v => wpX_drop (fun r u' => wpY_drop (fun r' v' => r' = r ∧ i_Rel (k + 4) u' v') v v1 v2) u v1 v2) ?_ I
  intro c p us ro vl mk en op sn lv nu tc ov al th vs ch H
  exact mv_drop (Q := fun r u' r' v' => r' = r ∧ i_Rel (k + 4) u' v') H v1 v2 (fun r c p us ro vl mk en op sn lv nu tc ov al th vs ch H' => ⟨rfl, mv_ri H'⟩)
theorem i_vc_get {k : Nat} {u : SX} {v : SY} (I : i_Rel k u v) (hk : k + 4 ≤ 2048) (v1 : Int32) (v2 : Int32) : wpX_get (fun r => wpY_get (fun r' => r' = r ∧ i_Rel (k + 4) u v) v v1 v2) u v1 v2 := by
  refine mv_el (Q := fun u v => wpX_get (fun r => wpY_get (fun r' => r' = r ∧ i_Rel (k + 4) u v) v v1 v2) u v1 v2) ?_ I
  intro c p us ro vl mk en op sn lv nu tc ov al th vs ch H
  obtain ⟨z, hX, hY⟩ := mv_get (al := al) H v1 v2
  exact hX _ (hY _ ⟨rfl, mv_ri H⟩)
theorem i_vc_has {k : Nat} {u : SX} {v : SY} (I : i_Rel k u v) (hk : k + 4 ≤ 2048) (v1 : Int32) (v2 : Int32) : wpX_has (fun r => wpY_has (fun r' => r' = r ∧ i_Rel (k + 4) u v) v v1 v2) u v1 v2 := by
  refine mv_el (Q := fun u v => wpX_has (fun r => wpY_has (fun r' => r' = r ∧ i_Rel (k + 4) u v) v v1 v2) u v1 v2) ?_ I
  intro c p us ro vl mk en op sn lv nu tc ov al th vs ch H
  obtain ⟨z, hX, hY⟩ := mv_has (al := al) H v1 v2
  exact hX _ (hY _ ⟨rfl, mv_ri H⟩)
theorem i_vc_count {k : Nat} {u : SX} {v : SY} (I : i_Rel k u v) (hk : k + 4 ≤ 2048) (v1 : Int32) : wpX_count (fun r => wpY_count (fun r' => r' = r ∧ i_Rel (k + 4) u v) v v1) u v1 := by
  refine mv_el (Q := fun u v => wpX_count (fun r => wpY_count (fun r' => r' = r ∧ i_Rel (k + 4) u v) v v1) u v1) ?_ I
  intro c p us ro vl mk en op sn lv nu tc ov al th vs ch H
  obtain ⟨z, hX, hY⟩ := mv_count (al := al) H v1
  exact hX _ (hY _ ⟨rfl, mv_ri H⟩)
theorem i_vc_sum {k : Nat} {u : SX} {v : SY} (I : i_Rel k u v) (hk : k + 4 ≤ 2048) (v1 : Int32) : wpX_sum (fun r => wpY_sum (fun r' => r' = r ∧ i_Rel (k + 4) u v) v v1) u v1 := by
  refine mv_el (Q := fun u v => wpX_sum (fun r => wpY_sum (fun r' => r' = r ∧ i_Rel (k + 4) u v) v v1) u v1) ?_ I
  intro c p us ro vl mk en op sn lv nu tc ov al th vs ch H
  obtain ⟨z, hX, hY⟩ := mv_sum (al := al) H v1
  exact hX _ (hY _ ⟨rfl, mv_ri H⟩)
theorem i_vc_find {k : Nat} {u : SX} {v : SY} (I : i_Rel k u v) (hk : k + 4 ≤ 2048) (v1 : Int32) (v2 : Int32) (v3 : Int32) : wpX_find (fun r => wpY_find (fun r' => r' = r ∧ i_Rel (k + 4) u v) v v1 v2 v3) u v1 v2 v3 := by
  refine mv_el (Q := fun u v => wpX_find (fun r => wpY_find (fun r' => r' = r ∧ i_Rel (k + 4) u v) v v1 v2 v3) u v1 v2 v3) ?_ I
  intro c p us ro vl mk en op sn lv nu tc ov al th vs ch H
  obtain ⟨z, hX, hY⟩ := mv_find (al := al) H v1 v2 v3
  exact hX _ (hY _ ⟨rfl, mv_ri H⟩)
theorem i_vc_changed {k : Nat} {u : SX} {v : SY} (I : i_Rel k u v) (hk : k + 4 ≤ 2048) (v1 : Int32) : wpX_changed (fun r => wpY_changed (fun r' => r' = r ∧ i_Rel (k + 4) u v) v v1) u v1 := by
  refine mv_el (Q := fun u v => wpX_changed (fun r => wpY_changed (fun r' => r' = r ∧ i_Rel (k + 4) u v) v v1) u v1) ?_ I
  intro c p us ro vl mk en op sn lv nu tc ov al th vs ch H
  obtain ⟨z, hX, hY⟩ := mv_changed (al := al) H v1
  exact hX _ (hY _ ⟨rfl, mv_ri H⟩)
theorem i_vc_save {k : Nat} {u : SX} {v : SY} (I : i_Rel k u v) (hk : k + 4 ≤ 2048) (v1 : Int32) : wpX_save (fun r u' => wpY_save (fun r' v' => r' = r ∧ i_Rel (k + 4) u' v') v v1) u v1 := by
  refine mv_el (Q := fun u v => wpX_save (fun r u' => wpY_save (fun r' v' => r' = r ∧ i_Rel (k + 4) u' v') v v1) u v1) ?_ I
  intro c p us ro vl mk en op sn lv nu tc ov al th vs ch H
  exact mv_save (Q := fun r u' r' v' => r' = r ∧ i_Rel (k + 4) u' v') H v1 (fun r c p us ro vl mk en op sn lv nu tc ov al th vs ch H' => ⟨rfl, mv_ri H'⟩)
theorem i_vc_back {k : Nat} {u : SX} {v : SY} (I : i_Rel k u v) (hk : k + 4 ≤ 2048) (v1 : Int32) : wpX_back (fun r u' => wpY_back (fun r' v' => r' = r ∧ i_Rel (k + 4) u' v') v v1) u v1 := by
  refine mv_el (Q := fun u v => wpX_back (fun r u' => wpY_back (fun r' v' => r' = r ∧ i_Rel (k + 4) u' v') v v1) u v1) ?_ I
  intro c p us ro vl mk en op sn lv nu tc ov al th vs ch H
  exact mv_back (Q := fun r u' r' v' => r' = r ∧ i_Rel (k + 4) u' v') H v1 (fun r c p us ro vl mk en op sn lv nu tc ov al th vs ch H' => ⟨rfl, mv_ri H'⟩)
theorem i_vc_commit {k : Nat} {u : SX} {v : SY} (I : i_Rel k u v) (hk : k + 4 ≤ 2048) (v1 : Int32) : wpX_commit (fun r u' => wpY_commit (fun r' v' => r' = r ∧ i_Rel (k + 4) u' v') v v1) u v1 := by
  refine mv_el (Q := fun u v => wpX_commit (fun r u' => wpY_commit (fun r' v' => r' = r ∧ i_Rel (k + 4) u' v') v v1) u v1) ?_ I
  intro c p us ro vl mk en op sn lv nu tc ov al th vs ch H
  exact mv_commit (Q := fun r u' r' v' => r' = r ∧ i_Rel (k + 4) u' v') H v1 (fun r c p us ro vl mk en op sn lv nu tc ov al th vs ch H' => ⟨rfl, mv_ri H'⟩)
theorem i_vc_abort {k : Nat} {u : SX} {v : SY} (I : i_Rel k u v) (hk : k + 4 ≤ 2048) (v1 : Int32) : wpX_abort (fun r u' => wpY_abort (fun r' v' => r' = r ∧ i_Rel (k + 4) u' v') v v1) u v1 := by
  refine mv_el (Q := fun u v => wpX_abort (fun r u' => wpY_abort (fun r' v' => r' = r ∧ i_Rel (k + 4) u' v') v v1) u v1) ?_ I
  intro c p us ro vl mk en op sn lv nu tc ov al th vs ch H
  exact mv_abort (Q := fun r u' r' v' => r' = r ∧ i_Rel (k + 4) u' v') H v1 (fun r c p us ro vl mk en op sn lv nu tc ov al th vs ch H' => ⟨rfl, mv_ri H'⟩)
theorem i_vc_crash {k : Nat} {u : SX} {v : SY} (I : i_Rel k u v) (hk : k + 4 ≤ 2048) : wpX_crash (fun r u' => wpY_crash (fun r' v' => r' = r ∧ i_Rel (k + 4) u' v') v) u := by
  refine mv_el (Q := fun u v => wpX_crash (fun r u' => wpY_crash (fun r' v' => r' = r ∧ i_Rel (k + 4) u' v') v) u) ?_ I
  intro c p us ro vl mk en op sn lv nu tc ov al th vs ch H
  exact mv_crash (Q := fun r u' r' v' => r' = r ∧ i_Rel (k + 4) u' v') H  (fun r c p us ro vl mk en op sn lv nu tc ov al th vs ch H' => ⟨rfl, mv_ri H'⟩)
theorem i_vc_committed {k : Nat} {u : SX} {v : SY} (I : i_Rel k u v) (hk : k + 4 ≤ 2048) (v1 : Int32) : wpX_committed (fun r => wpY_committed (fun r' => r' = r ∧ i_Rel (k + 4) u v) v v1) u v1 := by
  refine mv_el (Q := fun u v => wpX_committed (fun r => wpY_committed (fun r' => r' = r ∧ i_Rel (k + 4) u v) v v1) u v1) ?_ I
  intro c p us ro vl mk en op sn lv nu tc ov al th vs ch H
  obtain ⟨z, hX, hY⟩ := mv_committed (al := al) H v1
  exact hX _ (hY _ ⟨rfl, mv_ri H⟩)
theorem i_vc_rows {k : Nat} {u : SX} {v : SY} (I : i_Rel k u v) (hk : k + 4 ≤ 2048) : wpX_rows (fun r => wpY_rows (fun r' => r' = r ∧ i_Rel (k + 4) u v) v) u := by
  refine mv_el (Q := fun u v => wpX_rows (fun r => wpY_rows (fun r' => r' = r ∧ i_Rel (k + 4) u v) v) u) ?_ I
  intro c p us ro vl mk en op sn lv nu tc ov al th vs ch H
  obtain ⟨z, hX, hY⟩ := mv_rows (al := al) H
  exact hX _ (hY _ ⟨rfl, mv_ri H⟩)
theorem i_vc_vacuum {k : Nat} {u : SX} {v : SY} (I : i_Rel k u v) (hk : k + 4 ≤ 2048) : wpX_vacuum (fun u' => wpY_vacuum (fun v' => i_Rel (k + 4) u' v') v) u := by
  refine mv_el (Q := fun u v => wpX_vacuum (fun u' => wpY_vacuum (fun v' => i_Rel (k + 4) u' v') v) u) ?_ I
  intro c p us ro vl mk en op sn lv nu tc ov al th vs ch H
  unfold wpX_vacuum
  exact mv_xtidy H (fun c' us' mk' en' sn' al' H' _ _ => mv_ri (k := k + 4) (al := al') H')
theorem i_vc_flush {k : Nat} {u : SX} {v : SY} (I : i_Rel k u v) (hk : k + 4 ≤ 2048) : wpX_flush (fun u' => wpY_flush (fun v' => i_Rel (k + 4) u' v') v) u := by
  refine mv_el (Q := fun u v => wpX_flush (fun u' => wpY_flush (fun v' => i_Rel (k + 4) u' v') v) u) ?_ I
  intro c p us ro vl mk en op sn lv nu tc ov al th vs ch H
  exact ⟨97, mv_xfl2 (fun en' H' => mv_ri (k := k + 4) (al := al) H') 96 0 en (by omega) H⟩
end
