section
/-! rows of kit/rows (PURE-ROWS, BITS): starting texts -/
theorem pk_us {f : Nat → Int32} {k : Nat} {x : Int32} : upd f k x k = x := if_pos rfl
theorem pk_un {f : Nat → Int32} {k j : Nat} {x : Int32} (h : j ≠ k) : upd f k x j = f j := if_neg h
theorem pk_uLs {f : Nat → Int64} {k : Nat} {x : Int64} : vp_updL f k x k = x := if_pos rfl
theorem pk_uLn {f : Nat → Int64} {k j : Nat} {x : Int64} (h : j ≠ k) : vp_updL f k x j = f j := if_neg h
theorem pk_sub {a b : Nat} (h : b ≤ a) : nI a - nI b = nI (a - b) := by
  obtain ⟨c, rfl⟩ : ∃ c, a = c + b := ⟨a - b, by omega⟩
  rw [← nI_add, Int32.add_sub_cancel, Nat.add_sub_cancel]
theorem pk_m1 (n : Nat) : nI (n + 1) + (-1) = nI n := by
  rw [← nI_1, Int32.add_assoc, show (1 : Int32) + (-1) = 0 from rfl, Int32.add_zero]
theorem pk_mul (a b : Nat) : nI a * nI b = nI (a * b) := (Int32.ofNat_mul a b).symm
theorem pk_div {a d : Nat} (ha : a < 2 ^ 31) (h0 : 0 < d) (hd : d < 2 ^ 31) : nI a / nI d = nI (a / d) := by
  apply Int32.toInt_inj.mp
  rw [lg_idiv_nonneg (by rw [nI_toInt ha]; omega) (by rw [nI_toInt hd]; omega), nI_toInt ha, nI_toInt hd, nI_toInt (Nat.lt_of_le_of_lt (Nat.div_le_self a d) ha)]
  first | rfl | exact (Int.natCast_ediv _ _).symm
theorem pk_rem {a d : Nat} (ha : a < 2 ^ 31) (h0 : 0 < d) (hd : d < 2 ^ 31) : nI a - nI a / nI d * nI d = nI (a % d) := by
  rw [pk_div ha h0 hd, pk_mul, pk_sub (Nat.div_mul_le_self a d)]
  exact congrArg nI (by have := Nat.div_add_mod' a d; omega)
theorem pk_sub_toInt {a b : Nat} (ha : a < 2 ^ 30) (hb : b < 2 ^ 30) : (nI a - nI b).toInt = (a : Int) - b := by
  rw [Int32.toInt_sub, nI_toInt (by omega), nI_toInt (by omega)]
  exact Int.bmod_eq_of_le (by omega) (by omega)
theorem pk_sneg {a b : Nat} (hb : b < 2 ^ 30) (h : a < b) : nI a - nI b < 0 := by
  rw [Int32.lt_iff_toInt_lt, pk_sub_toInt (by omega) hb, show (0 : Int32).toInt = 0 from by decide]
  omega
theorem pk_ix (x : Int32) {n : Nat} (hn : n < 2 ^ 31) : x < 0 ∨ nI n ≤ x ∨ ∃ j : Nat, j < n ∧ x = nI j := by
  by_cases h : x < 0
  · exact Or.inl h
  · obtain ⟨j, hj, rfl⟩ := nI_of h
    by_cases h2 : j < n
    · exact Or.inr (Or.inr ⟨j, h2, rfl⟩)
    · exact Or.inr (Or.inl (nI_le (by omega) hj))
theorem pk_le {x y : Int32} {A B : Prop} (a b : Nat) (f : a ≤ b → A) (g : b < a → B) (hx : x = nI a := by rfl) (hy : y = nI b := by rfl) (ha : a < 2 ^ 31 := by omega) (hb : b < 2 ^ 31 := by omega) : (x ≤ y → A) ∧ (¬ x ≤ y → B) := by
  subst hx hy
  rw [nI_leI ha hb]
  exact ⟨f, fun z => g (by omega)⟩
theorem pk_lt {x y : Int32} {A B : Prop} (a b : Nat) (f : a < b → A) (g : b ≤ a → B) (hx : x = nI a := by rfl) (hy : y = nI b := by rfl) (ha : a < 2 ^ 31 := by omega) (hb : b < 2 ^ 31 := by omega) : (x < y → A) ∧ (¬ x < y → B) := by
  subst hx hy
  rw [nI_ltI ha hb]
  exact ⟨f, fun z => g (by omega)⟩
theorem pk_eq {x y : Int32} {A B : Prop} (a b : Nat) (f : a = b → A) (g : a ≠ b → B) (hx : x = nI a := by rfl) (hy : y = nI b := by rfl) (ha : a < 2 ^ 31 := by omega) (hb : b < 2 ^ 31 := by omega) : (x = y → A) ∧ (¬ x = y → B) := by
  subst hx hy
  rw [nI_eq ha hb]
  exact ⟨f, g⟩
theorem pk_in {x : Int32} (n N : Nat) (h : n < N) (hx : x = nI n := by rfl) (hN : N < 2 ^ 31 := by omega) : vp_in x N := by
  subst hx
  exact vp_in_nI h hN
theorem pk_cl {x : Int32} (n : Nat) (hx : x = nI n := by rfl) (h : n < 2 ^ 31 := by omega) : x.toNatClampNeg = n := by
  subst hx
  exact nI_clamp h
theorem pk_tn {n : Nat} (h : n < 2 ^ 32) : (nI n).toBitVec.toNat = n := Nat.mod_eq_of_lt h
theorem pk_least (P : Nat → Prop) (h : ∃ k, P k) : ∃ k, P k ∧ ∀ j, j < k → ¬ P j := by
  obtain ⟨k, hk⟩ := h
  induction k using Nat.strongRecOn with
  | ind k ih =>
    by_cases e : ∃ j, j < k ∧ P j
    · obtain ⟨j, hj, pj⟩ := e
      exact ih j hj pj
    · exact ⟨k, hk, fun j hj pj => e ⟨j, hj, pj⟩⟩
/-! ===== Int32 by its bits: bt x i ===== -/
def bt (x : Int32) (i : Nat) : Bool := x.toBitVec.getLsbD i
theorem b_ext {x y : Int32} (h : ∀ i, i < 32 → bt x i = bt y i) : x = y := Int32.toBitVec_inj.mp (BitVec.eq_of_getLsbD_eq (fun i hi => h i hi))
theorem b_or (x y : Int32) (i : Nat) : bt (x ||| y) i = (bt x i || bt y i) := by unfold bt; rw [Int32.toBitVec_or, BitVec.getLsbD_or]
theorem b_and (x y : Int32) (i : Nat) : bt (x &&& y) i = (bt x i && bt y i) := by unfold bt; rw [Int32.toBitVec_and, BitVec.getLsbD_and]
theorem b_xor (x y : Int32) (i : Nat) : bt (x ^^^ y) i = (bt x i ^^ bt y i) := by unfold bt; rw [Int32.toBitVec_xor, BitVec.getLsbD_xor]
theorem b_big {x : Int32} {i : Nat} (h : 32 ≤ i) : bt x i = false := BitVec.getLsbD_of_ge _ _ h
theorem b_255 (i : Nat) : bt 255 i = decide (i < 8) := by
  rcases Nat.lt_or_ge i 32 with h | h
  · exact (by decide +kernel : ∀ i, i < 32 → bt 255 i = decide (i < 8)) i h
  · rw [b_big h, decide_eq_false (by omega)]
theorem b_65535 (i : Nat) : bt 65535 i = decide (i < 16) := by
  rcases Nat.lt_or_ge i 32 with h | h
  · exact (by decide +kernel : ∀ i, i < 32 → bt 65535 i = decide (i < 16)) i h
  · rw [b_big h, decide_eq_false (by omega)]
theorem b_m1 : ∀ i, i < 32 → bt (-1) i = true := by decide +kernel
theorem b_0 (i : Nat) : bt 0 i = false := BitVec.getLsbD_zero
theorem s_l : ∀ n, n < 32 → ((nI n &&& 31).toBitVec.smod 32).toNat = n := by decide +kernel
theorem s_u : ∀ n, n < 32 → (((nI n).toUInt32 &&& Int32.toUInt32 31).toBitVec % 32).toNat = n := by decide +kernel
theorem b_shl (n : Nat) (hn : n < 32) (x : Int32) {i : Nat} (hi : i < 32) : bt (x <<< (nI n &&& 31)) i = (decide (n ≤ i) && bt x (i - n)) := by
  unfold bt
  rw [Int32.toBitVec_shiftLeft]
  show (x.toBitVec <<< ((nI n &&& 31).toBitVec.smod 32).toNat).getLsbD i = _
  rw [s_l n hn, BitVec.getLsbD_shiftLeft]
  rcases Nat.lt_or_ge i n with h | h
  · simp [h, Nat.not_le.mpr h]
  · simp [hi, h, Nat.not_lt.mpr h]
theorem b_ushr (n : Nat) (hn : n < 32) (x : Int32) (i : Nat) : bt ((x.toUInt32 >>> ((nI n).toUInt32 &&& Int32.toUInt32 31)).toInt32) i = bt x (n + i) := by
  show (x.toUInt32 >>> ((nI n).toUInt32 &&& Int32.toUInt32 31)).toBitVec.getLsbD i = x.toUInt32.toBitVec.getLsbD (n + i)
  rw [UInt32.toBitVec_shiftRight]
  show (x.toUInt32.toBitVec >>> (((nI n).toUInt32 &&& Int32.toUInt32 31).toBitVec % 32).toNat).getLsbD i = _
  rw [s_u n hn, BitVec.getLsbD_ushiftRight]
theorem b_sshr (n : Nat) (hn : n < 32) (x : Int32) {i : Nat} (hi : i < 32) : bt (x >>> (nI n &&& 31)) i = if n + i < 32 then bt x (n + i) else bt x 31 := by
  unfold bt
  rw [Int32.toBitVec_shiftRight]
  show (x.toBitVec.sshiftRight ((nI n &&& 31).toBitVec.smod 32).toNat).getLsbD i = _
  rw [s_l n hn, BitVec.getLsbD_sshiftRight, BitVec.msb_eq_getLsbD_last]
  simp [hi]
/-! ===== Int64 as a set of bits: test, set, clear ===== -/
theorem ts_nf {x : Bool} (h : ¬ x = false) : x = true := by cases x <;> first | rfl | exact absurd rfl h
theorem ts_nt {x : Bool} (h : ¬ x = true) : x = false := by cases x <;> first | rfl | exact absurd rfl h
theorem ts_bit {w : Int64} {s : UInt64} {j : Nat} (hj : j < 64) (hs : s.toNat = j) : ((w.toUInt64 >>> s).toInt64 &&& 1) = 0 ↔ w.toBitVec.getLsbD j = false := by
  have e : (w.toUInt64 >>> s).toInt64.toBitVec = w.toBitVec >>> j := by
    apply BitVec.eq_of_toNat_eq
    show (w.toUInt64 >>> s).toNat = _
    rw [UInt64.toNat_shiftRight, hs, Nat.mod_eq_of_lt hj, BitVec.toNat_ushiftRight]
    rfl
  rw [← Int64.toBitVec_inj, Int64.toBitVec_and, e]
  show w.toBitVec >>> j &&& 1#64 = 0#64 ↔ _
  constructor
  · intro h
    have t := congrArg (fun x => x.getLsbD 0) h
    simpa using t
  · intro h
    apply BitVec.eq_of_getLsbD_eq
    intro i hi
    cases i with
    | zero => simp [h]
    | succ i => simp
/-! ===== lN n to 2^64: shifts, and, or, masks, one bit ===== -/
theorem wb_tb (n : Nat) : (lN n).toBitVec = BitVec.ofNat 64 n := rfl
theorem wb_inj {a b : Int64} (h : a.toBitVec = b.toBitVec) : a = b := Int64.toBitVec_inj.mp h
theorem wb_tn {n : Nat} (h : n < 2 ^ 64) : (lN n).toBitVec.toNat = n := by rw [wb_tb, BitVec.toNat_ofNat, Nat.mod_eq_of_lt h]
theorem wb_of (x : Int64) : ∃ n, n < 2 ^ 64 ∧ x = lN n := ⟨x.toBitVec.toNat, x.toBitVec.isLt, wb_inj (by rw [wb_tb]; simp)⟩
theorem wb_of32 (x : Int32) : ∃ n, n < 2 ^ 32 ∧ x = nI n := ⟨x.toBitVec.toNat, x.toBitVec.isLt, Int32.toBitVec_inj.mp (by show _ = BitVec.ofNat 32 _; simp)⟩
theorem wb_c : ∀ k, k < 64 → ((nI k).toInt64 &&& 63) = lN k := by decide +kernel
theorem wb_cu : ∀ k, k < 64 → ((nI k).toInt64.toUInt64 &&& Int64.toUInt64 63) = UInt64.ofNat k := by decide +kernel
theorem wb_sm : ∀ k, k < 64 → (BitVec.ofNat 64 k).smod 64 = BitVec.ofNat 64 k := by decide +kernel
end
section
/-! ===== bits of Int32 as the print asks for them; lanes of Int64; three-valued wires ===== -/
theorem rc_b1 (i : Nat) : bt 1 i = decide (i = 0) := by
  rcases Nat.lt_or_ge i 32 with h | h
  · exact (by decide +kernel : ∀ i, i < 32 → bt 1 i = decide (i = 0)) i h
  · rw [b_big h, decide_eq_false (by omega)]
theorem rc_b2 (i : Nat) : bt 2 i = decide (i = 1) := by
  rcases Nat.lt_or_ge i 32 with h | h
  · exact (by decide +kernel : ∀ i, i < 32 → bt 2 i = decide (i = 1)) i h
  · rw [b_big h, decide_eq_false (by omega)]
theorem rc_b3 (i : Nat) : bt 3 i = decide (i < 2) := by
  rcases Nat.lt_or_ge i 32 with h | h
  · exact (by decide +kernel : ∀ i, i < 32 → bt 3 i = decide (i < 2)) i h
  · rw [b_big h, decide_eq_false (by omega)]
theorem rc_bm2 : ∀ i, i < 32 → bt (-2) i = decide (i ≠ 0) := by decide +kernel
theorem rc_and1 (x : Int32) : (x &&& 1) = 0 ↔ bt x 0 = false := by
  constructor
  · intro h
    have t := congrArg (fun z => bt z 0) h
    simpa [b_and, rc_b1, b_0] using t
  · intro h
    apply b_ext
    intro i _
    rw [b_and, rc_b1, b_0]
    by_cases e : i = 0
    · subst e; rw [h]; rfl
    · rw [decide_eq_false e, Bool.and_false]
theorem rc_shr1 {n : Nat} (hn : n < 32) (x : Int32) : ((x >>> (nI n &&& 31)) &&& 1) = 0 ↔ bt x n = false := by
  rw [rc_and1, b_sshr n hn x (by omega)]
  simp [hn]
theorem rc_ushr1 {n : Nat} (hn : n < 32) (x : Int32) : (((x.toUInt32 >>> ((nI n).toUInt32 &&& Int32.toUInt32 31)).toInt32) &&& 1) = 0 ↔ bt x n = false := by
  rw [rc_and1, b_ushr n hn x 0]
  exact Iff.rfl
theorem rc_1shl {n : Nat} (hn : n < 32) (i : Nat) : bt ((1 : Int32) <<< (nI n &&& 31)) i = decide (i = n) := by
  rcases Nat.lt_or_ge i 32 with h | h
  · rw [b_shl n hn _ h, rc_b1]
    by_cases e : i = n
    · subst e; simp
    · rw [decide_eq_false e]
      by_cases f : n ≤ i
      · rw [decide_eq_false (by omega : ¬ i - n = 0), Bool.and_false]
      · rw [decide_eq_false f, Bool.false_and]
  · rw [b_big h, decide_eq_false (by omega)]
theorem rc_4shl : ∀ n, n < 4 → (4 : Int32) <<< (nI n &&& 31) = (1 : Int32) <<< (nI (n + 2) &&& 31) := by decide +kernel
theorem rc_12shl : ∀ n, n < 4 → (1 : Int32) <<< ((2 + nI n) &&& 31) = (1 : Int32) <<< (nI (n + 2) &&& 31) := by decide +kernel
theorem rc_ne0 {x : Int32} : x ≠ 0 ↔ ∃ i, i < 32 ∧ bt x i = true := by
  constructor
  · intro h
    apply Classical.byContradiction
    intro k
    apply h
    apply b_ext
    intro i hi
    rw [b_0]
    cases e : bt x i with
    | false => rfl
    | true => exact absurd ⟨i, hi, e⟩ k
  · intro ⟨i, _, h⟩ e
    rw [e, b_0] at h
    cases h
theorem rc_lt32 {x : Int32} {i : Nat} (h : bt x i = true) : i < 32 := by
  rcases Nat.lt_or_ge i 32 with k | k
  · exact k
  · rw [b_big k] at h; cases h
theorem rc_eq2 {x : Int32} (h : ∀ i j, bt x i = true → bt x j = true → i = j) : x = 2 ↔ bt x 1 = true := by
  constructor
  · intro e; rw [e, rc_b2]; rfl
  · intro e
    apply b_ext
    intro i _
    rw [rc_b2]
    by_cases k : i = 1
    · subst k; rw [e]; rfl
    · rw [decide_eq_false k]
      cases z : bt x i with
      | false => rfl
      | true => exact absurd (h i 1 z e) k
/-- the Int32 whose bits below n are f's -/
def rc_of (f : Nat → Bool) : Nat → Int32
  | 0 => 0
  | k + 1 => rc_of f k ||| (if f k = true then (1 : Int32) <<< (nI k &&& 31) else 0)
theorem rc_of_bt (f : Nat → Bool) : ∀ n, n ≤ 32 → ∀ i, bt (rc_of f n) i = (decide (i < n) && f i) := by
  intro n
  induction n with
  | zero => intro _ i; rw [rc_of, b_0, decide_eq_false (by omega), Bool.false_and]
  | succ k ih =>
    intro hk i
    rw [rc_of, b_or, ih (by omega)]
    by_cases e : i = k
    · subst e
      rw [decide_eq_false (by omega), decide_eq_true (by omega), Bool.false_and, Bool.false_or, Bool.true_and]
      cases z : f i with
      | true => rw [if_pos rfl, rc_1shl (by omega), decide_eq_true rfl]
      | false => rw [if_neg (by decide), b_0]
    · have h1 : bt (if f k = true then (1 : Int32) <<< (nI k &&& 31) else 0) i = false := by
        split
        · rw [rc_1shl (by omega), decide_eq_false e]
        · rw [b_0]
      rw [h1, Bool.or_false]
      by_cases g : i < k
      · rw [decide_eq_true g, decide_eq_true (by omega : i < k + 1)]
      · rw [decide_eq_false g, decide_eq_false (by omega : ¬ i < k + 1)]
/-- Bool of a Prop -/
noncomputable def pb_P (p : Prop) : Bool := @decide p (Classical.propDecidable p)
theorem pb_t {p : Prop} (h : p) : pb_P p = true := @decide_eq_true p (Classical.propDecidable p) h
theorem pb_f {p : Prop} (h : ¬ p) : pb_P p = false := @decide_eq_false p (Classical.propDecidable p) h
theorem pb_i {p : Prop} : pb_P p = true ↔ p := ⟨fun h => @of_decide_eq_true p (Classical.propDecidable p) h, pb_t⟩
theorem pb_n {p : Prop} : pb_P p = false ↔ ¬ p := ⟨fun h => @of_decide_eq_false p (Classical.propDecidable p) h, pb_f⟩
theorem pb_c {p q : Prop} (h : p ↔ q) : pb_P p = pb_P q := by
  by_cases k : p
  · rw [pb_t k, pb_t (h.mp k)]
  · rw [pb_f k, pb_f (fun z => k (h.mpr z))]
theorem pb_o {p q : Prop} : pb_P (p ∨ q) = (pb_P p || pb_P q) := by
  by_cases k : p
  · rw [pb_t (Or.inl k), pb_t k, Bool.true_or]
  · by_cases l : q
    · rw [pb_t (Or.inr l), pb_t l, Bool.or_true]
    · rw [pb_f k, pb_f l, pb_f (fun z => z.elim k l)]; rfl
/-! lanes -/
def ln_b (x : Int64) (l : Nat) : Bool := x.toBitVec.getLsbD l
theorem ln_ext {x y : Int64} (h : ∀ i, i < 64 → ln_b x i = ln_b y i) : x = y := Int64.toBitVec_inj.mp (BitVec.eq_of_getLsbD_eq (fun i hi => h i hi))
theorem ln_or (x y : Int64) (i : Nat) : ln_b (x ||| y) i = (ln_b x i || ln_b y i) := by unfold ln_b; rw [Int64.toBitVec_or, BitVec.getLsbD_or]
theorem ln_and (x y : Int64) (i : Nat) : ln_b (x &&& y) i = (ln_b x i && ln_b y i) := by unfold ln_b; rw [Int64.toBitVec_and, BitVec.getLsbD_and]
theorem ln_xor (x y : Int64) (i : Nat) : ln_b (x ^^^ y) i = (ln_b x i ^^ ln_b y i) := by unfold ln_b; rw [Int64.toBitVec_xor, BitVec.getLsbD_xor]
theorem ln_0 (i : Nat) : ln_b 0 i = false := BitVec.getLsbD_zero
theorem ln_m1 : ∀ i, i < 64 → ln_b (-1) i = true := by decide +kernel
theorem ln_not (x : Int64) {i : Nat} (h : i < 64) : ln_b (x ^^^ (-1)) i = !ln_b x i := by rw [ln_xor, ln_m1 i h]; cases ln_b x i <;> rfl
theorem ln_b1 : ∀ i, i < 64 → ln_b 1 i = decide (i = 0) := by decide +kernel
theorem ln_and1 (x : Int64) : (x &&& 1) = 0 ↔ ln_b x 0 = false := by
  constructor
  · intro h
    have t := congrArg (fun z => ln_b z 0) h
    simpa [ln_and, ln_b1 0 (by omega), ln_0] using t
  · intro h
    apply ln_ext
    intro i hi
    rw [ln_and, ln_b1 i hi, ln_0]
    by_cases e : i = 0
    · subst e; rw [h]; rfl
    · rw [decide_eq_false e, Bool.and_false]
theorem ln_ushr1 {k : Nat} (hk : k < 64) (x : Int64) : (((x.toUInt64 >>> ((nI k).toInt64.toUInt64 &&& Int64.toUInt64 63)).toInt64) &&& 1) = 0 ↔ ln_b x k = false := by
  rw [wb_cu k hk]
  exact ts_bit hk (by show (BitVec.ofNat 64 k).toNat = k; rw [BitVec.toNat_ofNat, Nat.mod_eq_of_lt (by omega)])
theorem ln_1shl : ∀ k, k < 64 → ∀ i, i < 64 → ln_b ((1 : Int64) <<< ((nI k).toInt64 &&& 63)) i = decide (i = k) := by decide +kernel
theorem ln_eq0 {x : Int64} : x = 0 ↔ ∀ i, i < 64 → ln_b x i = false := by
  constructor
  · intro h i _; rw [h, ln_0]
  · intro h; apply ln_ext; intro i hi; rw [h i hi, ln_0]
/-! three-valued wires: (must, can) -/
abbrev kv_T : Type := Bool × Bool
def kv_0 : kv_T := (false, false)
def kv_1 : kv_T := (true, true)
def kv_A (x y : kv_T) : kv_T := (x.1 && y.1, x.2 && y.2)
def kv_O (x y : kv_T) : kv_T := (x.1 || y.1, x.2 || y.2)
def kv_N (x : kv_T) : kv_T := (!x.2, !x.1)
theorem kv_A0l (x : kv_T) : kv_A kv_0 x = kv_0 := by rcases x with ⟨a, b⟩; cases a <;> cases b <;> rfl
theorem kv_A0r (x : kv_T) : kv_A x kv_0 = kv_0 := by rcases x with ⟨a, b⟩; cases a <;> cases b <;> rfl
theorem kv_A1l (x : kv_T) : kv_A kv_1 x = x := by rcases x with ⟨a, b⟩; cases a <;> cases b <;> rfl
theorem kv_A1r (x : kv_T) : kv_A x kv_1 = x := by rcases x with ⟨a, b⟩; cases a <;> cases b <;> rfl
theorem kv_As (x : kv_T) : kv_A x x = x := by rcases x with ⟨a, b⟩; cases a <;> cases b <;> rfl
theorem kv_O0l (x : kv_T) : kv_O kv_0 x = x := by rcases x with ⟨a, b⟩; cases a <;> cases b <;> rfl
theorem kv_O0r (x : kv_T) : kv_O x kv_0 = x := by rcases x with ⟨a, b⟩; cases a <;> cases b <;> rfl
theorem kv_O1l (x : kv_T) : kv_O kv_1 x = kv_1 := by rcases x with ⟨a, b⟩; cases a <;> cases b <;> rfl
theorem kv_O1r (x : kv_T) : kv_O x kv_1 = kv_1 := by rcases x with ⟨a, b⟩; cases a <;> cases b <;> rfl
theorem kv_Os (x : kv_T) : kv_O x x = x := by rcases x with ⟨a, b⟩; cases a <;> cases b <;> rfl
theorem kv_NN (x : kv_T) : kv_N (kv_N x) = x := by rcases x with ⟨a, b⟩; cases a <;> cases b <;> rfl
theorem kv_N0 : kv_N kv_0 = kv_1 := rfl
theorem kv_N1 : kv_N kv_1 = kv_0 := rfl
/-! rows of twelve wires (kv_0 behind them) -/
def rc_mx (c : kv_T) (a b : Nat → kv_T) (k : Nat) : kv_T := kv_O (kv_A c (a k)) (kv_A (kv_N c) (b k))
def rc_th (a b : Nat → kv_T) (k : Nat) : kv_T := if k = 0 then kv_A (a 0) (b 0) else kv_O (a k) (kv_A (a 0) (b k))
def rc_up (a : Nat → kv_T) : Nat → kv_T
  | 0 => kv_0
  | k + 1 => kv_O (rc_up a k) (a k)
def rc_pr (a b : Nat → kv_T) (k : Nat) : kv_T := if k < 6 then kv_O (kv_A (rc_up a (k + 1)) (b k)) (kv_A (a k) (rc_up b (k + 1))) else kv_O (a k) (b k)
def rc_tr (a : Nat → kv_T) (k : Nat) : kv_T := if k = 0 then kv_O (a 0) (a 2) else if k = 2 then a 3 else if k = 3 then a 4 else if k = 4 then a 5 else if k = 5 then kv_0 else a k
def rc_end (k : Nat) : kv_T := if k = 0 then kv_1 else kv_0
def rc_sty (k : Nat) : kv_T := if k = 1 then kv_1 else kv_0
theorem rc_mx_1 (a b : Nat → kv_T) : rc_mx kv_1 a b = a := by funext k; unfold rc_mx; rw [kv_N1, kv_A1l, kv_A0l, kv_O0r]
theorem rc_mx_0 (a b : Nat → kv_T) : rc_mx kv_0 a b = b := by funext k; unfold rc_mx; rw [kv_N0, kv_A1l, kv_A0l, kv_O0l]
/-- the start row of a node of kind κ, argument a -/
def rc_st (κ a ni : Nat) (sg : kv_T) (p q : Nat → kv_T) : Nat → kv_T :=
  if κ = 0 then rc_end else if κ = 1 ∨ κ = 4 then rc_sty
  else if κ = 2 then (fun k => if k = 6 + a - ni then kv_1 else rc_end k)
  else if κ = 3 then (fun k => if k = 2 + a then kv_1 else kv_0)
  else if κ = 9 then rc_mx sg p q else if κ = 10 then rc_th p q else if κ = 11 then rc_pr p q
  else if κ = 6 then rc_tr p else p
/-- the resume row -/
def rc_rs (κ : Nat) (sg sp sq : kv_T) (p q rp rq : Nat → kv_T) : Nat → kv_T :=
  if κ = 4 then rc_mx sg rc_end rc_sty else if κ < 5 then rc_end else if κ = 5 then rc_th rp p
  else if κ = 6 then rc_tr rp else if κ = 7 then rc_mx sg rc_end rp else if κ = 8 then rc_mx sg rc_sty rp
  else if κ = 9 then rc_mx sp rp rq else if κ = 10 then rc_mx sp (rc_th rp q) rq
  else rc_pr (rc_mx sp rp rc_end) (rc_mx sq rq rc_end)
end
section
/-! ===== the forest: kinds κ, arguments A, children P Q, parents U (N or more: none) ===== -/
def tr_F (ni no N : Nat) (κ A P Q U : Nat → Nat) : Prop := N ≤ 32 ∧ ∀ n, n < N →
  κ n ≤ 11 ∧ (5 ≤ κ n → P n < n ∧ U (P n) = n) ∧ (9 ≤ κ n → Q n < n ∧ U (Q n) = n ∧ P n ≠ Q n) ∧
  (U n < N → n < U n ∧ 5 ≤ κ (U n) ∧ (P (U n) = n ∨ (9 ≤ κ (U n) ∧ Q (U n) = n))) ∧
  (κ n = 2 → ni ≤ A n) ∧ ((κ n = 2 ∨ κ n = 4 ∨ κ n = 7 ∨ κ n = 8 ∨ κ n = 9) → A n < ni + no) ∧ (κ n = 3 → A n ≤ 3)
def tr_b (N : Nat) (U : Nat → Nat) : Nat → Nat → Nat → Bool
  | 0, m, n => decide (m = n)
  | f + 1, m, n => decide (m = n) || (decide (U m < N) && tr_b N U f (U m) n)
/-- m is n or lies below it -/
def tr_B (N : Nat) (U : Nat → Nat) (m n : Nat) : Prop := ∃ f, tr_b N U f m n = true
theorem tr_Bi {N : Nat} {U : Nat → Nat} {m n : Nat} : tr_B N U m n ↔ m = n ∨ (U m < N ∧ tr_B N U (U m) n) := by
  constructor
  · intro ⟨f, h⟩
    cases f with
    | zero => exact Or.inl (of_decide_eq_true h)
    | succ f =>
      rw [tr_b, Bool.or_eq_true, Bool.and_eq_true] at h
      rcases h with h | ⟨h1, h2⟩
      · exact Or.inl (of_decide_eq_true h)
      · exact Or.inr ⟨of_decide_eq_true h1, f, h2⟩
  · intro h
    rcases h with h | ⟨h1, f, h2⟩
    · exact ⟨0, decide_eq_true h⟩
    · refine ⟨f + 1, ?_⟩
      rw [tr_b, decide_eq_true h1, h2, Bool.and_true, Bool.or_true]
theorem tr_rf {N : Nat} {U : Nat → Nat} (m : Nat) : tr_B N U m m := tr_Bi.mpr (Or.inl rfl)
theorem tr_up {N : Nat} {U : Nat → Nat} {m n : Nat} (h : U m < N) (b : tr_B N U (U m) n) : tr_B N U m n := tr_Bi.mpr (Or.inr ⟨h, b⟩)
theorem tr_tr {N : Nat} {U : Nat → Nat} {n k : Nat} (h2 : tr_B N U n k) : ∀ {m : Nat}, tr_B N U m n → tr_B N U m k := by
  intro m ⟨f, h⟩
  induction f generalizing m with
  | zero => rw [show m = n from of_decide_eq_true h]; exact h2
  | succ f ih =>
    rw [tr_b, Bool.or_eq_true, Bool.and_eq_true] at h
    rcases h with h | ⟨h1, h3⟩
    · rw [show m = n from of_decide_eq_true h]; exact h2
    · exact tr_up (of_decide_eq_true h1) (ih h3)
theorem tr_tot {N : Nat} {U : Nat → Nat} {a b : Nat} : ∀ {m : Nat}, tr_B N U m a → tr_B N U m b → tr_B N U a b ∨ tr_B N U b a := by
  intro m ⟨f, h⟩ hb
  induction f generalizing m with
  | zero => rw [show m = a from of_decide_eq_true h] at hb; exact Or.inl hb
  | succ f ih =>
    have h' := h
    rw [tr_b, Bool.or_eq_true, Bool.and_eq_true] at h
    rcases h with h | ⟨h1, h3⟩
    · rw [show m = a from of_decide_eq_true h] at hb; exact Or.inl hb
    · rcases tr_Bi.mp hb with e | ⟨_, h4⟩
      · exact Or.inr ⟨f + 1, e ▸ h'⟩
      · exact ih h3 h4
section
variable {ni no N : Nat} {κ A P Q U : Nat → Nat}
theorem tr_k (T : tr_F ni no N κ A P Q U) {n : Nat} (h : n < N) : κ n ≤ 11 := (T.2 n h).1
theorem tr_p (T : tr_F ni no N κ A P Q U) {n : Nat} (h : n < N) (k : 5 ≤ κ n) : P n < n ∧ U (P n) = n := (T.2 n h).2.1 k
theorem tr_q (T : tr_F ni no N κ A P Q U) {n : Nat} (h : n < N) (k : 9 ≤ κ n) : Q n < n ∧ U (Q n) = n ∧ P n ≠ Q n := (T.2 n h).2.2.1 k
theorem tr_u (T : tr_F ni no N κ A P Q U) {n : Nat} (h : n < N) (k : U n < N) : n < U n ∧ 5 ≤ κ (U n) ∧ (P (U n) = n ∨ (9 ≤ κ (U n) ∧ Q (U n) = n)) := (T.2 n h).2.2.2.1 k
theorem tr_le (T : tr_F ni no N κ A P Q U) : ∀ d m n, N - m ≤ d → m < N → tr_B N U m n → m ≤ n ∧ n < N := by
  intro d
  induction d with
  | zero => intro m n h1 h2; omega
  | succ d ih =>
    intro m n h1 h2 hb
    rcases tr_Bi.mp hb with e | ⟨hu, hb'⟩
    · subst e; exact ⟨Nat.le_refl _, h2⟩
    · have hm := (tr_u T h2 hu).1
      have := ih (U m) n (by omega) hu hb'
      omega
theorem tr_ge (T : tr_F ni no N κ A P Q U) {m n : Nat} (h : m < N) (b : tr_B N U m n) : m ≤ n ∧ n < N := tr_le T N m n (by omega) h b
theorem tr_bp (T : tr_F ni no N κ A P Q U) {n : Nat} (h : n < N) (k : 5 ≤ κ n) : tr_B N U (P n) n := by
  have := tr_p T h k
  exact tr_up (by omega) (by rw [this.2]; exact tr_rf n)
theorem tr_bq (T : tr_F ni no N κ A P Q U) {n : Nat} (h : n < N) (k : 9 ≤ κ n) : tr_B N U (Q n) n := by
  have := tr_q T h k
  exact tr_up (by omega) (by rw [this.2.1]; exact tr_rf n)
theorem tr_ch1 (T : tr_F ni no N κ A P Q U) {n : Nat} : ∀ {m : Nat}, m < N → tr_B N U m n → m = n ∨ (5 ≤ κ n ∧ tr_B N U m (P n)) ∨ (9 ≤ κ n ∧ tr_B N U m (Q n)) := by
  intro m hm ⟨f, h⟩
  induction f generalizing m with
  | zero => exact Or.inl (of_decide_eq_true h)
  | succ f ih =>
    rw [tr_b, Bool.or_eq_true, Bool.and_eq_true] at h
    rcases h with h | ⟨h1, h3⟩
    · exact Or.inl (of_decide_eq_true h)
    · have h1 : U m < N := of_decide_eq_true h1
      have hu := tr_u T hm h1
      rcases ih h1 h3 with e | ⟨k, b⟩ | ⟨k, b⟩
      · rw [e] at hu
        rcases hu.2.2 with g | ⟨g1, g2⟩
        · exact Or.inr (Or.inl ⟨hu.2.1, by rw [g]; exact tr_rf m⟩)
        · exact Or.inr (Or.inr ⟨g1, by rw [g2]; exact tr_rf m⟩)
      · exact Or.inr (Or.inl ⟨k, tr_up h1 b⟩)
      · exact Or.inr (Or.inr ⟨k, tr_up h1 b⟩)
theorem tr_ch (T : tr_F ni no N κ A P Q U) {m n : Nat} (hm : m < N) (hn : n < N) : tr_B N U m n ↔ m = n ∨ (5 ≤ κ n ∧ tr_B N U m (P n)) ∨ (9 ≤ κ n ∧ tr_B N U m (Q n)) := by
  constructor
  · exact tr_ch1 T hm
  · intro h
    rcases h with e | ⟨k, b⟩ | ⟨k, b⟩
    · subst e; exact tr_rf _
    · exact tr_tr (tr_bp T hn k) b
    · exact tr_tr (tr_bq T hn k) b
theorem tr_nup (T : tr_F ni no N κ A P Q U) {n a : Nat} (hn : n < N) (ha : a < n) : ¬ tr_B N U n a := by
  intro b
  have := tr_ge T hn b
  omega
theorem tr_dj (T : tr_F ni no N κ A P Q U) {m n : Nat} (hn : n < N) (k : 9 ≤ κ n) (b1 : tr_B N U m (P n)) (b2 : tr_B N U m (Q n)) : False := by
  have hp := tr_p T hn (by omega)
  have hq := tr_q T hn k
  rcases tr_tot b1 b2 with b | b
  · rcases tr_Bi.mp b with e | ⟨_, b'⟩
    · exact hq.2.2 e
    · rw [hp.2] at b'; exact tr_nup T hn hq.1 b'
  · rcases tr_Bi.mp b with e | ⟨_, b'⟩
    · exact hq.2.2 e.symm
    · rw [hq.2.1] at b'; exact tr_nup T hn hp.1 b'
theorem tr_lf (T : tr_F ni no N κ A P Q U) {m n : Nat} (hm : m < N) (k : κ n < 5) (b : tr_B N U m n) : m = n := by
  rcases tr_ch1 T hm b with e | ⟨k2, _⟩ | ⟨k2, _⟩
  · exact e
  · omega
  · omega
/-! active nodes -/
def ac_B (N : Nat) (U : Nat → Nat) (L : Int32) (n : Nat) : Prop := ∃ m, m < N ∧ bt L m = true ∧ tr_B N U m n
noncomputable def ac_b (N : Nat) (U : Nat → Nat) (L : Int32) (n : Nat) : Bool := pb_P (ac_B N U L n)
/-- the active leaves below n as a mask -/
noncomputable def ac_k (N : Nat) (U : Nat → Nat) (L : Int32) (n : Nat) : Int32 := rc_of (fun m => bt L m && pb_P (tr_B N U m n)) N
def ac_L (N : Nat) (κ : Nat → Nat) (L : Int32) : Prop := ∀ m, bt L m = true → m < N ∧ (κ m = 1 ∨ κ m = 4)
theorem ac_kb (T : tr_F ni no N κ A P Q U) (L : Int32) (n i : Nat) : bt (ac_k N U L n) i = true ↔ i < N ∧ bt L i = true ∧ tr_B N U i n := by
  unfold ac_k
  rw [rc_of_bt _ N T.1, Bool.and_eq_true, Bool.and_eq_true, pb_i]
  constructor
  · intro ⟨h1, h2, h3⟩; exact ⟨of_decide_eq_true h1, h2, h3⟩
  · intro ⟨h1, h2, h3⟩; exact ⟨decide_eq_true h1, h2, h3⟩
theorem ac_kne (T : tr_F ni no N κ A P Q U) (L : Int32) (n : Nat) : ac_k N U L n ≠ 0 ↔ ac_B N U L n := by
  rw [rc_ne0]
  constructor
  · intro ⟨i, _, h⟩; exact ⟨i, (ac_kb T L n i).mp h⟩
  · intro ⟨i, h⟩; exact ⟨i, rc_lt32 h.2.1, (ac_kb T L n i).mpr h⟩
theorem ac_lf (T : tr_F ni no N κ A P Q U) {L : Int32} {n : Nat} (hn : n < N) (k : κ n < 5) : ac_B N U L n ↔ bt L n = true := by
  constructor
  · intro ⟨m, hm, h, b⟩; rw [← tr_lf T hm k b]; exact h
  · intro h; exact ⟨n, hn, h, tr_rf n⟩
theorem ac_1 (T : tr_F ni no N κ A P Q U) {L : Int32} (hL : ac_L N κ L) {n : Nat} (hn : n < N) (k : 5 ≤ κ n) (k9 : κ n < 9) : ac_B N U L n ↔ ac_B N U L (P n) := by
  constructor
  · intro ⟨m, hm, h, b⟩
    rcases tr_ch1 T hm b with e | ⟨_, b'⟩ | ⟨k2, _⟩
    · have := hL m h; rw [e] at this; omega
    · exact ⟨m, hm, h, b'⟩
    · omega
  · intro ⟨m, hm, h, b⟩; exact ⟨m, hm, h, tr_tr (tr_bp T hn k) b⟩
theorem ac_2 (T : tr_F ni no N κ A P Q U) {L : Int32} (hL : ac_L N κ L) {n : Nat} (hn : n < N) (k : 9 ≤ κ n) : ac_B N U L n ↔ (ac_B N U L (P n) ∨ ac_B N U L (Q n)) := by
  constructor
  · intro ⟨m, hm, h, b⟩
    rcases tr_ch1 T hm b with e | ⟨_, b'⟩ | ⟨k2, b'⟩
    · have := hL m h; rw [e] at this; omega
    · exact Or.inl ⟨m, hm, h, b'⟩
    · exact Or.inr ⟨m, hm, h, b'⟩
  · intro h
    rcases h with ⟨m, hm, h, b⟩ | ⟨m, hm, h, b⟩
    · exact ⟨m, hm, h, tr_tr (tr_bp T hn (by omega)) b⟩
    · exact ⟨m, hm, h, tr_tr (tr_bq T hn k) b⟩
end
end
section
/-! ===== runs of the reference: (must signals, can signals, must codes, can codes, left leaves) ===== -/
abbrev rn_T : Type := Int32 × Int32 × Int32 × Int32 × Int32
def rn_pt (a b c d l : Int32) : rn_T := (a, b, c, d, if c = 2 then l else 0)
def rn_cp (x : rn_T) : rn_T := rn_pt x.1 x.2.1 x.2.2.1 x.2.2.2.1 x.2.2.2.2
def rn_th (x y : rn_T) : rn_T :=
  rn_pt (if bt x.2.2.1 0 = true then x.1 ||| y.1 else x.1) (if bt x.2.2.2.1 0 = true then x.2.1 ||| y.2.1 else x.2.1)
    (if bt x.2.2.1 0 = true then y.2.2.1 else x.2.2.1) (if bt x.2.2.2.1 0 = true then (x.2.2.2.1 &&& (-2)) ||| y.2.2.2.1 else x.2.2.2.1)
    (if bt x.2.2.1 0 = true then y.2.2.2.2 else x.2.2.2.2)
def rn_ub (x : Int32) : Nat → Bool
  | 0 => bt x 0
  | k + 1 => rn_ub x k || bt x (k + 1)
def rn_mx (x y : Int32) : Int32 := rc_of (fun k => (rn_ub x k && bt y k) || (bt x k && rn_ub y k)) 6
def rn_dn (x : Int32) : Int32 := rc_of (fun k => if k = 0 then bt x 0 || bt x 2 else if k = 1 then bt x 1 else if k < 5 then bt x (k + 1) else false) 6
def rn_pa (x y : rn_T) : rn_T := rn_pt (x.1 ||| y.1) (x.2.1 ||| y.2.1) (rn_mx x.2.2.1 y.2.2.1) (rn_mx x.2.2.2.1 y.2.2.2.1) (x.2.2.2.2 ||| y.2.2.2.2)
def rn_tr (x : rn_T) : rn_T := rn_pt x.1 x.2.1 (rn_dn x.2.2.1) (rn_dn x.2.2.2.1) x.2.2.2.2
def rn_id : rn_T := rn_pt 0 0 1 1 0
def rn_st (κ n a : Nat) (v : Int32) (p q : rn_T) : rn_T :=
  if κ = 0 then rn_pt 0 0 1 1 0
  else if κ = 2 then rn_pt ((1 : Int32) <<< (nI a &&& 31)) ((1 : Int32) <<< (nI a &&& 31)) 1 1 0
  else if κ = 1 ∨ κ = 4 then rn_pt 0 0 2 2 ((1 : Int32) <<< (nI n &&& 31))
  else if κ = 3 then rn_pt 0 0 ((4 : Int32) <<< (nI a &&& 31)) ((4 : Int32) <<< (nI a &&& 31)) 0
  else if κ = 9 then (if v = 1 then rn_cp p else if v = 0 then rn_cp q else rn_pt 0 (p.2.1 ||| q.2.1) 0 (p.2.2.2.1 ||| q.2.2.2.1) 0)
  else if κ = 10 then rn_th p q else if κ = 11 then rn_pa p q else if κ = 6 then rn_tr p else rn_cp p
def rn_rs (κ n : Nat) (v : Int32) (ap aq : Bool) (sp sq rp rq : rn_T) (kept : Int32) : rn_T :=
  if κ = 1 then rn_pt 0 0 1 1 0
  else if κ = 4 then (if v = 1 then rn_pt 0 0 1 1 0 else if v = 0 then rn_pt 0 0 2 2 ((1 : Int32) <<< (nI n &&& 31)) else rn_pt 0 0 0 3 0)
  else if κ = 9 then (if ap = true then rn_cp rp else if aq = true then rn_cp rq else rn_cp rn_id)
  else if κ = 10 then (if ap = true then rn_th rp sq else if aq = true then rn_cp rq else rn_cp rn_id)
  else if κ = 11 then rn_pa (if ap = true then rp else rn_id) (if aq = true then rq else rn_id)
  else if κ = 5 then rn_th (if ap = true then rp else rn_id) sp
  else if κ = 6 then rn_tr (if ap = true then rp else rn_id)
  else if v = 0 then rn_cp (if ap = true then rp else rn_id)
  else if κ = 7 then (if v = 1 then rn_pt 0 0 1 1 0 else rn_pt 0 (if ap = true then rp else rn_id).2.1 0 ((if ap = true then rp else rn_id).2.2.2.1 ||| 1) 0)
  else if v = 1 then rn_pt 0 0 2 2 kept else rn_pt 0 (if ap = true then rp else rn_id).2.1 0 ((if ap = true then rp else rn_id).2.2.2.1 ||| 2) 0
theorem rn_ubi (x : Int32) : ∀ k, rn_ub x k = true ↔ ∃ j, j ≤ k ∧ bt x j = true := by
  intro k
  induction k with
  | zero =>
    rw [rn_ub]
    constructor
    · intro h; exact ⟨0, Nat.le_refl _, h⟩
    · intro ⟨j, hj, h⟩; rw [show j = 0 by omega] at h; exact h
  | succ k ih =>
    rw [rn_ub, Bool.or_eq_true, ih]
    constructor
    · intro h
      rcases h with ⟨j, hj, h⟩ | h
      · exact ⟨j, by omega, h⟩
      · exact ⟨k + 1, Nat.le_refl _, h⟩
    · intro ⟨j, hj, h⟩
      by_cases e : j = k + 1
      · subst e; exact Or.inr h
      · exact Or.inl ⟨j, by omega, h⟩
theorem rn_mxb (x y : Int32) (i : Nat) : bt (rn_mx x y) i = true ↔ i < 6 ∧ (((∃ j, j ≤ i ∧ bt x j = true) ∧ bt y i = true) ∨ (bt x i = true ∧ ∃ j, j ≤ i ∧ bt y j = true)) := by
  unfold rn_mx
  rw [rc_of_bt _ 6 (by omega), Bool.and_eq_true, decide_eq_true_eq, Bool.or_eq_true, Bool.and_eq_true, Bool.and_eq_true, rn_ubi, rn_ubi]
theorem rn_dnb (x : Int32) (i : Nat) : bt (rn_dn x) i = if i = 0 then bt x 0 || bt x 2 else if i = 1 then bt x 1 else if i < 5 then bt x (i + 1) else false := by
  unfold rn_dn
  rw [rc_of_bt _ 6 (by omega)]
  by_cases h : i < 6
  · rw [decide_eq_true h, Bool.true_and]
  · rw [decide_eq_false h, Bool.false_and, if_neg (by omega), if_neg (by omega), if_neg (by omega)]
/-- what holds of every run of a node in the tree: D traps above it, S the leaves that it may leave -/
def rn_G (ni no D : Nat) (S : Nat → Prop) (x : rn_T) : Prop :=
  (∀ i, bt x.2.2.1 i = true → bt x.2.2.2.1 i = true) ∧ (∀ i, bt x.1 i = true → bt x.2.1 i = true) ∧
  (∀ i j, bt x.2.2.1 i = true → bt x.2.2.1 j = true → i = j) ∧ (∀ i, bt x.2.2.2.1 i = true → i < 6 ∧ i < 2 + D) ∧
  (∀ i, bt x.2.1 i = true → ni ≤ i ∧ i < ni + no) ∧ (bt x.2.2.1 1 = true → x.2.2.2.2 ≠ 0) ∧
  (bt x.2.2.1 1 = false → x.2.2.2.2 = 0) ∧ (∀ m, bt x.2.2.2.2 m = true → S m)
def rn_K (x : rn_T) : Prop := ∃ i, bt x.2.2.1 i = true
theorem rn_f1 {i : Nat} (h : bt 0 i = true) : False := by rw [b_0] at h; cases h
theorem rn_Gpt {ni no D : Nat} {S : Nat → Prop} {a b c d l : Int32} (h1 : ∀ i, bt c i = true → bt d i = true) (h2 : ∀ i, bt a i = true → bt b i = true)
    (h3 : ∀ i j, bt c i = true → bt c j = true → i = j) (h4 : ∀ i, bt d i = true → i < 6 ∧ i < 2 + D)
    (h5 : ∀ i, bt b i = true → ni ≤ i ∧ i < ni + no) (h6 : bt c 1 = true → l ≠ 0 ∧ ∀ m, bt l m = true → S m) : rn_G ni no D S (rn_pt a b c d l) := by
  refine ⟨h1, h2, h3, h4, h5, ?_, ?_, ?_⟩
  · intro h
    show (if c = 2 then l else 0) ≠ 0
    rw [if_pos ((rc_eq2 h3).mpr h)]
    exact (h6 h).1
  · intro h
    show (if c = 2 then l else 0) = 0
    rw [if_neg]
    intro e
    have := (rc_eq2 h3).mp e
    have h' : bt c 1 = false := h
    rw [h'] at this; cases this
  · intro m h
    have h : bt (if c = 2 then l else 0) m = true := h
    split at h
    · next e => exact (h6 ((rc_eq2 h3).mp e)).2 m h
    · exact absurd h (fun z => rn_f1 z)
theorem rn_cpe {ni no D : Nat} {S : Nat → Prop} {x : rn_T} (h : rn_G ni no D S x) : rn_cp x = x := by
  obtain ⟨a, b, c, d, l⟩ := x
  obtain ⟨_, _, h3, _, _, h6, h7, _⟩ := h
  show (a, b, c, d, if c = 2 then l else 0) = (a, b, c, d, l)
  by_cases e : c = 2
  · rw [if_pos e]
  · rw [if_neg e]
    have : bt c 1 = false := by
      cases z : bt c 1 with
      | false => rfl
      | true => exact absurd ((rc_eq2 h3).mpr z) e
    have := h7 this
    rw [show l = 0 from this]
theorem rn_Gm {ni no D : Nat} {S S' : Nat → Prop} {x : rn_T} (h : rn_G ni no D S x) (s : ∀ m, S m → S' m) : rn_G ni no D S' x :=
  ⟨h.1, h.2.1, h.2.2.1, h.2.2.2.1, h.2.2.2.2.1, h.2.2.2.2.2.1, h.2.2.2.2.2.2.1, fun m k => s m (h.2.2.2.2.2.2.2 m k)⟩
theorem rn_Gth {ni no D : Nat} {S : Nat → Prop} {x y : rn_T} (hx : rn_G ni no D S x) (hy : rn_G ni no D S y) : rn_G ni no D S (rn_th x y) := by
  obtain ⟨x1, x2, x3, x4, x5, x6, x7, x8⟩ := hx
  obtain ⟨y1, y2, y3, y4, y5, y6, y7, y8⟩ := hy
  unfold rn_th
  cases m0 : bt x.2.2.1 0 with
  | true =>
    have c0 := x1 0 m0
    simp only [c0, if_true]
    refine rn_Gpt ?_ ?_ y3 ?_ ?_ (fun h => ⟨y6 h, y8⟩)
    · intro i h; rw [b_or, y1 i h, Bool.or_true]
    · intro i h
      rw [b_or, Bool.or_eq_true] at h ⊢
      exact h.imp (x2 i) (y2 i)
    · intro i h
      rw [b_or, b_and, Bool.or_eq_true, Bool.and_eq_true] at h
      rcases h with h | h
      · exact x4 i h.1
      · exact y4 i h
    · intro i h
      rw [b_or, Bool.or_eq_true] at h
      exact h.elim (x5 i) (y5 i)
  | false =>
    simp only [Bool.false_eq_true, if_false]
    cases c0 : bt x.2.2.2.1 0 with
    | true =>
      simp only [if_true]
      refine rn_Gpt ?_ ?_ x3 ?_ ?_ (fun h => ⟨x6 h, x8⟩)
      · intro i h
        have hi := rc_lt32 h
        have : i ≠ 0 := by intro e; rw [e, m0] at h; cases h
        rw [b_or, b_and, rc_bm2 i hi, decide_eq_true this, x1 i h]; rfl
      · intro i h; rw [b_or, x2 i h]; rfl
      · intro i h
        rw [b_or, b_and, Bool.or_eq_true, Bool.and_eq_true] at h
        rcases h with h | h
        · exact x4 i h.1
        · exact y4 i h
      · intro i h
        rw [b_or, Bool.or_eq_true] at h
        exact h.elim (x5 i) (y5 i)
    | false =>
      simp only [Bool.false_eq_true, if_false]
      exact rn_Gpt x1 x2 x3 x4 x5 (fun h => ⟨x6 h, x8⟩)
theorem rn_Gpa {ni no D : Nat} {S : Nat → Prop} {x y : rn_T} (hx : rn_G ni no D S x) (hy : rn_G ni no D S y) : rn_G ni no D S (rn_pa x y) := by
  obtain ⟨x1, x2, x3, x4, x5, x6, x7, x8⟩ := hx
  obtain ⟨y1, y2, y3, y4, y5, y6, y7, y8⟩ := hy
  unfold rn_pa
  refine rn_Gpt ?_ ?_ ?_ ?_ ?_ ?_
  · intro i h
    rw [rn_mxb] at h ⊢
    refine ⟨h.1, h.2.imp ?_ ?_⟩
    · intro ⟨⟨j, hj, k⟩, l⟩; exact ⟨⟨j, hj, x1 j k⟩, y1 i l⟩
    · intro ⟨l, ⟨j, hj, k⟩⟩; exact ⟨x1 i l, ⟨j, hj, y1 j k⟩⟩
  · intro i h
    rw [b_or, Bool.or_eq_true] at h ⊢
    exact h.imp (x2 i) (y2 i)
  · intro i j h k
    rw [rn_mxb] at h k
    rcases h.2 with ⟨⟨a, ha, ax⟩, iy⟩ | ⟨ix, ⟨a, ha, ay⟩⟩
    · rcases k.2 with ⟨_, jy⟩ | ⟨jx, ⟨b, hb, bY⟩⟩
      · exact y3 i j iy jy
      · have e1 := x3 a j ax jx
        have e2 := y3 b i bY iy
        omega
    · rcases k.2 with ⟨⟨b, hb, bx⟩, jy⟩ | ⟨jx, _⟩
      · have e1 := x3 b i bx ix
        have e2 := y3 a j ay jy
        omega
      · exact x3 i j ix jx
  · intro i h
    rw [rn_mxb] at h
    rcases h.2 with ⟨_, iy⟩ | ⟨ix, _⟩
    · exact y4 i iy
    · exact x4 i ix
  · intro i h
    rw [b_or, Bool.or_eq_true] at h
    exact h.elim (x5 i) (y5 i)
  · intro h
    rw [rn_mxb] at h
    refine ⟨?_, ?_⟩
    · rcases h.2 with ⟨_, iy⟩ | ⟨ix, _⟩
      · obtain ⟨m, hm, e⟩ := rc_ne0.mp (y6 iy)
        exact rc_ne0.mpr ⟨m, hm, by rw [b_or, e, Bool.or_true]⟩
      · obtain ⟨m, hm, e⟩ := rc_ne0.mp (x6 ix)
        exact rc_ne0.mpr ⟨m, hm, by rw [b_or, e, Bool.true_or]⟩
    · intro m hm
      rw [b_or, Bool.or_eq_true] at hm
      exact hm.elim (x8 m) (y8 m)
theorem rn_Gtr {ni no D : Nat} {S : Nat → Prop} {x : rn_T} (hx : rn_G ni no (D + 1) S x) : rn_G ni no D S (rn_tr x) := by
  obtain ⟨x1, x2, x3, x4, x5, x6, x7, x8⟩ := hx
  unfold rn_tr
  have up : ∀ (z : Int32) (i : Nat), bt (rn_dn z) i = true → (i = 0 ∧ (bt z 0 = true ∨ bt z 2 = true)) ∨ (i = 1 ∧ bt z 1 = true) ∨ (2 ≤ i ∧ i < 5 ∧ bt z (i + 1) = true) := by
    intro z i h
    rw [rn_dnb] at h
    by_cases e0 : i = 0
    · rw [if_pos e0, Bool.or_eq_true] at h; exact Or.inl ⟨e0, h⟩
    · rw [if_neg e0] at h
      by_cases e1 : i = 1
      · rw [if_pos e1] at h; exact Or.inr (Or.inl ⟨e1, h⟩)
      · rw [if_neg e1] at h
        by_cases e2 : i < 5
        · rw [if_pos e2] at h; exact Or.inr (Or.inr ⟨by omega, e2, h⟩)
        · rw [if_neg e2] at h; cases h
  have dn : ∀ (z : Int32) (i : Nat), ((i = 0 ∧ (bt z 0 = true ∨ bt z 2 = true)) ∨ (i = 1 ∧ bt z 1 = true) ∨ (2 ≤ i ∧ i < 5 ∧ bt z (i + 1) = true)) → bt (rn_dn z) i = true := by
    intro z i h
    rw [rn_dnb]
    rcases h with ⟨e, h⟩ | ⟨e, h⟩ | ⟨e1, e2, h⟩
    · rw [if_pos e, Bool.or_eq_true]; exact h
    · rw [if_neg (by omega), if_pos e]; exact h
    · rw [if_neg (by omega), if_neg (by omega), if_pos e2]; exact h
  refine rn_Gpt ?_ x2 ?_ ?_ x5 ?_
  · intro i h
    apply dn
    rcases up _ i h with ⟨e, h⟩ | ⟨e, h⟩ | ⟨e1, e2, h⟩
    · exact Or.inl ⟨e, h.imp (x1 0) (x1 2)⟩
    · exact Or.inr (Or.inl ⟨e, x1 1 h⟩)
    · exact Or.inr (Or.inr ⟨e1, e2, x1 _ h⟩)
  · intro i j h k
    rcases up _ i h with ⟨e, h | h⟩ | ⟨e, h⟩ | ⟨e1, e2, h⟩ <;> rcases up _ j k with ⟨f, k | k⟩ | ⟨f, k⟩ | ⟨f1, f2, k⟩ <;> have := x3 _ _ h k <;> omega
  · intro i h
    rcases up _ i h with ⟨e, h⟩ | ⟨e, h⟩ | ⟨e1, e2, h⟩
    · omega
    · omega
    · have := x4 _ h; omega
  · intro h
    rcases up _ 1 h with ⟨e, h⟩ | ⟨e, h⟩ | ⟨e1, e2, h⟩
    · omega
    · exact ⟨x6 h, x8⟩
    · omega
theorem rn_Gun {ni no D : Nat} {S : Nat → Prop} {x y : rn_T} (hx : rn_G ni no D S x) (hy : rn_G ni no D S y) : rn_G ni no D S (rn_pt 0 (x.2.1 ||| y.2.1) 0 (x.2.2.2.1 ||| y.2.2.2.1) 0) := by
  refine rn_Gpt (fun i h => (rn_f1 h).elim) (fun i h => (rn_f1 h).elim) (fun i j h => (rn_f1 h).elim) ?_ ?_ (fun h => (rn_f1 h).elim)
  · intro i h
    rw [b_or, Bool.or_eq_true] at h
    exact h.elim (hx.2.2.2.1 i) (hy.2.2.2.1 i)
  · intro i h
    rw [b_or, Bool.or_eq_true] at h
    exact h.elim (hx.2.2.2.2.1 i) (hy.2.2.2.2.1 i)
/-- a run with no signal and the one code k -/
theorem rn_Gone {ni no D : Nat} {S : Nat → Prop} {a c l : Int32} (k : Nat) (hc : ∀ i, bt c i = decide (i = k)) (hk : k < 6 ∧ k < 2 + D) (ha : ∀ i, bt a i = true → ni ≤ i ∧ i < ni + no)
    (hl : k = 1 → l ≠ 0 ∧ ∀ m, bt l m = true → S m) : rn_G ni no D S (rn_pt a a c c l) := by
  refine rn_Gpt (fun i h => h) (fun i h => h) ?_ ?_ ha ?_
  · intro i j h g
    rw [hc] at h g
    have := of_decide_eq_true h
    have := of_decide_eq_true g
    omega
  · intro i h
    rw [hc] at h
    rw [of_decide_eq_true h]
    exact hk
  · intro h
    rw [hc] at h
    exact hl (of_decide_eq_true h).symm
theorem rn_Gid {ni no D : Nat} {S : Nat → Prop} : rn_G ni no D S (rn_pt 0 0 1 1 0) := rn_Gone 0 rc_b1 (by omega) (fun i h => (rn_f1 h).elim) (fun h => absurd h (by omega))
end
section
/-! ===== the rows of wires that runs stand for ===== -/
def rn_ro (ni : Nat) (x : rn_T) (k : Nat) : kv_T := if k < 6 then (bt x.2.2.1 k, bt x.2.2.2.1 k) else if k < 12 then (bt x.1 (ni + (k - 6)), bt x.2.1 (ni + (k - 6))) else kv_0
def rn_en (v : Int32) : kv_T := if v = 1 then kv_1 else if v = 0 then kv_0 else (false, true)
theorem rn_ro1 {ni : Nat} {x : rn_T} {k : Nat} (h : k < 6) : rn_ro ni x k = (bt x.2.2.1 k, bt x.2.2.2.1 k) := if_pos h
theorem rn_ro2 {ni : Nat} {x : rn_T} {k : Nat} (h : 6 ≤ k) (g : k < 12) : rn_ro ni x k = (bt x.1 (ni + (k - 6)), bt x.2.1 (ni + (k - 6))) := by
  unfold rn_ro; rw [if_neg (by omega), if_pos g]
theorem rn_ro3 {ni : Nat} {x : rn_T} {k : Nat} (h : 12 ≤ k) : rn_ro ni x k = kv_0 := by
  unfold rn_ro; rw [if_neg (by omega), if_neg (by omega)]
theorem rn_r1 {ni : Nat} {c l : Int32} (j : Nat) (hj : j < 6) (hc : ∀ i, bt c i = decide (i = j)) : rn_ro ni (rn_pt 0 0 c c l) = fun k => if k = j then kv_1 else kv_0 := by
  funext k
  show _ = if k = j then kv_1 else kv_0
  rcases Nat.lt_or_ge k 6 with h6 | h6
  · rw [rn_ro1 h6]
    show (bt c k, bt c k) = _
    rw [hc]
    by_cases e : k = j
    · rw [decide_eq_true e, if_pos e]; rfl
    · rw [decide_eq_false e, if_neg e]; rfl
  · rw [if_neg (by omega)]
    rcases Nat.lt_or_ge k 12 with h12 | h12
    · rw [rn_ro2 h6 h12]
      show (bt 0 _, bt 0 _) = _
      rw [b_0]; rfl
    · exact rn_ro3 h12
theorem rn_rid {ni : Nat} {l : Int32} : rn_ro ni (rn_pt 0 0 1 1 l) = rc_end := rn_r1 0 (by omega) rc_b1
theorem rn_rsty {ni : Nat} {l : Int32} : rn_ro ni (rn_pt 0 0 2 2 l) = rc_sty := rn_r1 1 (by omega) rc_b2
theorem rn_rem {ni a : Nat} (h1 : ni ≤ a) (h2 : a < ni + 6) (h3 : a < 32) : rn_ro ni (rn_pt ((1 : Int32) <<< (nI a &&& 31)) ((1 : Int32) <<< (nI a &&& 31)) 1 1 0) = fun k => if k = 6 + a - ni then kv_1 else rc_end k := by
  funext k
  show _ = if k = 6 + a - ni then kv_1 else rc_end k
  rcases Nat.lt_or_ge k 6 with h6 | h6
  · rw [rn_ro1 h6, if_neg (by omega)]
    show (bt 1 k, bt 1 k) = _
    rw [rc_b1]
    unfold rc_end
    by_cases e : k = 0
    · rw [decide_eq_true e, if_pos e]; rfl
    · rw [decide_eq_false e, if_neg e]; rfl
  · have e0 : rc_end k = kv_0 := if_neg (by omega)
    rw [e0]
    rcases Nat.lt_or_ge k 12 with h12 | h12
    · rw [rn_ro2 h6 h12]
      show (bt ((1 : Int32) <<< (nI a &&& 31)) _, bt ((1 : Int32) <<< (nI a &&& 31)) _) = _
      rw [rc_1shl h3]
      by_cases e : k = 6 + a - ni
      · rw [decide_eq_true (by omega : ni + (k - 6) = a), if_pos e]; rfl
      · rw [decide_eq_false (by omega : ¬ ni + (k - 6) = a), if_neg e]; rfl
    · rw [rn_ro3 h12, if_neg (by omega)]
theorem rn_rth {ni no D : Nat} {S : Nat → Prop} {x y : rn_T} (hx : rn_G ni no D S x) : rn_ro ni (rn_th x y) = rc_th (rn_ro ni x) (rn_ro ni y) := by
  funext k
  have z1 : rn_ro ni x 0 = (bt x.2.2.1 0, bt x.2.2.2.1 0) := rn_ro1 (by omega)
  have z2 : rn_ro ni y 0 = (bt y.2.2.1 0, bt y.2.2.2.1 0) := rn_ro1 (by omega)
  unfold rc_th
  rw [z1]
  rcases Nat.lt_or_ge k 6 with h6 | h6
  · rw [rn_ro1 h6]
    by_cases e : k = 0
    · subst e
      rw [if_pos rfl, z2]
      show (bt (if bt x.2.2.1 0 = true then y.2.2.1 else x.2.2.1) 0, bt (if bt x.2.2.2.1 0 = true then (x.2.2.2.1 &&& (-2)) ||| y.2.2.2.1 else x.2.2.2.1) 0) = (bt x.2.2.1 0 && bt y.2.2.1 0, bt x.2.2.2.1 0 && bt y.2.2.2.1 0)
      cases m0 : bt x.2.2.1 0 <;> cases c0 : bt x.2.2.2.1 0 <;> simp [m0, c0, b_or, b_and, rc_bm2 0 (by omega)]
    · rw [if_neg e, rn_ro1 h6, rn_ro1 h6]
      show (bt (if bt x.2.2.1 0 = true then y.2.2.1 else x.2.2.1) k, bt (if bt x.2.2.2.1 0 = true then (x.2.2.2.1 &&& (-2)) ||| y.2.2.2.1 else x.2.2.2.1) k) = (bt x.2.2.1 k || (bt x.2.2.1 0 && bt y.2.2.1 k), bt x.2.2.2.1 k || (bt x.2.2.2.1 0 && bt y.2.2.2.1 k))
      have hk : bt x.2.2.1 0 = true → bt x.2.2.1 k = false := by
        intro h
        cases z : bt x.2.2.1 k with
        | false => rfl
        | true => exact absurd (hx.2.2.1 k 0 z h) e
      cases m0 : bt x.2.2.1 0 <;> cases c0 : bt x.2.2.2.1 0 <;> simp [b_or, b_and, rc_bm2 k (by omega), e, hk, m0]
  · rw [if_neg (by omega)]
    rcases Nat.lt_or_ge k 12 with h12 | h12
    · rw [rn_ro2 h6 h12, rn_ro2 h6 h12, rn_ro2 h6 h12]
      show (bt (if bt x.2.2.1 0 = true then x.1 ||| y.1 else x.1) _, bt (if bt x.2.2.2.1 0 = true then x.2.1 ||| y.2.1 else x.2.1) _) = (bt x.1 _ || (bt x.2.2.1 0 && bt y.1 _), bt x.2.1 _ || (bt x.2.2.2.1 0 && bt y.2.1 _))
      cases m0 : bt x.2.2.1 0 <;> cases c0 : bt x.2.2.2.1 0 <;> simp [b_or]
    · rw [rn_ro3 h12, rn_ro3 h12, rn_ro3 h12, kv_A0r, kv_O0r]
theorem rn_rup {ni : Nat} {x : rn_T} : ∀ k, k < 6 → rc_up (rn_ro ni x) (k + 1) = (rn_ub x.2.2.1 k, rn_ub x.2.2.2.1 k) := by
  intro k
  induction k with
  | zero => intro h; rw [rc_up, rc_up, kv_O0l, rn_ro1 h]; rfl
  | succ k ih => intro h; rw [rc_up, ih (by omega), rn_ro1 h]; rfl
theorem rn_rpa {ni : Nat} {x y : rn_T} : rn_ro ni (rn_pa x y) = rc_pr (rn_ro ni x) (rn_ro ni y) := by
  funext k
  unfold rc_pr
  rcases Nat.lt_or_ge k 6 with h6 | h6
  · rw [if_pos h6, rn_rup k h6, rn_rup k h6, rn_ro1 h6, rn_ro1 h6, rn_ro1 h6]
    show (bt (rn_mx _ _) k, bt (rn_mx _ _) k) = _
    unfold rn_mx
    rw [rc_of_bt _ 6 (by omega), rc_of_bt _ 6 (by omega), decide_eq_true h6, Bool.true_and, Bool.true_and]
    rfl
  · rw [if_neg (by omega)]
    rcases Nat.lt_or_ge k 12 with h12 | h12
    · rw [rn_ro2 h6 h12, rn_ro2 h6 h12, rn_ro2 h6 h12]
      show (bt (x.1 ||| y.1) _, bt (x.2.1 ||| y.2.1) _) = _
      rw [b_or, b_or]; rfl
    · rw [rn_ro3 h12, rn_ro3 h12, rn_ro3 h12]; rfl
theorem rn_rtr {ni : Nat} {x : rn_T} : rn_ro ni (rn_tr x) = rc_tr (rn_ro ni x) := by
  funext k
  unfold rc_tr
  rcases Nat.lt_or_ge k 6 with h6 | h6
  · rw [rn_ro1 h6]
    show (bt (rn_dn _) k, bt (rn_dn _) k) = _
    rw [rn_dnb, rn_dnb]
    by_cases e0 : k = 0
    · rw [if_pos e0, if_pos e0, if_pos e0, rn_ro1 (by omega), rn_ro1 (by omega)]; rfl
    · rw [if_neg e0, if_neg e0, if_neg e0]
      by_cases e1 : k = 1
      · rw [if_pos e1, if_pos e1, if_neg (by omega), if_neg (by omega), if_neg (by omega), if_neg (by omega), rn_ro1 h6, e1]
      · rw [if_neg e1, if_neg e1]
        by_cases e5 : k = 5
        · rw [if_neg (by omega), if_neg (by omega), if_neg (by omega), if_neg (by omega), if_neg (by omega), if_pos e5]; rfl
        · rw [if_pos (by omega), if_pos (by omega)]
          by_cases e2 : k = 2
          · rw [if_pos e2, rn_ro1 (by omega), e2]
          · rw [if_neg e2]
            by_cases e3 : k = 3
            · rw [if_pos e3, rn_ro1 (by omega), e3]
            · have e4 : k = 4 := by omega
              rw [if_neg e3, if_pos e4, rn_ro1 (by omega), e4]
  · rw [if_neg (by omega), if_neg (by omega), if_neg (by omega), if_neg (by omega), if_neg (by omega)]
    rcases Nat.lt_or_ge k 12 with h12 | h12
    · rw [rn_ro2 h6 h12, rn_ro2 h6 h12]; rfl
    · rw [rn_ro3 h12, rn_ro3 h12]
theorem rn_run {ni : Nat} {x y : rn_T} : rn_ro ni (rn_pt 0 (x.2.1 ||| y.2.1) 0 (x.2.2.2.1 ||| y.2.2.2.1) 0) = rc_mx (false, true) (rn_ro ni x) (rn_ro ni y) := by
  funext k
  unfold rc_mx
  rcases Nat.lt_or_ge k 6 with h6 | h6
  · rw [rn_ro1 h6, rn_ro1 h6, rn_ro1 h6]
    show (bt 0 k, bt (x.2.2.2.1 ||| y.2.2.2.1) k) = (false && bt x.2.2.1 k || false && bt y.2.2.1 k, true && bt x.2.2.2.1 k || true && bt y.2.2.2.1 k)
    rw [b_0, b_or]; rfl
  · rcases Nat.lt_or_ge k 12 with h12 | h12
    · rw [rn_ro2 h6 h12, rn_ro2 h6 h12, rn_ro2 h6 h12]
      show (bt 0 (ni + (k - 6)), bt (x.2.1 ||| y.2.1) (ni + (k - 6))) = (false && bt x.1 (ni + (k - 6)) || false && bt y.1 (ni + (k - 6)), true && bt x.2.1 (ni + (k - 6)) || true && bt y.2.1 (ni + (k - 6)))
      rw [b_0, b_or]; rfl
    · rw [rn_ro3 h12, rn_ro3 h12, rn_ro3 h12]; rfl
/-- the start row of a node is the row of its start run -/
theorem rn_rst {ni no D D' : Nat} {S S' : Nat → Prop} {κ n a : Nat} {v : Int32} {p q : rn_T} (hno : no ≤ 6) (hni : ni ≤ 4) (hk : κ ≤ 11)
    (hp : 5 ≤ κ → rn_G ni no D S p) (hq : 9 ≤ κ → rn_G ni no D' S' q) (ha : κ = 2 → ni ≤ a ∧ a < ni + no) (hx : κ = 3 → a ≤ 3) :
    rn_ro ni (rn_st κ n a v p q) = rc_st κ a ni (rn_en v) (rn_ro ni p) (rn_ro ni q) := by
  unfold rn_st rc_st
  by_cases h0 : κ = 0
  · rw [if_pos h0, if_pos h0]; exact rn_rid
  rw [if_neg h0, if_neg h0]
  by_cases h2 : κ = 2
  · have := ha h2
    rw [if_pos h2, if_neg (by omega), if_pos h2]; exact rn_rem this.1 (by omega) (by omega)
  rw [if_neg h2]
  by_cases h1 : κ = 1 ∨ κ = 4
  · rw [if_pos h1, if_pos h1]; exact rn_rsty
  rw [if_neg h1, if_neg h1, if_neg h2]
  by_cases h3 : κ = 3
  · have := hx h3
    rw [if_pos h3, if_pos h3, rc_4shl a (by omega), rn_r1 (a + 2) (by omega) (fun i => rc_1shl (by omega) i)]
    funext k
    show (if k = a + 2 then kv_1 else kv_0) = if k = 2 + a then kv_1 else kv_0
    rw [Nat.add_comm a 2]
  rw [if_neg h3, if_neg h3]
  have gp := hp (by omega)
  by_cases h9 : κ = 9
  · have gq := hq (by omega)
    rw [if_pos h9, if_pos h9]
    unfold rn_en
    by_cases v1 : v = 1
    · rw [if_pos v1, if_pos v1, rc_mx_1, rn_cpe gp]
    · rw [if_neg v1, if_neg v1]
      by_cases v0 : v = 0
      · rw [if_pos v0, if_pos v0, rc_mx_0, rn_cpe gq]
      · rw [if_neg v0, if_neg v0]; exact rn_run
  rw [if_neg h9, if_neg h9]
  by_cases h10 : κ = 10
  · rw [if_pos h10, if_pos h10]; exact rn_rth gp
  rw [if_neg h10, if_neg h10]
  by_cases h11 : κ = 11
  · rw [if_pos h11, if_pos h11]; exact rn_rpa
  rw [if_neg h11, if_neg h11]
  by_cases h6 : κ = 6
  · rw [if_pos h6, if_pos h6]; exact rn_rtr
  · rw [if_neg h6, if_neg h6, rn_cpe gp]
/-- the resume row of an active node is the row of its resume run -/
theorem rn_rrs {ni no D D' : Nat} {S S' : Nat → Prop} {κ n : Nat} {v : Int32} {ap aq : Bool} {sp sq rp rq : rn_T} {kp : Int32} {RP RQ : Nat → kv_T} (hk : κ ≤ 11)
    (h5 : 5 ≤ κ → κ < 9 → ap = true) (h9 : 9 ≤ κ → ap = true ∨ aq = true) (hl : κ < 5 → κ = 1 ∨ κ = 4)
    (gp : 5 ≤ κ → ap = true → rn_G ni no D S rp ∧ RP = rn_ro ni rp) (gq : 9 ≤ κ → aq = true → rn_G ni no D' S' rq ∧ RQ = rn_ro ni rq) :
    rn_ro ni (rn_rs κ n v ap aq sp sq rp rq kp) = rc_rs κ (rn_en v) (ap, ap) (aq, aq) (rn_ro ni sp) (rn_ro ni sq) RP RQ := by
  have hh : κ = 1 ∨ κ = 4 ∨ κ = 5 ∨ κ = 6 ∨ κ = 7 ∨ κ = 8 ∨ κ = 9 ∨ κ = 10 ∨ κ = 11 := by
    rcases Nat.lt_or_ge κ 5 with l | l
    · rcases hl l with h | h
      · exact Or.inl h
      · exact Or.inr (Or.inl h)
    · omega
  have t1 : ((true, true) : kv_T) = kv_1 := rfl
  have t0 : ((false, false) : kv_T) = kv_0 := rfl
  rcases hh with k | k | k | k | k | k | k | k | k
  · subst k; exact rn_rid
  · subst k
    show rn_ro ni (if v = 1 then rn_pt 0 0 1 1 0 else if v = 0 then rn_pt 0 0 2 2 ((1 : Int32) <<< (nI n &&& 31)) else rn_pt 0 0 0 3 0) = rc_mx (if v = 1 then kv_1 else if v = 0 then kv_0 else (false, true)) rc_end rc_sty
    by_cases v1 : v = 1
    · rw [if_pos v1, if_pos v1, rc_mx_1]; exact rn_rid
    · rw [if_neg v1, if_neg v1]
      by_cases v0 : v = 0
      · rw [if_pos v0, if_pos v0, rc_mx_0]; exact rn_rsty
      · rw [if_neg v0, if_neg v0]
        have := rn_run (ni := ni) (x := rn_pt 0 0 1 1 0) (y := rn_pt 0 0 2 2 0)
        rw [rn_rid, rn_rsty] at this
        rw [← this]; rfl
  · have ap1 := h5 (by omega) (by omega)
    obtain ⟨g, e⟩ := gp (by omega) ap1
    subst k
    show rn_ro ni (rn_th (if ap = true then rp else rn_id) sp) = rc_th RP (rn_ro ni sp)
    rw [if_pos ap1, rn_rth g, e]
  · have ap1 := h5 (by omega) (by omega)
    obtain ⟨g, e⟩ := gp (by omega) ap1
    subst k
    show rn_ro ni (rn_tr (if ap = true then rp else rn_id)) = rc_tr RP
    rw [if_pos ap1, rn_rtr, e]
  · have ap1 := h5 (by omega) (by omega)
    obtain ⟨g, e⟩ := gp (by omega) ap1
    subst k
    show rn_ro ni (if v = 0 then rn_cp (if ap = true then rp else rn_id) else (if v = 1 then rn_pt 0 0 1 1 0 else rn_pt 0 (if ap = true then rp else rn_id).2.1 0 ((if ap = true then rp else rn_id).2.2.2.1 ||| 1) 0)) = rc_mx (if v = 1 then kv_1 else if v = 0 then kv_0 else (false, true)) rc_end RP
    rw [if_pos ap1]
    by_cases v0 : v = 0
    · rw [if_pos v0, if_neg (by rw [v0]; decide), if_pos v0, rc_mx_0, rn_cpe g, e]
    · rw [if_neg v0]
      by_cases v1 : v = 1
      · rw [if_pos v1, if_pos v1, rc_mx_1]; exact rn_rid
      · rw [if_neg v1, if_neg v1, if_neg v0, e]
        have := rn_run (ni := ni) (x := rn_pt 0 0 1 1 0) (y := rp)
        rw [rn_rid] at this
        rw [← this]
        show rn_ro ni (rn_pt 0 rp.2.1 0 (rp.2.2.2.1 ||| 1) 0) = rn_ro ni (rn_pt 0 (0 ||| rp.2.1) 0 (1 ||| rp.2.2.2.1) 0)
        rw [Int32.zero_or, Int32.or_comm rp.2.2.2.1 1]
  · have ap1 := h5 (by omega) (by omega)
    obtain ⟨g, e⟩ := gp (by omega) ap1
    subst k
    show rn_ro ni (if v = 0 then rn_cp (if ap = true then rp else rn_id) else (if v = 1 then rn_pt 0 0 2 2 kp else rn_pt 0 (if ap = true then rp else rn_id).2.1 0 ((if ap = true then rp else rn_id).2.2.2.1 ||| 2) 0)) = rc_mx (if v = 1 then kv_1 else if v = 0 then kv_0 else (false, true)) rc_sty RP
    rw [if_pos ap1]
    by_cases v0 : v = 0
    · rw [if_pos v0, if_neg (by rw [v0]; decide), if_pos v0, rc_mx_0, rn_cpe g, e]
    · rw [if_neg v0]
      by_cases v1 : v = 1
      · rw [if_pos v1, if_pos v1, rc_mx_1]; exact rn_rsty
      · rw [if_neg v1, if_neg v1, if_neg v0, e]
        have := rn_run (ni := ni) (x := rn_pt 0 0 2 2 0) (y := rp)
        rw [rn_rsty] at this
        rw [← this]
        show rn_ro ni (rn_pt 0 rp.2.1 0 (rp.2.2.2.1 ||| 2) 0) = rn_ro ni (rn_pt 0 (0 ||| rp.2.1) 0 (2 ||| rp.2.2.2.1) 0)
        rw [Int32.zero_or, Int32.or_comm rp.2.2.2.1 2]
  · have h9' := h9 (by omega)
    have gp' := gp (by omega)
    have gq' := gq (by omega)
    subst k
    show rn_ro ni (if ap = true then rn_cp rp else if aq = true then rn_cp rq else rn_cp rn_id) = rc_mx (ap, ap) RP RQ
    cases ap with
    | true =>
      obtain ⟨g, e⟩ := gp' rfl
      rw [if_pos rfl, t1, rc_mx_1, rn_cpe g, e]
    | false =>
      have aq1 : aq = true := h9'.resolve_left (by decide)
      obtain ⟨g, e⟩ := gq' aq1
      rw [if_neg Bool.false_ne_true, if_pos aq1, t0, rc_mx_0, rn_cpe g, e]
  · have h9' := h9 (by omega)
    have gp' := gp (by omega)
    have gq' := gq (by omega)
    subst k
    show rn_ro ni (if ap = true then rn_th rp sq else if aq = true then rn_cp rq else rn_cp rn_id) = rc_mx (ap, ap) (rc_th RP (rn_ro ni sq)) RQ
    cases ap with
    | true =>
      obtain ⟨g, e⟩ := gp' rfl
      rw [if_pos rfl, t1, rc_mx_1, rn_rth g, e]
    | false =>
      have aq1 : aq = true := h9'.resolve_left (by decide)
      obtain ⟨g, e⟩ := gq' aq1
      rw [if_neg Bool.false_ne_true, if_pos aq1, t0, rc_mx_0, rn_cpe g, e]
  · have gp' := gp (by omega)
    have gq' := gq (by omega)
    subst k
    show rn_ro ni (rn_pa (if ap = true then rp else rn_id) (if aq = true then rq else rn_id)) = rc_pr (rc_mx (ap, ap) RP rc_end) (rc_mx (aq, aq) RQ rc_end)
    have e1 : rn_ro ni (if ap = true then rp else rn_id) = rc_mx (ap, ap) RP rc_end := by
      cases ap with
      | true => rw [if_pos rfl, t1, rc_mx_1, (gp' rfl).2]
      | false => rw [if_neg Bool.false_ne_true, t0, rc_mx_0]; exact rn_rid
    have e2 : rn_ro ni (if aq = true then rq else rn_id) = rc_mx (aq, aq) RQ rc_end := by
      cases aq with
      | true => rw [if_pos rfl, t1, rc_mx_1, (gq' rfl).2]
      | false => rw [if_neg Bool.false_ne_true, t0, rc_mx_0]; exact rn_rid
    rw [rn_rpa, e1, e2]
end
section
/-! ===== the reference's local equations; what holds of its runs; the circuit's rows are those runs ===== -/
theorem rn_Gst {ni no D κ n a : Nat} {S : Nat → Prop} {v : Int32} {p q : rn_T} (hk : κ ≤ 11) (h2 : κ = 2 → ni ≤ a ∧ a < ni + no ∧ a < 32) (h3 : κ = 3 → a ≤ 3 ∧ a + 1 ≤ D) (hn : n < 32)
    (hS : κ = 1 ∨ κ = 4 → S n) (hp : 5 ≤ κ → κ ≠ 6 → rn_G ni no D S p) (h6 : κ = 6 → rn_G ni no (D + 1) S p) (hq : 9 ≤ κ → rn_G ni no D S q) : rn_G ni no D S (rn_st κ n a v p q) := by
  unfold rn_st
  by_cases k0 : κ = 0
  · rw [if_pos k0]; exact rn_Gid
  rw [if_neg k0]
  by_cases k2 : κ = 2
  · rw [if_pos k2]
    refine rn_Gone 0 rc_b1 (by omega) ?_ (fun h => absurd h (by omega))
    intro i h
    have := h2 k2
    rw [rc_1shl this.2.2] at h
    rw [of_decide_eq_true h]
    exact ⟨this.1, this.2.1⟩
  rw [if_neg k2]
  by_cases k1 : κ = 1 ∨ κ = 4
  · rw [if_pos k1]
    refine rn_Gone 1 rc_b2 (by omega) (fun i h => (rn_f1 h).elim) (fun _ => ⟨rc_ne0.mpr ⟨n, hn, ?_⟩, ?_⟩)
    · rw [rc_1shl hn, decide_eq_true rfl]
    · intro m h
      rw [rc_1shl hn] at h
      rw [of_decide_eq_true h]
      exact hS k1
  rw [if_neg k1]
  by_cases k3 : κ = 3
  · have := h3 k3
    rw [if_pos k3, rc_4shl a (by omega)]
    exact rn_Gone (a + 2) (fun i => rc_1shl (by omega) i) (by omega) (fun i h => (rn_f1 h).elim) (fun h => absurd h (by omega))
  rw [if_neg k3]
  by_cases k9 : κ = 9
  · have gp := hp (by omega) (by omega)
    have gq := hq (by omega)
    rw [if_pos k9]
    by_cases v1 : v = 1
    · rw [if_pos v1, rn_cpe gp]; exact gp
    · rw [if_neg v1]
      by_cases v0 : v = 0
      · rw [if_pos v0, rn_cpe gq]; exact gq
      · rw [if_neg v0]; exact rn_Gun gp gq
  rw [if_neg k9]
  by_cases k10 : κ = 10
  · rw [if_pos k10]; exact rn_Gth (hp (by omega) (by omega)) (hq (by omega))
  rw [if_neg k10]
  by_cases k11 : κ = 11
  · rw [if_pos k11]; exact rn_Gpa (hp (by omega) (by omega)) (hq (by omega))
  rw [if_neg k11]
  by_cases k6 : κ = 6
  · rw [if_pos k6]; exact rn_Gtr (h6 k6)
  · have gp := hp (by omega) k6
    rw [if_neg k6, rn_cpe gp]; exact gp
theorem rn_Gif {ni no D : Nat} {S : Nat → Prop} {a : Bool} {x : rn_T} (h : a = true → rn_G ni no D S x) : rn_G ni no D S (if a = true then x else rn_id) := by
  by_cases e : a = true
  · rw [if_pos e]; exact h e
  · rw [if_neg e]; exact rn_Gid
theorem rn_Grs {ni no D κ n : Nat} {S : Nat → Prop} {v : Int32} {ap aq : Bool} {sp sq rp rq : rn_T} {kp : Int32} (hk : κ ≤ 11) (hl : κ < 5 → κ = 1 ∨ κ = 4) (hn : n < 32) (hS : κ = 1 ∨ κ = 4 → S n)
    (hp : 5 ≤ κ → κ ≠ 6 → ap = true → rn_G ni no D S rp) (h6 : κ = 6 → ap = true → rn_G ni no (D + 1) S rp) (hq : 9 ≤ κ → aq = true → rn_G ni no D S rq)
    (gp : κ = 5 → rn_G ni no D S sp) (gq : κ = 10 → rn_G ni no D S sq) (gk : κ = 8 → kp ≠ 0 ∧ ∀ m, bt kp m = true → S m) : rn_G ni no D S (rn_rs κ n v ap aq sp sq rp rq kp) := by
  unfold rn_rs
  by_cases k1 : κ = 1
  · rw [if_pos k1]; exact rn_Gid
  rw [if_neg k1]
  by_cases k4 : κ = 4
  · rw [if_pos k4]
    by_cases v1 : v = 1
    · rw [if_pos v1]; exact rn_Gid
    · rw [if_neg v1]
      by_cases v0 : v = 0
      · rw [if_pos v0]
        refine rn_Gone 1 rc_b2 (by omega) (fun i h => (rn_f1 h).elim) (fun _ => ⟨rc_ne0.mpr ⟨n, hn, ?_⟩, ?_⟩)
        · rw [rc_1shl hn, decide_eq_true rfl]
        · intro m h
          rw [rc_1shl hn] at h
          rw [of_decide_eq_true h]
          exact hS (Or.inr k4)
      · rw [if_neg v0]
        refine rn_Gpt (fun i h => (rn_f1 h).elim) (fun i h => (rn_f1 h).elim) (fun i j h => (rn_f1 h).elim) ?_ (fun i h => (rn_f1 h).elim) (fun h => (rn_f1 h).elim)
        intro i h
        rw [rc_b3] at h
        have := of_decide_eq_true h
        omega
  rw [if_neg k4]
  by_cases k9 : κ = 9
  · rw [if_pos k9]
    by_cases a1 : ap = true
    · have g := hp (by omega) (by omega) a1
      rw [if_pos a1, rn_cpe g]; exact g
    · rw [if_neg a1]
      by_cases a2 : aq = true
      · have g := hq (by omega) a2
        rw [if_pos a2, rn_cpe g]; exact g
      · rw [if_neg a2]; exact rn_Gid
  rw [if_neg k9]
  by_cases k10 : κ = 10
  · rw [if_pos k10]
    by_cases a1 : ap = true
    · rw [if_pos a1]; exact rn_Gth (hp (by omega) (by omega) a1) (gq k10)
    · rw [if_neg a1]
      by_cases a2 : aq = true
      · have g := hq (by omega) a2
        rw [if_pos a2, rn_cpe g]; exact g
      · rw [if_neg a2]; exact rn_Gid
  rw [if_neg k10]
  by_cases k11 : κ = 11
  · rw [if_pos k11]; exact rn_Gpa (rn_Gif (hp (by omega) (by omega))) (rn_Gif (hq (by omega)))
  rw [if_neg k11]
  by_cases k5 : κ = 5
  · rw [if_pos k5]; exact rn_Gth (rn_Gif (hp (by omega) (by omega))) (gp k5)
  rw [if_neg k5]
  by_cases k6 : κ = 6
  · rw [if_pos k6]; exact rn_Gtr (rn_Gif (h6 k6))
  rw [if_neg k6]
  have g := rn_Gif (hp (by omega) k6)
  by_cases v0 : v = 0
  · rw [if_pos v0, rn_cpe g]; exact g
  rw [if_neg v0]
  by_cases k7 : κ = 7
  · rw [if_pos k7]
    by_cases v1 : v = 1
    · rw [if_pos v1]; exact rn_Gid
    · rw [if_neg v1]
      refine rn_Gpt (fun i h => (rn_f1 h).elim) (fun i h => (rn_f1 h).elim) (fun i j h => (rn_f1 h).elim) ?_ g.2.2.2.2.1 (fun h => (rn_f1 h).elim)
      intro i h
      rw [b_or, Bool.or_eq_true] at h
      rcases h with h | h
      · exact g.2.2.2.1 i h
      · rw [rc_b1] at h
        have := of_decide_eq_true h
        omega
  rw [if_neg k7]
  by_cases v1 : v = 1
  · have := gk (by omega)
    rw [if_pos v1]
    exact rn_Gone 1 rc_b2 (by omega) (fun i h => (rn_f1 h).elim) (fun _ => this)
  · rw [if_neg v1]
    refine rn_Gpt (fun i h => (rn_f1 h).elim) (fun i h => (rn_f1 h).elim) (fun i j h => (rn_f1 h).elim) ?_ g.2.2.2.2.1 (fun h => (rn_f1 h).elim)
    intro i h
    rw [b_or, Bool.or_eq_true] at h
    rcases h with h | h
    · exact g.2.2.2.1 i h
    · rw [rc_b2] at h
      have := of_decide_eq_true h
      omega
/-! known signals: some code is certain -/
theorem rn_Kth {x y : rn_T} (hx : rn_K x) (hy : rn_K y) : rn_K (rn_th x y) := by
  show ∃ i, bt (if bt x.2.2.1 0 = true then y.2.2.1 else x.2.2.1) i = true
  by_cases e : bt x.2.2.1 0 = true
  · rw [if_pos e]; exact hy
  · rw [if_neg e]; exact hx
theorem rn_Kpa {ni no D : Nat} {S : Nat → Prop} {x y : rn_T} (gx : rn_G ni no D S x) (gy : rn_G ni no D S y) (hx : rn_K x) (hy : rn_K y) : rn_K (rn_pa x y) := by
  obtain ⟨i, hi⟩ := hx
  obtain ⟨j, hj⟩ := hy
  have i6 := (gx.2.2.2.1 i (gx.1 i hi)).1
  have j6 := (gy.2.2.2.1 j (gy.1 j hj)).1
  rcases Nat.le_total i j with h | h
  · exact ⟨j, (rn_mxb _ _ j).mpr ⟨j6, Or.inl ⟨⟨i, h, hi⟩, hj⟩⟩⟩
  · exact ⟨i, (rn_mxb _ _ i).mpr ⟨i6, Or.inr ⟨hi, ⟨j, h, hj⟩⟩⟩⟩
theorem rn_Ktr {ni no D : Nat} {S : Nat → Prop} {x : rn_T} (gx : rn_G ni no D S x) (hx : rn_K x) : rn_K (rn_tr x) := by
  obtain ⟨i, hi⟩ := hx
  have i6 := (gx.2.2.2.1 i (gx.1 i hi)).1
  have key : ∀ j, bt (rn_dn x.2.2.1) j = true → rn_K (rn_tr x) := fun j h => ⟨j, h⟩
  by_cases e0 : i = 0
  · subst e0; apply key 0; rw [rn_dnb, if_pos rfl, hi, Bool.true_or]
  by_cases e1 : i = 1
  · subst e1; apply key 1; rw [rn_dnb, if_neg (by omega), if_pos rfl, hi]
  by_cases e2 : i = 2
  · subst e2; apply key 0; rw [rn_dnb, if_pos rfl, hi, Bool.or_true]
  · apply key (i - 1)
    rw [rn_dnb, if_neg (by omega), if_neg (by omega), if_pos (by omega), show i - 1 + 1 = i by omega, hi]
theorem rn_K1 {a b c d l : Int32} (i : Nat) (h : bt c i = true) : rn_K (rn_pt a b c d l) := ⟨i, h⟩
theorem rn_Kcp {x : rn_T} (h : rn_K x) : rn_K (rn_cp x) := h
theorem rn_Kif {a : Bool} {x : rn_T} (h : a = true → rn_K x) : rn_K (if a = true then x else rn_id) := by
  by_cases e : a = true
  · rw [if_pos e]; exact h e
  · rw [if_neg e]; exact ⟨0, rfl⟩
theorem rn_Kst {ni no D D' κ n a : Nat} {S S' : Nat → Prop} {v : Int32} {p q : rn_T} (hk : κ ≤ 11) (h3 : κ = 3 → a ≤ 3) (hv : κ = 9 → v = 0 ∨ v = 1)
    (hp : 5 ≤ κ → rn_G ni no D S p ∧ rn_K p) (hq : 9 ≤ κ → rn_G ni no D' S' q ∧ rn_K q) (hd : 9 ≤ κ → D = D' ∧ S = S') : rn_K (rn_st κ n a v p q) := by
  unfold rn_st
  by_cases k0 : κ = 0
  · rw [if_pos k0]; exact rn_K1 0 rfl
  rw [if_neg k0]
  by_cases k2 : κ = 2
  · rw [if_pos k2]; exact rn_K1 0 rfl
  rw [if_neg k2]
  by_cases k1 : κ = 1 ∨ κ = 4
  · rw [if_pos k1]; exact rn_K1 1 rfl
  rw [if_neg k1]
  by_cases k3 : κ = 3
  · have := h3 k3
    rw [if_pos k3, rc_4shl a (by omega)]
    exact rn_K1 (a + 2) (by rw [rc_1shl (by omega), decide_eq_true rfl])
  rw [if_neg k3]
  have gp := hp (by omega)
  by_cases k9 : κ = 9
  · rw [if_pos k9]
    rcases hv k9 with e | e
    · rw [if_neg (by rw [e]; decide), if_pos e]; exact (hq (by omega)).2
    · rw [if_pos e]; exact gp.2
  rw [if_neg k9]
  by_cases k10 : κ = 10
  · rw [if_pos k10]; exact rn_Kth gp.2 (hq (by omega)).2
  rw [if_neg k10]
  by_cases k11 : κ = 11
  · obtain ⟨e1, e2⟩ := hd (by omega)
    subst e1 e2
    rw [if_pos k11]; exact rn_Kpa gp.1 (hq (by omega)).1 gp.2 (hq (by omega)).2
  rw [if_neg k11]
  by_cases k6 : κ = 6
  · rw [if_pos k6]; exact rn_Ktr gp.1 gp.2
  · rw [if_neg k6]; exact gp.2
theorem rn_Krs {ni no D κ n : Nat} {S : Nat → Prop} {v : Int32} {ap aq : Bool} {sp sq rp rq : rn_T} {kp : Int32} (hk : κ ≤ 11) (hl : κ < 5 → κ = 1 ∨ κ = 4)
    (hv : κ = 4 ∨ κ = 7 ∨ κ = 8 → v = 0 ∨ v = 1) (hp : 5 ≤ κ → ap = true → rn_G ni no D S rp ∧ rn_K rp) (hq : 9 ≤ κ → aq = true → rn_G ni no D S rq ∧ rn_K rq)
    (gp : κ = 5 → rn_K sp) (gq : κ = 10 → rn_K sq) : rn_K (rn_rs κ n v ap aq sp sq rp rq kp) := by
  unfold rn_rs
  by_cases k1 : κ = 1
  · rw [if_pos k1]; exact rn_K1 0 rfl
  rw [if_neg k1]
  by_cases k4 : κ = 4
  · rw [if_pos k4]
    rcases hv (Or.inl k4) with e | e
    · rw [if_neg (by rw [e]; decide), if_pos e]; exact rn_K1 1 rfl
    · rw [if_pos e]; exact rn_K1 0 rfl
  rw [if_neg k4]
  by_cases k9 : κ = 9
  · rw [if_pos k9]
    by_cases a1 : ap = true
    · rw [if_pos a1]; exact (hp (by omega) a1).2
    · rw [if_neg a1]
      by_cases a2 : aq = true
      · rw [if_pos a2]; exact (hq (by omega) a2).2
      · rw [if_neg a2]; exact ⟨0, rfl⟩
  rw [if_neg k9]
  by_cases k10 : κ = 10
  · rw [if_pos k10]
    by_cases a1 : ap = true
    · rw [if_pos a1]; exact rn_Kth (hp (by omega) a1).2 (gq k10)
    · rw [if_neg a1]
      by_cases a2 : aq = true
      · rw [if_pos a2]; exact (hq (by omega) a2).2
      · rw [if_neg a2]; exact ⟨0, rfl⟩
  rw [if_neg k10]
  have kif : rn_K (if ap = true then rp else rn_id) := rn_Kif (fun h => (hp (by omega) h).2)
  by_cases k11 : κ = 11
  · rw [if_pos k11]; exact rn_Kpa (rn_Gif (fun h => (hp (by omega) h).1)) (rn_Gif (fun h => (hq (by omega) h).1)) kif (rn_Kif (fun h => (hq (by omega) h).2))
  rw [if_neg k11]
  by_cases k5 : κ = 5
  · rw [if_pos k5]; exact rn_Kth kif (gp k5)
  rw [if_neg k5]
  by_cases k6 : κ = 6
  · rw [if_pos k6]; exact rn_Ktr (rn_Gif (fun h => (hp (by omega) h).1)) kif
  rw [if_neg k6]
  rcases hv (by omega) with e | e
  · rw [if_pos e]; exact kif
  · rw [if_neg (by rw [e]; decide)]
    by_cases k7 : κ = 7
    · rw [if_pos k7, if_pos e]; exact rn_K1 0 rfl
    · rw [if_neg k7, if_pos e]; exact rn_K1 1 rfl
theorem rc_st_c {κ a ni : Nat} {sg sg' : kv_T} {p q : Nat → kv_T} (h : κ = 9 → sg = sg') : rc_st κ a ni sg p q = rc_st κ a ni sg' p q := by
  by_cases k : κ = 9
  · rw [h k]
  · unfold rc_st; rw [if_neg k, if_neg k]
theorem rc_rs_c {κ : Nat} {sg sg' sp sp' sq sq' : kv_T} {p q rp rq : Nat → kv_T} (hk : κ ≤ 11) (h : κ = 4 ∨ κ = 7 ∨ κ = 8 → sg = sg') (h9 : 9 ≤ κ → sp = sp' ∧ sq = sq') : rc_rs κ sg sp sq p q rp rq = rc_rs κ sg' sp' sq' p q rp rq := by
  by_cases k9 : 9 ≤ κ
  · obtain ⟨e1, e2⟩ := h9 k9
    subst e1 e2
    unfold rc_rs
    rw [if_neg (by omega : ¬ κ = 4), if_neg (by omega : ¬ κ = 4), if_neg (by omega : ¬ κ = 7), if_neg (by omega : ¬ κ = 7), if_neg (by omega : ¬ κ = 8), if_neg (by omega : ¬ κ = 8)]
  · by_cases k : κ = 4 ∨ κ = 7 ∨ κ = 8
    · have := h k
      subst this
      unfold rc_rs
      rcases k with k | k | k <;> subst k <;> rfl
    · unfold rc_rs
      have hh : κ = 0 ∨ κ = 1 ∨ κ = 2 ∨ κ = 3 ∨ κ = 5 ∨ κ = 6 := by omega
      rcases hh with k | k | k | k | k | k <;> subst k <;> rfl
end
section
/-! ===== all runs under the signals e ===== -/
def lc_R (N : Nat) (κ A P Q U : Nat → Nat) (L : Int32) (e : Nat → Int32) (R : Nat → rn_T) : Prop :=
  R 64 = rn_id ∧ ∀ n, n < N → R n = rn_st (κ n) n (A n) (e (A n)) (R (P n)) (R (Q n)) ∧
    (ac_b N U L n = true → R (32 + n) = rn_rs (κ n) n (e (A n)) (ac_b N U L (P n)) (ac_b N U L (Q n)) (R (P n)) (R (Q n)) (R (32 + P n)) (R (32 + Q n)) (ac_k N U L n))
/-- trap depths in the tree of r -/
def td_F (N : Nat) (κ A U : Nat → Nat) (r : Nat) (td : Nat → Nat) : Prop :=
  td r = 0 ∧ (∀ p, p < N → tr_B N U p r → p ≠ r → td p = td (U p) + (if κ (U p) = 6 then 1 else 0)) ∧
  (∀ n, n < N → tr_B N U n r → κ n = 3 → A n + 1 ≤ td n)
def sv_S (N : Nat) (κ U : Nat → Nat) (n m : Nat) : Prop := m < N ∧ tr_B N U m n ∧ (κ m = 1 ∨ κ m = 4)
section
variable {ni no N : Nat} {κ A P Q U : Nat → Nat} {r : Nat} {L : Int32} {e : Nat → Int32} {R : Nat → rn_T} {td : Nat → Nat}
theorem td_p (T : tr_F ni no N κ A P Q U) (D : td_F N κ A U r td) {n : Nat} (hn : n < N) (hb : tr_B N U n r) (k : 5 ≤ κ n) : td (P n) = td n + (if κ n = 6 then 1 else 0) := by
  have hp := tr_p T hn k
  have := D.2.1 (P n) (by omega) (tr_tr hb (tr_bp T hn k)) (by have := tr_ge T hn hb; omega)
  rw [hp.2] at this
  exact this
theorem td_q (T : tr_F ni no N κ A P Q U) (D : td_F N κ A U r td) {n : Nat} (hn : n < N) (hb : tr_B N U n r) (k : 9 ≤ κ n) : td (Q n) = td n := by
  have hp := tr_q T hn k
  have := D.2.1 (Q n) (by omega) (tr_tr hb (tr_bq T hn k)) (by have := tr_ge T hn hb; omega)
  rw [hp.2.1, if_neg (by omega)] at this
  exact this
theorem sv_Sp (T : tr_F ni no N κ A P Q U) {n : Nat} (hn : n < N) (k : 5 ≤ κ n) (m : Nat) (h : sv_S N κ U (P n) m) : sv_S N κ U n m := ⟨h.1, tr_tr (tr_bp T hn k) h.2.1, h.2.2⟩
theorem sv_Sq (T : tr_F ni no N κ A P Q U) {n : Nat} (hn : n < N) (k : 9 ≤ κ n) (m : Nat) (h : sv_S N κ U (Q n) m) : sv_S N κ U n m := ⟨h.1, tr_tr (tr_bq T hn k) h.2.1, h.2.2⟩
theorem lc_lf (T : tr_F ni no N κ A P Q U) (hL : ac_L N κ L) {n : Nat} (hn : n < N) (ha : ac_B N U L n) (k : κ n < 5) : κ n = 1 ∨ κ n = 4 := (hL n ((ac_lf T hn k).mp ha)).2
theorem lc_ap (T : tr_F ni no N κ A P Q U) (hL : ac_L N κ L) {n : Nat} (hn : n < N) (ha : ac_B N U L n) (k : 5 ≤ κ n) (k9 : κ n < 9) : ac_b N U L (P n) = true := pb_t ((ac_1 T hL hn k k9).mp ha)
theorem lc_apq (T : tr_F ni no N κ A P Q U) (hL : ac_L N κ L) {n : Nat} (hn : n < N) (ha : ac_B N U L n) (k : 9 ≤ κ n) : ac_b N U L (P n) = true ∨ ac_b N U L (Q n) = true :=
  ((ac_2 T hL hn k).mp ha).imp pb_t pb_t
theorem lc_G (T : tr_F ni no N κ A P Q U) (hio : ni + no < 32) (hL : ac_L N κ L) (D : td_F N κ A U r td) (hR : lc_R N κ A P Q U L e R) :
    ∀ n, n < N → tr_B N U n r → rn_G ni no (td n) (sv_S N κ U n) (R n) ∧ (ac_B N U L n → rn_G ni no (td n) (sv_S N κ U n) (R (32 + n))) := by
  intro n
  induction n using Nat.strongRecOn with
  | ind n ih =>
    intro hn hb
    have gP : 5 ≤ κ n → rn_G ni no (td (P n)) (sv_S N κ U n) (R (P n)) ∧ (ac_b N U L (P n) = true → rn_G ni no (td (P n)) (sv_S N κ U n) (R (32 + P n))) := by
      intro k
      have hp := tr_p T hn k
      have := ih (P n) hp.1 (by omega) (tr_tr hb (tr_bp T hn k))
      exact ⟨rn_Gm this.1 (sv_Sp T hn k), fun h => rn_Gm (this.2 (pb_i.mp h)) (sv_Sp T hn k)⟩
    have gQ : 9 ≤ κ n → rn_G ni no (td n) (sv_S N κ U n) (R (Q n)) ∧ (ac_b N U L (Q n) = true → rn_G ni no (td n) (sv_S N κ U n) (R (32 + Q n))) := by
      intro k
      have hp := tr_q T hn k
      have := ih (Q n) hp.1 (by omega) (tr_tr hb (tr_bq T hn k))
      rw [td_q T D hn hb k] at this
      exact ⟨rn_Gm this.1 (sv_Sq T hn k), fun h => rn_Gm (this.2 (pb_i.mp h)) (sv_Sq T hn k)⟩
    have d6 : κ n = 6 → td (P n) = td n + 1 := by
      intro k
      have := td_p T D hn hb (by omega)
      rw [if_pos k] at this
      exact this
    have dn : 5 ≤ κ n → κ n ≠ 6 → td (P n) = td n := by
      intro k k6
      have := td_p T D hn hb k
      rw [if_neg k6] at this
      exact this
    have hN := T.1
    have hk := tr_k T hn
    have h9 := (T.2 n hn).2.2.2.2
    obtain ⟨e1, e2⟩ := hR.2 n hn
    constructor
    · rw [e1]
      refine rn_Gst hk ?_ ?_ (by omega) ?_ ?_ ?_ ?_
      · intro k; have := h9.1 k; have := h9.2.1 (Or.inl k); omega
      · intro k; have := h9.2.2 k; have := D.2.2 n hn hb k; omega
      · intro k; exact ⟨hn, tr_rf n, k⟩
      · intro k k6; have := (gP k).1; rw [dn k k6] at this; exact this
      · intro k; have := (gP (by omega)).1; rw [d6 k] at this; exact this
      · intro k; exact (gQ k).1
    · intro ha
      rw [e2 (pb_t ha)]
      refine rn_Grs hk (lc_lf T hL hn ha) (by omega) ?_ ?_ ?_ ?_ ?_ ?_ ?_
      · intro k; exact ⟨hn, tr_rf n, k⟩
      · intro k k6 a; have := (gP k).2 a; rw [dn k k6] at this; exact this
      · intro k a; have := (gP (by omega)).2 a; rw [d6 k] at this; exact this
      · intro k a; exact (gQ k).2 a
      · intro k; have := (gP (by omega)).1; rw [dn (by omega) (by omega)] at this; exact this
      · intro k; exact (gQ (by omega)).1
      · intro k
        refine ⟨(ac_kne T L n).mpr ha, ?_⟩
        intro m h
        have := (ac_kb T L n m).mp h
        exact ⟨this.1, this.2.2, (hL m this.2.1).2⟩
/-- all signals known: each run has a certain code -/
theorem lc_K (T : tr_F ni no N κ A P Q U) (hio : ni + no < 32) (hL : ac_L N κ L) (D : td_F N κ A U r td) (hR : lc_R N κ A P Q U L e R) (hv : ∀ s, s < ni + no → e s = 0 ∨ e s = 1) :
    ∀ n, n < N → tr_B N U n r → rn_K (R n) ∧ (ac_B N U L n → rn_K (R (32 + n))) := by
  intro n
  induction n using Nat.strongRecOn with
  | ind n ih =>
    intro hn hb
    have gP : 5 ≤ κ n → (rn_G ni no (td (P n)) (sv_S N κ U n) (R (P n)) ∧ rn_K (R (P n))) ∧ (ac_b N U L (P n) = true → rn_G ni no (td (P n)) (sv_S N κ U n) (R (32 + P n)) ∧ rn_K (R (32 + P n))) := by
      intro k
      have hp := tr_p T hn k
      have b := tr_tr hb (tr_bp T hn k)
      have i := ih (P n) hp.1 (by omega) b
      have g := lc_G T hio hL D hR (P n) (by omega) b
      exact ⟨⟨rn_Gm g.1 (sv_Sp T hn k), i.1⟩, fun h => ⟨rn_Gm (g.2 (pb_i.mp h)) (sv_Sp T hn k), i.2 (pb_i.mp h)⟩⟩
    have gQ : 9 ≤ κ n → (rn_G ni no (td (P n)) (sv_S N κ U n) (R (Q n)) ∧ rn_K (R (Q n))) ∧ (ac_b N U L (Q n) = true → rn_G ni no (td (P n)) (sv_S N κ U n) (R (32 + Q n)) ∧ rn_K (R (32 + Q n))) := by
      intro k
      have hp := tr_q T hn k
      have b := tr_tr hb (tr_bq T hn k)
      have i := ih (Q n) hp.1 (by omega) b
      have g := lc_G T hio hL D hR (Q n) (by omega) b
      have d := td_p T D hn hb (by omega)
      rw [if_neg (by omega)] at d
      rw [td_q T D hn hb k, show td n = td (P n) from d.symm] at g
      exact ⟨⟨rn_Gm g.1 (sv_Sq T hn k), i.1⟩, fun h => ⟨rn_Gm (g.2 (pb_i.mp h)) (sv_Sq T hn k), i.2 (pb_i.mp h)⟩⟩
    have hk := tr_k T hn
    have h9 := (T.2 n hn).2.2.2.2
    obtain ⟨e1, e2⟩ := hR.2 n hn
    constructor
    · rw [e1]
      exact rn_Kst hk h9.2.2 (fun k => hv _ (h9.2.1 (by omega))) (fun k => (gP k).1) (fun k => (gQ k).1) (fun _ => ⟨rfl, rfl⟩)
    · intro ha
      rw [e2 (pb_t ha)]
      exact rn_Krs hk (lc_lf T hL hn ha) (fun k => hv _ (h9.2.1 (by omega))) (fun k => (gP k).2) (fun k => (gQ k).2) (fun k => (gP (by omega)).1.2) (fun k => (gQ (by omega)).1.2)
/-- the rows of a satisfied circuit are the rows of the runs -/
theorem lc_M (T : tr_F ni no N κ A P Q U) (hni : ni ≤ 4) (hno : no ≤ 6) (hL : ac_L N κ L) (D : td_F N κ A U r td) (hR : lc_R N κ A P Q U L e R) (rs rr : Nat → Nat → kv_T) (sl sg : Nat → kv_T)
    (hS : ∀ n, n < N → tr_B N U n r → rs n = rc_st (κ n) (A n) ni (sg (A n)) (rs (P n)) (rs (Q n)))
    (hr : ∀ n, n < N → tr_B N U n r → rr n = rc_rs (κ n) (sg (A n)) (sl (P n)) (sl (Q n)) (rs (P n)) (rs (Q n)) (rr (P n)) (rr (Q n)))
    (hsl : ∀ n, n < N → tr_B N U n r → sl n = (ac_b N U L n, ac_b N U L n)) (hsg : ∀ s, s < ni + no → sg s = rn_en (e s)) :
    ∀ n, n < N → tr_B N U n r → rs n = rn_ro ni (R n) ∧ (ac_B N U L n → rr n = rn_ro ni (R (32 + n))) := by
  have hio : ni + no < 32 := by omega
  intro n
  induction n using Nat.strongRecOn with
  | ind n ih =>
    intro hn hb
    have gP : 5 ≤ κ n → (rn_G ni no (td (P n)) (sv_S N κ U (P n)) (R (P n)) ∧ rs (P n) = rn_ro ni (R (P n))) ∧ (ac_b N U L (P n) = true → rn_G ni no (td (P n)) (sv_S N κ U (P n)) (R (32 + P n)) ∧ rr (P n) = rn_ro ni (R (32 + P n))) := by
      intro k
      have hp := tr_p T hn k
      have b := tr_tr hb (tr_bp T hn k)
      have i := ih (P n) hp.1 (by omega) b
      have g := lc_G T hio hL D hR (P n) (by omega) b
      exact ⟨⟨g.1, i.1⟩, fun h => ⟨g.2 (pb_i.mp h), i.2 (pb_i.mp h)⟩⟩
    have gQ : 9 ≤ κ n → (rn_G ni no (td (Q n)) (sv_S N κ U (Q n)) (R (Q n)) ∧ rs (Q n) = rn_ro ni (R (Q n))) ∧ (ac_b N U L (Q n) = true → rn_G ni no (td (Q n)) (sv_S N κ U (Q n)) (R (32 + Q n)) ∧ rr (Q n) = rn_ro ni (R (32 + Q n))) := by
      intro k
      have hp := tr_q T hn k
      have b := tr_tr hb (tr_bq T hn k)
      have i := ih (Q n) hp.1 (by omega) b
      have g := lc_G T hio hL D hR (Q n) (by omega) b
      exact ⟨⟨g.1, i.1⟩, fun h => ⟨g.2 (pb_i.mp h), i.2 (pb_i.mp h)⟩⟩
    have hk := tr_k T hn
    have h9 := (T.2 n hn).2.2.2.2
    obtain ⟨e1, e2⟩ := hR.2 n hn
    have hsg' : κ n = 2 ∨ κ n = 4 ∨ κ n = 7 ∨ κ n = 8 ∨ κ n = 9 → sg (A n) = rn_en (e (A n)) := fun k => hsg _ (h9.2.1 k)
    constructor
    · rw [hS n hn hb, e1, rn_rst hno hni hk (fun k => (gP k).1.1) (fun k => (gQ k).1.1) (fun k => ⟨h9.1 k, h9.2.1 (Or.inl k)⟩) h9.2.2, rc_st_c (fun k => hsg' (by omega))]
      by_cases k5 : 5 ≤ κ n
      · rw [(gP k5).1.2]
        by_cases k9 : 9 ≤ κ n
        · rw [(gQ k9).1.2]
        · unfold rc_st; rw [if_neg (by omega : ¬ κ n = 9), if_neg (by omega : ¬ κ n = 9), if_neg (by omega : ¬ κ n = 10), if_neg (by omega : ¬ κ n = 10), if_neg (by omega : ¬ κ n = 11), if_neg (by omega : ¬ κ n = 11)]
      · have hh : κ n = 0 ∨ κ n = 1 ∨ κ n = 2 ∨ κ n = 3 ∨ κ n = 4 := by omega
        rcases hh with k | k | k | k | k <;> rw [k] <;> rfl
    · intro ha
      rw [hr n hn hb, e2 (pb_t ha), rn_rrs (RP := rr (P n)) (RQ := rr (Q n)) hk (lc_ap T hL hn ha) (lc_apq T hL hn ha) (lc_lf T hL hn ha) (fun k => (gP k).2) (fun k => (gQ k).2)]
      rw [rc_rs_c (sg' := rn_en (e (A n))) (sp' := (ac_b N U L (P n), ac_b N U L (P n))) (sq' := (ac_b N U L (Q n), ac_b N U L (Q n))) hk (fun k => hsg' (by omega))
        (fun k => ⟨hsl _ (by have := (tr_p T hn (by omega)).1; omega) (tr_tr hb (tr_bp T hn (by omega))), hsl _ (by have := (tr_q T hn k).1; omega) (tr_tr hb (tr_bq T hn k))⟩)]
      by_cases k5 : 5 ≤ κ n
      · rw [(gP k5).1.2]
        by_cases k9 : 9 ≤ κ n
        · rw [(gQ k9).1.2]
        · unfold rc_rs; rw [if_neg (by omega : ¬ κ n = 9), if_neg (by omega : ¬ κ n = 9), if_neg (by omega : ¬ κ n = 10), if_neg (by omega : ¬ κ n = 10)]
      · have hh : κ n = 0 ∨ κ n = 1 ∨ κ n = 2 ∨ κ n = 3 ∨ κ n = 4 := by omega
        rcases hh with k | k | k | k | k <;> rw [k] <;> rfl
end
end
section
/-! ===== the next state: from the root down, against the left leaves of the root's run ===== -/
def ns_E (κ A P Q : Nat → Nat) (rs rr : Nat → Nat → kv_T) (sl sg rg KS KR FZ NX : Nat → kv_T) (n : Nat) : Prop :=
  (κ n = 1 ∨ κ n = 4 → NX n = kv_O (kv_O (KS n) (KR n)) (kv_A (FZ n) (rg n))) ∧
  (κ n = 5 → FZ (P n) = FZ n ∧ KS (P n) = kv_O (KS n) (kv_A (KR n) (rr (P n) 0)) ∧ KR (P n) = kv_A (KR n) (rr (P n) 1)) ∧
  (κ n = 6 ∨ κ n = 7 → FZ (P n) = FZ n ∧ KS (P n) = KS n ∧ KR (P n) = KR n) ∧
  (κ n = 8 → FZ (P n) = kv_O (FZ n) (kv_A (KR n) (sg (A n))) ∧ KS (P n) = KS n ∧ KR (P n) = kv_A (KR n) (kv_N (sg (A n)))) ∧
  (κ n = 9 → FZ (P n) = FZ n ∧ FZ (Q n) = FZ n ∧ KS (P n) = kv_A (KS n) (sg (A n)) ∧ KS (Q n) = kv_A (KS n) (kv_N (sg (A n))) ∧ KR (P n) = kv_A (KR n) (sl (P n)) ∧ KR (Q n) = kv_A (KR n) (sl (Q n))) ∧
  (κ n = 10 → FZ (P n) = FZ n ∧ FZ (Q n) = FZ n ∧ KS (P n) = kv_A (KS n) (rs (P n) 1) ∧ KS (Q n) = kv_O (kv_A (KS n) (rs (P n) 0)) (kv_A (kv_A (KR n) (sl (P n))) (rr (P n) 0)) ∧
    KR (P n) = kv_A (kv_A (KR n) (sl (P n))) (rr (P n) 1) ∧ KR (Q n) = kv_A (KR n) (kv_N (sl (P n)))) ∧
  (κ n = 11 → FZ (P n) = FZ n ∧ FZ (Q n) = FZ n ∧ KS (P n) = kv_A (KS n) (rs (P n) 1) ∧ KS (Q n) = kv_A (KS n) (rs (Q n) 1) ∧
    KR (P n) = kv_A (kv_A (KR n) (sl (P n))) (rr (P n) 1) ∧ KR (Q n) = kv_A (kv_A (KR n) (sl (Q n))) (rr (Q n) 1))
theorem ns_thl {ni no D D' : Nat} {S S' : Nat → Prop} {x y : rn_T} (gx : rn_G ni no D S x) (gy : rn_G ni no D' S' y) (h : bt (rn_th x y).2.2.1 1 = true) :
    (bt x.2.2.1 0 = true ∧ bt y.2.2.1 1 = true ∧ (rn_th x y).2.2.2.2 = y.2.2.2.2) ∨ (bt x.2.2.1 0 = false ∧ bt x.2.2.1 1 = true ∧ (rn_th x y).2.2.2.2 = x.2.2.2.2) := by
  have h : bt (if bt x.2.2.1 0 = true then y.2.2.1 else x.2.2.1) 1 = true := h
  have e : (rn_th x y).2.2.2.2 = if (if bt x.2.2.1 0 = true then y.2.2.1 else x.2.2.1) = 2 then (if bt x.2.2.1 0 = true then y.2.2.2.2 else x.2.2.2.2) else 0 := rfl
  rw [e]
  by_cases c : bt x.2.2.1 0 = true
  · rw [if_pos c] at h
    rw [if_pos c, if_pos c, if_pos ((rc_eq2 gy.2.2.1).mpr h)]
    exact Or.inl ⟨c, h, rfl⟩
  · rw [if_neg c] at h
    rw [if_neg c, if_neg c, if_pos ((rc_eq2 gx.2.2.1).mpr h)]
    exact Or.inr ⟨ts_nt c, h, rfl⟩
theorem ns_pal {ni no D : Nat} {S : Nat → Prop} {x y : rn_T} (gx : rn_G ni no D S x) (gy : rn_G ni no D S y) (h : bt (rn_pa x y).2.2.1 1 = true) : (rn_pa x y).2.2.2.2 = x.2.2.2.2 ||| y.2.2.2.2 := by
  have g := rn_Gpa gx gy
  exact if_pos ((rc_eq2 g.2.2.1).mpr h)
theorem ns_trl {ni no D : Nat} {S : Nat → Prop} {x : rn_T} (gx : rn_G ni no (D + 1) S x) (h : bt (rn_tr x).2.2.1 1 = true) : bt x.2.2.1 1 = true ∧ (rn_tr x).2.2.2.2 = x.2.2.2.2 := by
  have g := rn_Gtr gx
  refine ⟨?_, if_pos ((rc_eq2 g.2.2.1).mpr h)⟩
  have h : bt (rn_dn x.2.2.1) 1 = true := h
  rw [rn_dnb, if_neg (by omega), if_pos rfl] at h
  exact h
theorem ns_no {x : Int32} (h : ∀ i j, bt x i = true → bt x j = true → i = j) {i j : Nat} (hij : i ≠ j) (hi : bt x i = true) : bt x j = false := by
  cases z : bt x j with
  | false => rfl
  | true => exact absurd (h i j hi z) hij
section
variable {ni no N : Nat} {κ A P Q U : Nat → Nat} {r : Nat} {L F : Int32} {e : Nat → Int32} {R : Nat → rn_T} {td : Nat → Nat}
  {rs rr : Nat → Nat → kv_T} {sl sg rg KS KR FZ NX : Nat → kv_T}
/-- how node n goes on: not at all, by its start, by its resumption, frozen -/
def ns_C (N : Nat) (U : Nat → Nat) (L F : Int32) (R : Nat → rn_T) (KS KR FZ : Nat → kv_T) (n : Nat) : Prop :=
  ((KS n).1 = false ∧ (KR n).1 = false ∧ (FZ n).1 = false ∧ ∀ m, m < N → tr_B N U m n → bt F m = false) ∨
  ((KS n).1 = true ∧ (KR n).1 = false ∧ (FZ n).1 = false ∧ bt (R n).2.2.1 1 = true ∧ ∀ m, m < N → tr_B N U m n → bt F m = bt (R n).2.2.2.2 m) ∨
  ((KS n).1 = false ∧ (KR n).1 = true ∧ (FZ n).1 = false ∧ ac_B N U L n ∧ bt (R (32 + n)).2.2.1 1 = true ∧ ∀ m, m < N → tr_B N U m n → bt F m = bt (R (32 + n)).2.2.2.2 m) ∨
  ((KS n).1 = false ∧ (KR n).1 = false ∧ (FZ n).1 = true ∧ ∀ m, m < N → tr_B N U m n → bt F m = bt L m)
/-- what is known of a node in the tree -/
def ns_H (ni no N : Nat) (κ U : Nat → Nat) (L : Int32) (R : Nat → rn_T) (rs rr : Nat → Nat → kv_T) (sl : Nat → kv_T) (D : Nat) (n : Nat) : Prop :=
  rn_G ni no D (sv_S N κ U n) (R n) ∧ (ac_B N U L n → rn_G ni no D (sv_S N κ U n) (R (32 + n))) ∧ rs n = rn_ro ni (R n) ∧ (ac_B N U L n → rr n = rn_ro ni (R (32 + n))) ∧ sl n = (ac_b N U L n, ac_b N U L n)
theorem ns_r0 {D n : Nat} (h : ns_H ni no N κ U L R rs rr sl D n) : (rs n 0).1 = bt (R n).2.2.1 0 ∧ (rs n 1).1 = bt (R n).2.2.1 1 := by
  rw [h.2.2.1]; exact ⟨rfl, rfl⟩
theorem ns_r1 {D n : Nat} (h : ns_H ni no N κ U L R rs rr sl D n) (a : ac_B N U L n) : (rr n 0).1 = bt (R (32 + n)).2.2.1 0 ∧ (rr n 1).1 = bt (R (32 + n)).2.2.1 1 := by
  rw [h.2.2.2.1 a]; exact ⟨rfl, rfl⟩
theorem ns_out {D n m : Nat} (h : rn_G ni no D (sv_S N κ U n) (R m)) {i : Nat} (b : ¬ tr_B N U i n) : bt (R m).2.2.2.2 i = false := by
  cases z : bt (R m).2.2.2.2 i with
  | false => rfl
  | true => exact absurd (h.2.2.2.2.2.2.2 i z).2.1 b
theorem ns_lv0 {D n m : Nat} (h : rn_G ni no D (sv_S N κ U n) (R m)) (k : bt (R m).2.2.1 1 = false) (i : Nat) : bt (R m).2.2.2.2 i = false := by
  rw [h.2.2.2.2.2.2.1 k, b_0]
/-- nodes with one child -/
theorem ns_one (T : tr_F ni no N κ A P Q U) (hL : ac_L N κ L) (hR : lc_R N κ A P Q U L e R) (hv : ∀ s, s < ni + no → e s = 0 ∨ e s = 1) (hsg : ∀ s, s < ni + no → sg s = rn_en (e s))
    {n : Nat} (hn : n < N) (k5 : 5 ≤ κ n) (k9 : κ n < 9) (hE : ns_E κ A P Q rs rr sl sg rg KS KR FZ NX n) (hP : ns_H ni no N κ U L R rs rr sl (td n + (if κ n = 6 then 1 else 0)) (P n))
    (hC : ns_C N U L F R KS KR FZ n) : ns_C N U L F R KS KR FZ (P n) := by
  have up : ∀ m, tr_B N U m (P n) → tr_B N U m n := fun m b => tr_tr (tr_bp T hn k5) b
  obtain ⟨e1, e2⟩ := hR.2 n hn
  obtain ⟨_, E5, E6, E8, _⟩ := hE
  have h9 := (T.2 n hn).2.2.2.2
  rcases hC with ⟨c1, c2, c3, c4⟩ | ⟨c1, c2, c3, c4, c5⟩ | ⟨c1, c2, c3, c4, c5, c6⟩ | ⟨c1, c2, c3, c4⟩
  · refine Or.inl ⟨?_, ?_, ?_, fun m hm b => c4 m hm (up m b)⟩
    all_goals
      have hh : κ n = 5 ∨ (κ n = 6 ∨ κ n = 7) ∨ κ n = 8 := by omega
      rcases hh with k | k | k
      · simp [E5 k, kv_A, kv_O, c1, c2, c3]
      · simp [E6 k, c1, c2, c3]
      · simp [E8 k, kv_A, kv_O, c1, c2, c3]
  · have key : bt (R (P n)).2.2.1 1 = true ∧ (R n).2.2.2.2 = (R (P n)).2.2.2.2 := by
      unfold rn_st at e1
      rw [if_neg (by omega), if_neg (by omega), if_neg (by omega), if_neg (by omega), if_neg (by omega), if_neg (by omega), if_neg (by omega)] at e1
      by_cases k6 : κ n = 6
      · rw [if_pos k6] at e1
        have g := hP.1
        rw [if_pos k6] at g
        rw [e1] at c4 ⊢
        exact ns_trl g c4
      · rw [if_neg k6, rn_cpe hP.1] at e1
        rw [e1] at c4 ⊢
        exact ⟨c4, rfl⟩
    refine Or.inr (Or.inl ⟨?_, ?_, ?_, key.1, fun m hm b => by rw [c5 m hm (up m b), key.2]⟩)
    all_goals
      have hh : κ n = 5 ∨ (κ n = 6 ∨ κ n = 7) ∨ κ n = 8 := by omega
      rcases hh with k | k | k
      · simp [E5 k, kv_A, kv_O, c1, c2, c3]
      · simp [E6 k, c1, c2, c3]
      · simp [E8 k, kv_A, kv_O, c1, c2, c3]
  · have aP : ac_B N U L (P n) := (ac_1 T hL hn k5 k9).mp c4
    have ap := pb_t aP
    have gP := hP.2.1 aP
    have rP := ns_r1 hP aP
    have e2 := e2 (pb_t c4)
    unfold rn_rs at e2
    rw [if_neg (by omega), if_neg (by omega), if_neg (by omega), if_neg (by omega), if_neg (by omega)] at e2
    rw [if_pos (show ac_b N U L (P n) = true from ap)] at e2
    by_cases q5 : κ n = 5
    · rw [if_pos q5] at e2
      obtain ⟨f1, f2, f3⟩ := E5 q5
      rw [e2] at c5 c6
      rcases ns_thl gP hP.1 c5 with ⟨x0, y1, l⟩ | ⟨x0, x1, l⟩
      · have x1 := ns_no gP.2.2.1 (show 0 ≠ 1 by omega) x0
        refine Or.inr (Or.inl ⟨?_, ?_, ?_, y1, fun m hm b => by rw [c6 m hm (up m b), l]⟩)
        · rw [f2]; show ((KS n).1 || ((KR n).1 && (rr (P n) 0).1)) = true; rw [c1, c2, rP.1, x0]; rfl
        · rw [f3]; show ((KR n).1 && (rr (P n) 1).1) = false; rw [c2, rP.2, x1]; rfl
        · rw [f1]; exact c3
      · refine Or.inr (Or.inr (Or.inl ⟨?_, ?_, ?_, aP, x1, fun m hm b => by rw [c6 m hm (up m b), l]⟩))
        · rw [f2]; show ((KS n).1 || ((KR n).1 && (rr (P n) 0).1)) = false; rw [c1, c2, rP.1, x0]; rfl
        · rw [f3]; show ((KR n).1 && (rr (P n) 1).1) = true; rw [c2, rP.2, x1]; rfl
        · rw [f1]; exact c3
    rw [if_neg q5] at e2
    by_cases q6 : κ n = 6
    · rw [if_pos q6] at e2
      obtain ⟨f1, f2, f3⟩ := E6 (Or.inl q6)
      rw [if_pos q6] at gP
      rw [e2] at c5 c6
      have t := ns_trl gP c5
      refine Or.inr (Or.inr (Or.inl ⟨?_, ?_, ?_, aP, t.1, fun m hm b => by rw [c6 m hm (up m b), t.2]⟩))
      · rw [f2]; exact c1
      · rw [f3]; exact c2
      · rw [f1]; exact c3
    rw [if_neg q6] at e2
    have hA := h9.2.1 (by omega)
    by_cases v0 : e (A n) = 0
    · rw [if_pos v0, rn_cpe gP] at e2
      rw [e2] at c5 c6
      have sg0 : sg (A n) = kv_0 := by rw [hsg _ hA, v0]; rfl
      refine Or.inr (Or.inr (Or.inl ⟨?_, ?_, ?_, aP, c5, fun m hm b => by rw [c6 m hm (up m b)]⟩))
      all_goals
        have hh : (κ n = 6 ∨ κ n = 7) ∨ κ n = 8 := by omega
        rcases hh with k | k
        · simp [E6 k, c1, c2, c3]
        · simp [E8 k, kv_A, kv_O, kv_N, kv_0, c1, c2, c3, sg0]
    · have v1 : e (A n) = 1 := (hv _ hA).resolve_left v0
      rw [if_neg v0] at e2
      by_cases q7 : κ n = 7
      · rw [if_pos q7, if_pos v1] at e2
        rw [e2] at c5
        have : bt 1 1 = true := c5
        rw [rc_b1] at this
        exact absurd this (by decide)
      · rw [if_neg q7, if_pos v1] at e2
        have q8 : κ n = 8 := by omega
        obtain ⟨f1, f2, f3⟩ := E8 q8
        have sg1 : sg (A n) = kv_1 := by rw [hsg _ hA, v1]; rfl
        refine Or.inr (Or.inr (Or.inr ⟨?_, ?_, ?_, ?_⟩))
        · rw [f2]; exact c1
        · rw [f3, sg1]; show ((KR n).1 && false) = false; rw [Bool.and_false]
        · rw [f1, sg1]; show ((FZ n).1 || ((KR n).1 && true)) = true; rw [c2, c3]; rfl
        · intro m hm b
          rw [c6 m hm (up m b), e2]
          show bt (if (2 : Int32) = 2 then ac_k N U L n else 0) m = bt L m
          rw [if_pos rfl]
          cases z : bt L m with
          | true => exact (ac_kb T L n m).mpr ⟨hm, z, up m b⟩
          | false =>
            cases y : bt (ac_k N U L n) m with
            | false => rfl
            | true => have := ((ac_kb T L n m).mp y).2.1; rw [z] at this; cases this
  · refine Or.inr (Or.inr (Or.inr ⟨?_, ?_, ?_, fun m hm b => c4 m hm (up m b)⟩))
    all_goals
      have hh : κ n = 5 ∨ (κ n = 6 ∨ κ n = 7) ∨ κ n = 8 := by omega
      rcases hh with k | k | k
      · simp [E5 k, kv_A, kv_O, c1, c2, c3]
      · simp [E6 k, c1, c2, c3]
      · simp [E8 k, kv_A, kv_O, c1, c2, c3]
/-- nodes with two children -/
theorem ns_two (T : tr_F ni no N κ A P Q U) (hL : ac_L N κ L) (hR : lc_R N κ A P Q U L e R) (hv : ∀ s, s < ni + no → e s = 0 ∨ e s = 1) (hsg : ∀ s, s < ni + no → sg s = rn_en (e s))
    {n : Nat} (hn : n < N) (k9 : 9 ≤ κ n) (hX : κ n = 9 → ¬ (ac_B N U L (P n) ∧ ac_B N U L (Q n))) (hE : ns_E κ A P Q rs rr sl sg rg KS KR FZ NX n) (hP : ns_H ni no N κ U L R rs rr sl (td n) (P n)) (hQ : ns_H ni no N κ U L R rs rr sl (td n) (Q n))
    (hC : ns_C N U L F R KS KR FZ n) : ns_C N U L F R KS KR FZ (P n) ∧ ns_C N U L F R KS KR FZ (Q n) := by
  have hk := tr_k T hn
  have upP : ∀ m, tr_B N U m (P n) → tr_B N U m n := fun m b => tr_tr (tr_bp T hn (by omega)) b
  have upQ : ∀ m, tr_B N U m (Q n) → tr_B N U m n := fun m b => tr_tr (tr_bq T hn k9) b
  have djP : ∀ m, tr_B N U m (P n) → ¬ tr_B N U m (Q n) := fun m b b' => tr_dj T hn k9 b b'
  have djQ : ∀ m, tr_B N U m (Q n) → ¬ tr_B N U m (P n) := fun m b b' => tr_dj T hn k9 b' b
  obtain ⟨e1, e2⟩ := hR.2 n hn
  obtain ⟨_, _, _, _, E9, E10, E11⟩ := hE
  have h9 := (T.2 n hn).2.2.2.2
  have hh : κ n = 9 ∨ κ n = 10 ∨ κ n = 11 := by omega
  rcases hC with ⟨c1, c2, c3, c4⟩ | ⟨c1, c2, c3, c4, c5⟩ | ⟨c1, c2, c3, c4, c5, c6⟩ | ⟨c1, c2, c3, c4⟩
  · constructor
    · refine Or.inl ⟨?_, ?_, ?_, fun m hm b => c4 m hm (upP m b)⟩
      all_goals
        rcases hh with k | k | k
        · simp [E9 k, kv_A, kv_O, c1, c2, c3]
        · simp [E10 k, kv_A, kv_O, c1, c2, c3]
        · simp [E11 k, kv_A, kv_O, c1, c2, c3]
    · refine Or.inl ⟨?_, ?_, ?_, fun m hm b => c4 m hm (upQ m b)⟩
      all_goals
        rcases hh with k | k | k
        · simp [E9 k, kv_A, kv_O, c1, c2, c3]
        · simp [E10 k, kv_A, kv_O, c1, c2, c3]
        · simp [E11 k, kv_A, kv_O, c1, c2, c3]
  · unfold rn_st at e1
    rw [if_neg (by omega), if_neg (by omega), if_neg (by omega), if_neg (by omega)] at e1
    rcases hh with k | k | k
    · obtain ⟨f1, f2, f3, f4, f5, f6⟩ := E9 k
      have hA := h9.2.1 (by omega)
      rw [if_pos k] at e1
      rcases hv _ hA with v | v
      · have s0 : sg (A n) = kv_0 := by rw [hsg _ hA, v]; rfl
        rw [if_neg (by rw [v]; decide), if_pos v, rn_cpe hQ.1] at e1
        rw [e1] at c4 c5
        exact ⟨Or.inl ⟨by rw [f3, s0]; show ((KS n).1 && false) = false; rw [Bool.and_false], by rw [f5]; show ((KR n).1 && _) = false; rw [c2]; rfl, by rw [f1]; exact c3,
            fun m hm b => by rw [c5 m hm (upP m b)]; exact ns_out hQ.1 (djP m b)⟩,
          Or.inr (Or.inl ⟨by rw [f4, s0]; show ((KS n).1 && true) = true; rw [c1]; rfl, by rw [f6]; show ((KR n).1 && _) = false; rw [c2]; rfl, by rw [f2]; exact c3, c4,
            fun m hm b => c5 m hm (upQ m b)⟩)⟩
      · have s1 : sg (A n) = kv_1 := by rw [hsg _ hA, v]; rfl
        rw [if_pos v, rn_cpe hP.1] at e1
        rw [e1] at c4 c5
        exact ⟨Or.inr (Or.inl ⟨by rw [f3, s1]; show ((KS n).1 && true) = true; rw [c1]; rfl, by rw [f5]; show ((KR n).1 && _) = false; rw [c2]; rfl, by rw [f1]; exact c3, c4,
            fun m hm b => c5 m hm (upP m b)⟩),
          Or.inl ⟨by rw [f4, s1]; show ((KS n).1 && false) = false; rw [Bool.and_false], by rw [f6]; show ((KR n).1 && _) = false; rw [c2]; rfl, by rw [f2]; exact c3,
            fun m hm b => by rw [c5 m hm (upQ m b)]; exact ns_out hP.1 (djQ m b)⟩⟩
    · obtain ⟨f1, f2, f3, f4, f5, f6⟩ := E10 k
      rw [if_neg (by omega), if_pos k] at e1
      rw [e1] at c4 c5
      have rP := ns_r0 hP
      have g5 : (KR (P n)).1 = false := by rw [f5]; show (((KR n).1 && _) && _) = false; rw [c2]; rfl
      have g6 : (KR (Q n)).1 = false := by rw [f6]; show ((KR n).1 && _) = false; rw [c2]; rfl
      have g3 : (KS (P n)).1 = bt (R (P n)).2.2.1 1 := by rw [f3]; show ((KS n).1 && _) = _; rw [c1, rP.2]; rfl
      have g4 : (KS (Q n)).1 = bt (R (P n)).2.2.1 0 := by rw [f4]; show (((KS n).1 && _) || (((KR n).1 && _) && _)) = _; rw [c1, c2, rP.1]; simp
      rcases ns_thl hP.1 hQ.1 c4 with ⟨x0, y1, l⟩ | ⟨x0, x1, l⟩
      · have x1 := ns_no hP.1.2.2.1 (show 0 ≠ 1 by omega) x0
        exact ⟨Or.inl ⟨by rw [g3, x1], g5, by rw [f1]; exact c3, fun m hm b => by rw [c5 m hm (upP m b), l]; exact ns_out hQ.1 (djP m b)⟩,
          Or.inr (Or.inl ⟨by rw [g4, x0], g6, by rw [f2]; exact c3, y1, fun m hm b => by rw [c5 m hm (upQ m b), l]⟩)⟩
      · exact ⟨Or.inr (Or.inl ⟨by rw [g3, x1], g5, by rw [f1]; exact c3, x1, fun m hm b => by rw [c5 m hm (upP m b), l]⟩),
          Or.inl ⟨by rw [g4, x0], g6, by rw [f2]; exact c3, fun m hm b => by rw [c5 m hm (upQ m b), l]; exact ns_out hP.1 (djQ m b)⟩⟩
    · obtain ⟨f1, f2, f3, f4, f5, f6⟩ := E11 k
      rw [if_neg (by omega), if_neg (by omega), if_pos k] at e1
      rw [e1] at c4 c5
      have rP := ns_r0 hP
      have rQ := ns_r0 hQ
      have l := ns_pal (rn_Gm hP.1 (sv_Sp T hn (by omega))) (rn_Gm hQ.1 (sv_Sq T hn k9)) c4
      have g5 : (KR (P n)).1 = false := by rw [f5]; show (((KR n).1 && _) && _) = false; rw [c2]; rfl
      have g6 : (KR (Q n)).1 = false := by rw [f6]; show (((KR n).1 && _) && _) = false; rw [c2]; rfl
      have g3 : (KS (P n)).1 = bt (R (P n)).2.2.1 1 := by rw [f3]; show ((KS n).1 && _) = _; rw [c1, rP.2]; rfl
      have g4 : (KS (Q n)).1 = bt (R (Q n)).2.2.1 1 := by rw [f4]; show ((KS n).1 && _) = _; rw [c1, rQ.2]; rfl
      have lP : ∀ m, m < N → tr_B N U m (P n) → bt F m = bt (R (P n)).2.2.2.2 m := by
        intro m hm b
        rw [c5 m hm (upP m b), l, b_or, ns_out hQ.1 (djP m b), Bool.or_false]
      have lQ : ∀ m, m < N → tr_B N U m (Q n) → bt F m = bt (R (Q n)).2.2.2.2 m := by
        intro m hm b
        rw [c5 m hm (upQ m b), l, b_or, ns_out hP.1 (djQ m b), Bool.false_or]
      constructor
      · cases x1 : bt (R (P n)).2.2.1 1 with
        | true => exact Or.inr (Or.inl ⟨by rw [g3, x1], g5, by rw [f1]; exact c3, x1, lP⟩)
        | false => exact Or.inl ⟨by rw [g3, x1], g5, by rw [f1]; exact c3, fun m hm b => by rw [lP m hm b]; exact ns_lv0 hP.1 x1 m⟩
      · cases x1 : bt (R (Q n)).2.2.1 1 with
        | true => exact Or.inr (Or.inl ⟨by rw [g4, x1], g6, by rw [f2]; exact c3, x1, lQ⟩)
        | false => exact Or.inl ⟨by rw [g4, x1], g6, by rw [f2]; exact c3, fun m hm b => by rw [lQ m hm b]; exact ns_lv0 hQ.1 x1 m⟩
  · have e2 := e2 (pb_t c4)
    unfold rn_rs at e2
    rw [if_neg (by omega), if_neg (by omega)] at e2
    have hpq := lc_apq T hL hn c4 k9
    have slP := hP.2.2.2.2
    have slQ := hQ.2.2.2.2
    rcases hh with k | k | k
    · obtain ⟨f1, f2, f3, f4, f5, f6⟩ := E9 k
      have g3 : (KS (P n)).1 = false := by rw [f3]; show ((KS n).1 && _) = false; rw [c1]; rfl
      have g4 : (KS (Q n)).1 = false := by rw [f4]; show ((KS n).1 && _) = false; rw [c1]; rfl
      have g5 : (KR (P n)).1 = ac_b N U L (P n) := by rw [f5, slP]; show ((KR n).1 && _) = _; rw [c2]; rfl
      have g6 : (KR (Q n)).1 = ac_b N U L (Q n) := by rw [f6, slQ]; show ((KR n).1 && _) = _; rw [c2]; rfl
      rw [if_pos k] at e2
      by_cases ap : ac_b N U L (P n) = true
      · have aP := pb_i.mp ap
        have aQ : ¬ ac_B N U L (Q n) := fun z => hX k ⟨aP, z⟩
        rw [if_pos ap, rn_cpe (hP.2.1 aP)] at e2
        rw [e2] at c5 c6
        exact ⟨Or.inr (Or.inr (Or.inl ⟨g3, by rw [g5]; exact ap, by rw [f1]; exact c3, aP, c5, fun m hm b => c6 m hm (upP m b)⟩)),
          Or.inl ⟨g4, by rw [g6]; exact pb_f aQ, by rw [f2]; exact c3, fun m hm b => by rw [c6 m hm (upQ m b)]; exact ns_out (hP.2.1 aP) (djQ m b)⟩⟩
      · have aq : ac_b N U L (Q n) = true := hpq.resolve_left ap
        have aQ := pb_i.mp aq
        rw [if_neg ap, if_pos aq, rn_cpe (hQ.2.1 aQ)] at e2
        rw [e2] at c5 c6
        exact ⟨Or.inl ⟨g3, by rw [g5]; exact ts_nt ap, by rw [f1]; exact c3, fun m hm b => by rw [c6 m hm (upP m b)]; exact ns_out (hQ.2.1 aQ) (djP m b)⟩,
          Or.inr (Or.inr (Or.inl ⟨g4, by rw [g6]; exact aq, by rw [f2]; exact c3, aQ, c5, fun m hm b => c6 m hm (upQ m b)⟩))⟩
    · obtain ⟨f1, f2, f3, f4, f5, f6⟩ := E10 k
      rw [if_neg (by omega), if_pos k] at e2
      have g3 : (KS (P n)).1 = false := by rw [f3]; show ((KS n).1 && _) = false; rw [c1]; rfl
      have g4 : (KS (Q n)).1 = (ac_b N U L (P n) && (rr (P n) 0).1) := by rw [f4, slP]; show (((KS n).1 && _) || (((KR n).1 && _) && _)) = _; rw [c1, c2]; simp
      have g5 : (KR (P n)).1 = (ac_b N U L (P n) && (rr (P n) 1).1) := by rw [f5, slP]; show (((KR n).1 && _) && _) = _; rw [c2]; simp
      have g6 : (KR (Q n)).1 = !ac_b N U L (P n) := by rw [f6, slP]; show ((KR n).1 && !_) = _; rw [c2]; rfl
      by_cases ap : ac_b N U L (P n) = true
      · have aP := pb_i.mp ap
        have rP := ns_r1 hP aP
        rw [if_pos ap] at e2
        rw [e2] at c5 c6
        rw [ap] at g4 g5 g6
        rcases ns_thl (hP.2.1 aP) hQ.1 c5 with ⟨x0, y1, l⟩ | ⟨x0, x1, l⟩
        · have x1 := ns_no (hP.2.1 aP).2.2.1 (show 0 ≠ 1 by omega) x0
          exact ⟨Or.inl ⟨g3, by rw [g5, rP.2, x1]; rfl, by rw [f1]; exact c3, fun m hm b => by rw [c6 m hm (upP m b), l]; exact ns_out hQ.1 (djP m b)⟩,
            Or.inr (Or.inl ⟨by rw [g4, rP.1, x0]; rfl, by rw [g6]; rfl, by rw [f2]; exact c3, y1, fun m hm b => by rw [c6 m hm (upQ m b), l]⟩)⟩
        · exact ⟨Or.inr (Or.inr (Or.inl ⟨g3, by rw [g5, rP.2, x1]; rfl, by rw [f1]; exact c3, aP, x1, fun m hm b => by rw [c6 m hm (upP m b), l]⟩)),
            Or.inl ⟨by rw [g4, rP.1, x0]; rfl, by rw [g6]; rfl, by rw [f2]; exact c3, fun m hm b => by rw [c6 m hm (upQ m b), l]; exact ns_out (hP.2.1 aP) (djQ m b)⟩⟩
      · have aq : ac_b N U L (Q n) = true := hpq.resolve_left ap
        have aQ := pb_i.mp aq
        rw [if_neg ap, if_pos aq, rn_cpe (hQ.2.1 aQ)] at e2
        rw [e2] at c5 c6
        rw [ts_nt ap] at g4 g5 g6
        exact ⟨Or.inl ⟨g3, by rw [g5]; rfl, by rw [f1]; exact c3, fun m hm b => by rw [c6 m hm (upP m b)]; exact ns_out (hQ.2.1 aQ) (djP m b)⟩,
          Or.inr (Or.inr (Or.inl ⟨by rw [g4]; rfl, by rw [g6]; rfl, by rw [f2]; exact c3, aQ, c5, fun m hm b => c6 m hm (upQ m b)⟩))⟩
    · obtain ⟨f1, f2, f3, f4, f5, f6⟩ := E11 k
      rw [if_neg (by omega), if_neg (by omega), if_pos k] at e2
      have g3 : (KS (P n)).1 = false := by rw [f3]; show ((KS n).1 && _) = false; rw [c1]; rfl
      have g4 : (KS (Q n)).1 = false := by rw [f4]; show ((KS n).1 && _) = false; rw [c1]; rfl
      have g5 : (KR (P n)).1 = (ac_b N U L (P n) && (rr (P n) 1).1) := by rw [f5, slP]; show (((KR n).1 && _) && _) = _; rw [c2]; simp
      have g6 : (KR (Q n)).1 = (ac_b N U L (Q n) && (rr (Q n) 1).1) := by rw [f6, slQ]; show (((KR n).1 && _) && _) = _; rw [c2]; simp
      rw [e2] at c5 c6
      have l := ns_pal (rn_Gif (a := ac_b N U L (P n)) (fun h => rn_Gm (hP.2.1 (pb_i.mp h)) (sv_Sp T hn (by omega)))) (rn_Gif (a := ac_b N U L (Q n)) (fun h => rn_Gm (hQ.2.1 (pb_i.mp h)) (sv_Sq T hn k9))) c5
      rw [l] at c6
      have oP : ∀ m, ¬ tr_B N U m (P n) → bt (if ac_b N U L (P n) = true then R (32 + P n) else rn_id).2.2.2.2 m = false := by
        intro m b
        by_cases ap : ac_b N U L (P n) = true
        · rw [if_pos ap]; exact ns_out (hP.2.1 (pb_i.mp ap)) b
        · rw [if_neg ap]; exact b_0 m
      have oQ : ∀ m, ¬ tr_B N U m (Q n) → bt (if ac_b N U L (Q n) = true then R (32 + Q n) else rn_id).2.2.2.2 m = false := by
        intro m b
        by_cases ap : ac_b N U L (Q n) = true
        · rw [if_pos ap]; exact ns_out (hQ.2.1 (pb_i.mp ap)) b
        · rw [if_neg ap]; exact b_0 m
      constructor
      · have lP : ∀ m, m < N → tr_B N U m (P n) → bt F m = bt (if ac_b N U L (P n) = true then R (32 + P n) else rn_id).2.2.2.2 m := by
          intro m hm b
          rw [c6 m hm (upP m b), b_or, oQ m (djP m b), Bool.or_false]
        by_cases ap : ac_b N U L (P n) = true
        · have aP := pb_i.mp ap
          rw [if_pos ap] at lP
          rw [ap, (ns_r1 hP aP).2] at g5
          cases x1 : bt (R (32 + P n)).2.2.1 1 with
          | true => exact Or.inr (Or.inr (Or.inl ⟨g3, by rw [g5, x1]; rfl, by rw [f1]; exact c3, aP, x1, lP⟩))
          | false => exact Or.inl ⟨g3, by rw [g5, x1]; rfl, by rw [f1]; exact c3, fun m hm b => by rw [lP m hm b]; exact ns_lv0 (hP.2.1 aP) x1 m⟩
        · rw [if_neg ap] at lP
          exact Or.inl ⟨g3, by rw [g5, ts_nt ap]; rfl, by rw [f1]; exact c3, fun m hm b => by rw [lP m hm b]; exact b_0 m⟩
      · have lQ : ∀ m, m < N → tr_B N U m (Q n) → bt F m = bt (if ac_b N U L (Q n) = true then R (32 + Q n) else rn_id).2.2.2.2 m := by
          intro m hm b
          rw [c6 m hm (upQ m b), b_or, oP m (djQ m b), Bool.false_or]
        by_cases ap : ac_b N U L (Q n) = true
        · have aQ := pb_i.mp ap
          rw [if_pos ap] at lQ
          rw [ap, (ns_r1 hQ aQ).2] at g6
          cases x1 : bt (R (32 + Q n)).2.2.1 1 with
          | true => exact Or.inr (Or.inr (Or.inl ⟨g4, by rw [g6, x1]; rfl, by rw [f2]; exact c3, aQ, x1, lQ⟩))
          | false => exact Or.inl ⟨g4, by rw [g6, x1]; rfl, by rw [f2]; exact c3, fun m hm b => by rw [lQ m hm b]; exact ns_lv0 (hQ.2.1 aQ) x1 m⟩
        · rw [if_neg ap] at lQ
          exact Or.inl ⟨g4, by rw [g6, ts_nt ap]; rfl, by rw [f2]; exact c3, fun m hm b => by rw [lQ m hm b]; exact b_0 m⟩
  · constructor
    · refine Or.inr (Or.inr (Or.inr ⟨?_, ?_, ?_, fun m hm b => c4 m hm (upP m b)⟩))
      all_goals
        rcases hh with k | k | k
        · simp [E9 k, kv_A, kv_O, c1, c2, c3]
        · simp [E10 k, kv_A, kv_O, c1, c2, c3]
        · simp [E11 k, kv_A, kv_O, c1, c2, c3]
    · refine Or.inr (Or.inr (Or.inr ⟨?_, ?_, ?_, fun m hm b => c4 m hm (upQ m b)⟩))
      all_goals
        rcases hh with k | k | k
        · simp [E9 k, kv_A, kv_O, c1, c2, c3]
        · simp [E10 k, kv_A, kv_O, c1, c2, c3]
        · simp [E11 k, kv_A, kv_O, c1, c2, c3]
end
end
section
/-! ===== the next state, all nodes ===== -/
section
variable {ni no N : Nat} {κ A P Q U : Nat → Nat} {r : Nat} {L F : Int32} {e : Nat → Int32} {R : Nat → rn_T} {td : Nat → Nat}
  {rs rr : Nat → Nat → kv_T} {sl sg rg KS KR FZ NX : Nat → kv_T}
theorem ns_all (T : tr_F ni no N κ A P Q U) (hL : ac_L N κ L) (hR : lc_R N κ A P Q U L e R) (D : td_F N κ A U r td) (hv : ∀ s, s < ni + no → e s = 0 ∨ e s = 1) (hsg : ∀ s, s < ni + no → sg s = rn_en (e s))
    (hX : ∀ n, n < N → tr_B N U n r → κ n = 9 → ¬ (ac_B N U L (P n) ∧ ac_B N U L (Q n))) (hE : ∀ n, n < N → tr_B N U n r → ns_E κ A P Q rs rr sl sg rg KS KR FZ NX n)
    (hH : ∀ n, n < N → tr_B N U n r → ns_H ni no N κ U L R rs rr sl (td n) n) (h0 : ns_C N U L F R KS KR FZ r) :
    ∀ d n, r - n ≤ d → n < N → tr_B N U n r → ns_C N U L F R KS KR FZ n := by
  intro d
  induction d with
  | zero =>
    intro n hd hn hb
    have := tr_ge T hn hb
    rw [show n = r by omega]; exact h0
  | succ d ih =>
    intro n hd hn hb
    rcases tr_Bi.mp hb with q | ⟨hu, hb'⟩
    · rw [q]; exact h0
    · have t := tr_u T hn hu
      have g := tr_ge T hu hb'
      have c := ih (U n) (by omega) hu hb'
      rcases t.2.2 with p | ⟨k9, p⟩
      · by_cases k9 : 9 ≤ κ (U n)
        · have h := (ns_two (td := td) T hL hR hv hsg hu k9 (hX _ hu hb') (hE _ hu hb')
            (by have := hH (P (U n)) (by rw [p]; exact hn) (by rw [p]; exact hb); rw [td_p T D hu hb' (by omega), if_neg (by omega)] at this; exact this)
            (by have hq := tr_q T hu k9; have := hH (Q (U n)) (by omega) (tr_tr hb' (tr_bq T hu k9)); rw [td_q T D hu hb' k9] at this; exact this) c).1
          rw [p] at h; exact h
        · have h := ns_one (td := td) T hL hR hv hsg hu t.2.1 (by omega) (hE _ hu hb')
            (by have := hH (P (U n)) (by rw [p]; exact hn) (by rw [p]; exact hb); rw [td_p T D hu hb' (by omega)] at this; exact this) c
          rw [p] at h; exact h
      · have h := (ns_two (td := td) T hL hR hv hsg hu k9 (hX _ hu hb') (hE _ hu hb')
            (by have hq := tr_p T hu (by omega); have := hH (P (U n)) (by omega) (tr_tr hb' (tr_bp T hu (by omega))); rw [td_p T D hu hb' (by omega), if_neg (by omega)] at this; exact this)
            (by have := hH (Q (U n)) (by rw [p]; exact hn) (by rw [p]; exact hb); rw [td_q T D hu hb' k9] at this; exact this) c).2
        rw [p] at h; exact h
theorem ns_leaf (T : tr_F ni no N κ A P Q U) (hR : lc_R N κ A P Q U L e R) (hv : ∀ s, s < ni + no → e s = 0 ∨ e s = 1) {n : Nat} (hn : n < N) (k : κ n = 1 ∨ κ n = 4)
    (hE : ns_E κ A P Q rs rr sl sg rg KS KR FZ NX n) (hg : rg n = (bt L n, bt L n)) (hC : ns_C N U L F R KS KR FZ n) : (NX n).1 = bt F n := by
  have hN := T.1
  have hNX := hE.1 k
  rw [hNX, hg]
  show (((KS n).1 || (KR n).1) || ((FZ n).1 && bt L n)) = bt F n
  obtain ⟨e1, e2⟩ := hR.2 n hn
  rcases hC with ⟨c1, c2, c3, c4⟩ | ⟨c1, c2, c3, c4, c5⟩ | ⟨c1, c2, c3, c4, c5, c6⟩ | ⟨c1, c2, c3, c4⟩
  · rw [c1, c2, c3, c4 n hn (tr_rf n)]; rfl
  · unfold rn_st at e1
    rw [if_neg (by omega), if_neg (by omega), if_pos k] at e1
    rw [c1, c2, c3, c5 n hn (tr_rf n), e1]
    show true = bt (if (2 : Int32) = 2 then (1 : Int32) <<< (nI n &&& 31) else 0) n
    rw [if_pos rfl, rc_1shl (by omega), decide_eq_true rfl]
  · have e2 := e2 (pb_t c4)
    unfold rn_rs at e2
    by_cases k1 : κ n = 1
    · rw [if_pos k1] at e2
      rw [e2] at c5
      have : bt 1 1 = true := c5
      rw [rc_b1] at this
      exact absurd this (by decide)
    · rw [if_neg k1, if_pos (by omega)] at e2
      rcases hv (A n) ((T.2 n hn).2.2.2.2.2.1 (by omega)) with v | v
      · rw [if_neg (by rw [v]; decide), if_pos v] at e2
        rw [c1, c2, c3, c6 n hn (tr_rf n), e2]
        show true = bt (if (2 : Int32) = 2 then (1 : Int32) <<< (nI n &&& 31) else 0) n
        rw [if_pos rfl, rc_1shl (by omega), decide_eq_true rfl]
      · rw [if_pos v] at e2
        rw [e2] at c5
        have : bt 1 1 = true := c5
        rw [rc_b1] at this
        exact absurd this (by decide)
  · rw [c1, c2, c3, c4 n hn (tr_rf n)]; rfl
theorem ns_ex (T : tr_F ni no N κ A P Q U) (hL : ac_L N κ L) (hR : lc_R N κ A P Q U L e R) (hv : ∀ s, s < ni + no → e s = 0 ∨ e s = 1) {n : Nat} (hn : n < N) (k : κ n = 9)
    (hX : ¬ (ac_B N U L (P n) ∧ ac_B N U L (Q n))) (hP : ns_H ni no N κ U L R rs rr sl (td n) (P n)) (hQ : ns_H ni no N κ U L R rs rr sl (td n) (Q n))
    (hC : ns_C N U L F R KS KR FZ n) : ¬ (ac_B N U F (P n) ∧ ac_B N U F (Q n)) := by
  intro ⟨⟨m, hm, f1, b1⟩, ⟨m', hm', f2, b2⟩⟩
  have u1 : tr_B N U m n := tr_tr (tr_bp T hn (by omega)) b1
  have u2 : tr_B N U m' n := tr_tr (tr_bq T hn (by omega)) b2
  have d1 : ¬ tr_B N U m (Q n) := fun b => tr_dj T hn (by omega) b1 b
  have d2 : ¬ tr_B N U m' (P n) := fun b => tr_dj T hn (by omega) b b2
  have hA := (T.2 n hn).2.2.2.2.2.1 (by omega)
  obtain ⟨e1, e2⟩ := hR.2 n hn
  have no_ : ∀ {x : Bool}, x = true → x = false → False := by intro x h1 h2; rw [h1] at h2; cases h2
  rcases hC with ⟨c1, c2, c3, c4⟩ | ⟨c1, c2, c3, c4, c5⟩ | ⟨c1, c2, c3, c4, c5, c6⟩ | ⟨c1, c2, c3, c4⟩
  · exact no_ f1 (c4 m hm u1)
  · unfold rn_st at e1
    rw [if_neg (by omega), if_neg (by omega), if_neg (by omega), if_neg (by omega), if_pos k] at e1
    rw [c5 m hm u1] at f1
    rw [c5 m' hm' u2] at f2
    rcases hv _ hA with v | v
    · rw [if_neg (by rw [v]; decide), if_pos v, rn_cpe hQ.1] at e1
      rw [e1] at f1
      exact no_ f1 (ns_out hQ.1 d1)
    · rw [if_pos v, rn_cpe hP.1] at e1
      rw [e1] at f2
      exact no_ f2 (ns_out hP.1 d2)
  · have e2 := e2 (pb_t c4)
    have hpq := lc_apq T hL hn c4 (by omega)
    unfold rn_rs at e2
    rw [if_neg (by omega), if_neg (by omega), if_pos k] at e2
    rw [c6 m hm u1] at f1
    rw [c6 m' hm' u2] at f2
    by_cases ap : ac_b N U L (P n) = true
    · have aP := pb_i.mp ap
      rw [if_pos ap, rn_cpe (hP.2.1 aP)] at e2
      rw [e2] at f2
      exact no_ f2 (ns_out (hP.2.1 aP) d2)
    · have aq : ac_b N U L (Q n) = true := hpq.resolve_left ap
      have aQ := pb_i.mp aq
      rw [if_neg ap, if_pos aq, rn_cpe (hQ.2.1 aQ)] at e2
      rw [e2] at f1
      exact no_ f1 (ns_out (hQ.2.1 aQ) d1)
  · rw [c4 m hm u1] at f1
    rw [c4 m' hm' u2] at f2
    exact hX ⟨⟨m, hm, f1, b1⟩, ⟨m', hm', f2, b2⟩⟩
end
end
section
/-! ===== circuits: (wires, op, a, b, inverse) ===== -/
abbrev ck_T : Type := Nat × (Nat → Int32) × (Nat → Int32) × (Nat → Int32) × (Nat → Int32)
def ck_g (op : Int32) (x y : kv_T) : kv_T := if op = 0 then kv_A x y else if op = 1 then kv_O x y else kv_N x
/-- V satisfies the gates below hi -/
def ck_S (V : Nat → kv_T) (hi : Nat) (go ga gb : Nat → Int32) : Prop := V 0 = kv_0 ∧ V 1 = kv_1 ∧ ∀ w, 45 ≤ w → w < hi → V w = ck_g (go w) (V (ga w).toNatClampNeg) (V (gb w).toNatClampNeg)
def ck_V (V : Nat → kv_T) (c : ck_T) : Prop := ck_S V c.1 c.2.1 c.2.2.1 c.2.2.2.1
/-- gates stand behind what they read -/
def ck_A (hi : Nat) (ga gb : Nat → Int32) : Prop := ∀ w, 45 ≤ w → w < hi → (∃ a, a < w ∧ ga w = nI a) ∧ (∃ b, b < w ∧ gb w = nI b)
def ck_O (c : ck_T) : Prop := 45 ≤ c.1 ∧ c.1 ≤ 4096 ∧ ck_A c.1 c.2.2.1 c.2.2.2.1 ∧
  ∀ w, w < c.1 → c.2.2.2.2 w = 0 ∨ ∃ i, i < c.1 ∧ c.2.2.2.2 w = nI i ∧ (w < 45 → 45 ≤ i) ∧ ∀ V, ck_V V c → V i = kv_N (V w)
/-- c' goes on from c -/
def ck_X (c c' : ck_T) : Prop := c.1 ≤ c'.1 ∧ ∀ w, w < c.1 → c'.2.1 w = c.2.1 w ∧ c'.2.2.1 w = c.2.2.1 w ∧ c'.2.2.2.1 w = c.2.2.2.1 w
theorem ck_Xr (c : ck_T) : ck_X c c := ⟨Nat.le_refl _, fun _ _ => ⟨rfl, rfl, rfl⟩⟩
theorem ck_Xt {a b c : ck_T} (h : ck_X a b) (k : ck_X b c) : ck_X a c := by
  refine ⟨Nat.le_trans h.1 k.1, fun w hw => ?_⟩
  have p := h.2 w hw
  have q := k.2 w (Nat.lt_of_lt_of_le hw h.1)
  exact ⟨q.1.trans p.1, q.2.1.trans p.2.1, q.2.2.trans p.2.2⟩
theorem ck_Sm {V : Nat → kv_T} {hi hi' : Nat} {go ga gb go' ga' gb' : Nat → Int32} (hh : hi ≤ hi') (h : ∀ w, w < hi → go' w = go w ∧ ga' w = ga w ∧ gb' w = gb w) (v : ck_S V hi' go' ga' gb') : ck_S V hi go ga gb := by
  refine ⟨v.1, v.2.1, fun w h1 h2 => ?_⟩
  have p := h w h2
  have q := v.2.2 w h1 (Nat.lt_of_lt_of_le h2 hh)
  rw [p.1, p.2.1, p.2.2] at q
  exact q
theorem ck_XV {c c' : ck_T} {V : Nat → kv_T} (h : ck_X c c') (v : ck_V V c') : ck_V V c := ck_Sm h.1 h.2 v
def ck_n (c : ck_T) (op a b : Int32) : ck_T := (c.1 + 1, upd c.2.1 c.1 op, upd c.2.2.1 c.1 a, upd c.2.2.2.1 c.1 b, upd c.2.2.2.2 c.1 0)
theorem ck_nX (c : ck_T) (op a b : Int32) : ck_X c (ck_n c op a b) :=
  ⟨Nat.le_succ _, fun w hw => ⟨pk_un (by omega), pk_un (by omega), pk_un (by omega)⟩⟩
theorem ck_nO {c : ck_T} {op : Int32} {a b : Nat} (H : ck_O c) (hw : c.1 < 4096) (ha : a < c.1) (hb : b < c.1) : ck_O (ck_n c op (nI a) (nI b)) := by
  obtain ⟨h1, h2, h3, h4⟩ := H
  refine ⟨Nat.le_succ_of_le h1, hw, ?_, ?_⟩
  · intro w w1 w2
    have w2 : w < c.1 + 1 := w2
    by_cases e : w = c.1
    · subst e
      exact ⟨⟨a, ha, pk_us⟩, ⟨b, hb, pk_us⟩⟩
    · have := h3 w w1 (by omega)
      exact ⟨by obtain ⟨⟨x, hx, ex⟩, _⟩ := this; exact ⟨x, hx, (pk_un e).trans ex⟩, by obtain ⟨_, ⟨x, hx, ex⟩⟩ := this; exact ⟨x, hx, (pk_un e).trans ex⟩⟩
  · intro w w2
    have w2 : w < c.1 + 1 := w2
    by_cases e : w = c.1
    · subst e
      exact Or.inl pk_us
    · rcases h4 w (by omega) with h | ⟨i, hi, ei, hs, hV⟩
      · exact Or.inl ((pk_un e).trans h)
      · exact Or.inr ⟨i, Nat.lt_succ_of_lt hi, (pk_un e).trans ei, hs, fun V v => hV V (ck_XV (ck_nX c op (nI a) (nI b)) v)⟩
theorem ck_nV {c : ck_T} {op : Int32} {a b : Nat} {V : Nat → kv_T} (H : ck_O c) (hw : c.1 < 4096) (ha : a < c.1) (hb : b < c.1) (v : ck_V V (ck_n c op (nI a) (nI b))) : V c.1 = ck_g op (V a) (V b) := by
  have q := v.2.2 c.1 H.1 (Nat.lt_succ_self c.1)
  have e1 : (ck_n c op (nI a) (nI b)).2.1 c.1 = op := pk_us
  have e2 : (ck_n c op (nI a) (nI b)).2.2.1 c.1 = nI a := pk_us
  have e3 : (ck_n c op (nI a) (nI b)).2.2.2.1 c.1 = nI b := pk_us
  rw [e1, e2, e3, nI_clamp (by omega), nI_clamp (by omega)] at q
  exact q
def ck_i (c : ck_T) (a w : Nat) : ck_T := (c.1, c.2.1, c.2.2.1, c.2.2.2.1, upd (upd c.2.2.2.2 a (nI w)) w (nI a))
theorem ck_iO {c : ck_T} {a w : Nat} (H : ck_O c) (ha : a < c.1) (h45 : 45 ≤ w) (hw : w < c.1) (hV : ∀ V, ck_V V c → V w = kv_N (V a)) : ck_O (ck_i c a w) := by
  obtain ⟨h1, h2, h3, h4⟩ := H
  refine ⟨h1, h2, h3, ?_⟩
  intro x hx
  have hx : x < c.1 := hx
  show upd (upd c.2.2.2.2 a (nI w)) w (nI a) x = 0 ∨ ∃ i, i < c.1 ∧ upd (upd c.2.2.2.2 a (nI w)) w (nI a) x = nI i ∧ (x < 45 → 45 ≤ i) ∧ ∀ V, ck_V V c → V i = kv_N (V x)
  by_cases e : x = w
  · subst e
    exact Or.inr ⟨a, ha, pk_us, fun h => absurd h (by omega), fun V v => by rw [hV V v, kv_NN]⟩
  · rw [pk_un e]
    by_cases f : x = a
    · subst f
      exact Or.inr ⟨w, hw, pk_us, fun _ => h45, fun V v => hV V v⟩
    · rw [pk_un f]; exact h4 x hx
/-! rows of the cell array -/
def rw_R (c : ck_T) (ce : Nat → Int32) (ρ : Nat) : Prop := ∀ k, k < 12 → ∃ w, w < c.1 ∧ ce (ρ * 12 + k) = nI w
def rw_v (V : Nat → kv_T) (ce : Nat → Int32) (ρ k : Nat) : kv_T := if k < 12 then V (ce (ρ * 12 + k)).toNatClampNeg else kv_0
theorem rw_v1 {V : Nat → kv_T} {ce : Nat → Int32} {ρ k : Nat} (h : k < 12) : rw_v V ce ρ k = V (ce (ρ * 12 + k)).toNatClampNeg := if_pos h
theorem rw_v2 {V : Nat → kv_T} {ce : Nat → Int32} {ρ k : Nat} (h : 12 ≤ k) : rw_v V ce ρ k = kv_0 := if_neg (by omega)
theorem rw_vc {V : Nat → kv_T} {ce ce' : Nat → Int32} {ρ : Nat} (h : ∀ k, k < 12 → ce' (ρ * 12 + k) = ce (ρ * 12 + k)) : rw_v V ce' ρ = rw_v V ce ρ := by
  funext k
  unfold rw_v
  by_cases e : k < 12
  · rw [if_pos e, if_pos e, h k e]
  · rw [if_neg e, if_neg e]
theorem rw_Rc {c c' : ck_T} {ce ce' : Nat → Int32} {ρ : Nat} (hR : rw_R c ce ρ) (hc : c.1 ≤ c'.1) (h : ∀ k, k < 12 → ce' (ρ * 12 + k) = ce (ρ * 12 + k)) : rw_R c' ce' ρ := by
  intro k hk
  obtain ⟨w, hw, e⟩ := hR k hk
  exact ⟨w, by omega, by rw [h k hk, e]⟩
/-- row ρ is being built: k wires stand -/
def rw_I (c0 : ck_T) (ce0 : Nat → Int32) (ρ : Nat) (f : (Nat → kv_T) → Nat → kv_T) (k : Nat) (c : ck_T) (ce : Nat → Int32) : Prop :=
  ck_O c ∧ ck_X c0 c ∧ (∀ i, i < ρ * 12 ∨ ρ * 12 + 12 ≤ i → ce i = ce0 i) ∧ (∀ j, j < k → ∃ w, w < c.1 ∧ ce (ρ * 12 + j) = nI w) ∧
  (∀ V, ck_V V c → ∀ j, j < k → V (ce (ρ * 12 + j)).toNatClampNeg = f V j)
/-- row ρ stands, with the values f -/
def rw_D (c0 : ck_T) (ce0 : Nat → Int32) (ρ : Nat) (f : (Nat → kv_T) → Nat → kv_T) (c : ck_T) (ce : Nat → Int32) : Prop :=
  ck_O c ∧ ck_X c0 c ∧ (∀ i, i < ρ * 12 ∨ ρ * 12 + 12 ≤ i → ce i = ce0 i) ∧ rw_R c ce ρ ∧ (∀ V, ck_V V c → rw_v V ce ρ = f V)
theorem rw_0 {c0 : ck_T} {ce0 : Nat → Int32} {ρ : Nat} {f : (Nat → kv_T) → Nat → kv_T} {c : ck_T} (H : ck_O c) (X : ck_X c0 c) : rw_I c0 ce0 ρ f 0 c ce0 :=
  ⟨H, X, fun _ _ => rfl, fun j h => absurd h (by omega), fun V _ j h => absurd h (by omega)⟩
theorem rw_s {c0 : ck_T} {ce0 : Nat → Int32} {ρ : Nat} {f : (Nat → kv_T) → Nat → kv_T} {k d : Nat} {c c' : ck_T} {ce : Nat → Int32} (h : rw_I c0 ce0 ρ f k c ce) (hk : k < 12) (O : ck_O c') (X : ck_X c c') (hd : d < c'.1)
    (hV : ∀ V, ck_V V c' → V d = f V k) : rw_I c0 ce0 ρ f (k + 1) c' (upd ce (ρ * 12 + k) (nI d)) := by
  obtain ⟨h1, h2, h3, h4, h5⟩ := h
  have O2 := O.2.1
  refine ⟨O, ck_Xt h2 X, ?_, ?_, ?_⟩
  · intro i hi
    rw [pk_un (by omega)]; exact h3 i hi
  · intro j hj
    by_cases e : j = k
    · subst e; exact ⟨d, hd, pk_us⟩
    · obtain ⟨w, hw, ew⟩ := h4 j (by omega)
      exact ⟨w, Nat.lt_of_lt_of_le hw X.1, by rw [pk_un (by omega)]; exact ew⟩
  · intro V v j hj
    by_cases e : j = k
    · subst e; rw [pk_us, nI_clamp (by omega)]; exact hV V v
    · rw [pk_un (by omega)]; exact h5 V (ck_XV X v) j (by omega)
theorem rw_e {c0 : ck_T} {ce0 : Nat → Int32} {ρ : Nat} {f : (Nat → kv_T) → Nat → kv_T} {c : ck_T} {ce : Nat → Int32} (h : rw_I c0 ce0 ρ f 12 c ce) (hf : ∀ V k, 12 ≤ k → f V k = kv_0) : rw_D c0 ce0 ρ f c ce := by
  obtain ⟨h1, h2, h3, h4, h5⟩ := h
  refine ⟨h1, h2, h3, h4, fun V v => ?_⟩
  funext k
  by_cases e : k < 12
  · rw [rw_v1 e]; exact h5 V v k e
  · rw [rw_v2 (by omega), hf V k (by omega)]
theorem rc_mxz {c : kv_T} {a b : Nat → kv_T} {k : Nat} (ha : a k = kv_0) (hb : b k = kv_0) : rc_mx c a b k = kv_0 := by
  unfold rc_mx; rw [ha, hb, kv_A0r, kv_A0r]; rfl
theorem rc_thz {a b : Nat → kv_T} {k : Nat} (hk : 12 ≤ k) (ha : a k = kv_0) (hb : b k = kv_0) : rc_th a b k = kv_0 := by
  unfold rc_th; rw [if_neg (by omega), ha, hb, kv_A0r]; rfl
theorem rc_prz {a b : Nat → kv_T} {k : Nat} (hk : 12 ≤ k) (ha : a k = kv_0) (hb : b k = kv_0) : rc_pr a b k = kv_0 := by
  unfold rc_pr; rw [if_neg (by omega), ha, hb]; rfl
theorem rc_trz {a : Nat → kv_T} {k : Nat} (hk : 12 ≤ k) (ha : a k = kv_0) : rc_tr a k = kv_0 := by
  unfold rc_tr; rw [if_neg (by omega), if_neg (by omega), if_neg (by omega), if_neg (by omega), if_neg (by omega), ha]
end
section
/-! ===== X: gates ===== -/
section
variable {f_wireFalse f_wireTrue f_signalBase f_bootWire f_registerBase f_firstGate f_wireLimit f_opAnd f_opOr f_opNot f_codes f_cells f_resumeBase f_rootRow f_endRow f_stayRow f_leftRow f_rightRow f_inputSignals f_outputSignals f_nodeLimit f_count f_phaseNow f_instantCount f_rejectedCount f_wireCount f_logicEnd : Int32} {a_kindOf a_argOf a_firstOf a_secondOf a_parentOf a_activeNode a_lastStatus a_inTree a_trapDepth a_firstCodes a_gateOp a_gateA a_gateB a_inverseOf a_cell a_selWire a_keepStart a_keepResume a_frozen a_nextWire : Nat → Int32} {a_must a_can : Nat → Int64}
variable {post : Int32 → SX → Prop} {c : ck_T}
theorem xg_gate (hw : c.1 < 4096) {op a b : Int32} (K : post (nI c.1) (f_wireFalse, f_wireTrue, f_signalBase, f_bootWire, f_registerBase, f_firstGate, f_wireLimit, f_opAnd, f_opOr, f_opNot, f_codes, f_cells, f_resumeBase, f_rootRow, f_endRow, f_stayRow, f_leftRow, f_rightRow, f_inputSignals, f_outputSignals, f_nodeLimit, f_count, f_phaseNow, f_instantCount, f_rejectedCount, nI (ck_n c op a b).1, f_logicEnd, a_kindOf, a_argOf, a_firstOf, a_secondOf, a_parentOf, a_activeNode, a_lastStatus, a_inTree, a_trapDepth, a_firstCodes, (ck_n c op a b).2.1, (ck_n c op a b).2.2.1, (ck_n c op a b).2.2.2.1, (ck_n c op a b).2.2.2.2, a_cell, a_selWire, a_keepStart, a_keepResume, a_frozen, a_nextWire, a_must, a_can)) : wpX_gate post (f_wireFalse, f_wireTrue, f_signalBase, f_bootWire, f_registerBase, f_firstGate, f_wireLimit, f_opAnd, f_opOr, f_opNot, f_codes, f_cells, f_resumeBase, f_rootRow, f_endRow, f_stayRow, f_leftRow, f_rightRow, f_inputSignals, f_outputSignals, f_nodeLimit, f_count, f_phaseNow, f_instantCount, f_rejectedCount, nI c.1, f_logicEnd, a_kindOf, a_argOf, a_firstOf, a_secondOf, a_parentOf, a_activeNode, a_lastStatus, a_inTree, a_trapDepth, a_firstCodes, c.2.1, c.2.2.1, c.2.2.2.1, c.2.2.2.2, a_cell, a_selWire, a_keepStart, a_keepResume, a_frozen, a_nextWire, a_must, a_can) op a b := by
  have hi : vp_in (nI c.1) 4096 := vp_in_nI hw (by decide)
  refine br_t (nI_lt (b := 4096) hw (by decide)) ⟨hi, ?_⟩
  rw [nI_clamp (show c.1 < 2 ^ 31 by omega), nI_1 c.1]
  exact nm_e ⟨hi, nm_e ⟨hi, nm_e ⟨hi, nm_e (nm_e K)⟩⟩⟩
theorem xg_or {a b : Nat} (H : ck_O c) (hw : c.1 < 4096) (ha : a < c.1) (hb : b < c.1)
    (K : ∀ (d : Nat) (c' : ck_T), ck_O c' → ck_X c c' → c'.1 ≤ c.1 + 1 → d < c'.1 → (∀ V, ck_V V c' → V d = kv_O (V a) (V b)) → post (nI d) (f_wireFalse, f_wireTrue, f_signalBase, f_bootWire, f_registerBase, f_firstGate, f_wireLimit, f_opAnd, f_opOr, f_opNot, f_codes, f_cells, f_resumeBase, f_rootRow, f_endRow, f_stayRow, f_leftRow, f_rightRow, f_inputSignals, f_outputSignals, f_nodeLimit, f_count, f_phaseNow, f_instantCount, f_rejectedCount, nI c'.1, f_logicEnd, a_kindOf, a_argOf, a_firstOf, a_secondOf, a_parentOf, a_activeNode, a_lastStatus, a_inTree, a_trapDepth, a_firstCodes, c'.2.1, c'.2.2.1, c'.2.2.2.1, c'.2.2.2.2, a_cell, a_selWire, a_keepStart, a_keepResume, a_frozen, a_nextWire, a_must, a_can)) : wpX_or post (f_wireFalse, f_wireTrue, f_signalBase, f_bootWire, f_registerBase, f_firstGate, f_wireLimit, f_opAnd, f_opOr, f_opNot, f_codes, f_cells, f_resumeBase, f_rootRow, f_endRow, f_stayRow, f_leftRow, f_rightRow, f_inputSignals, f_outputSignals, f_nodeLimit, f_count, f_phaseNow, f_instantCount, f_rejectedCount, nI c.1, f_logicEnd, a_kindOf, a_argOf, a_firstOf, a_secondOf, a_parentOf, a_activeNode, a_lastStatus, a_inTree, a_trapDepth, a_firstCodes, c.2.1, c.2.2.1, c.2.2.2.1, c.2.2.2.2, a_cell, a_selWire, a_keepStart, a_keepResume, a_frozen, a_nextWire, a_must, a_can) (nI a) (nI b) := by
  have h45 := H.1
  refine pk_eq a 1 (fun h => K 1 c H (ck_Xr c) (by omega) (by omega) (fun V v => by rw [h, v.2.1, kv_O1l])) (fun h1 => ?_)
  refine pk_eq b 1 (fun h => K 1 c H (ck_Xr c) (by omega) (by omega) (fun V v => by rw [h, v.2.1, kv_O1r])) (fun h2 => ?_)
  refine pk_eq a 0 (fun h => K b c H (ck_Xr c) (by omega) hb (fun V v => by rw [h, v.1, kv_O0l])) (fun h3 => ?_)
  refine pk_eq a b (fun h => K b c H (ck_Xr c) (by omega) hb (fun V v => by rw [h, kv_Os])) (fun h4 => ?_)
  refine pk_eq b 0 (fun h => K a c H (ck_Xr c) (by omega) ha (fun V v => by rw [h, v.1, kv_O0r])) (fun h5 => ?_)
  exact xg_gate hw (K c.1 (ck_n c 1 (nI a) (nI b)) (ck_nO H hw ha hb) (ck_nX c 1 (nI a) (nI b)) (Nat.le_refl _) (Nat.lt_succ_self _) (fun V v => ck_nV H hw ha hb v))
theorem xg_and {a b : Nat} (H : ck_O c) (hw : c.1 < 4096) (ha : a < c.1) (hb : b < c.1)
    (K : ∀ (d : Nat) (c' : ck_T), ck_O c' → ck_X c c' → c'.1 ≤ c.1 + 1 → d < c'.1 → (∀ V, ck_V V c' → V d = kv_A (V a) (V b)) → post (nI d) (f_wireFalse, f_wireTrue, f_signalBase, f_bootWire, f_registerBase, f_firstGate, f_wireLimit, f_opAnd, f_opOr, f_opNot, f_codes, f_cells, f_resumeBase, f_rootRow, f_endRow, f_stayRow, f_leftRow, f_rightRow, f_inputSignals, f_outputSignals, f_nodeLimit, f_count, f_phaseNow, f_instantCount, f_rejectedCount, nI c'.1, f_logicEnd, a_kindOf, a_argOf, a_firstOf, a_secondOf, a_parentOf, a_activeNode, a_lastStatus, a_inTree, a_trapDepth, a_firstCodes, c'.2.1, c'.2.2.1, c'.2.2.2.1, c'.2.2.2.2, a_cell, a_selWire, a_keepStart, a_keepResume, a_frozen, a_nextWire, a_must, a_can)) : wpX_and post (f_wireFalse, f_wireTrue, f_signalBase, f_bootWire, f_registerBase, f_firstGate, f_wireLimit, f_opAnd, f_opOr, f_opNot, f_codes, f_cells, f_resumeBase, f_rootRow, f_endRow, f_stayRow, f_leftRow, f_rightRow, f_inputSignals, f_outputSignals, f_nodeLimit, f_count, f_phaseNow, f_instantCount, f_rejectedCount, nI c.1, f_logicEnd, a_kindOf, a_argOf, a_firstOf, a_secondOf, a_parentOf, a_activeNode, a_lastStatus, a_inTree, a_trapDepth, a_firstCodes, c.2.1, c.2.2.1, c.2.2.2.1, c.2.2.2.2, a_cell, a_selWire, a_keepStart, a_keepResume, a_frozen, a_nextWire, a_must, a_can) (nI a) (nI b) := by
  have h45 := H.1
  refine pk_eq a 0 (fun h => K 0 c H (ck_Xr c) (by omega) (by omega) (fun V v => by rw [h, v.1, kv_A0l])) (fun h1 => ?_)
  refine pk_eq b 0 (fun h => K 0 c H (ck_Xr c) (by omega) (by omega) (fun V v => by rw [h, v.1, kv_A0r])) (fun h2 => ?_)
  refine pk_eq a 1 (fun h => K b c H (ck_Xr c) (by omega) hb (fun V v => by rw [h, v.2.1, kv_A1l])) (fun h3 => ?_)
  refine pk_eq a b (fun h => K b c H (ck_Xr c) (by omega) hb (fun V v => by rw [h, kv_As])) (fun h4 => ?_)
  refine pk_eq b 1 (fun h => K a c H (ck_Xr c) (by omega) ha (fun V v => by rw [h, v.2.1, kv_A1r])) (fun h5 => ?_)
  exact xg_gate hw (K c.1 (ck_n c 0 (nI a) (nI b)) (ck_nO H hw ha hb) (ck_nX c 0 (nI a) (nI b)) (Nat.le_refl _) (Nat.lt_succ_self _) (fun V v => ck_nV H hw ha hb v))
theorem xg_inv {a : Nat} (H : ck_O c) (hw : c.1 < 4096) (ha : a < c.1)
    (K : ∀ (d : Nat) (c' : ck_T), ck_O c' → ck_X c c' → c'.1 ≤ c.1 + 1 → d < c'.1 → (∀ V, ck_V V c' → V d = kv_N (V a)) → post (nI d) (f_wireFalse, f_wireTrue, f_signalBase, f_bootWire, f_registerBase, f_firstGate, f_wireLimit, f_opAnd, f_opOr, f_opNot, f_codes, f_cells, f_resumeBase, f_rootRow, f_endRow, f_stayRow, f_leftRow, f_rightRow, f_inputSignals, f_outputSignals, f_nodeLimit, f_count, f_phaseNow, f_instantCount, f_rejectedCount, nI c'.1, f_logicEnd, a_kindOf, a_argOf, a_firstOf, a_secondOf, a_parentOf, a_activeNode, a_lastStatus, a_inTree, a_trapDepth, a_firstCodes, c'.2.1, c'.2.2.1, c'.2.2.2.1, c'.2.2.2.2, a_cell, a_selWire, a_keepStart, a_keepResume, a_frozen, a_nextWire, a_must, a_can)) : wpX_invert post (f_wireFalse, f_wireTrue, f_signalBase, f_bootWire, f_registerBase, f_firstGate, f_wireLimit, f_opAnd, f_opOr, f_opNot, f_codes, f_cells, f_resumeBase, f_rootRow, f_endRow, f_stayRow, f_leftRow, f_rightRow, f_inputSignals, f_outputSignals, f_nodeLimit, f_count, f_phaseNow, f_instantCount, f_rejectedCount, nI c.1, f_logicEnd, a_kindOf, a_argOf, a_firstOf, a_secondOf, a_parentOf, a_activeNode, a_lastStatus, a_inTree, a_trapDepth, a_firstCodes, c.2.1, c.2.2.1, c.2.2.2.1, c.2.2.2.2, a_cell, a_selWire, a_keepStart, a_keepResume, a_frozen, a_nextWire, a_must, a_can) (nI a) := by
  have h45 := H.1
  have hi : vp_in (nI a) 4096 := vp_in_nI (by omega) (by decide)
  have hc : (nI a).toNatClampNeg = a := nI_clamp (by omega)
  refine pk_eq a 0 (fun h => K 1 c H (ck_Xr c) (by omega) (by omega) (fun V v => by rw [h, v.1, v.2.1]; rfl)) (fun h1 => ?_)
  refine pk_eq a 1 (fun h => K 0 c H (ck_Xr c) (by omega) (by omega) (fun V v => by rw [h, v.1, v.2.1]; rfl)) (fun h2 => ?_)
  refine ⟨hi, br_c (fun hz => ?_) (fun hz => ⟨hi, ?_⟩)⟩
  · refine xg_gate hw ?_
    have O1 := ck_nO (op := 2) H hw ha ha
    have h3 : ∀ V, ck_V V (ck_n c 2 (nI a) (nI a)) → V c.1 = kv_N (V a) := fun V v => ck_nV H hw ha ha v
    refine ⟨hi, nm_e ⟨vp_in_nI hw (by decide), nm_e ?_⟩⟩
    rw [hc, nI_clamp (show c.1 < 2 ^ 31 by omega)]
    exact K c.1 (ck_i (ck_n c 2 (nI a) (nI a)) a c.1) (ck_iO O1 (Nat.lt_succ_of_lt ha) h45 (Nat.lt_succ_self _) h3) (ck_nX c 2 (nI a) (nI a)) (Nat.le_refl _) (Nat.lt_succ_self _) h3
  · rw [hc] at hz ⊢
    rcases H.2.2.2 a ha with h | ⟨i, hi, ei, _, hV⟩
    · exact absurd h hz
    · rw [ei]
      exact K i c H (ck_Xr c) (by omega) hi hV
end
end
section
/-! ===== X: rows ===== -/
theorem rw_far {ρ a k i : Nat} (h : a ≠ ρ) (hk : k < 12) (hi : i = a * 12 + k) : i < ρ * 12 ∨ ρ * 12 + 12 ≤ i := by omega
section
variable {f_wireFalse f_wireTrue f_signalBase f_bootWire f_registerBase f_firstGate f_wireLimit f_opAnd f_opOr f_opNot f_codes f_cells f_resumeBase f_rootRow f_endRow f_stayRow f_leftRow f_rightRow f_inputSignals f_outputSignals f_nodeLimit f_count f_phaseNow f_instantCount f_rejectedCount f_wireCount f_logicEnd : Int32} {a_kindOf a_argOf a_firstOf a_secondOf a_parentOf a_activeNode a_lastStatus a_inTree a_trapDepth a_firstCodes a_gateOp a_gateA a_gateB a_inverseOf a_cell a_selWire a_keepStart a_keepResume a_frozen a_nextWire : Nat → Int32} {a_must a_can : Nat → Int64}
variable {post : SX → Prop} {c0 : ck_T} {ce0 : Nat → Int32}
theorem xr_rd {c : ck_T} {ce : Nat → Int32} {ρ a k : Nat} {f : (Nat → kv_T) → Nat → kv_T} {j : Nat} (I : rw_I c0 ce0 ρ f j c ce) (ha : a ≠ ρ) (hR : rw_R c0 ce0 a) (h69 : a < 69) (hk : k < 12) :
    ∃ w, w < c.1 ∧ ce (nI (a * 12) + nI k).toNatClampNeg = nI w ∧ ∀ V : Nat → kv_T, V w = rw_v V ce0 a k := by
  obtain ⟨w, hw, e⟩ := hR k hk
  have O := I.1.2.1
  have X := I.2.1.1
  refine ⟨w, by omega, ?_, fun V => ?_⟩
  · rw [nI_add, nI_clamp (by omega), I.2.2.1 _ (rw_far ha hk rfl), e]
  · rw [rw_v1 hk, e, nI_clamp (by omega)]
theorem xr_mux_l {ρ a b cd ot : Nat} (hρ : ρ < 69) (ha : a < 69) (hb : b < 69) (ra : a ≠ ρ) (rb : b ≠ ρ) (Ra : rw_R c0 ce0 a) (Rb : rw_R c0 ce0 b) (hcd : cd < c0.1) (hot : ot < c0.1) (vot : ∀ V, ck_V V c0 → V ot = kv_N (V cd)) {B : Nat} (hB : B ≤ 4096)
    (K : ∀ c ce, rw_I c0 ce0 ρ (fun V => rc_mx (V cd) (rw_v V ce0 a) (rw_v V ce0 b)) 12 c ce → c.1 ≤ B → post (f_wireFalse, f_wireTrue, f_signalBase, f_bootWire, f_registerBase, f_firstGate, f_wireLimit, f_opAnd, f_opOr, f_opNot, f_codes, f_cells, f_resumeBase, f_rootRow, f_endRow, f_stayRow, f_leftRow, f_rightRow, f_inputSignals, f_outputSignals, f_nodeLimit, f_count, f_phaseNow, f_instantCount, f_rejectedCount, nI c.1, f_logicEnd, a_kindOf, a_argOf, a_firstOf, a_secondOf, a_parentOf, a_activeNode, a_lastStatus, a_inTree, a_trapDepth, a_firstCodes, c.2.1, c.2.2.1, c.2.2.2.1, c.2.2.2.2, ce, a_selWire, a_keepStart, a_keepResume, a_frozen, a_nextWire, a_must, a_can)) :
    ∀ m k c ce n, k + m = 12 → m < n → rw_I c0 ce0 ρ (fun V => rc_mx (V cd) (rw_v V ce0 a) (rw_v V ce0 b)) k c ce → c.1 + 3 * m ≤ B →
      wX_muxCells_10 post (nI (ρ * 12)) (nI cd) (nI (a * 12)) (nI (b * 12)) (nI ot) n (nI k) f_wireFalse f_wireTrue f_signalBase f_bootWire f_registerBase f_firstGate f_wireLimit f_opAnd f_opOr f_opNot f_codes f_cells f_resumeBase f_rootRow f_endRow f_stayRow f_leftRow f_rightRow f_inputSignals f_outputSignals f_nodeLimit f_count f_phaseNow f_instantCount f_rejectedCount (nI c.1) f_logicEnd a_kindOf a_argOf a_firstOf a_secondOf a_parentOf a_activeNode a_lastStatus a_inTree a_trapDepth a_firstCodes c.2.1 c.2.2.1 c.2.2.2.1 c.2.2.2.2 ce a_selWire a_keepStart a_keepResume a_frozen a_nextWire a_must a_can := by
  intro m
  induction m with
  | zero =>
    intro k c ce n hk hn I hc
    obtain ⟨n, rfl⟩ : ∃ z, n = z + 1 := ⟨n - 1, by omega⟩
    rw [show k = 12 by omega] at I ⊢
    exact pk_le 12 12 (fun _ => K c ce I (by omega)) (fun h => absurd h (by omega))
  | succ m ih =>
    intro k c ce n hk hn I hc
    obtain ⟨n, rfl⟩ : ∃ z, n = z + 1 := ⟨n - 1, by omega⟩
    refine pk_le 12 k (fun h => absurd h (by omega)) (fun _ => ?_)
    have X0 := I.2.1.1
    obtain ⟨wa, hwa, ea, va⟩ := xr_rd I ra Ra ha (show k < 12 by omega)
    refine ⟨pk_in (a * 12 + k) 828 (by omega) (nI_add _ _), ?_⟩
    rw [ea]
    refine xg_and I.1 (by omega) (by omega) hwa ?_
    intro d1 c1 O1 X1 n1 l1 v1
    have I1 : rw_I c0 ce0 ρ (fun V => rc_mx (V cd) (rw_v V ce0 a) (rw_v V ce0 b)) k c1 ce :=
      ⟨O1, ck_Xt I.2.1 X1, I.2.2.1, fun j hj => by obtain ⟨w, hw, e⟩ := I.2.2.2.1 j hj; exact ⟨w, Nat.lt_of_lt_of_le hw X1.1, e⟩, fun V v => I.2.2.2.2 V (ck_XV X1 v)⟩
    obtain ⟨wb, hwb, eb, vb⟩ := xr_rd I1 rb Rb hb (show k < 12 by omega)
    have X1' := X1.1
    refine ⟨pk_in (b * 12 + k) 828 (by omega) (nI_add _ _), ?_⟩
    rw [eb]
    refine xg_and O1 (by omega) (by omega) hwb ?_
    intro d2 c2 O2 X2 n2 l2 v2
    have X2' := X2.1
    refine xg_or O2 (by omega) (by omega) l2 ?_
    intro d3 c3 O3 X3 n3 l3 v3
    refine ⟨pk_in (ρ * 12 + k) 828 (by omega) (nI_add _ _), ?_⟩
    rw [nI_add (ρ * 12) k, nI_clamp (show ρ * 12 + k < 2 ^ 31 by omega), nI_1 k]
    refine nm_e (nm_e (ih (k + 1) c3 _ n (by omega) (by omega) (rw_s I (by omega) O3 (ck_Xt X1 (ck_Xt X2 X3)) l3 ?_) (by omega)))
    intro V v
    have w2 := ck_XV X3 v
    have w1 := ck_XV X2 w2
    have w0 := ck_XV (ck_Xt I.2.1 X1) w1
    rw [v3 V v, v2 V w2, v1 V w1, vot V w0, va V, vb V]
    rfl
theorem xr_mux {ρ a b cd : Nat} {x1 x2 x3 x4 : Int32} (e1 : x1 = nI (ρ * 12)) (e2 : x2 = nI cd) (e3 : x3 = nI (a * 12)) (e4 : x4 = nI (b * 12)) (hρ : ρ < 69) (ha : a < 69) (hb : b < 69) (ra : a ≠ ρ) (rb : b ≠ ρ)
    (O : ck_O c0) (Ra : rw_R c0 ce0 a) (Rb : rw_R c0 ce0 b) (hcd : cd < c0.1) (hB : c0.1 + 37 ≤ 4096)
    (K : ∀ c ce, rw_D c0 ce0 ρ (fun V => rc_mx (V cd) (rw_v V ce0 a) (rw_v V ce0 b)) c ce → c.1 ≤ c0.1 + 37 → post (f_wireFalse, f_wireTrue, f_signalBase, f_bootWire, f_registerBase, f_firstGate, f_wireLimit, f_opAnd, f_opOr, f_opNot, f_codes, f_cells, f_resumeBase, f_rootRow, f_endRow, f_stayRow, f_leftRow, f_rightRow, f_inputSignals, f_outputSignals, f_nodeLimit, f_count, f_phaseNow, f_instantCount, f_rejectedCount, nI c.1, f_logicEnd, a_kindOf, a_argOf, a_firstOf, a_secondOf, a_parentOf, a_activeNode, a_lastStatus, a_inTree, a_trapDepth, a_firstCodes, c.2.1, c.2.2.1, c.2.2.2.1, c.2.2.2.2, ce, a_selWire, a_keepStart, a_keepResume, a_frozen, a_nextWire, a_must, a_can)) :
    wpX_muxCells post (f_wireFalse, f_wireTrue, f_signalBase, f_bootWire, f_registerBase, f_firstGate, f_wireLimit, f_opAnd, f_opOr, f_opNot, f_codes, f_cells, f_resumeBase, f_rootRow, f_endRow, f_stayRow, f_leftRow, f_rightRow, f_inputSignals, f_outputSignals, f_nodeLimit, f_count, f_phaseNow, f_instantCount, f_rejectedCount, nI c0.1, f_logicEnd, a_kindOf, a_argOf, a_firstOf, a_secondOf, a_parentOf, a_activeNode, a_lastStatus, a_inTree, a_trapDepth, a_firstCodes, c0.2.1, c0.2.2.1, c0.2.2.2.1, c0.2.2.2.2, ce0, a_selWire, a_keepStart, a_keepResume, a_frozen, a_nextWire, a_must, a_can) x1 x2 x3 x4 := by
  subst e1 e2 e3 e4
  unfold wpX_muxCells
  refine xg_inv O (by omega) hcd ?_
  intro ot c1 O1 X1 n1 l1 v1
  have X1' := X1.1
  have Ra' : rw_R c1 ce0 a := rw_Rc Ra X1' (fun _ _ => rfl)
  have Rb' : rw_R c1 ce0 b := rw_Rc Rb X1' (fun _ _ => rfl)
  refine ⟨13, xr_mux_l (B := c0.1 + 37) hρ ha hb ra rb Ra' Rb' (by omega) l1 v1 hB ?_ 12 0 c1 ce0 13 rfl (by omega) (rw_0 O1 (ck_Xr c1)) (by omega)⟩
  intro c ce I hc
  have D := rw_e I (fun V k hk => rc_mxz (rw_v2 hk) (rw_v2 hk))
  exact K c ce ⟨D.1, ck_Xt X1 D.2.1, D.2.2.1, D.2.2.2.1, D.2.2.2.2⟩ hc
theorem xr_then_l {ρ a b : Nat} {en : Nat} (hρ : ρ < 69) (ha : a < 69) (hb : b < 69) (ra : a ≠ ρ) (rb : b ≠ ρ) (Ra : rw_R c0 ce0 a) (Rb : rw_R c0 ce0 b) (hen : en < c0.1) (ven : ∀ V : Nat → kv_T, V en = rw_v V ce0 a 0) {B : Nat} (hB : B ≤ 4096)
    (K : ∀ c ce, rw_I c0 ce0 ρ (fun V => rc_th (rw_v V ce0 a) (rw_v V ce0 b)) 12 c ce → c.1 ≤ B → post (f_wireFalse, f_wireTrue, f_signalBase, f_bootWire, f_registerBase, f_firstGate, f_wireLimit, f_opAnd, f_opOr, f_opNot, f_codes, f_cells, f_resumeBase, f_rootRow, f_endRow, f_stayRow, f_leftRow, f_rightRow, f_inputSignals, f_outputSignals, f_nodeLimit, f_count, f_phaseNow, f_instantCount, f_rejectedCount, nI c.1, f_logicEnd, a_kindOf, a_argOf, a_firstOf, a_secondOf, a_parentOf, a_activeNode, a_lastStatus, a_inTree, a_trapDepth, a_firstCodes, c.2.1, c.2.2.1, c.2.2.2.1, c.2.2.2.2, ce, a_selWire, a_keepStart, a_keepResume, a_frozen, a_nextWire, a_must, a_can)) :
    ∀ m k c ce n, k + m = 12 → 0 < k → m < n → rw_I c0 ce0 ρ (fun V => rc_th (rw_v V ce0 a) (rw_v V ce0 b)) k c ce → c.1 + 2 * m ≤ B →
      wX_thenCells_29 post (nI (ρ * 12)) (nI (a * 12)) (nI (b * 12)) (nI en) n (nI k) f_wireFalse f_wireTrue f_signalBase f_bootWire f_registerBase f_firstGate f_wireLimit f_opAnd f_opOr f_opNot f_codes f_cells f_resumeBase f_rootRow f_endRow f_stayRow f_leftRow f_rightRow f_inputSignals f_outputSignals f_nodeLimit f_count f_phaseNow f_instantCount f_rejectedCount (nI c.1) f_logicEnd a_kindOf a_argOf a_firstOf a_secondOf a_parentOf a_activeNode a_lastStatus a_inTree a_trapDepth a_firstCodes c.2.1 c.2.2.1 c.2.2.2.1 c.2.2.2.2 ce a_selWire a_keepStart a_keepResume a_frozen a_nextWire a_must a_can := by
  intro m
  induction m with
  | zero =>
    intro k c ce n hk k0 hn I hc
    obtain ⟨n, rfl⟩ : ∃ z, n = z + 1 := ⟨n - 1, by omega⟩
    rw [show k = 12 by omega] at I ⊢
    exact pk_le 12 12 (fun _ => K c ce I (by omega)) (fun h => absurd h (by omega))
  | succ m ih =>
    intro k c ce n hk k0 hn I hc
    obtain ⟨n, rfl⟩ : ∃ z, n = z + 1 := ⟨n - 1, by omega⟩
    refine pk_le 12 k (fun h => absurd h (by omega)) (fun _ => ?_)
    have X0 := I.2.1.1
    obtain ⟨wb, hwb, eb, vb⟩ := xr_rd I rb Rb hb (show k < 12 by omega)
    refine ⟨pk_in (b * 12 + k) 828 (by omega) (nI_add _ _), ?_⟩
    rw [eb]
    refine xg_and I.1 (by omega) (by omega) hwb ?_
    intro d1 c1 O1 X1 n1 l1 v1
    have I1 : rw_I c0 ce0 ρ (fun V => rc_th (rw_v V ce0 a) (rw_v V ce0 b)) k c1 ce :=
      ⟨O1, ck_Xt I.2.1 X1, I.2.2.1, fun j hj => by obtain ⟨w, hw, e⟩ := I.2.2.2.1 j hj; exact ⟨w, Nat.lt_of_lt_of_le hw X1.1, e⟩, fun V v => I.2.2.2.2 V (ck_XV X1 v)⟩
    obtain ⟨wa, hwa, ea, va⟩ := xr_rd I1 ra Ra ha (show k < 12 by omega)
    have X1' := X1.1
    refine ⟨pk_in (a * 12 + k) 828 (by omega) (nI_add _ _), ?_⟩
    rw [ea]
    refine xg_or O1 (by omega) hwa l1 ?_
    intro d3 c3 O3 X3 n3 l3 v3
    refine ⟨pk_in (ρ * 12 + k) 828 (by omega) (nI_add _ _), ?_⟩
    rw [nI_add (ρ * 12) k, nI_clamp (show ρ * 12 + k < 2 ^ 31 by omega), nI_1 k]
    refine nm_e (nm_e (ih (k + 1) c3 _ n (by omega) (by omega) (by omega) (rw_s I (by omega) O3 (ck_Xt X1 X3) l3 ?_) (by omega)))
    intro V v
    have w1 := ck_XV X3 v
    rw [v3 V v, v1 V w1, ven V, va V, vb V]
    show _ = rc_th _ _ k
    unfold rc_th
    rw [if_neg (by omega)]
theorem xr_then {ρ a b : Nat} {x1 x3 x4 : Int32} (e1 : x1 = nI (ρ * 12)) (e3 : x3 = nI (a * 12)) (e4 : x4 = nI (b * 12)) (hρ : ρ < 69) (ha : a < 69) (hb : b < 69) (ra : a ≠ ρ) (rb : b ≠ ρ)
    (O : ck_O c0) (Ra : rw_R c0 ce0 a) (Rb : rw_R c0 ce0 b) (hB : c0.1 + 23 ≤ 4096)
    (K : ∀ c ce, rw_D c0 ce0 ρ (fun V => rc_th (rw_v V ce0 a) (rw_v V ce0 b)) c ce → c.1 ≤ c0.1 + 23 → post (f_wireFalse, f_wireTrue, f_signalBase, f_bootWire, f_registerBase, f_firstGate, f_wireLimit, f_opAnd, f_opOr, f_opNot, f_codes, f_cells, f_resumeBase, f_rootRow, f_endRow, f_stayRow, f_leftRow, f_rightRow, f_inputSignals, f_outputSignals, f_nodeLimit, f_count, f_phaseNow, f_instantCount, f_rejectedCount, nI c.1, f_logicEnd, a_kindOf, a_argOf, a_firstOf, a_secondOf, a_parentOf, a_activeNode, a_lastStatus, a_inTree, a_trapDepth, a_firstCodes, c.2.1, c.2.2.1, c.2.2.2.1, c.2.2.2.2, ce, a_selWire, a_keepStart, a_keepResume, a_frozen, a_nextWire, a_must, a_can)) :
    wpX_thenCells post (f_wireFalse, f_wireTrue, f_signalBase, f_bootWire, f_registerBase, f_firstGate, f_wireLimit, f_opAnd, f_opOr, f_opNot, f_codes, f_cells, f_resumeBase, f_rootRow, f_endRow, f_stayRow, f_leftRow, f_rightRow, f_inputSignals, f_outputSignals, f_nodeLimit, f_count, f_phaseNow, f_instantCount, f_rejectedCount, nI c0.1, f_logicEnd, a_kindOf, a_argOf, a_firstOf, a_secondOf, a_parentOf, a_activeNode, a_lastStatus, a_inTree, a_trapDepth, a_firstCodes, c0.2.1, c0.2.2.1, c0.2.2.2.1, c0.2.2.2.2, ce0, a_selWire, a_keepStart, a_keepResume, a_frozen, a_nextWire, a_must, a_can) x1 x3 x4 := by
  subst e1 e3 e4
  obtain ⟨wa, hwa, ea⟩ := Ra 0 (by omega)
  obtain ⟨wb, hwb, eb⟩ := Rb 0 (by omega)
  have va : ∀ V : Nat → kv_T, V wa = rw_v V ce0 a 0 := fun V => by rw [rw_v1 (by omega), ea, nI_clamp (by have := O.2.1; omega)]
  have vb : ∀ V : Nat → kv_T, V wb = rw_v V ce0 b 0 := fun V => by rw [rw_v1 (by omega), eb, nI_clamp (by have := O.2.1; omega)]
  have ea' : ce0 (nI (a * 12)).toNatClampNeg = nI wa := by rw [nI_clamp (by omega)]; exact ea
  have eb' : ce0 (nI (b * 12)).toNatClampNeg = nI wb := by rw [nI_clamp (by omega)]; exact eb
  refine ⟨vp_in_nI (by omega) (by decide), nm_r ea' ⟨vp_in_nI (by omega) (by decide), ?_⟩⟩
  rw [eb']
  refine xg_and O (by omega) hwa hwb ?_
  intro d1 c1 O1 X1 n1 l1 v1
  have X1' := X1.1
  refine ⟨vp_in_nI (by omega) (by decide), ?_⟩
  rw [nI_clamp (show ρ * 12 < 2 ^ 31 by omega)]
  refine nm_e ⟨12, ?_⟩
  have I0 : rw_I c0 ce0 ρ (fun V => rc_th (rw_v V ce0 a) (rw_v V ce0 b)) 0 c0 ce0 := rw_0 O (ck_Xr c0)
  have I1 := rw_s I0 (by omega) O1 X1 l1 (fun V v => by rw [v1 V v, va V, vb V]; rfl)
  refine xr_then_l (en := wa) (B := c0.1 + 23) hρ ha hb ra rb Ra Rb hwa va hB ?_ 11 1 c1 _ 12 rfl (by omega) (by omega) I1 (by omega)
  intro c ce I hc
  exact K c ce (rw_e I (fun V k hk => rc_thz hk (rw_v2 hk) (rw_v2 hk))) hc
end
end
section
/-! ===== X: rows, second part ===== -/
def rw_Cp (ρ a : Nat) (ce0 ce : Nat → Int32) : Prop := (∀ i, i < ρ * 12 ∨ ρ * 12 + 12 ≤ i → ce i = ce0 i) ∧ ∀ k, k < 12 → ce (ρ * 12 + k) = ce0 (a * 12 + k)
def rw_Bk (ρ : Nat) (ce0 ce : Nat → Int32) : Prop := (∀ i, i < ρ * 12 ∨ ρ * 12 + 12 ≤ i → ce i = ce0 i) ∧ ∀ k, k < 12 → ce (ρ * 12 + k) = 0
section
variable {f_wireFalse f_wireTrue f_signalBase f_bootWire f_registerBase f_firstGate f_wireLimit f_opAnd f_opOr f_opNot f_codes f_cells f_resumeBase f_rootRow f_endRow f_stayRow f_leftRow f_rightRow f_inputSignals f_outputSignals f_nodeLimit f_count f_phaseNow f_instantCount f_rejectedCount f_wireCount f_logicEnd : Int32} {a_kindOf a_argOf a_firstOf a_secondOf a_parentOf a_activeNode a_lastStatus a_inTree a_trapDepth a_firstCodes a_gateOp a_gateA a_gateB a_inverseOf a_cell a_selWire a_keepStart a_keepResume a_frozen a_nextWire : Nat → Int32} {a_must a_can : Nat → Int64}
variable {post : SX → Prop} {c0 : ck_T} {ce0 : Nat → Int32}
theorem xr_copy_l {ρ a : Nat} (hρ : ρ < 69) (ha : a < 69) (ra : a ≠ ρ) (K : ∀ ce, rw_Cp ρ a ce0 ce → post (f_wireFalse, f_wireTrue, f_signalBase, f_bootWire, f_registerBase, f_firstGate, f_wireLimit, f_opAnd, f_opOr, f_opNot, f_codes, f_cells, f_resumeBase, f_rootRow, f_endRow, f_stayRow, f_leftRow, f_rightRow, f_inputSignals, f_outputSignals, f_nodeLimit, f_count, f_phaseNow, f_instantCount, f_rejectedCount, f_wireCount, f_logicEnd, a_kindOf, a_argOf, a_firstOf, a_secondOf, a_parentOf, a_activeNode, a_lastStatus, a_inTree, a_trapDepth, a_firstCodes, a_gateOp, a_gateA, a_gateB, a_inverseOf, ce, a_selWire, a_keepStart, a_keepResume, a_frozen, a_nextWire, a_must, a_can)) :
    ∀ m k ce n, k + m = 12 → m < n → (∀ i, i < ρ * 12 ∨ ρ * 12 + 12 ≤ i → ce i = ce0 i) → (∀ j, j < k → ce (ρ * 12 + j) = ce0 (a * 12 + j)) →
      wX_copyCells_2 post (nI (ρ * 12)) (nI (a * 12)) f_wireFalse f_wireTrue f_signalBase f_bootWire f_registerBase f_firstGate f_wireLimit f_opAnd f_opOr f_opNot f_codes f_cells f_resumeBase f_rootRow f_endRow f_stayRow f_leftRow f_rightRow f_inputSignals f_outputSignals f_nodeLimit f_count f_phaseNow f_instantCount f_rejectedCount f_wireCount f_logicEnd n (nI k) a_kindOf a_argOf a_firstOf a_secondOf a_parentOf a_activeNode a_lastStatus a_inTree a_trapDepth a_firstCodes a_gateOp a_gateA a_gateB a_inverseOf ce a_selWire a_keepStart a_keepResume a_frozen a_nextWire a_must a_can := by
  intro m
  induction m with
  | zero =>
    intro k ce n hk hn h1 h2
    obtain ⟨n, rfl⟩ : ∃ z, n = z + 1 := ⟨n - 1, by omega⟩
    rw [show k = 12 by omega] at h2 ⊢
    exact pk_le 12 12 (fun _ => K ce ⟨h1, h2⟩) (fun h => absurd h (by omega))
  | succ m ih =>
    intro k ce n hk hn h1 h2
    obtain ⟨n, rfl⟩ : ∃ z, n = z + 1 := ⟨n - 1, by omega⟩
    refine pk_le 12 k (fun h => absurd h (by omega)) (fun _ => ?_)
    refine ⟨pk_in (a * 12 + k) 828 (by omega) (nI_add _ _), pk_in (ρ * 12 + k) 828 (by omega) (nI_add _ _), ?_⟩
    rw [nI_add (ρ * 12) k, nI_add (a * 12) k, nI_clamp (show ρ * 12 + k < 2 ^ 31 by omega), nI_clamp (show a * 12 + k < 2 ^ 31 by omega), nI_1 k]
    refine nm_e (nm_e (ih (k + 1) _ n (by omega) (by omega) ?_ ?_))
    · intro i hi; rw [pk_un (by omega)]; exact h1 i hi
    · intro j hj
      by_cases e : j = k
      · subst e; rw [pk_us]; exact h1 _ (by omega)
      · rw [pk_un (by omega)]; exact h2 j (by omega)
theorem xr_copy {ρ a : Nat} {x1 x2 : Int32} (e1 : x1 = nI (ρ * 12)) (e2 : x2 = nI (a * 12)) (hρ : ρ < 69) (ha : a < 69) (ra : a ≠ ρ) (K : ∀ ce, rw_Cp ρ a ce0 ce → post (f_wireFalse, f_wireTrue, f_signalBase, f_bootWire, f_registerBase, f_firstGate, f_wireLimit, f_opAnd, f_opOr, f_opNot, f_codes, f_cells, f_resumeBase, f_rootRow, f_endRow, f_stayRow, f_leftRow, f_rightRow, f_inputSignals, f_outputSignals, f_nodeLimit, f_count, f_phaseNow, f_instantCount, f_rejectedCount, f_wireCount, f_logicEnd, a_kindOf, a_argOf, a_firstOf, a_secondOf, a_parentOf, a_activeNode, a_lastStatus, a_inTree, a_trapDepth, a_firstCodes, a_gateOp, a_gateA, a_gateB, a_inverseOf, ce, a_selWire, a_keepStart, a_keepResume, a_frozen, a_nextWire, a_must, a_can)) : wpX_copyCells post (f_wireFalse, f_wireTrue, f_signalBase, f_bootWire, f_registerBase, f_firstGate, f_wireLimit, f_opAnd, f_opOr, f_opNot, f_codes, f_cells, f_resumeBase, f_rootRow, f_endRow, f_stayRow, f_leftRow, f_rightRow, f_inputSignals, f_outputSignals, f_nodeLimit, f_count, f_phaseNow, f_instantCount, f_rejectedCount, f_wireCount, f_logicEnd, a_kindOf, a_argOf, a_firstOf, a_secondOf, a_parentOf, a_activeNode, a_lastStatus, a_inTree, a_trapDepth, a_firstCodes, a_gateOp, a_gateA, a_gateB, a_inverseOf, ce0, a_selWire, a_keepStart, a_keepResume, a_frozen, a_nextWire, a_must, a_can) x1 x2 := by
  subst e1 e2
  exact ⟨13, xr_copy_l hρ ha ra K 12 0 ce0 13 rfl (by omega) (fun _ _ => rfl) (fun j h => absurd h (by omega))⟩
theorem xr_blank_l {ρ : Nat} (hρ : ρ < 69) (K : ∀ ce, rw_Bk ρ ce0 ce → post (f_wireFalse, f_wireTrue, f_signalBase, f_bootWire, f_registerBase, f_firstGate, f_wireLimit, f_opAnd, f_opOr, f_opNot, f_codes, f_cells, f_resumeBase, f_rootRow, f_endRow, f_stayRow, f_leftRow, f_rightRow, f_inputSignals, f_outputSignals, f_nodeLimit, f_count, f_phaseNow, f_instantCount, f_rejectedCount, f_wireCount, f_logicEnd, a_kindOf, a_argOf, a_firstOf, a_secondOf, a_parentOf, a_activeNode, a_lastStatus, a_inTree, a_trapDepth, a_firstCodes, a_gateOp, a_gateA, a_gateB, a_inverseOf, ce, a_selWire, a_keepStart, a_keepResume, a_frozen, a_nextWire, a_must, a_can)) :
    ∀ m k ce n, k + m = 12 → m < n → (∀ i, i < ρ * 12 ∨ ρ * 12 + 12 ≤ i → ce i = ce0 i) → (∀ j, j < k → ce (ρ * 12 + j) = 0) →
      wX_blankCells_2 post (nI (ρ * 12)) f_wireFalse f_wireTrue f_signalBase f_bootWire f_registerBase f_firstGate f_wireLimit f_opAnd f_opOr f_opNot f_codes f_cells f_resumeBase f_rootRow f_endRow f_stayRow f_leftRow f_rightRow f_inputSignals f_outputSignals f_nodeLimit f_count f_phaseNow f_instantCount f_rejectedCount f_wireCount f_logicEnd n (nI k) a_kindOf a_argOf a_firstOf a_secondOf a_parentOf a_activeNode a_lastStatus a_inTree a_trapDepth a_firstCodes a_gateOp a_gateA a_gateB a_inverseOf ce a_selWire a_keepStart a_keepResume a_frozen a_nextWire a_must a_can := by
  intro m
  induction m with
  | zero =>
    intro k ce n hk hn h1 h2
    obtain ⟨n, rfl⟩ : ∃ z, n = z + 1 := ⟨n - 1, by omega⟩
    rw [show k = 12 by omega] at h2 ⊢
    exact pk_le 12 12 (fun _ => K ce ⟨h1, h2⟩) (fun h => absurd h (by omega))
  | succ m ih =>
    intro k ce n hk hn h1 h2
    obtain ⟨n, rfl⟩ : ∃ z, n = z + 1 := ⟨n - 1, by omega⟩
    refine pk_le 12 k (fun h => absurd h (by omega)) (fun _ => ?_)
    refine ⟨pk_in (ρ * 12 + k) 828 (by omega) (nI_add _ _), ?_⟩
    rw [nI_add (ρ * 12) k, nI_clamp (show ρ * 12 + k < 2 ^ 31 by omega), nI_1 k]
    refine nm_e (nm_e (ih (k + 1) _ n (by omega) (by omega) ?_ ?_))
    · intro i hi; rw [pk_un (by omega)]; exact h1 i hi
    · intro j hj
      by_cases e : j = k
      · subst e; rw [pk_us]
      · rw [pk_un (by omega)]; exact h2 j (by omega)
theorem xr_blank {ρ : Nat} {x1 : Int32} (e1 : x1 = nI (ρ * 12)) (hρ : ρ < 69) (K : ∀ ce, rw_Bk ρ ce0 ce → post (f_wireFalse, f_wireTrue, f_signalBase, f_bootWire, f_registerBase, f_firstGate, f_wireLimit, f_opAnd, f_opOr, f_opNot, f_codes, f_cells, f_resumeBase, f_rootRow, f_endRow, f_stayRow, f_leftRow, f_rightRow, f_inputSignals, f_outputSignals, f_nodeLimit, f_count, f_phaseNow, f_instantCount, f_rejectedCount, f_wireCount, f_logicEnd, a_kindOf, a_argOf, a_firstOf, a_secondOf, a_parentOf, a_activeNode, a_lastStatus, a_inTree, a_trapDepth, a_firstCodes, a_gateOp, a_gateA, a_gateB, a_inverseOf, ce, a_selWire, a_keepStart, a_keepResume, a_frozen, a_nextWire, a_must, a_can)) : wpX_blankCells post (f_wireFalse, f_wireTrue, f_signalBase, f_bootWire, f_registerBase, f_firstGate, f_wireLimit, f_opAnd, f_opOr, f_opNot, f_codes, f_cells, f_resumeBase, f_rootRow, f_endRow, f_stayRow, f_leftRow, f_rightRow, f_inputSignals, f_outputSignals, f_nodeLimit, f_count, f_phaseNow, f_instantCount, f_rejectedCount, f_wireCount, f_logicEnd, a_kindOf, a_argOf, a_firstOf, a_secondOf, a_parentOf, a_activeNode, a_lastStatus, a_inTree, a_trapDepth, a_firstCodes, a_gateOp, a_gateA, a_gateB, a_inverseOf, ce0, a_selWire, a_keepStart, a_keepResume, a_frozen, a_nextWire, a_must, a_can) x1 := by
  subst e1
  exact ⟨13, xr_blank_l hρ K 12 0 ce0 13 rfl (by omega) (fun _ _ => rfl) (fun j h => absurd h (by omega))⟩
/-- a row from the wires W -/
theorem rw_W {c0 : ck_T} {ce0 : Nat → Int32} {a : Nat} (O : ck_O c0) (R : rw_R c0 ce0 a) : ∃ W : Nat → Nat, ∀ j, j < 12 → W j < c0.1 ∧ ce0 (a * 12 + j) = nI (W j) ∧ ∀ V : Nat → kv_T, V (W j) = rw_v V ce0 a j := by
  refine ⟨fun j => (ce0 (a * 12 + j)).toNatClampNeg, fun j hj => ?_⟩
  obtain ⟨w, hw, e⟩ := R j hj
  have := O.2.1
  have q : (ce0 (a * 12 + j)).toNatClampNeg = w := by rw [e, nI_clamp (by omega)]
  refine ⟨?_, ?_, fun V => ?_⟩
  · show (ce0 (a * 12 + j)).toNatClampNeg < _; rw [q]; exact hw
  · show _ = nI (ce0 (a * 12 + j)).toNatClampNeg; rw [q]; exact e
  · rw [rw_v1 hj]
theorem rw_DW {c0 c : ck_T} {ce0 ce : Nat → Int32} {ρ : Nat} {f : (Nat → kv_T) → Nat → kv_T} (W : Nat → Nat) (O : ck_O c) (X : ck_X c0 c) (fr : ∀ i, i < ρ * 12 ∨ ρ * 12 + 12 ≤ i → ce i = ce0 i)
    (h : ∀ j, j < 12 → ce (ρ * 12 + j) = nI (W j) ∧ W j < c.1 ∧ ∀ V, ck_V V c → V (W j) = f V j) (hf : ∀ V k, 12 ≤ k → f V k = kv_0) : rw_D c0 ce0 ρ f c ce := by
  have O2 := O.2.1
  refine rw_e ⟨O, X, fr, fun j hj => ⟨W j, (h j hj).2.1, (h j hj).1⟩, fun V v j hj => ?_⟩ hf
  rw [(h j hj).1, nI_clamp (by have := (h j hj).2.1; omega)]
  exact (h j hj).2.2 V v
theorem xr_trap {ρ a : Nat} {x1 x2 : Int32} (e1 : x1 = nI (ρ * 12)) (e2 : x2 = nI (a * 12)) (hρ : ρ < 69) (ha : a < 69) (ra : a ≠ ρ) (O : ck_O c0) (Ra : rw_R c0 ce0 a) (hB : c0.1 + 1 ≤ 4096)
    (K : ∀ c ce, rw_D c0 ce0 ρ (fun V => rc_tr (rw_v V ce0 a)) c ce → c.1 ≤ c0.1 + 1 → post (f_wireFalse, f_wireTrue, f_signalBase, f_bootWire, f_registerBase, f_firstGate, f_wireLimit, f_opAnd, f_opOr, f_opNot, f_codes, f_cells, f_resumeBase, f_rootRow, f_endRow, f_stayRow, f_leftRow, f_rightRow, f_inputSignals, f_outputSignals, f_nodeLimit, f_count, f_phaseNow, f_instantCount, f_rejectedCount, nI c.1, f_logicEnd, a_kindOf, a_argOf, a_firstOf, a_secondOf, a_parentOf, a_activeNode, a_lastStatus, a_inTree, a_trapDepth, a_firstCodes, c.2.1, c.2.2.1, c.2.2.2.1, c.2.2.2.2, ce, a_selWire, a_keepStart, a_keepResume, a_frozen, a_nextWire, a_must, a_can)) : wpX_trapCells post (f_wireFalse, f_wireTrue, f_signalBase, f_bootWire, f_registerBase, f_firstGate, f_wireLimit, f_opAnd, f_opOr, f_opNot, f_codes, f_cells, f_resumeBase, f_rootRow, f_endRow, f_stayRow, f_leftRow, f_rightRow, f_inputSignals, f_outputSignals, f_nodeLimit, f_count, f_phaseNow, f_instantCount, f_rejectedCount, nI c0.1, f_logicEnd, a_kindOf, a_argOf, a_firstOf, a_secondOf, a_parentOf, a_activeNode, a_lastStatus, a_inTree, a_trapDepth, a_firstCodes, c0.2.1, c0.2.2.1, c0.2.2.2.1, c0.2.2.2.2, ce0, a_selWire, a_keepStart, a_keepResume, a_frozen, a_nextWire, a_must, a_can) x1 x2 := by
  subst e1 e2
  obtain ⟨W, hW⟩ := rw_W O Ra
  unfold wpX_trapCells
  refine xr_copy (a := a) (ρ := ρ) rfl rfl hρ ha ra ?_
  intro ce1 ⟨f1, f2⟩
  have hr : ∀ j, j < 12 → ce1 (a * 12 + j) = nI (W j) := fun j hj => by rw [f1 _ (rw_far ra hj rfl)]; exact (hW j hj).2.1
  have q0 : ce1 (nI (a * 12)).toNatClampNeg = nI (W 0) := by rw [nI_clamp (by omega)]; exact hr 0 (by omega)
  have q2 : ce1 (nI (a * 12) + 2).toNatClampNeg = nI (W 2) := by rw [show nI (a * 12) + 2 = nI (a * 12 + 2) from nI_add _ 2, nI_clamp (by omega)]; exact hr 2 (by omega)
  refine ⟨vp_in_nI (by omega) (by decide), pk_in (a * 12 + 2) 828 (by omega) (nI_add _ 2), ?_⟩
  rw [q0, q2]
  refine xg_or O (by omega) (hW 0 (by omega)).1 (hW 2 (by omega)).1 ?_
  intro d c1 O1 X1 n1 l1 v1
  have X1' := X1.1
  refine ⟨vp_in_nI (by omega) (by decide), ?_⟩
  rw [nI_clamp (show ρ * 12 < 2 ^ 31 by omega)]
  refine nm_e ⟨pk_in (a * 12 + 3) 828 (by omega) (nI_add _ 3), pk_in (ρ * 12 + 2) 828 (by omega) (nI_add _ 2), ?_⟩
  rw [show nI (a * 12) + 3 = nI (a * 12 + 3) from nI_add _ 3, nI_clamp (show a * 12 + 3 < 2 ^ 31 by omega), show nI (ρ * 12) + 2 = nI (ρ * 12 + 2) from nI_add _ 2, nI_clamp (show ρ * 12 + 2 < 2 ^ 31 by omega),
    pk_un (show a * 12 + 3 ≠ ρ * 12 by omega), hr 3 (by omega)]
  refine nm_e ⟨pk_in (a * 12 + 4) 828 (by omega) (nI_add _ 4), pk_in (ρ * 12 + 3) 828 (by omega) (nI_add _ 3), ?_⟩
  rw [show nI (a * 12) + 4 = nI (a * 12 + 4) from nI_add _ 4, nI_clamp (show a * 12 + 4 < 2 ^ 31 by omega), show nI (ρ * 12) + 3 = nI (ρ * 12 + 3) from nI_add _ 3, nI_clamp (show ρ * 12 + 3 < 2 ^ 31 by omega),
    pk_un (show a * 12 + 4 ≠ ρ * 12 + 2 by omega), pk_un (show a * 12 + 4 ≠ ρ * 12 by omega), hr 4 (by omega)]
  refine nm_e ⟨pk_in (a * 12 + 5) 828 (by omega) (nI_add _ 5), pk_in (ρ * 12 + 4) 828 (by omega) (nI_add _ 4), ?_⟩
  rw [show nI (a * 12) + 5 = nI (a * 12 + 5) from nI_add _ 5, nI_clamp (show a * 12 + 5 < 2 ^ 31 by omega), show nI (ρ * 12) + 4 = nI (ρ * 12 + 4) from nI_add _ 4, nI_clamp (show ρ * 12 + 4 < 2 ^ 31 by omega),
    pk_un (show a * 12 + 5 ≠ ρ * 12 + 3 by omega), pk_un (show a * 12 + 5 ≠ ρ * 12 + 2 by omega), pk_un (show a * 12 + 5 ≠ ρ * 12 by omega), hr 5 (by omega)]
  refine nm_e ⟨pk_in (ρ * 12 + 5) 828 (by omega) (nI_add _ 5), ?_⟩
  rw [show nI (ρ * 12) + 5 = nI (ρ * 12 + 5) from nI_add _ 5, nI_clamp (show ρ * 12 + 5 < 2 ^ 31 by omega)]
  refine nm_e (K c1 _ (rw_DW (fun j => if j = 0 then d else if j = 2 then W 3 else if j = 3 then W 4 else if j = 4 then W 5 else if j = 5 then 0 else W j) O1 X1 ?_ ?_ ?_) n1)
  · intro i hi
    rw [pk_un (by omega), pk_un (by omega), pk_un (by omega), pk_un (by omega), pk_un (by omega)]
    exact f1 i hi
  · intro j hj
    have O1' := O1.1
    unfold rc_tr
    by_cases j0 : j = 0
    · subst j0
      rw [pk_un (by omega), pk_un (by omega), pk_un (by omega), pk_un (by omega)]
      refine ⟨pk_us, l1, fun V v => ?_⟩
      rw [if_pos rfl, if_pos rfl, v1 V v, (hW 0 (by omega)).2.2 V, (hW 2 (by omega)).2.2 V]
    by_cases j2 : j = 2
    · subst j2
      rw [pk_un (by omega), pk_un (by omega), pk_un (by omega), pk_us]
      exact ⟨rfl, Nat.lt_of_lt_of_le (hW 3 (by omega)).1 X1', fun V v => (hW 3 (by omega)).2.2 V⟩
    by_cases j3 : j = 3
    · subst j3
      rw [pk_un (by omega), pk_un (by omega), pk_us]
      exact ⟨rfl, Nat.lt_of_lt_of_le (hW 4 (by omega)).1 X1', fun V v => (hW 4 (by omega)).2.2 V⟩
    by_cases j4 : j = 4
    · subst j4
      rw [pk_un (by omega), pk_us]
      exact ⟨rfl, Nat.lt_of_lt_of_le (hW 5 (by omega)).1 X1', fun V v => (hW 5 (by omega)).2.2 V⟩
    by_cases j5 : j = 5
    · subst j5
      rw [pk_us]
      exact ⟨rfl, Nat.lt_of_lt_of_le (by omega : 0 < 45) O1', fun V v => v.1⟩
    · rw [pk_un (by omega), pk_un (by omega), pk_un (by omega), pk_un (by omega), pk_un (by omega), f2 j hj, (hW j hj).2.1]
      simp only [if_neg j0, if_neg j2, if_neg j3, if_neg j4, if_neg j5]
      exact ⟨trivial, Nat.lt_of_lt_of_le (hW j hj).1 X1', fun V v => (hW j hj).2.2 V⟩
  · intro V k hk
    exact rc_trz hk (rw_v2 hk)
end
end
section
/-! ===== X: the synchroniser's row ===== -/
theorem rw_Iext {c0 c c' : ck_T} {ce0 ce : Nat → Int32} {ρ k : Nat} {f : (Nat → kv_T) → Nat → kv_T} (I : rw_I c0 ce0 ρ f k c ce) (O : ck_O c') (X : ck_X c c') : rw_I c0 ce0 ρ f k c' ce :=
  ⟨O, ck_Xt I.2.1 X, I.2.2.1, fun j hj => by obtain ⟨w, hw, e⟩ := I.2.2.2.1 j hj; exact ⟨w, Nat.lt_of_lt_of_le hw X.1, e⟩, fun V v => I.2.2.2.2 V (ck_XV X v)⟩
section
variable {f_wireFalse f_wireTrue f_signalBase f_bootWire f_registerBase f_firstGate f_wireLimit f_opAnd f_opOr f_opNot f_codes f_cells f_resumeBase f_rootRow f_endRow f_stayRow f_leftRow f_rightRow f_inputSignals f_outputSignals f_nodeLimit f_count f_phaseNow f_instantCount f_rejectedCount f_wireCount f_logicEnd : Int32} {a_kindOf a_argOf a_firstOf a_secondOf a_parentOf a_activeNode a_lastStatus a_inTree a_trapDepth a_firstCodes a_gateOp a_gateA a_gateB a_inverseOf a_cell a_selWire a_keepStart a_keepResume a_frozen a_nextWire : Nat → Int32} {a_must a_can : Nat → Int64}
variable {post : SX → Prop} {c0 : ck_T} {ce0 : Nat → Int32}
theorem xr_par_m {ρ a b : Nat} (hρ : ρ < 69) (ha : a < 69) (hb : b < 69) (ra : a ≠ ρ) (rb : b ≠ ρ) (Ra : rw_R c0 ce0 a) (Rb : rw_R c0 ce0 b) {B : Nat} (hB : B ≤ 4096)
    (K : ∀ c ce, rw_I c0 ce0 ρ (fun V => rc_pr (rw_v V ce0 a) (rw_v V ce0 b)) 12 c ce → c.1 ≤ B → post (f_wireFalse, f_wireTrue, f_signalBase, f_bootWire, f_registerBase, f_firstGate, f_wireLimit, f_opAnd, f_opOr, f_opNot, f_codes, f_cells, f_resumeBase, f_rootRow, f_endRow, f_stayRow, f_leftRow, f_rightRow, f_inputSignals, f_outputSignals, f_nodeLimit, f_count, f_phaseNow, f_instantCount, f_rejectedCount, nI c.1, f_logicEnd, a_kindOf, a_argOf, a_firstOf, a_secondOf, a_parentOf, a_activeNode, a_lastStatus, a_inTree, a_trapDepth, a_firstCodes, c.2.1, c.2.2.1, c.2.2.2.1, c.2.2.2.2, ce, a_selWire, a_keepStart, a_keepResume, a_frozen, a_nextWire, a_must, a_can)) :
    ∀ m k c ce n, k + m = 12 → 6 ≤ k → m < n → rw_I c0 ce0 ρ (fun V => rc_pr (rw_v V ce0 a) (rw_v V ce0 b)) k c ce → c.1 + m ≤ B →
      wX_parCells_111 post (nI (ρ * 12)) (nI (a * 12)) (nI (b * 12)) n (nI k) f_wireFalse f_wireTrue f_signalBase f_bootWire f_registerBase f_firstGate f_wireLimit f_opAnd f_opOr f_opNot f_codes f_cells f_resumeBase f_rootRow f_endRow f_stayRow f_leftRow f_rightRow f_inputSignals f_outputSignals f_nodeLimit f_count f_phaseNow f_instantCount f_rejectedCount (nI c.1) f_logicEnd a_kindOf a_argOf a_firstOf a_secondOf a_parentOf a_activeNode a_lastStatus a_inTree a_trapDepth a_firstCodes c.2.1 c.2.2.1 c.2.2.2.1 c.2.2.2.2 ce a_selWire a_keepStart a_keepResume a_frozen a_nextWire a_must a_can := by
  intro m
  induction m with
  | zero =>
    intro k c ce n hk k0 hn I hc
    obtain ⟨n, rfl⟩ : ∃ z, n = z + 1 := ⟨n - 1, by omega⟩
    rw [show k = 12 by omega] at I ⊢
    exact pk_le 12 12 (fun _ => K c ce I (by omega)) (fun h => absurd h (by omega))
  | succ m ih =>
    intro k c ce n hk k0 hn I hc
    obtain ⟨n, rfl⟩ : ∃ z, n = z + 1 := ⟨n - 1, by omega⟩
    refine pk_le 12 k (fun h => absurd h (by omega)) (fun _ => ?_)
    have X0 := I.2.1.1
    obtain ⟨wa, hwa, ea, va⟩ := xr_rd I ra Ra ha (show k < 12 by omega)
    obtain ⟨wb, hwb, eb, vb⟩ := xr_rd I rb Rb hb (show k < 12 by omega)
    refine ⟨pk_in (a * 12 + k) 828 (by omega) (nI_add _ _), pk_in (b * 12 + k) 828 (by omega) (nI_add _ _), ?_⟩
    rw [ea, eb]
    refine xg_or I.1 (by omega) hwa hwb ?_
    intro d3 c3 O3 X3 n3 l3 v3
    refine ⟨pk_in (ρ * 12 + k) 828 (by omega) (nI_add _ _), ?_⟩
    rw [nI_add (ρ * 12) k, nI_clamp (show ρ * 12 + k < 2 ^ 31 by omega), nI_1 k]
    refine nm_e (nm_e (ih (k + 1) c3 _ n (by omega) (by omega) (by omega) (rw_s I (by omega) O3 X3 l3 ?_) (by omega)))
    intro V v
    rw [v3 V v, va V, vb V]
    show _ = rc_pr _ _ k
    unfold rc_pr
    rw [if_neg (by omega)]
theorem xr_par_l {ρ a b : Nat} (hρ : ρ < 69) (ha : a < 69) (hb : b < 69) (ra : a ≠ ρ) (rb : b ≠ ρ) (Ra : rw_R c0 ce0 a) (Rb : rw_R c0 ce0 b) {B : Nat} (hB : B ≤ 4096)
    (K : ∀ c ce, rw_I c0 ce0 ρ (fun V => rc_pr (rw_v V ce0 a) (rw_v V ce0 b)) 12 c ce → c.1 ≤ B → post (f_wireFalse, f_wireTrue, f_signalBase, f_bootWire, f_registerBase, f_firstGate, f_wireLimit, f_opAnd, f_opOr, f_opNot, f_codes, f_cells, f_resumeBase, f_rootRow, f_endRow, f_stayRow, f_leftRow, f_rightRow, f_inputSignals, f_outputSignals, f_nodeLimit, f_count, f_phaseNow, f_instantCount, f_rejectedCount, nI c.1, f_logicEnd, a_kindOf, a_argOf, a_firstOf, a_secondOf, a_parentOf, a_activeNode, a_lastStatus, a_inTree, a_trapDepth, a_firstCodes, c.2.1, c.2.2.1, c.2.2.2.1, c.2.2.2.2, ce, a_selWire, a_keepStart, a_keepResume, a_frozen, a_nextWire, a_must, a_can)) :
    ∀ m k c ce n ua ub, k + m = 6 → m < n → rw_I c0 ce0 ρ (fun V => rc_pr (rw_v V ce0 a) (rw_v V ce0 b)) k c ce → c.1 + 5 * m + 6 ≤ B → ua < c.1 → ub < c.1 →
      (∀ V, ck_V V c → V ua = rc_up (rw_v V ce0 a) k ∧ V ub = rc_up (rw_v V ce0 b) k) →
      wX_parCells_9 post (nI (ρ * 12)) (nI (a * 12)) (nI (b * 12)) n (nI ua) (nI ub) (nI k) f_wireFalse f_wireTrue f_signalBase f_bootWire f_registerBase f_firstGate f_wireLimit f_opAnd f_opOr f_opNot f_codes f_cells f_resumeBase f_rootRow f_endRow f_stayRow f_leftRow f_rightRow f_inputSignals f_outputSignals f_nodeLimit f_count f_phaseNow f_instantCount f_rejectedCount (nI c.1) f_logicEnd a_kindOf a_argOf a_firstOf a_secondOf a_parentOf a_activeNode a_lastStatus a_inTree a_trapDepth a_firstCodes c.2.1 c.2.2.1 c.2.2.2.1 c.2.2.2.2 ce a_selWire a_keepStart a_keepResume a_frozen a_nextWire a_must a_can := by
  intro m
  induction m with
  | zero =>
    intro k c ce n ua ub hk hn I hc _ _ _
    obtain ⟨n, rfl⟩ : ∃ z, n = z + 1 := ⟨n - 1, by omega⟩
    rw [show k = 6 by omega] at I ⊢
    exact pk_le 6 6 (fun _ => ⟨7, xr_par_m hρ ha hb ra rb Ra Rb hB K 6 6 c ce 7 rfl (by omega) (by omega) I (by omega)⟩) (fun h => absurd h (by omega))
  | succ m ih =>
    intro k c ce n ua ub hk hn I hc hua hub vu
    obtain ⟨n, rfl⟩ : ∃ z, n = z + 1 := ⟨n - 1, by omega⟩
    refine pk_le 6 k (fun h => absurd h (by omega)) (fun _ => ?_)
    have X0 := I.2.1.1
    obtain ⟨wa, hwa, ea, va⟩ := xr_rd I ra Ra ha (show k < 12 by omega)
    obtain ⟨wb, hwb, eb, vb⟩ := xr_rd I rb Rb hb (show k < 12 by omega)
    have ia : vp_in (nI (a * 12) + nI k) 828 := pk_in (a * 12 + k) 828 (by omega) (nI_add _ _)
    have ib : vp_in (nI (b * 12) + nI k) 828 := pk_in (b * 12 + k) 828 (by omega) (nI_add _ _)
    refine ⟨ia, ?_⟩
    rw [ea]
    refine xg_or I.1 (by omega) hua hwa ?_
    intro d1 c1 O1 X1 n1 l1 v1
    have X1' := X1.1
    refine ⟨ib, ?_⟩
    rw [eb]
    refine xg_or O1 (by omega) (by omega) (by omega) ?_
    intro d2 c2 O2 X2 n2 l2 v2
    have X2' := X2.1
    refine ⟨ib, ?_⟩
    rw [eb]
    refine xg_and O2 (by omega) (by omega) (by omega) ?_
    intro d3 c3 O3 X3 n3 l3 v3
    have X3' := X3.1
    refine ⟨ia, ?_⟩
    rw [ea]
    refine xg_and O3 (by omega) (by omega) (by omega) ?_
    intro d4 c4 O4 X4 n4 l4 v4
    have X4' := X4.1
    refine xg_or O4 (by omega) (by omega) l4 ?_
    intro d5 c5 O5 X5 n5 l5 v5
    have X5' := X5.1
    refine ⟨pk_in (ρ * 12 + k) 828 (by omega) (nI_add _ _), ?_⟩
    rw [nI_add (ρ * 12) k, nI_clamp (show ρ * 12 + k < 2 ^ 31 by omega), nI_1 k]
    have up : ∀ V, ck_V V c5 → V d1 = rc_up (rw_v V ce0 a) (k + 1) ∧ V d2 = rc_up (rw_v V ce0 b) (k + 1) := by
      intro V v
      have w4 := ck_XV X5 v
      have w3 := ck_XV X4 w4
      have w2 := ck_XV X3 w3
      have w1 := ck_XV X2 w2
      have w0 := ck_XV X1 w1
      rw [v1 V w1, v2 V w2, va V, vb V, (vu V w0).1, (vu V w0).2]
      exact ⟨rfl, rfl⟩
    refine nm_e (nm_e (ih (k + 1) c5 _ n d1 d2 (by omega) (by omega) (rw_s I (by omega) O5 (ck_Xt X1 (ck_Xt X2 (ck_Xt X3 (ck_Xt X4 X5)))) l5 ?_) (by omega) (by omega) (by omega) up))
    intro V v
    have u := up V v
    have w4 := ck_XV X5 v
    have w3 := ck_XV X4 w4
    rw [v5 V v, v4 V w4, v3 V w3, u.1, u.2, va V, vb V]
    show _ = rc_pr _ _ k
    unfold rc_pr
    rw [if_pos (by omega)]
theorem xr_par {ρ a b : Nat} {x1 x3 x4 : Int32} (e1 : x1 = nI (ρ * 12)) (e3 : x3 = nI (a * 12)) (e4 : x4 = nI (b * 12)) (hρ : ρ < 69) (ha : a < 69) (hb : b < 69) (ra : a ≠ ρ) (rb : b ≠ ρ)
    (O : ck_O c0) (Ra : rw_R c0 ce0 a) (Rb : rw_R c0 ce0 b) (hB : c0.1 + 36 ≤ 4096)
    (K : ∀ c ce, rw_D c0 ce0 ρ (fun V => rc_pr (rw_v V ce0 a) (rw_v V ce0 b)) c ce → c.1 ≤ c0.1 + 36 → post (f_wireFalse, f_wireTrue, f_signalBase, f_bootWire, f_registerBase, f_firstGate, f_wireLimit, f_opAnd, f_opOr, f_opNot, f_codes, f_cells, f_resumeBase, f_rootRow, f_endRow, f_stayRow, f_leftRow, f_rightRow, f_inputSignals, f_outputSignals, f_nodeLimit, f_count, f_phaseNow, f_instantCount, f_rejectedCount, nI c.1, f_logicEnd, a_kindOf, a_argOf, a_firstOf, a_secondOf, a_parentOf, a_activeNode, a_lastStatus, a_inTree, a_trapDepth, a_firstCodes, c.2.1, c.2.2.1, c.2.2.2.1, c.2.2.2.2, ce, a_selWire, a_keepStart, a_keepResume, a_frozen, a_nextWire, a_must, a_can)) :
    wpX_parCells post (f_wireFalse, f_wireTrue, f_signalBase, f_bootWire, f_registerBase, f_firstGate, f_wireLimit, f_opAnd, f_opOr, f_opNot, f_codes, f_cells, f_resumeBase, f_rootRow, f_endRow, f_stayRow, f_leftRow, f_rightRow, f_inputSignals, f_outputSignals, f_nodeLimit, f_count, f_phaseNow, f_instantCount, f_rejectedCount, nI c0.1, f_logicEnd, a_kindOf, a_argOf, a_firstOf, a_secondOf, a_parentOf, a_activeNode, a_lastStatus, a_inTree, a_trapDepth, a_firstCodes, c0.2.1, c0.2.2.1, c0.2.2.2.1, c0.2.2.2.2, ce0, a_selWire, a_keepStart, a_keepResume, a_frozen, a_nextWire, a_must, a_can) x1 x3 x4 := by
  subst e1 e3 e4
  have h45 := O.1
  refine ⟨7, xr_par_l (B := c0.1 + 36) hρ ha hb ra rb Ra Rb hB ?_ 6 0 c0 ce0 7 0 0 rfl (by omega) (rw_0 O (ck_Xr c0)) (by omega) (by omega) (by omega) (fun V v => ⟨v.1, v.1⟩)⟩
  intro c ce I hc
  exact K c ce (rw_e I (fun V k hk => rc_prz hk (rw_v2 hk) (rw_v2 hk))) hc
end
end
section
/-! ===== X: the root's row holds no signal's wire ===== -/
def sf_w (w : Nat) : Prop := w < 2 ∨ 12 ≤ w
section
variable {f_wireFalse f_wireTrue f_signalBase f_bootWire f_registerBase f_firstGate f_wireLimit f_opAnd f_opOr f_opNot f_codes f_cells f_resumeBase f_rootRow f_endRow f_stayRow f_leftRow f_rightRow f_inputSignals f_outputSignals f_nodeLimit f_count f_phaseNow f_instantCount f_rejectedCount f_wireCount f_logicEnd : Int32} {a_kindOf a_argOf a_firstOf a_secondOf a_parentOf a_activeNode a_lastStatus a_inTree a_trapDepth a_firstCodes a_gateOp a_gateA a_gateB a_inverseOf a_cell a_selWire a_keepStart a_keepResume a_frozen a_nextWire : Nat → Int32} {a_must a_can : Nat → Int64}
variable {post : Int32 → SX → Prop} {c : ck_T}
theorem xg_orS {a b : Nat} (H : ck_O c) (hw : c.1 < 4096) (ha : a < c.1) (hb : b < c.1)
    (K : ∀ (d : Nat) (c' : ck_T), ck_O c' → ck_X c c' → c'.1 ≤ c.1 + 1 → d < c'.1 → (∀ V, ck_V V c' → V d = kv_O (V a) (V b)) → (sf_w a → sf_w b → sf_w d) → post (nI d) (f_wireFalse, f_wireTrue, f_signalBase, f_bootWire, f_registerBase, f_firstGate, f_wireLimit, f_opAnd, f_opOr, f_opNot, f_codes, f_cells, f_resumeBase, f_rootRow, f_endRow, f_stayRow, f_leftRow, f_rightRow, f_inputSignals, f_outputSignals, f_nodeLimit, f_count, f_phaseNow, f_instantCount, f_rejectedCount, nI c'.1, f_logicEnd, a_kindOf, a_argOf, a_firstOf, a_secondOf, a_parentOf, a_activeNode, a_lastStatus, a_inTree, a_trapDepth, a_firstCodes, c'.2.1, c'.2.2.1, c'.2.2.2.1, c'.2.2.2.2, a_cell, a_selWire, a_keepStart, a_keepResume, a_frozen, a_nextWire, a_must, a_can)) : wpX_or post (f_wireFalse, f_wireTrue, f_signalBase, f_bootWire, f_registerBase, f_firstGate, f_wireLimit, f_opAnd, f_opOr, f_opNot, f_codes, f_cells, f_resumeBase, f_rootRow, f_endRow, f_stayRow, f_leftRow, f_rightRow, f_inputSignals, f_outputSignals, f_nodeLimit, f_count, f_phaseNow, f_instantCount, f_rejectedCount, nI c.1, f_logicEnd, a_kindOf, a_argOf, a_firstOf, a_secondOf, a_parentOf, a_activeNode, a_lastStatus, a_inTree, a_trapDepth, a_firstCodes, c.2.1, c.2.2.1, c.2.2.2.1, c.2.2.2.2, a_cell, a_selWire, a_keepStart, a_keepResume, a_frozen, a_nextWire, a_must, a_can) (nI a) (nI b) := by
  have h45 := H.1
  refine pk_eq a 1 (fun h => K 1 c H (ck_Xr c) (by omega) (by omega) (fun V v => by rw [h, v.2.1, kv_O1l]) (fun _ _ => Or.inl (by omega))) (fun h1 => ?_)
  refine pk_eq b 1 (fun h => K 1 c H (ck_Xr c) (by omega) (by omega) (fun V v => by rw [h, v.2.1, kv_O1r]) (fun _ _ => Or.inl (by omega))) (fun h2 => ?_)
  refine pk_eq a 0 (fun h => K b c H (ck_Xr c) (by omega) hb (fun V v => by rw [h, v.1, kv_O0l]) (fun _ z => z)) (fun h3 => ?_)
  refine pk_eq a b (fun h => K b c H (ck_Xr c) (by omega) hb (fun V v => by rw [h, kv_Os]) (fun _ z => z)) (fun h4 => ?_)
  refine pk_eq b 0 (fun h => K a c H (ck_Xr c) (by omega) ha (fun V v => by rw [h, v.1, kv_O0r]) (fun z _ => z)) (fun h5 => ?_)
  exact xg_gate hw (K c.1 (ck_n c 1 (nI a) (nI b)) (ck_nO H hw ha hb) (ck_nX c 1 (nI a) (nI b)) (Nat.le_refl _) (Nat.lt_succ_self _) (fun V v => ck_nV H hw ha hb v) (fun _ _ => Or.inr (by omega)))
theorem xg_andS {a b : Nat} (H : ck_O c) (hw : c.1 < 4096) (ha : a < c.1) (hb : b < c.1)
    (K : ∀ (d : Nat) (c' : ck_T), ck_O c' → ck_X c c' → c'.1 ≤ c.1 + 1 → d < c'.1 → (∀ V, ck_V V c' → V d = kv_A (V a) (V b)) → (sf_w a → a ≠ 1 → sf_w d) → post (nI d) (f_wireFalse, f_wireTrue, f_signalBase, f_bootWire, f_registerBase, f_firstGate, f_wireLimit, f_opAnd, f_opOr, f_opNot, f_codes, f_cells, f_resumeBase, f_rootRow, f_endRow, f_stayRow, f_leftRow, f_rightRow, f_inputSignals, f_outputSignals, f_nodeLimit, f_count, f_phaseNow, f_instantCount, f_rejectedCount, nI c'.1, f_logicEnd, a_kindOf, a_argOf, a_firstOf, a_secondOf, a_parentOf, a_activeNode, a_lastStatus, a_inTree, a_trapDepth, a_firstCodes, c'.2.1, c'.2.2.1, c'.2.2.2.1, c'.2.2.2.2, a_cell, a_selWire, a_keepStart, a_keepResume, a_frozen, a_nextWire, a_must, a_can)) : wpX_and post (f_wireFalse, f_wireTrue, f_signalBase, f_bootWire, f_registerBase, f_firstGate, f_wireLimit, f_opAnd, f_opOr, f_opNot, f_codes, f_cells, f_resumeBase, f_rootRow, f_endRow, f_stayRow, f_leftRow, f_rightRow, f_inputSignals, f_outputSignals, f_nodeLimit, f_count, f_phaseNow, f_instantCount, f_rejectedCount, nI c.1, f_logicEnd, a_kindOf, a_argOf, a_firstOf, a_secondOf, a_parentOf, a_activeNode, a_lastStatus, a_inTree, a_trapDepth, a_firstCodes, c.2.1, c.2.2.1, c.2.2.2.1, c.2.2.2.2, a_cell, a_selWire, a_keepStart, a_keepResume, a_frozen, a_nextWire, a_must, a_can) (nI a) (nI b) := by
  have h45 := H.1
  refine pk_eq a 0 (fun h => K 0 c H (ck_Xr c) (by omega) (by omega) (fun V v => by rw [h, v.1, kv_A0l]) (fun _ _ => Or.inl (by omega))) (fun h1 => ?_)
  refine pk_eq b 0 (fun h => K 0 c H (ck_Xr c) (by omega) (by omega) (fun V v => by rw [h, v.1, kv_A0r]) (fun _ _ => Or.inl (by omega))) (fun h2 => ?_)
  refine pk_eq a 1 (fun h => K b c H (ck_Xr c) (by omega) hb (fun V v => by rw [h, v.2.1, kv_A1l]) (fun _ z => absurd h z)) (fun h3 => ?_)
  refine pk_eq a b (fun h => K b c H (ck_Xr c) (by omega) hb (fun V v => by rw [h, kv_As]) (fun z _ => h ▸ z)) (fun h4 => ?_)
  refine pk_eq b 1 (fun h => K a c H (ck_Xr c) (by omega) ha (fun V v => by rw [h, v.2.1, kv_A1r]) (fun z _ => z)) (fun h5 => ?_)
  exact xg_gate hw (K c.1 (ck_n c 0 (nI a) (nI b)) (ck_nO H hw ha hb) (ck_nX c 0 (nI a) (nI b)) (Nat.le_refl _) (Nat.lt_succ_self _) (fun V v => ck_nV H hw ha hb v) (fun _ _ => Or.inr (by omega)))
theorem xg_invS {a : Nat} (H : ck_O c) (hw : c.1 < 4096) (ha : a < c.1) (h2 : 2 ≤ a) (h45a : a < 45)
    (K : ∀ (d : Nat) (c' : ck_T), ck_O c' → ck_X c c' → c'.1 ≤ c.1 + 1 → d < c'.1 → (∀ V, ck_V V c' → V d = kv_N (V a)) → 45 ≤ d → post (nI d) (f_wireFalse, f_wireTrue, f_signalBase, f_bootWire, f_registerBase, f_firstGate, f_wireLimit, f_opAnd, f_opOr, f_opNot, f_codes, f_cells, f_resumeBase, f_rootRow, f_endRow, f_stayRow, f_leftRow, f_rightRow, f_inputSignals, f_outputSignals, f_nodeLimit, f_count, f_phaseNow, f_instantCount, f_rejectedCount, nI c'.1, f_logicEnd, a_kindOf, a_argOf, a_firstOf, a_secondOf, a_parentOf, a_activeNode, a_lastStatus, a_inTree, a_trapDepth, a_firstCodes, c'.2.1, c'.2.2.1, c'.2.2.2.1, c'.2.2.2.2, a_cell, a_selWire, a_keepStart, a_keepResume, a_frozen, a_nextWire, a_must, a_can)) : wpX_invert post (f_wireFalse, f_wireTrue, f_signalBase, f_bootWire, f_registerBase, f_firstGate, f_wireLimit, f_opAnd, f_opOr, f_opNot, f_codes, f_cells, f_resumeBase, f_rootRow, f_endRow, f_stayRow, f_leftRow, f_rightRow, f_inputSignals, f_outputSignals, f_nodeLimit, f_count, f_phaseNow, f_instantCount, f_rejectedCount, nI c.1, f_logicEnd, a_kindOf, a_argOf, a_firstOf, a_secondOf, a_parentOf, a_activeNode, a_lastStatus, a_inTree, a_trapDepth, a_firstCodes, c.2.1, c.2.2.1, c.2.2.2.1, c.2.2.2.2, a_cell, a_selWire, a_keepStart, a_keepResume, a_frozen, a_nextWire, a_must, a_can) (nI a) := by
  have h45 := H.1
  have hi : vp_in (nI a) 4096 := vp_in_nI (by omega) (by decide)
  have hc : (nI a).toNatClampNeg = a := nI_clamp (by omega)
  refine pk_eq a 0 (fun h => absurd h (by omega)) (fun h1 => ?_)
  refine pk_eq a 1 (fun h => absurd h (by omega)) (fun h2 => ?_)
  refine ⟨hi, br_c (fun hz => ?_) (fun hz => ⟨hi, ?_⟩)⟩
  · refine xg_gate hw ?_
    have O1 := ck_nO (op := 2) H hw ha ha
    have h3 : ∀ V, ck_V V (ck_n c 2 (nI a) (nI a)) → V c.1 = kv_N (V a) := fun V v => ck_nV H hw ha ha v
    refine ⟨hi, nm_e ⟨vp_in_nI hw (by decide), nm_e ?_⟩⟩
    rw [hc, nI_clamp (show c.1 < 2 ^ 31 by omega)]
    exact K c.1 (ck_i (ck_n c 2 (nI a) (nI a)) a c.1) (ck_iO O1 (Nat.lt_succ_of_lt ha) h45 (Nat.lt_succ_self _) h3) (ck_nX c 2 (nI a) (nI a)) (Nat.le_refl _) (Nat.lt_succ_self _) h3 h45
  · rw [hc] at hz ⊢
    rcases H.2.2.2 a ha with h | ⟨i, hi, ei, hs, hV⟩
    · exact absurd h hz
    · rw [ei]
      exact K i c H (ck_Xr c) (by omega) hi hV (hs h45a)
end
section
variable {f_wireFalse f_wireTrue f_signalBase f_bootWire f_registerBase f_firstGate f_wireLimit f_opAnd f_opOr f_opNot f_codes f_cells f_resumeBase f_rootRow f_endRow f_stayRow f_leftRow f_rightRow f_inputSignals f_outputSignals f_nodeLimit f_count f_phaseNow f_instantCount f_rejectedCount f_wireCount f_logicEnd : Int32} {a_kindOf a_argOf a_firstOf a_secondOf a_parentOf a_activeNode a_lastStatus a_inTree a_trapDepth a_firstCodes a_gateOp a_gateA a_gateB a_inverseOf a_cell a_selWire a_keepStart a_keepResume a_frozen a_nextWire : Nat → Int32} {a_must a_can : Nat → Int64}
variable {post : SX → Prop} {c0 : ck_T} {ce0 : Nat → Int32}
theorem xr_mux_lS {ρ a b cd ot : Nat} (hρ : ρ < 69) (ha : a < 69) (hb : b < 69) (ra : a ≠ ρ) (rb : b ≠ ρ) (Ra : rw_R c0 ce0 a) (Rb : rw_R c0 ce0 b) (hcd : cd < c0.1) (hot : ot < c0.1) (vot : ∀ V, ck_V V c0 → V ot = kv_N (V cd)) (scd : 12 ≤ cd) (sot : 12 ≤ ot) {B : Nat} (hB : B ≤ 4096)
    (K : ∀ c ce, rw_I c0 ce0 ρ (fun V => rc_mx (V cd) (rw_v V ce0 a) (rw_v V ce0 b)) 12 c ce → c.1 ≤ B → (∀ j, j < 12 → ∃ w, w < 4096 ∧ sf_w w ∧ ce (ρ * 12 + j) = nI w) → post (f_wireFalse, f_wireTrue, f_signalBase, f_bootWire, f_registerBase, f_firstGate, f_wireLimit, f_opAnd, f_opOr, f_opNot, f_codes, f_cells, f_resumeBase, f_rootRow, f_endRow, f_stayRow, f_leftRow, f_rightRow, f_inputSignals, f_outputSignals, f_nodeLimit, f_count, f_phaseNow, f_instantCount, f_rejectedCount, nI c.1, f_logicEnd, a_kindOf, a_argOf, a_firstOf, a_secondOf, a_parentOf, a_activeNode, a_lastStatus, a_inTree, a_trapDepth, a_firstCodes, c.2.1, c.2.2.1, c.2.2.2.1, c.2.2.2.2, ce, a_selWire, a_keepStart, a_keepResume, a_frozen, a_nextWire, a_must, a_can)) :
    ∀ m k c ce n, k + m = 12 → m < n → rw_I c0 ce0 ρ (fun V => rc_mx (V cd) (rw_v V ce0 a) (rw_v V ce0 b)) k c ce → c.1 + 3 * m ≤ B → (∀ j, j < k → ∃ w, w < 4096 ∧ sf_w w ∧ ce (ρ * 12 + j) = nI w) →
      wX_muxCells_10 post (nI (ρ * 12)) (nI cd) (nI (a * 12)) (nI (b * 12)) (nI ot) n (nI k) f_wireFalse f_wireTrue f_signalBase f_bootWire f_registerBase f_firstGate f_wireLimit f_opAnd f_opOr f_opNot f_codes f_cells f_resumeBase f_rootRow f_endRow f_stayRow f_leftRow f_rightRow f_inputSignals f_outputSignals f_nodeLimit f_count f_phaseNow f_instantCount f_rejectedCount (nI c.1) f_logicEnd a_kindOf a_argOf a_firstOf a_secondOf a_parentOf a_activeNode a_lastStatus a_inTree a_trapDepth a_firstCodes c.2.1 c.2.2.1 c.2.2.2.1 c.2.2.2.2 ce a_selWire a_keepStart a_keepResume a_frozen a_nextWire a_must a_can := by
  intro m
  induction m with
  | zero =>
    intro k c ce n hk hn I hc S
    obtain ⟨n, rfl⟩ : ∃ z, n = z + 1 := ⟨n - 1, by omega⟩
    rw [show k = 12 by omega] at I S ⊢
    exact pk_le 12 12 (fun _ => K c ce I (by omega) S) (fun h => absurd h (by omega))
  | succ m ih =>
    intro k c ce n hk hn I hc S
    obtain ⟨n, rfl⟩ : ∃ z, n = z + 1 := ⟨n - 1, by omega⟩
    refine pk_le 12 k (fun h => absurd h (by omega)) (fun _ => ?_)
    have X0 := I.2.1.1
    obtain ⟨wa, hwa, ea, va⟩ := xr_rd I ra Ra ha (show k < 12 by omega)
    refine ⟨pk_in (a * 12 + k) 828 (by omega) (nI_add _ _), ?_⟩
    rw [ea]
    refine xg_andS I.1 (by omega) (by omega) hwa ?_
    intro d1 c1 O1 X1 n1 l1 v1 s1
    have I1 : rw_I c0 ce0 ρ (fun V => rc_mx (V cd) (rw_v V ce0 a) (rw_v V ce0 b)) k c1 ce :=
      ⟨O1, ck_Xt I.2.1 X1, I.2.2.1, fun j hj => by obtain ⟨w, hw, e⟩ := I.2.2.2.1 j hj; exact ⟨w, Nat.lt_of_lt_of_le hw X1.1, e⟩, fun V v => I.2.2.2.2 V (ck_XV X1 v)⟩
    obtain ⟨wb, hwb, eb, vb⟩ := xr_rd I1 rb Rb hb (show k < 12 by omega)
    have X1' := X1.1
    refine ⟨pk_in (b * 12 + k) 828 (by omega) (nI_add _ _), ?_⟩
    rw [eb]
    refine xg_andS O1 (by omega) (by omega) hwb ?_
    intro d2 c2 O2 X2 n2 l2 v2 s2
    have X2' := X2.1
    refine xg_orS O2 (by omega) (by omega) l2 ?_
    intro d3 c3 O3 X3 n3 l3 v3 s3
    refine ⟨pk_in (ρ * 12 + k) 828 (by omega) (nI_add _ _), ?_⟩
    rw [nI_add (ρ * 12) k, nI_clamp (show ρ * 12 + k < 2 ^ 31 by omega), nI_1 k]
    refine nm_e (nm_e (ih (k + 1) c3 _ n (by omega) (by omega) (rw_s I (by omega) O3 (ck_Xt X1 (ck_Xt X2 X3)) l3 ?_) (by omega) (fun j hj => ?_)))
    rotate_left
    · by_cases e : j = k
      · subst e; have := O3.2.1; exact ⟨d3, by omega, s3 (s1 (Or.inr scd) (by omega)) (s2 (Or.inr sot) (by omega)), pk_us⟩
      · obtain ⟨w, w4, hw, ew⟩ := S j (by omega)
        exact ⟨w, w4, hw, by rw [pk_un (by omega)]; exact ew⟩
    intro V v
    have w2 := ck_XV X3 v
    have w1 := ck_XV X2 w2
    have w0 := ck_XV (ck_Xt I.2.1 X1) w1
    rw [v3 V v, v2 V w2, v1 V w1, vot V w0, va V, vb V]
    rfl
theorem xr_muxS {ρ a b cd : Nat} {x1 x2 x3 x4 : Int32} (e1 : x1 = nI (ρ * 12)) (e2 : x2 = nI cd) (e3 : x3 = nI (a * 12)) (e4 : x4 = nI (b * 12)) (hρ : ρ < 69) (ha : a < 69) (hb : b < 69) (ra : a ≠ ρ) (rb : b ≠ ρ)
    (O : ck_O c0) (Ra : rw_R c0 ce0 a) (Rb : rw_R c0 ce0 b) (hcd : cd < c0.1) (scd : 12 ≤ cd) (scd2 : cd < 45) (hB : c0.1 + 37 ≤ 4096)
    (K : ∀ c ce, rw_D c0 ce0 ρ (fun V => rc_mx (V cd) (rw_v V ce0 a) (rw_v V ce0 b)) c ce → c.1 ≤ c0.1 + 37 → (∀ j, j < 12 → ∃ w, w < 4096 ∧ sf_w w ∧ ce (ρ * 12 + j) = nI w) → post (f_wireFalse, f_wireTrue, f_signalBase, f_bootWire, f_registerBase, f_firstGate, f_wireLimit, f_opAnd, f_opOr, f_opNot, f_codes, f_cells, f_resumeBase, f_rootRow, f_endRow, f_stayRow, f_leftRow, f_rightRow, f_inputSignals, f_outputSignals, f_nodeLimit, f_count, f_phaseNow, f_instantCount, f_rejectedCount, nI c.1, f_logicEnd, a_kindOf, a_argOf, a_firstOf, a_secondOf, a_parentOf, a_activeNode, a_lastStatus, a_inTree, a_trapDepth, a_firstCodes, c.2.1, c.2.2.1, c.2.2.2.1, c.2.2.2.2, ce, a_selWire, a_keepStart, a_keepResume, a_frozen, a_nextWire, a_must, a_can)) :
    wpX_muxCells post (f_wireFalse, f_wireTrue, f_signalBase, f_bootWire, f_registerBase, f_firstGate, f_wireLimit, f_opAnd, f_opOr, f_opNot, f_codes, f_cells, f_resumeBase, f_rootRow, f_endRow, f_stayRow, f_leftRow, f_rightRow, f_inputSignals, f_outputSignals, f_nodeLimit, f_count, f_phaseNow, f_instantCount, f_rejectedCount, nI c0.1, f_logicEnd, a_kindOf, a_argOf, a_firstOf, a_secondOf, a_parentOf, a_activeNode, a_lastStatus, a_inTree, a_trapDepth, a_firstCodes, c0.2.1, c0.2.2.1, c0.2.2.2.1, c0.2.2.2.2, ce0, a_selWire, a_keepStart, a_keepResume, a_frozen, a_nextWire, a_must, a_can) x1 x2 x3 x4 := by
  subst e1 e2 e3 e4
  unfold wpX_muxCells
  refine xg_invS O (by omega) hcd (by omega) scd2 ?_
  intro ot c1 O1 X1 n1 l1 v1 s1
  have X1' := X1.1
  have Ra' : rw_R c1 ce0 a := rw_Rc Ra X1' (fun _ _ => rfl)
  have Rb' : rw_R c1 ce0 b := rw_Rc Rb X1' (fun _ _ => rfl)
  refine ⟨13, xr_mux_lS (B := c0.1 + 37) hρ ha hb ra rb Ra' Rb' (by omega) l1 v1 scd (by omega) hB ?_ 12 0 c1 ce0 13 rfl (by omega) (rw_0 O1 (ck_Xr c1)) (by omega) (fun j h => absurd h (by omega))⟩
  intro c ce I hc S
  have D := rw_e I (fun V k hk => rc_mxz (rw_v2 hk) (rw_v2 hk))
  exact K c ce ⟨D.1, ck_Xt X1 D.2.1, D.2.2.1, D.2.2.2.1, D.2.2.2.2⟩ hc S
end
end
section
/-! ===== Y: max, down, isBelow, activeBelow ===== -/
theorem rc_if {c d A B : Prop} (e : c ↔ d) (f : d → A) (g : ¬ d → B) : (c → A) ∧ (¬ c → B) := ⟨fun h => f (e.mp h), fun h => g (fun z => h (e.mpr z))⟩
theorem rc_ifb {c A B : Prop} {x : Bool} (e : c ↔ x = false) (f : x = false → A) (g : x = true → B) : (c → A) ∧ (¬ c → B) := ⟨fun h => f (e.mp h), fun h => g (ts_nf (fun z => h (e.mpr z)))⟩
theorem rc_m5 {n : Nat} (h : n < 2 ^ 31) : ¬ nI n = -5 := by
  intro e
  have := congrArg Int32.toInt e
  rw [nI_toInt h, show (-5 : Int32).toInt = -5 from by decide] at this
  omega
theorem rc_bx {x y : Int32} (h : ∀ i, bt x i = true ↔ bt y i = true) : x = y := by
  apply b_ext
  intro i _
  cases e : bt x i with
  | true => exact ((h i).mp e).symm
  | false =>
    cases f : bt y i with
    | false => rfl
    | true => rw [(h i).mpr f] at e; cases e
/-- the node tables of the two classes, read as naturals -/
def ln_T (N : Nat) (kd ar fi se pa : Nat → Int32) (κ A P Q U : Nat → Nat) : Prop := ∀ n, n < N → kd n = nI (κ n) ∧ (κ n < 5 → fi n = -5) ∧ (5 ≤ κ n → fi n = nI (P n)) ∧ (κ n < 9 → se n = -5) ∧ (9 ≤ κ n → se n = nI (Q n)) ∧
  ((κ n = 2 ∨ κ n = 3 ∨ κ n = 4 ∨ κ n = 7 ∨ κ n = 8 ∨ κ n = 9) → ar n = nI (A n)) ∧ ((κ n = 0 ∨ κ n = 1 ∨ κ n = 5 ∨ κ n = 6 ∨ κ n = 10 ∨ κ n = 11) → ar n = -5) ∧
  ((pa n = -5 ∧ N ≤ U n) ∨ (pa n = nI (U n) ∧ U n < N))
section
variable {f_inputs f_outputs f_cap f_count f_phase f_root f_instants f_rejected f_activeLeaves : Int32} {a_kind a_arg a_first a_second a_parent a_shown a_e a_fst a_ms a_cs a_mk a_ck a_left : Nat → Int32}
variable {post : Int32 → Prop}
theorem yb_mxi {x y : Int32} {a : Nat} (ha : a < 6) {J : Int32 → Int32 → Prop} : ∀ m b acc n, b + m = 6 → m < n →
    (∀ acc', (∀ i, bt acc' i = true ↔ (bt acc i = true ∨ (bt x a = true ∧ ∃ b', b ≤ b' ∧ b' < 6 ∧ bt y b' = true ∧ i = (if a ≤ b' then b' else a)))) → J acc' (nI (a + 1))) →
    wY_max_14 post J x y (nI a) f_inputs f_outputs f_cap f_count f_phase f_root f_instants f_rejected f_activeLeaves a_kind a_arg a_first a_second a_parent a_shown a_e a_fst a_ms a_cs a_mk a_ck a_left n acc (nI b) := by
  intro m
  induction m with
  | zero =>
    intro b acc n hb hn K
    obtain ⟨n, rfl⟩ : ∃ z, n = z + 1 := ⟨n - 1, by omega⟩
    refine pk_lt 5 b (fun _ => nm_r (nI_1 a) (K acc ?_)) (fun h => absurd h (by omega))
    intro i
    constructor
    · exact fun h => Or.inl h
    · intro h
      rcases h with h | ⟨_, b', h1, h2, _⟩
      · exact h
      · omega
  | succ m ih =>
    intro b acc n hb hn K
    obtain ⟨n, rfl⟩ : ∃ z, n = z + 1 := ⟨n - 1, by omega⟩
    refine pk_lt 5 b (fun h => absurd h (by omega)) (fun _ => ?_)
    refine rc_ifb (rc_shr1 (show a < 32 by omega) x) (fun xa => nm_r (nI_1 b) (ih (b + 1) acc n (by omega) (by omega) ?_)) (fun xa => ?_)
    · intro acc' h
      refine K acc' (fun i => (h i).trans ?_)
      rw [xa]
      simp
    · refine rc_ifb (rc_shr1 (show b < 32 by omega) y) (fun yb => nm_r (nI_1 b) (ih (b + 1) acc n (by omega) (by omega) ?_)) (fun yb => ?_)
      · intro acc' h
        refine K acc' (fun i => (h i).trans ?_)
        constructor
        · intro h
          rcases h with h | ⟨h0, b', h1, h2, h3, h4⟩
          · exact Or.inl h
          · exact Or.inr ⟨h0, b', by omega, h2, h3, h4⟩
        · intro h
          rcases h with h | ⟨h0, b', h1, h2, h3, h4⟩
          · exact Or.inl h
          · refine Or.inr ⟨h0, b', ?_, h2, h3, h4⟩
            by_cases e : b' = b
            · rw [e, yb] at h3; cases h3
            · omega
      · have key : ∀ acc', (∀ i, bt acc' i = true ↔ (bt (acc ||| ((1 : Int32) <<< (nI (if a ≤ b then b else a) &&& 31))) i = true ∨ (bt x a = true ∧ ∃ b', b + 1 ≤ b' ∧ b' < 6 ∧ bt y b' = true ∧ i = (if a ≤ b' then b' else a)))) → J acc' (nI (a + 1)) := by
          intro acc' h
          refine K acc' (fun i => (h i).trans ?_)
          rw [b_or, Bool.or_eq_true, rc_1shl (by split <;> omega), decide_eq_true_eq]
          constructor
          · intro h
            rcases h with (h | h) | ⟨h0, b', h1, h2, h3, h4⟩
            · exact Or.inl h
            · exact Or.inr ⟨xa, b, Nat.le_refl _, by omega, yb, h⟩
            · exact Or.inr ⟨h0, b', by omega, h2, h3, h4⟩
          · intro h
            rcases h with h | ⟨h0, b', h1, h2, h3, h4⟩
            · exact Or.inl (Or.inl h)
            · by_cases e : b' = b
              · subst e; exact Or.inl (Or.inr h4)
              · exact Or.inr ⟨h0, b', by omega, h2, h3, h4⟩
        refine pk_le a b (fun h => ?_) (fun h => ?_)
        · rw [if_pos h] at key
          exact nm_e (nm_r (nI_1 b) (ih (b + 1) _ n (by omega) (by omega) key))
        · rw [if_neg (by omega)] at key
          exact nm_e (nm_r (nI_1 b) (ih (b + 1) _ n (by omega) (by omega) key))
theorem yb_mxo {x y : Int32} : ∀ m a acc n, a + m = 6 → m < n →
    (∀ acc', (∀ i, bt acc' i = true ↔ (bt acc i = true ∨ ∃ a', a ≤ a' ∧ a' < 6 ∧ bt x a' = true ∧ ∃ b', 0 ≤ b' ∧ b' < 6 ∧ bt y b' = true ∧ i = (if a' ≤ b' then b' else a'))) → post acc') →
    wY_max_5 post x y f_inputs f_outputs f_cap f_count f_phase f_root f_instants f_rejected f_activeLeaves a_kind a_arg a_first a_second a_parent a_shown a_e a_fst a_ms a_cs a_mk a_ck a_left n acc (nI a) := by
  intro m
  induction m with
  | zero =>
    intro a acc n hb hn K
    obtain ⟨n, rfl⟩ : ∃ z, n = z + 1 := ⟨n - 1, by omega⟩
    refine pk_lt 5 a (fun _ => K acc ?_) (fun h => absurd h (by omega))
    intro i
    constructor
    · exact fun h => Or.inl h
    · intro h
      rcases h with h | ⟨a', h1, h2, _⟩
      · exact h
      · omega
  | succ m ih =>
    intro a acc n hb hn K
    obtain ⟨n, rfl⟩ : ∃ z, n = z + 1 := ⟨n - 1, by omega⟩
    refine pk_lt 5 a (fun h => absurd h (by omega)) (fun _ => ⟨7, yb_mxi (show a < 6 by omega) 6 0 acc 7 rfl (by omega) ?_⟩)
    intro acc1 h1
    refine ih (a + 1) acc1 n (by omega) (by omega) ?_
    intro acc2 h2
    refine K acc2 (fun i => (h2 i).trans ?_)
    rw [h1 i]
    constructor
    · intro h
      rcases h with (h | ⟨p, q⟩) | ⟨a', p1, p2, p3⟩
      · exact Or.inl h
      · exact Or.inr ⟨a, Nat.le_refl _, by omega, p, q⟩
      · exact Or.inr ⟨a', by omega, p2, p3⟩
    · intro h
      rcases h with h | ⟨a', p1, p2, p3, p4⟩
      · exact Or.inl (Or.inl h)
      · by_cases e : a' = a
        · subst e; exact Or.inl (Or.inr ⟨p3, p4⟩)
        · exact Or.inr ⟨a', by omega, p2, p3, p4⟩
theorem yb_max {x y : Int32} (K : post (rn_mx x y)) : wpY_max post (f_inputs, f_outputs, f_cap, f_count, f_phase, f_root, f_instants, f_rejected, f_activeLeaves, a_kind, a_arg, a_first, a_second, a_parent, a_shown, a_e, a_fst, a_ms, a_cs, a_mk, a_ck, a_left) x y := by
  refine ⟨7, yb_mxo 6 0 0 7 rfl (by omega) ?_⟩
  intro acc h
  have : acc = rn_mx x y := by
    apply rc_bx
    intro i
    rw [h i, rn_mxb, b_0]
    constructor
    · intro h
      rcases h with h | ⟨a, _, a6, xa, b, _, b6, yb, e⟩
      · cases h
      · by_cases l : a ≤ b
        · rw [if_pos l] at e; subst e; exact ⟨b6, Or.inl ⟨⟨a, l, xa⟩, yb⟩⟩
        · rw [if_neg l] at e; subst e; exact ⟨a6, Or.inr ⟨xa, b, by omega, yb⟩⟩
    · intro ⟨i6, h⟩
      rcases h with ⟨⟨j, hj, xj⟩, yi⟩ | ⟨xi, j, hj, yj⟩
      · exact Or.inr ⟨j, by omega, by omega, xj, i, by omega, i6, yi, by rw [if_pos hj]⟩
      · refine Or.inr ⟨i, by omega, i6, xi, j, by omega, by omega, yj, ?_⟩
        by_cases l : i ≤ j
        · rw [if_pos l]; omega
        · rw [if_neg l]
  rw [this]; exact K
def yb_dx (k : Nat) : Nat := if k = 2 then 0 else if k < 3 then k else k - 1
theorem yb_dno {x : Int32} : ∀ m k acc n, k + m = 6 → m < n →
    (∀ acc', (∀ i, bt acc' i = true ↔ (bt acc i = true ∨ ∃ j, k ≤ j ∧ j < 6 ∧ bt x j = true ∧ i = yb_dx j)) → post acc') →
    wY_down_4 post x f_inputs f_outputs f_cap f_count f_phase f_root f_instants f_rejected f_activeLeaves a_kind a_arg a_first a_second a_parent a_shown a_e a_fst a_ms a_cs a_mk a_ck a_left n acc (nI k) := by
  intro m
  induction m with
  | zero =>
    intro k acc n hb hn K
    obtain ⟨n, rfl⟩ : ∃ z, n = z + 1 := ⟨n - 1, by omega⟩
    refine pk_lt 5 k (fun _ => K acc ?_) (fun h => absurd h (by omega))
    intro i
    constructor
    · exact fun h => Or.inl h
    · intro h
      rcases h with h | ⟨a', h1, h2, _⟩
      · exact h
      · omega
  | succ m ih =>
    intro k acc n hb hn K
    obtain ⟨n, rfl⟩ : ∃ z, n = z + 1 := ⟨n - 1, by omega⟩
    refine pk_lt 5 k (fun h => absurd h (by omega)) (fun _ => ?_)
    refine rc_ifb (rc_shr1 (show k < 32 by omega) x) (fun xk => nm_r (nI_1 k) (ih (k + 1) acc n (by omega) (by omega) ?_)) (fun xk => ?_)
    · intro acc' h
      refine K acc' (fun i => (h i).trans ?_)
      constructor
      · intro h
        rcases h with h | ⟨j, h1, h2, h3, h4⟩
        · exact Or.inl h
        · exact Or.inr ⟨j, by omega, h2, h3, h4⟩
      · intro h
        rcases h with h | ⟨j, h1, h2, h3, h4⟩
        · exact Or.inl h
        · refine Or.inr ⟨j, ?_, h2, h3, h4⟩
          by_cases e : j = k
          · rw [e, xk] at h3; cases h3
          · omega
    · have hdx : yb_dx k < 32 := by unfold yb_dx; split <;> (try split) <;> omega
      have key : ∀ acc', (∀ i, bt acc' i = true ↔ (bt (acc ||| ((1 : Int32) <<< (nI (yb_dx k) &&& 31))) i = true ∨ ∃ j, k + 1 ≤ j ∧ j < 6 ∧ bt x j = true ∧ i = yb_dx j)) → post acc' := by
        intro acc' h
        refine K acc' (fun i => (h i).trans ?_)
        rw [b_or, Bool.or_eq_true, rc_1shl hdx, decide_eq_true_eq]
        constructor
        · intro h
          rcases h with (h | h) | ⟨j, h1, h2, h3, h4⟩
          · exact Or.inl h
          · exact Or.inr ⟨k, Nat.le_refl _, by omega, xk, h⟩
          · exact Or.inr ⟨j, by omega, h2, h3, h4⟩
        · intro h
          rcases h with h | ⟨j, h1, h2, h3, h4⟩
          · exact Or.inl (Or.inl h)
          · by_cases e : j = k
            · subst e; exact Or.inl (Or.inr h4)
            · exact Or.inr ⟨j, by omega, h2, h3, h4⟩
      refine pk_eq k 2 (fun h => ?_) (fun h => pk_lt k 3 (fun g => ?_) (fun g => ?_))
      · rw [show yb_dx k = 0 from if_pos h] at key
        exact nm_e (nm_r (nI_1 k) (ih (k + 1) _ n (by omega) (by omega) key))
      · rw [show yb_dx k = k by unfold yb_dx; rw [if_neg h, if_pos g]] at key
        exact nm_e (nm_r (nI_1 k) (ih (k + 1) _ n (by omega) (by omega) key))
      · rw [show yb_dx k = k - 1 by unfold yb_dx; rw [if_neg h, if_neg (by omega)]] at key
        have e : nI k - 1 = nI (k - 1) := by rw [show k = (k - 1) + 1 by omega, nI_pred]; rfl
        rw [e]
        exact nm_e (nm_r (nI_1 k) (ih (k + 1) _ n (by omega) (by omega) key))
theorem yb_down {x : Int32} (K : post (rn_dn x)) : wpY_down post (f_inputs, f_outputs, f_cap, f_count, f_phase, f_root, f_instants, f_rejected, f_activeLeaves, a_kind, a_arg, a_first, a_second, a_parent, a_shown, a_e, a_fst, a_ms, a_cs, a_mk, a_ck, a_left) x := by
  refine ⟨7, yb_dno 6 0 0 7 rfl (by omega) ?_⟩
  intro acc h
  have : acc = rn_dn x := by
    apply rc_bx
    intro i
    rw [h i, rn_dnb, b_0]
    have d0 : yb_dx 0 = 0 := rfl
    have d1 : yb_dx 1 = 1 := rfl
    have d2 : yb_dx 2 = 0 := rfl
    constructor
    · intro h
      rcases h with h | ⟨j, _, j6, xj, e⟩
      · cases h
      · have hj : j = 0 ∨ j = 1 ∨ j = 2 ∨ (3 ≤ j ∧ yb_dx j = j - 1) := by
          rcases Nat.lt_or_ge j 3 with l | l
          · omega
          · right; right; right; refine ⟨l, ?_⟩; unfold yb_dx; rw [if_neg (by omega), if_neg (by omega)]
        rcases hj with g | g | g | ⟨g, g'⟩
        · subst g; rw [e, d0, if_pos rfl, xj, Bool.true_or]
        · subst g; rw [e, d1, if_neg (by omega), if_pos rfl, xj]
        · subst g; rw [e, d2, if_pos rfl, xj, Bool.or_true]
        · rw [e, g', if_neg (by omega), if_neg (by omega), if_pos (by omega), show j - 1 + 1 = j by omega, xj]
    · intro h
      right
      by_cases i0 : i = 0
      · rw [if_pos i0, Bool.or_eq_true] at h
        rcases h with h | h
        · exact ⟨0, by omega, by omega, h, by rw [i0, d0]⟩
        · exact ⟨2, by omega, by omega, h, by rw [i0, d2]⟩
      · rw [if_neg i0] at h
        by_cases i1 : i = 1
        · rw [if_pos i1] at h; exact ⟨1, by omega, by omega, h, by rw [i1, d1]⟩
        · rw [if_neg i1] at h
          by_cases i5 : i < 5
          · rw [if_pos i5] at h
            refine ⟨i + 1, by omega, by omega, h, ?_⟩
            unfold yb_dx; rw [if_neg (by omega), if_neg (by omega)]; omega
          · rw [if_neg i5] at h; cases h
  rw [this]; exact K
section
variable {N : Nat} {κ A P Q U : Nat → Nat}
theorem yb_bel_l (hN : N ≤ 32) (hM : ∀ m, m < N → U m < N → m < U m) (hT : ln_T N a_kind a_arg a_first a_second a_parent κ A P Q U) {k : Nat} (hk : k < 2 ^ 31) : ∀ d m st n, N - m ≤ d → m < N → d + 1 < n → st + (N - m) ≤ 32 → (tr_B N U m k → post 1) → (¬ tr_B N U m k → post 0) →
    wY_isBelow_5 post (nI k) f_inputs f_outputs f_cap f_count f_phase f_root f_instants f_rejected f_activeLeaves a_kind a_arg a_first a_second a_parent a_shown a_e a_fst a_ms a_cs a_mk a_ck a_left n (nI m) (nI st) := by
  intro d
  induction d with
  | zero => intro m st n h1 h2; omega
  | succ d ih =>
    intro m st n h1 h2 hn hst K1 K0
    obtain ⟨n, rfl⟩ : ∃ z, n = z + 1 := ⟨n - 1, by omega⟩
    refine pk_le 32 st (fun h => absurd h (by omega)) (fun _ => br_f (rc_m5 (by omega)) ?_)
    refine pk_eq m k (fun e => K1 (by rw [e]; exact tr_rf k)) (fun e => ⟨vp_in_nI (by omega) (by decide), ?_⟩)
    rw [nI_clamp (show m < 2 ^ 31 by omega), nI_1 st]
    rcases (hT m h2).2.2.2.2.2.2.2 with ⟨p, q⟩ | ⟨p, q⟩
    · refine nm_r p (nm_e ?_)
      obtain ⟨n, rfl⟩ : ∃ z, n = z + 1 := ⟨n - 1, by omega⟩
      have no_ : ¬ tr_B N U m k := by
        intro b
        rcases tr_Bi.mp b with g | ⟨g, _⟩
        · exact e g
        · omega
      exact br_c (fun _ => K0 no_) (fun _ => br_t rfl (K0 no_))
    · refine nm_r p (nm_e (ih (U m) (st + 1) n ?_ q (by omega) ?_ ?_ ?_))
      · have := hM m h2 q; omega
      · have := hM m h2 q; omega
      · intro b; exact K1 (tr_up q b)
      · intro b
        refine K0 (fun z => ?_)
        rcases tr_Bi.mp z with g | ⟨_, g⟩
        · exact e g
        · exact b g
theorem yb_bel (hN : N ≤ 32) (hM : ∀ m, m < N → U m < N → m < U m) (hT : ln_T N a_kind a_arg a_first a_second a_parent κ A P Q U) {k m : Nat} (hk : k < 2 ^ 31) (hm : m < N) (K1 : tr_B N U m k → post 1) (K0 : ¬ tr_B N U m k → post 0) :
    wpY_isBelow post (f_inputs, f_outputs, f_cap, f_count, f_phase, f_root, f_instants, f_rejected, f_activeLeaves, a_kind, a_arg, a_first, a_second, a_parent, a_shown, a_e, a_fst, a_ms, a_cs, a_mk, a_ck, a_left) (nI m) (nI k) := ⟨N - m + 2, yb_bel_l hN hM hT hk (N - m) m 0 (N - m + 2) (Nat.le_refl _) hm (by omega) (by omega) K1 K0⟩
theorem yb_ab_l (hN : N ≤ 32) (hM : ∀ m, m < N → U m < N → m < U m) (hT : ln_T N a_kind a_arg a_first a_second a_parent κ A P Q U) {k : Nat} (hk : k < 2 ^ 31) (K : post (ac_k N U f_activeLeaves k)) : ∀ d m n, m + d = N → d < n →
    wY_activeBelow_4 post (nI k) f_inputs f_outputs f_cap (nI N) f_phase f_root f_instants f_rejected f_activeLeaves a_kind a_arg a_first a_second a_parent a_shown a_e a_fst a_ms a_cs a_mk a_ck a_left n (rc_of (fun m => bt f_activeLeaves m && pb_P (tr_B N U m k)) m) (nI m) := by
  intro d
  induction d with
  | zero =>
    intro m n h1 hn
    obtain ⟨n, rfl⟩ : ∃ z, n = z + 1 := ⟨n - 1, by omega⟩
    rw [show m = N by omega]
    exact pk_le N N (fun _ => K) (fun h => absurd h (by omega))
  | succ d ih =>
    intro m n h1 hn
    obtain ⟨n, rfl⟩ : ∃ z, n = z + 1 := ⟨n - 1, by omega⟩
    have I := ih (m + 1) n (by omega) (by omega)
    rw [rc_of] at I
    refine pk_le N m (fun h => absurd h (by omega)) (fun _ => ?_)
    refine rc_ifb (rc_ushr1 (show m < 32 by omega) f_activeLeaves) (fun z => nm_r (nI_1 m) ?_) (fun z => ?_)
    · rw [if_neg (by rw [z]; exact Bool.false_ne_true), Int32.or_zero] at I
      exact I
    · refine yb_bel hN hM hT hk (by omega) (fun b => ?_) (fun b => ?_)
      · rw [if_pos (by rw [z, pb_t b]; rfl)] at I
        exact br_f (by decide) (nm_e (nm_r (nI_1 m) I))
      · rw [if_neg (by rw [z, pb_f b]; decide), Int32.or_zero] at I
        exact br_t rfl (nm_r (nI_1 m) I)
theorem yb_ab (hN : N ≤ 32) (hM : ∀ m, m < N → U m < N → m < U m) (hT : ln_T N a_kind a_arg a_first a_second a_parent κ A P Q U) {k : Nat} (hk : k < 2 ^ 31) (K : post (ac_k N U f_activeLeaves k)) : wpY_activeBelow post (f_inputs, f_outputs, f_cap, nI N, f_phase, f_root, f_instants, f_rejected, f_activeLeaves, a_kind, a_arg, a_first, a_second, a_parent, a_shown, a_e, a_fst, a_ms, a_cs, a_mk, a_ck, a_left) (nI k) :=
  ⟨N + 1, yb_ab_l hN hM hT hk K N 0 (N + 1) (by omega) (by omega)⟩
theorem yb_ac {ni no : Nat} (T : tr_F ni no N κ A P Q U) (hT : ln_T N a_kind a_arg a_first a_second a_parent κ A P Q U) {k : Nat} (hk : k < N) (K1 : ac_B N U f_activeLeaves k → post 1) (K0 : ¬ ac_B N U f_activeLeaves k → post 0) : wpY_active post (f_inputs, f_outputs, f_cap, nI N, f_phase, f_root, f_instants, f_rejected, f_activeLeaves, a_kind, a_arg, a_first, a_second, a_parent, a_shown, a_e, a_fst, a_ms, a_cs, a_mk, a_ck, a_left) (nI k) := by
  have hN := T.1
  unfold wpY_active
  refine br_f (nI_pos (by omega)) (pk_le N k (fun h => absurd h (by omega)) (fun _ => br_f (by decide) ?_))
  refine yb_ab hN (fun m hm hu => (tr_u T hm hu).1) hT (by omega) ?_
  exact br_c (fun z => K0 (fun a => (ac_kne T f_activeLeaves k).mpr a z)) (fun z => K1 ((ac_kne T f_activeLeaves k).mp z))
end
theorem yb_ac5 {x : Int32} (hx : x < 0) (K : post (-1)) : wpY_active post (f_inputs, f_outputs, f_cap, f_count, f_phase, f_root, f_instants, f_rejected, f_activeLeaves, a_kind, a_arg, a_first, a_second, a_parent, a_shown, a_e, a_fst, a_ms, a_cs, a_mk, a_ck, a_left) x := by
  unfold wpY_active
  exact br_t hx (br_t rfl K)
end
end
section
/-! ===== Y: the runs ===== -/
def rn_u (R : Nat → rn_T) (t : Nat) (v : rn_T) : Nat → rn_T := fun j => if j = t then v else R j
theorem rn_us {R : Nat → rn_T} {t : Nat} {v : rn_T} : rn_u R t v t = v := if_pos rfl
theorem rn_un {R : Nat → rn_T} {t j : Nat} {v : rn_T} (h : j ≠ t) : rn_u R t v j = R j := if_neg h
theorem rn_u1 {R : Nat → rn_T} {t : Nat} {v : rn_T} {x : Int32} (h : x = v.1) : upd (fun j => (R j).1) t x = fun j => (rn_u R t v j).1 := by
  funext j; unfold upd rn_u; rw [h]; split <;> rfl
theorem rn_u2 {R : Nat → rn_T} {t : Nat} {v : rn_T} {x : Int32} (h : x = v.2.1) : upd (fun j => (R j).2.1) t x = fun j => (rn_u R t v j).2.1 := by
  funext j; unfold upd rn_u; rw [h]; split <;> rfl
theorem rn_u3 {R : Nat → rn_T} {t : Nat} {v : rn_T} {x : Int32} (h : x = v.2.2.1) : upd (fun j => (R j).2.2.1) t x = fun j => (rn_u R t v j).2.2.1 := by
  funext j; unfold upd rn_u; rw [h]; split <;> rfl
theorem rn_u4 {R : Nat → rn_T} {t : Nat} {v : rn_T} {x : Int32} (h : x = v.2.2.2.1) : upd (fun j => (R j).2.2.2.1) t x = fun j => (rn_u R t v j).2.2.2.1 := by
  funext j; unfold upd rn_u; rw [h]; split <;> rfl
theorem rn_u5 {R : Nat → rn_T} {t : Nat} {v : rn_T} {x : Int32} (h : x = v.2.2.2.2) : upd (fun j => (R j).2.2.2.2) t x = fun j => (rn_u R t v j).2.2.2.2 := by
  funext j; unfold upd rn_u; rw [h]; split <;> rfl
section
variable {f_inputs f_outputs f_cap f_count f_phase f_root f_instants f_rejected f_activeLeaves : Int32} {a_kind a_arg a_first a_second a_parent a_shown a_e a_fst a_ms a_cs a_mk a_ck a_left : Nat → Int32}
variable {post : SY → Prop} {R : Nat → rn_T}
theorem yr_put {t : Nat} (ht : t < 65) {x a b c d l : Int32} (hx : x = nI t) (K : post (f_inputs, f_outputs, f_cap, f_count, f_phase, f_root, f_instants, f_rejected, f_activeLeaves, a_kind, a_arg, a_first, a_second, a_parent, a_shown, a_e, a_fst, fun zz => ((rn_u R t (rn_pt a b c d l)) zz).1, fun zz => ((rn_u R t (rn_pt a b c d l)) zz).2.1, fun zz => ((rn_u R t (rn_pt a b c d l)) zz).2.2.1, fun zz => ((rn_u R t (rn_pt a b c d l)) zz).2.2.2.1, fun zz => ((rn_u R t (rn_pt a b c d l)) zz).2.2.2.2)) : wpY_put post (f_inputs, f_outputs, f_cap, f_count, f_phase, f_root, f_instants, f_rejected, f_activeLeaves, a_kind, a_arg, a_first, a_second, a_parent, a_shown, a_e, a_fst, fun zz => (R zz).1, fun zz => (R zz).2.1, fun zz => (R zz).2.2.1, fun zz => (R zz).2.2.2.1, fun zz => (R zz).2.2.2.2) x a b c d l := by
  subst hx
  have hi : vp_in (nI t) 65 := vp_in_nI ht (by decide)
  refine ⟨hi, ?_⟩
  rw [nI_clamp (show t < 2 ^ 31 by omega)]
  refine nm_r (rn_u1 (v := rn_pt a b c d l) rfl) ⟨hi, nm_r (rn_u2 (v := rn_pt a b c d l) rfl) ⟨hi, nm_r (rn_u3 (v := rn_pt a b c d l) rfl) ⟨hi, nm_r (rn_u4 (v := rn_pt a b c d l) rfl) ?_⟩⟩⟩
  exact br_c (fun h => ⟨hi, nm_r (rn_u5 (v := rn_pt a b c d l) (if_pos h).symm) K⟩) (fun h => ⟨hi, nm_r (rn_u5 (v := rn_pt a b c d l) (if_neg h).symm) K⟩)
theorem yr_copy {t s : Nat} (ht : t < 65) (hs : s < 65) {x y : Int32} (hx : x = nI t) (hy : y = nI s) (K : post (f_inputs, f_outputs, f_cap, f_count, f_phase, f_root, f_instants, f_rejected, f_activeLeaves, a_kind, a_arg, a_first, a_second, a_parent, a_shown, a_e, a_fst, fun zz => ((rn_u R t (rn_cp (R s))) zz).1, fun zz => ((rn_u R t (rn_cp (R s))) zz).2.1, fun zz => ((rn_u R t (rn_cp (R s))) zz).2.2.1, fun zz => ((rn_u R t (rn_cp (R s))) zz).2.2.2.1, fun zz => ((rn_u R t (rn_cp (R s))) zz).2.2.2.2)) : wpY_copy post (f_inputs, f_outputs, f_cap, f_count, f_phase, f_root, f_instants, f_rejected, f_activeLeaves, a_kind, a_arg, a_first, a_second, a_parent, a_shown, a_e, a_fst, fun zz => (R zz).1, fun zz => (R zz).2.1, fun zz => (R zz).2.2.1, fun zz => (R zz).2.2.2.1, fun zz => (R zz).2.2.2.2) x y := by
  subst hy
  have hi : vp_in (nI s) 65 := vp_in_nI hs (by decide)
  refine ⟨hi, hi, hi, hi, hi, ?_⟩
  rw [nI_clamp (show s < 2 ^ 31 by omega)]
  exact yr_put ht hx K
theorem yr_then {t a b : Nat} (ht : t < 65) (ha : a < 65) (hb : b < 65) {x y z : Int32} (hx : x = nI t) (hy : y = nI a) (hz : z = nI b) (K : post (f_inputs, f_outputs, f_cap, f_count, f_phase, f_root, f_instants, f_rejected, f_activeLeaves, a_kind, a_arg, a_first, a_second, a_parent, a_shown, a_e, a_fst, fun zz => ((rn_u R t (rn_th (R a) (R b))) zz).1, fun zz => ((rn_u R t (rn_th (R a) (R b))) zz).2.1, fun zz => ((rn_u R t (rn_th (R a) (R b))) zz).2.2.1, fun zz => ((rn_u R t (rn_th (R a) (R b))) zz).2.2.2.1, fun zz => ((rn_u R t (rn_th (R a) (R b))) zz).2.2.2.2)) : wpY_then post (f_inputs, f_outputs, f_cap, f_count, f_phase, f_root, f_instants, f_rejected, f_activeLeaves, a_kind, a_arg, a_first, a_second, a_parent, a_shown, a_e, a_fst, fun zz => (R zz).1, fun zz => (R zz).2.1, fun zz => (R zz).2.2.1, fun zz => (R zz).2.2.2.1, fun zz => (R zz).2.2.2.2) x y z := by
  subst hy hz
  have ia : vp_in (nI a) 65 := vp_in_nI ha (by decide)
  have ib : vp_in (nI b) 65 := vp_in_nI hb (by decide)
  have ca : (nI a).toNatClampNeg = a := nI_clamp (by omega)
  have cb : (nI b).toNatClampNeg = b := nI_clamp (by omega)
  have q0 : ¬ (1 : Int32) = 0 := by decide
  refine ⟨ia, ?_⟩
  rw [ca]
  refine rc_ifb (rc_and1 _) (fun m0 => ?_) (fun m0 => ?_)
  · refine ⟨ia, ?_⟩
    rw [ca]
    refine rc_ifb (rc_and1 _) (fun c0 => ?_) (fun c0 => ?_)
    · refine br_t rfl ⟨ia, ?_⟩
      refine br_t rfl ⟨ia, ?_⟩
      refine br_t rfl ⟨ia, ?_⟩
      refine br_t rfl ⟨ia, ?_⟩
      refine br_t rfl ⟨ia, ?_⟩
      rw [ca]
      refine yr_put ht hx ?_
      unfold rn_th at K
      rw [m0, c0] at K
      simpa only [if_neg Bool.false_ne_true] using K
    · refine br_t rfl ⟨ia, ?_⟩
      refine br_f q0 ⟨ia, ib, ?_⟩
      refine br_t rfl ⟨ia, ?_⟩
      refine br_f q0 ⟨ia, ib, ?_⟩
      refine br_t rfl ⟨ia, ?_⟩
      rw [ca, cb]
      refine yr_put ht hx ?_
      unfold rn_th at K
      rw [m0, c0] at K
      simpa only [if_neg Bool.false_ne_true, if_true] using K
  · refine ⟨ia, ?_⟩
    rw [ca]
    refine rc_ifb (rc_and1 _) (fun c0 => ?_) (fun c0 => ?_)
    · refine br_f q0 ⟨ia, ib, ?_⟩
      refine br_t rfl ⟨ia, ?_⟩
      refine br_f q0 ⟨ib, ?_⟩
      refine br_t rfl ⟨ia, ?_⟩
      refine br_f q0 ⟨ib, ?_⟩
      rw [ca, cb]
      refine yr_put ht hx ?_
      unfold rn_th at K
      rw [m0, c0] at K
      simpa only [if_neg Bool.false_ne_true, if_true] using K
    · refine br_f q0 ⟨ia, ib, ?_⟩
      refine br_f q0 ⟨ia, ib, ?_⟩
      refine br_f q0 ⟨ib, ?_⟩
      refine br_f q0 ⟨ia, ib, ?_⟩
      refine br_f q0 ⟨ib, ?_⟩
      rw [ca, cb]
      refine yr_put ht hx ?_
      unfold rn_th at K
      rw [m0, c0] at K
      simpa only [if_true] using K
theorem yr_par {t a b : Nat} (ht : t < 65) (ha : a < 65) (hb : b < 65) {x y z : Int32} (hx : x = nI t) (hy : y = nI a) (hz : z = nI b) (K : post (f_inputs, f_outputs, f_cap, f_count, f_phase, f_root, f_instants, f_rejected, f_activeLeaves, a_kind, a_arg, a_first, a_second, a_parent, a_shown, a_e, a_fst, fun zz => ((rn_u R t (rn_pa (R a) (R b))) zz).1, fun zz => ((rn_u R t (rn_pa (R a) (R b))) zz).2.1, fun zz => ((rn_u R t (rn_pa (R a) (R b))) zz).2.2.1, fun zz => ((rn_u R t (rn_pa (R a) (R b))) zz).2.2.2.1, fun zz => ((rn_u R t (rn_pa (R a) (R b))) zz).2.2.2.2)) : wpY_par post (f_inputs, f_outputs, f_cap, f_count, f_phase, f_root, f_instants, f_rejected, f_activeLeaves, a_kind, a_arg, a_first, a_second, a_parent, a_shown, a_e, a_fst, fun zz => (R zz).1, fun zz => (R zz).2.1, fun zz => (R zz).2.2.1, fun zz => (R zz).2.2.2.1, fun zz => (R zz).2.2.2.2) x y z := by
  subst hy hz
  have ia : vp_in (nI a) 65 := vp_in_nI ha (by decide)
  have ib : vp_in (nI b) 65 := vp_in_nI hb (by decide)
  refine ⟨ia, ib, ?_⟩
  rw [nI_clamp (show a < 2 ^ 31 by omega), nI_clamp (show b < 2 ^ 31 by omega)]
  refine yb_max ⟨ia, ib, ?_⟩
  refine yb_max ⟨ia, ib, ia, ib, ia, ib, ?_⟩
  exact yr_put ht hx K
theorem yr_trap {t a : Nat} (ht : t < 65) (ha : a < 65) {x y : Int32} (hx : x = nI t) (hy : y = nI a) (K : post (f_inputs, f_outputs, f_cap, f_count, f_phase, f_root, f_instants, f_rejected, f_activeLeaves, a_kind, a_arg, a_first, a_second, a_parent, a_shown, a_e, a_fst, fun zz => ((rn_u R t (rn_tr (R a))) zz).1, fun zz => ((rn_u R t (rn_tr (R a))) zz).2.1, fun zz => ((rn_u R t (rn_tr (R a))) zz).2.2.1, fun zz => ((rn_u R t (rn_tr (R a))) zz).2.2.2.1, fun zz => ((rn_u R t (rn_tr (R a))) zz).2.2.2.2)) : wpY_trap post (f_inputs, f_outputs, f_cap, f_count, f_phase, f_root, f_instants, f_rejected, f_activeLeaves, a_kind, a_arg, a_first, a_second, a_parent, a_shown, a_e, a_fst, fun zz => (R zz).1, fun zz => (R zz).2.1, fun zz => (R zz).2.2.1, fun zz => (R zz).2.2.2.1, fun zz => (R zz).2.2.2.2) x y := by
  subst hy
  have ia : vp_in (nI a) 65 := vp_in_nI ha (by decide)
  refine ⟨ia, ?_⟩
  rw [nI_clamp (show a < 2 ^ 31 by omega)]
  refine yb_down ⟨ia, ?_⟩
  refine yb_down ⟨ia, ia, ia, ?_⟩
  exact yr_put ht hx K
section
variable {ni no N : Nat} {κ A P Q U : Nat → Nat}
theorem yr_start (T : tr_F ni no N κ A P Q U) (hio : ni + no ≤ 10) (hT : ln_T N a_kind a_arg a_first a_second a_parent κ A P Q U) {n : Nat} (hn : n < N)
    (K : ∀ v, v = rn_st (κ n) n (A n) (a_e (A n)) (R (P n)) (R (Q n)) → post (f_inputs, f_outputs, f_cap, f_count, f_phase, f_root, f_instants, f_rejected, f_activeLeaves, a_kind, a_arg, a_first, a_second, a_parent, a_shown, a_e, a_fst, fun zz => ((rn_u R n v) zz).1, fun zz => ((rn_u R n v) zz).2.1, fun zz => ((rn_u R n v) zz).2.2.1, fun zz => ((rn_u R n v) zz).2.2.2.1, fun zz => ((rn_u R n v) zz).2.2.2.2)) : wpY_evalStart post (f_inputs, f_outputs, f_cap, f_count, f_phase, f_root, f_instants, f_rejected, f_activeLeaves, a_kind, a_arg, a_first, a_second, a_parent, a_shown, a_e, a_fst, fun zz => (R zz).1, fun zz => (R zz).2.1, fun zz => (R zz).2.2.1, fun zz => (R zz).2.2.2.1, fun zz => (R zz).2.2.2.2) (nI n) := by
  have hN := T.1
  have hk := tr_k T hn
  obtain ⟨t1, t2, t3, t4, t5, t6, t7, t8⟩ := hT n hn
  have h9 := (T.2 n hn).2.2.2.2
  have hi : vp_in (nI n) 32 := vp_in_nI (by omega) (by decide)
  refine ⟨hi, ?_⟩
  rw [nI_clamp (show n < 2 ^ 31 by omega)]
  refine nm_r t1 ⟨hi, nm_e ⟨hi, nm_e ⟨hi, nm_e ?_⟩⟩⟩
  refine pk_eq (κ n) 0 (fun h => yr_put (by omega) rfl (K _ ?_)) (fun h0 => ?_)
  · unfold rn_st; rw [if_pos h]
  refine pk_eq (κ n) 2 (fun h => ?_) (fun h2 => ?_)
  · rw [t6 (by omega)]
    refine yr_put (by omega) rfl (K _ ?_)
    unfold rn_st; rw [if_neg h0, if_pos h]
  refine pk_eq (κ n) 1 (fun h => yr_put (by omega) rfl (K _ ?_)) (fun h1 => ?_)
  · unfold rn_st; rw [if_neg h0, if_neg h2, if_pos (Or.inl h)]
  refine pk_eq (κ n) 4 (fun h => yr_put (by omega) rfl (K _ ?_)) (fun h4 => ?_)
  · unfold rn_st; rw [if_neg h0, if_neg h2, if_pos (Or.inr h)]
  refine pk_eq (κ n) 3 (fun h => ?_) (fun h3 => ?_)
  · rw [t6 (by omega)]
    refine yr_put (by omega) rfl (K _ ?_)
    unfold rn_st; rw [if_neg h0, if_neg h2, if_neg (by omega), if_pos h]
  have k5 : 5 ≤ κ n := by omega
  have hp := tr_p T hn k5
  have eP := t3 k5
  have key : ∀ v, v = (if κ n = 9 then (if a_e (A n) = 1 then rn_cp (R (P n)) else if a_e (A n) = 0 then rn_cp (R (Q n)) else rn_pt 0 ((R (P n)).2.1 ||| (R (Q n)).2.1) 0 ((R (P n)).2.2.2.1 ||| (R (Q n)).2.2.2.1) 0)
      else if κ n = 10 then rn_th (R (P n)) (R (Q n)) else if κ n = 11 then rn_pa (R (P n)) (R (Q n)) else if κ n = 6 then rn_tr (R (P n)) else rn_cp (R (P n))) → post (f_inputs, f_outputs, f_cap, f_count, f_phase, f_root, f_instants, f_rejected, f_activeLeaves, a_kind, a_arg, a_first, a_second, a_parent, a_shown, a_e, a_fst, fun zz => ((rn_u R n v) zz).1, fun zz => ((rn_u R n v) zz).2.1, fun zz => ((rn_u R n v) zz).2.2.1, fun zz => ((rn_u R n v) zz).2.2.2.1, fun zz => ((rn_u R n v) zz).2.2.2.2) := by
    intro v hv
    refine K v ?_
    unfold rn_st; rw [if_neg h0, if_neg h2, if_neg (by omega), if_neg h3]; exact hv
  rw [eP]
  refine pk_eq (κ n) 9 (fun h9' => ?_) (fun n9 => br_f (fun z => n9 ((nI_eq (a := κ n) (b := 9) (by omega) (by omega)).mp z)) ?_)
  · have hq := tr_q T hn (by omega)
    have hA := h9.2.1 (by omega)
    have ia : vp_in (nI (A n)) 10 := vp_in_nI (by omega) (by decide)
    have nine : nI (κ n) = 9 := congrArg nI h9'
    simp only [if_pos h9'] at key
    rw [t5 (by omega), t6 (by omega)]
    refine ⟨ia, ?_⟩
    rw [nI_clamp (show A n < 2 ^ 31 by omega)]
    refine br_c (fun v1 => yr_copy (by omega) (by omega) rfl rfl (key _ ?_)) (fun v1 => br_t nine ⟨ia, ?_⟩)
    · rw [if_pos v1]
    · rw [nI_clamp (show A n < 2 ^ 31 by omega)]
      refine br_c (fun v0 => yr_copy (by omega) (by omega) rfl rfl (key _ ?_)) (fun v0 => br_t nine ?_)
      · rw [if_neg v1, if_pos v0]
      · have ip : vp_in (nI (P n)) 65 := vp_in_nI (by omega) (by decide)
        have iq : vp_in (nI (Q n)) 65 := vp_in_nI (by omega) (by decide)
        refine ⟨ip, iq, ip, iq, ?_⟩
        rw [nI_clamp (show P n < 2 ^ 31 by omega), nI_clamp (show Q n < 2 ^ 31 by omega)]
        refine yr_put (by omega) rfl (key _ ?_)
        rw [if_neg v1, if_neg v0]
  · simp only [if_neg n9] at key
    refine br_f (fun z => n9 ((nI_eq (a := κ n) (b := 9) (by omega) (by omega)).mp z)) ?_
    refine pk_eq (κ n) 10 (fun h => ?_) (fun h10 => ?_)
    · have hq := tr_q T hn (by omega)
      simp only [if_pos h] at key
      rw [t5 (by omega)]
      exact yr_then (by omega) (by omega) (by omega) rfl rfl rfl (key _ rfl)
    simp only [if_neg h10] at key
    refine pk_eq (κ n) 11 (fun h => ?_) (fun h11 => ?_)
    · have hq := tr_q T hn (by omega)
      simp only [if_pos h] at key
      rw [t5 (by omega)]
      exact yr_par (by omega) (by omega) (by omega) rfl rfl rfl (key _ rfl)
    simp only [if_neg h11] at key
    refine pk_eq (κ n) 6 (fun h => ?_) (fun h6 => ?_)
    · simp only [if_pos h] at key
      exact yr_trap (by omega) (by omega) rfl rfl (key _ rfl)
    simp only [if_neg h6] at key
    exact yr_copy (by omega) (by omega) rfl rfl (key _ rfl)
end
end
end
section
/-! ===== existence and uniqueness of the runs; the rounds ===== -/
theorem rn_st_c {κ n a : Nat} {v v' : Int32} {p p' q q' : rn_T} (hv : κ = 9 → v = v') (hp : 5 ≤ κ → p = p') (hq : 9 ≤ κ → q = q') : rn_st κ n a v p q = rn_st κ n a v' p' q' := by
  by_cases k9 : 9 ≤ κ
  · rw [hp (by omega), hq k9]
    by_cases k : κ = 9
    · rw [hv k]
    · unfold rn_st; rw [if_neg k, if_neg k]
  · by_cases k5 : 5 ≤ κ
    · rw [hp k5]
      unfold rn_st
      rw [if_neg (by omega : ¬ κ = 9), if_neg (by omega : ¬ κ = 9), if_neg (by omega : ¬ κ = 10), if_neg (by omega : ¬ κ = 10), if_neg (by omega : ¬ κ = 11), if_neg (by omega : ¬ κ = 11)]
    · have hh : κ = 0 ∨ κ = 1 ∨ κ = 2 ∨ κ = 3 ∨ κ = 4 := by omega
      rcases hh with k | k | k | k | k <;> subst k <;> rfl
theorem rn_rs_c {κ n : Nat} {v v' : Int32} {ap aq : Bool} {sp sp' sq sq' rp rp' rq rq' : rn_T} {kp : Int32} (hv : κ = 4 ∨ κ = 7 ∨ κ = 8 → v = v') (hk : κ ≤ 11) (hl : κ < 5 → κ = 1 ∨ κ = 4)
    (hp : 5 ≤ κ → sp = sp' ∧ (ap = true → rp = rp')) (hq : 9 ≤ κ → sq = sq' ∧ (aq = true → rq = rq')) : rn_rs κ n v ap aq sp sq rp rq kp = rn_rs κ n v' ap aq sp' sq' rp' rq' kp := by
  by_cases k5 : 5 ≤ κ
  · have e1 := (hp k5).1
    have e2 : (if ap = true then rp else rn_id) = (if ap = true then rp' else rn_id) := by
      by_cases a : ap = true
      · rw [if_pos a, if_pos a]; exact (hp k5).2 a
      · rw [if_neg a, if_neg a]
    by_cases k9 : 9 ≤ κ
    · have e3 := (hq k9).1
      have e4 : (if aq = true then rq else rn_id) = (if aq = true then rq' else rn_id) := by
        by_cases a : aq = true
        · rw [if_pos a, if_pos a]; exact (hq k9).2 a
        · rw [if_neg a, if_neg a]
      have hh : κ = 9 ∨ κ = 10 ∨ κ = 11 := by omega
      rcases hh with k | k | k
      · subst k
        show (if ap = true then rn_cp rp else if aq = true then rn_cp rq else rn_cp rn_id) = (if ap = true then rn_cp rp' else if aq = true then rn_cp rq' else rn_cp rn_id)
        by_cases a : ap = true
        · rw [if_pos a, if_pos a, (hp k5).2 a]
        · rw [if_neg a, if_neg a]
          by_cases b : aq = true
          · rw [if_pos b, if_pos b, (hq k9).2 b]
          · rw [if_neg b, if_neg b]
      · subst k
        show (if ap = true then rn_th rp sq else if aq = true then rn_cp rq else rn_cp rn_id) = (if ap = true then rn_th rp' sq' else if aq = true then rn_cp rq' else rn_cp rn_id)
        by_cases a : ap = true
        · rw [if_pos a, if_pos a, (hp k5).2 a, e3]
        · rw [if_neg a, if_neg a]
          by_cases b : aq = true
          · rw [if_pos b, if_pos b, (hq k9).2 b]
          · rw [if_neg b, if_neg b]
      · subst k
        show rn_pa (if ap = true then rp else rn_id) (if aq = true then rq else rn_id) = rn_pa (if ap = true then rp' else rn_id) (if aq = true then rq' else rn_id)
        rw [e2, e4]
    · unfold rn_rs
      rw [e2, e1, if_neg (by omega : ¬ κ = 9), if_neg (by omega : ¬ κ = 9), if_neg (by omega : ¬ κ = 10), if_neg (by omega : ¬ κ = 10), if_neg (by omega : ¬ κ = 11), if_neg (by omega : ¬ κ = 11),
        if_neg (by omega : ¬ κ = 4), if_neg (by omega : ¬ κ = 4)]
      have hh : κ = 5 ∨ κ = 6 ∨ (κ = 7 ∨ κ = 8) := by omega
      rcases hh with k | k | k
      · rw [if_pos k, if_pos k]
      · rw [if_neg (by omega : ¬ κ = 5), if_neg (by omega : ¬ κ = 5), if_pos k, if_pos k]
      · rw [hv (by omega)]
  · rcases hl (by omega) with k | k
    · subst k; rfl
    · rw [hv (Or.inl k)]; subst k; rfl
/-- the equations of one node -/
def lc_P (N : Nat) (κ A P Q U : Nat → Nat) (L : Int32) (e : Nat → Int32) (R : Nat → rn_T) (n : Nat) : Prop :=
  R n = rn_st (κ n) n (A n) (e (A n)) (R (P n)) (R (Q n)) ∧
    (ac_b N U L n = true → R (32 + n) = rn_rs (κ n) n (e (A n)) (ac_b N U L (P n)) (ac_b N U L (Q n)) (R (P n)) (R (Q n)) (R (32 + P n)) (R (32 + Q n)) (ac_k N U L n))
section
variable {ni no N : Nat} {κ A P Q U : Nat → Nat} {L : Int32} {e e' : Nat → Int32} {R R' : Nat → rn_T}
theorem lc_Pc (T : tr_F ni no N κ A P Q U) (hL : ac_L N κ L) {n : Nat} (hn : n < N) (he : ∀ s, s < ni + no → e s = e' s) (h1 : R n = R' n) (h2 : R (32 + n) = R' (32 + n))
    (hp : 5 ≤ κ n → R (P n) = R' (P n) ∧ R (32 + P n) = R' (32 + P n)) (hq : 9 ≤ κ n → R (Q n) = R' (Q n) ∧ R (32 + Q n) = R' (32 + Q n)) (h : lc_P N κ A P Q U L e R n) : lc_P N κ A P Q U L e' R' n := by
  have h9 := (T.2 n hn).2.2.2.2.2.1
  refine ⟨?_, fun a => ?_⟩
  · rw [← h1, h.1]
    exact rn_st_c (fun k => he _ (h9 (by omega))) (fun k => (hp k).1) (fun k => (hq k).1)
  · rw [← h2, h.2 a]
    exact rn_rs_c (fun k => he _ (h9 (by omega))) (tr_k T hn) (lc_lf T hL hn (pb_i.mp a)) (fun k => ⟨(hp k).1, fun _ => (hp k).2⟩) (fun k => ⟨(hq k).1, fun _ => (hq k).2⟩)
theorem lc_Re (T : tr_F ni no N κ A P Q U) (hL : ac_L N κ L) (he : ∀ s, s < ni + no → e s = e' s) (h : lc_R N κ A P Q U L e R) : lc_R N κ A P Q U L e' R :=
  ⟨h.1, fun n hn => lc_Pc T hL hn he rfl rfl (fun _ => ⟨rfl, rfl⟩) (fun _ => ⟨rfl, rfl⟩) (h.2 n hn)⟩
/-- nodes below n stand: the start of n -/
theorem lc_s1 (T : tr_F ni no N κ A P Q U) (hL : ac_L N κ L) {n : Nat} (hn : n < N) (h64 : R 64 = rn_id) (h : ∀ m, m < n → lc_P N κ A P Q U L e R m) {v : rn_T} (hv : v = rn_st (κ n) n (A n) (e (A n)) (R (P n)) (R (Q n))) :
    rn_u R n v 64 = rn_id ∧ (∀ m, m < n → lc_P N κ A P Q U L e (rn_u R n v) m) ∧ rn_u R n v n = rn_st (κ n) n (A n) (e (A n)) (rn_u R n v (P n)) (rn_u R n v (Q n)) := by
  have hN := T.1
  refine ⟨?_, fun m hm => ?_, ?_⟩
  · rw [rn_un (by omega)]; exact h64
  · refine lc_Pc T hL (by omega) (fun _ _ => rfl) (rn_un (by omega)).symm (rn_un (by omega)).symm (fun k => ?_) (fun k => ?_) (h m hm)
    · have := tr_p T (show m < N by omega) k
      exact ⟨(rn_un (by omega)).symm, (rn_un (by omega)).symm⟩
    · have := tr_q T (show m < N by omega) k
      exact ⟨(rn_un (by omega)).symm, (rn_un (by omega)).symm⟩
  · rw [rn_us, hv]
    exact rn_st_c (fun _ => rfl) (fun k => by have := tr_p T hn k; exact (rn_un (by omega)).symm) (fun k => by have := tr_q T hn k; exact (rn_un (by omega)).symm)
theorem lc_s0 {n : Nat} (h : ∀ m, m < n → lc_P N κ A P Q U L e R m) (hs : R n = rn_st (κ n) n (A n) (e (A n)) (R (P n)) (R (Q n))) (ha : ¬ ac_B N U L n) : ∀ m, m < n + 1 → lc_P N κ A P Q U L e R m := by
  intro m hm
  by_cases g : m = n
  · subst g; exact ⟨hs, fun a => absurd (pb_i.mp a) ha⟩
  · exact h m (by omega)
theorem lc_s2 (T : tr_F ni no N κ A P Q U) (hL : ac_L N κ L) {n : Nat} (hn : n < N) (h64 : R 64 = rn_id) (h : ∀ m, m < n → lc_P N κ A P Q U L e R m) (hs : R n = rn_st (κ n) n (A n) (e (A n)) (R (P n)) (R (Q n))) (ha : ac_B N U L n)
    {v : rn_T} (hv : v = rn_rs (κ n) n (e (A n)) (ac_b N U L (P n)) (ac_b N U L (Q n)) (R (P n)) (R (Q n)) (R (32 + P n)) (R (32 + Q n)) (ac_k N U L n)) :
    rn_u R (32 + n) v 64 = rn_id ∧ ∀ m, m < n + 1 → lc_P N κ A P Q U L e (rn_u R (32 + n) v) m := by
  have hN := T.1
  refine ⟨by rw [rn_un (by omega)]; exact h64, fun m hm => ?_⟩
  by_cases g : m = n
  · subst g
    refine ⟨?_, fun a => ?_⟩
    · rw [rn_un (by omega), hs]
      exact rn_st_c (fun _ => rfl) (fun k => by have := tr_p T hn k; exact (rn_un (by omega)).symm) (fun k => by have := tr_q T hn k; exact (rn_un (by omega)).symm)
    · rw [rn_us, hv]
      exact rn_rs_c (fun _ => rfl) (tr_k T hn) (lc_lf T hL hn ha) (fun k => by have := tr_p T hn k; exact ⟨(rn_un (by omega)).symm, fun _ => (rn_un (by omega)).symm⟩)
        (fun k => by have := tr_q T hn k; exact ⟨(rn_un (by omega)).symm, fun _ => (rn_un (by omega)).symm⟩)
  · refine lc_Pc T hL (by omega) (fun _ _ => rfl) (rn_un (by omega)).symm (rn_un (by omega)).symm (fun k => ?_) (fun k => ?_) (h m (by omega))
    · have := tr_p T (show m < N by omega) k
      exact ⟨(rn_un (by omega)).symm, (rn_un (by omega)).symm⟩
    · have := tr_q T (show m < N by omega) k
      exact ⟨(rn_un (by omega)).symm, (rn_un (by omega)).symm⟩
theorem lc_ex (T : tr_F ni no N κ A P Q U) (hL : ac_L N κ L) (e : Nat → Int32) : ∃ R, lc_R N κ A P Q U L e R := by
  have key : ∀ n, n ≤ N → ∃ R : Nat → rn_T, R 64 = rn_id ∧ ∀ m, m < n → lc_P N κ A P Q U L e R m := by
    intro n
    induction n with
    | zero => intro _; exact ⟨fun _ => rn_id, rfl, fun m h => absurd h (by omega)⟩
    | succ n ih =>
      intro hn
      obtain ⟨R, h64, h⟩ := ih (by omega)
      have s1 := lc_s1 T hL (by omega) h64 h rfl
      by_cases a : ac_B N U L n
      · exact ⟨_, lc_s2 T hL (by omega) s1.1 s1.2.1 s1.2.2 a rfl⟩
      · exact ⟨_, s1.1, lc_s0 s1.2.1 s1.2.2 a⟩
  exact key N (Nat.le_refl N)
theorem lc_uq (T : tr_F ni no N κ A P Q U) (hL : ac_L N κ L) (h : lc_R N κ A P Q U L e R) (h' : lc_R N κ A P Q U L e R') : ∀ n, n < N → R n = R' n ∧ (ac_B N U L n → R (32 + n) = R' (32 + n)) := by
  intro n
  induction n using Nat.strongRecOn with
  | ind n ih =>
    intro hn
    have gP : 5 ≤ κ n → R (P n) = R' (P n) ∧ (ac_b N U L (P n) = true → R (32 + P n) = R' (32 + P n)) := by
      intro k
      have hp := tr_p T hn k
      have := ih (P n) hp.1 (by omega)
      exact ⟨this.1, fun a => this.2 (pb_i.mp a)⟩
    have gQ : 9 ≤ κ n → R (Q n) = R' (Q n) ∧ (ac_b N U L (Q n) = true → R (32 + Q n) = R' (32 + Q n)) := by
      intro k
      have hp := tr_q T hn k
      have := ih (Q n) hp.1 (by omega)
      exact ⟨this.1, fun a => this.2 (pb_i.mp a)⟩
    refine ⟨?_, fun a => ?_⟩
    · rw [(h.2 n hn).1, (h'.2 n hn).1]
      exact rn_st_c (fun _ => rfl) (fun k => (gP k).1) (fun k => (gQ k).1)
    · rw [(h.2 n hn).2 (pb_t a), (h'.2 n hn).2 (pb_t a)]
      exact rn_rs_c (fun _ => rfl) (tr_k T hn) (lc_lf T hL hn a) gP gQ
end
/-! rounds: s is a run's signals -/
def st_v (ni no : Nat) (x : rn_T) (e : Nat → Int32) : Nat → Int32 := fun s => if ni ≤ s ∧ s < ni + no ∧ e s = 2 then (if bt x.1 s = true then 1 else if bt x.2.1 s = true then 2 else 0) else e s
def st_q (ni no : Nat) (e e' : Nat → Int32) : Prop := ∀ s, s < ni + no → e s = e' s
noncomputable def st_R (N : Nat) (κ A P Q U : Nat → Nat) (L : Int32) (e : Nat → Int32) : Nat → rn_T := @Classical.epsilon (Nat → rn_T) ⟨fun _ => rn_id⟩ (lc_R N κ A P Q U L e)
noncomputable def st_F (ni no N : Nat) (κ A P Q U : Nat → Nat) (L : Int32) (rt : Nat) (e : Nat → Int32) : Nat → Int32 := st_v ni no (st_R N κ A P Q U L e rt) e
noncomputable def st_i (ni no N : Nat) (κ A P Q U : Nat → Nat) (L : Int32) (rt : Nat) (e : Nat → Int32) : Nat → Nat → Int32
  | 0 => e
  | k + 1 => st_F ni no N κ A P Q U L rt (st_i ni no N κ A P Q U L rt e k)
/-- ef is where the rounds from e0 end -/
def st_L (ni no N : Nat) (κ A P Q U : Nat → Nat) (L : Int32) (rt : Nat) (e0 ef : Nat → Int32) : Prop :=
  ∃ k, st_q ni no ef (st_i ni no N κ A P Q U L rt e0 k) ∧ st_q ni no (st_F ni no N κ A P Q U L rt ef) ef
/-- the run that counts -/
def st_r (N : Nat) (U : Nat → Nat) (L : Int32) (r rt : Nat) : Prop := r < N ∧ (rt = r ∨ (rt = 32 + r ∧ ac_B N U L r))
section
variable {ni no N : Nat} {κ A P Q U : Nat → Nat} {L : Int32} {e e' : Nat → Int32} {R R' : Nat → rn_T} {r rt : Nat}
theorem st_Rl (T : tr_F ni no N κ A P Q U) (hL : ac_L N κ L) (e : Nat → Int32) : lc_R N κ A P Q U L e (st_R N κ A P Q U L e) := Classical.epsilon_spec (lc_ex T hL e)
theorem st_Re (T : tr_F ni no N κ A P Q U) (hL : ac_L N κ L) (hr : st_r N U L r rt) (he : st_q ni no e e') (h : lc_R N κ A P Q U L e R) : st_R N κ A P Q U L e' rt = R rt := by
  have u := lc_uq T hL (st_Rl T hL e') (lc_Re T hL he h) r hr.1
  rcases hr.2 with g | ⟨g, a⟩
  · rw [g]; exact u.1
  · rw [g]; exact u.2 a
theorem st_Fe (T : tr_F ni no N κ A P Q U) (hL : ac_L N κ L) (hr : st_r N U L r rt) (he : st_q ni no e e') : st_q ni no (st_F ni no N κ A P Q U L rt e) (st_F ni no N κ A P Q U L rt e') := by
  intro s hs
  unfold st_F
  rw [st_Re T hL hr he (st_Rl T hL e)]
  unfold st_v
  rw [he s hs]
theorem st_FR (T : tr_F ni no N κ A P Q U) (hL : ac_L N κ L) (hr : st_r N U L r rt) (h : lc_R N κ A P Q U L e R) : st_F ni no N κ A P Q U L rt e = st_v ni no (R rt) e := by
  unfold st_F
  rw [st_Re T hL hr (fun _ _ => rfl) h]
theorem st_qr (e : Nat → Int32) : st_q ni no e e := fun _ _ => rfl
theorem st_qs (h : st_q ni no e e') : st_q ni no e' e := fun s hs => (h s hs).symm
theorem st_qt {e'' : Nat → Int32} (h : st_q ni no e e') (k : st_q ni no e' e'') : st_q ni no e e'' := fun s hs => (h s hs).trans (k s hs)
theorem st_ie (T : tr_F ni no N κ A P Q U) (hL : ac_L N κ L) (hr : st_r N U L r rt) (he : st_q ni no e e') : ∀ k, st_q ni no (st_i ni no N κ A P Q U L rt e k) (st_i ni no N κ A P Q U L rt e' k) := by
  intro k
  induction k with
  | zero => exact he
  | succ k ih => exact st_Fe T hL hr ih
/-- at a fixpoint the rounds stay -/
theorem st_ik (T : tr_F ni no N κ A P Q U) (hL : ac_L N κ L) (hr : st_r N U L r rt) {ef : Nat → Int32} (hf : st_q ni no (st_F ni no N κ A P Q U L rt ef) ef) {k : Nat} (hk : st_q ni no ef (st_i ni no N κ A P Q U L rt e k)) :
    ∀ d, st_q ni no ef (st_i ni no N κ A P Q U L rt e (k + d)) := by
  intro d
  induction d with
  | zero => exact hk
  | succ d ih => exact st_qt (st_qs hf) (st_Fe T hL hr ih)
theorem st_Lu (T : tr_F ni no N κ A P Q U) (hL : ac_L N κ L) (hr : st_r N U L r rt) {e0 e0' ef ef' : Nat → Int32} (h0 : st_q ni no e0 e0') (h : st_L ni no N κ A P Q U L rt e0 ef) (h' : st_L ni no N κ A P Q U L rt e0' ef') : st_q ni no ef ef' := by
  obtain ⟨k, hk, hf⟩ := h
  obtain ⟨k', hk', hf'⟩ := h'
  have hk2 := st_qt hk (st_ie T hL hr h0 k)
  rcases Nat.le_total k k' with l | l
  · have := st_ik T hL hr hf hk2 (k' - k)
    rw [show k + (k' - k) = k' by omega] at this
    exact st_qt this (st_qs hk')
  · have := st_ik T hL hr hf' hk' (k - k')
    rw [show k' + (k - k') = k by omega] at this
    exact st_qt hk2 (st_qs this)
/-- signals that are still open -/
def st_u (ni : Nat) (e : Nat → Int32) : Nat → Nat
  | 0 => 0
  | k + 1 => st_u ni e k + (if e (ni + k) = 2 then 1 else 0)
theorem st_ul (ni : Nat) (e : Nat → Int32) : ∀ k, st_u ni e k ≤ k := by
  intro k
  induction k with
  | zero => exact Nat.le_refl 0
  | succ k ih => rw [st_u]; split <;> omega
theorem st_um (ni : Nat) (e e' : Nat → Int32) : ∀ k, (∀ j, j < k → e' (ni + j) = 2 → e (ni + j) = 2) → st_u ni e' k ≤ st_u ni e k := by
  intro k
  induction k with
  | zero => intro _; exact Nat.le_refl 0
  | succ k ih =>
    intro h
    have i := ih (fun j hj => h j (by omega))
    have t := h k (by omega)
    rw [st_u, st_u]
    by_cases c : e' (ni + k) = 2
    · rw [if_pos c, if_pos (t c)]; omega
    · rw [if_neg c]; split <;> omega
theorem st_us (ni : Nat) (e e' : Nat → Int32) : ∀ k, (∀ j, j < k → e' (ni + j) = 2 → e (ni + j) = 2) → (∃ j, j < k ∧ e (ni + j) = 2 ∧ e' (ni + j) ≠ 2) → st_u ni e' k < st_u ni e k := by
  intro k
  induction k with
  | zero => intro _ ⟨j, hj, _⟩; omega
  | succ k ih =>
    intro h ⟨j, hj, h1, h2⟩
    have t := h k (by omega)
    rw [st_u, st_u]
    by_cases g : j = k
    · subst g
      have := st_um ni e e' j (fun i hi => h i (by omega))
      rw [if_neg h2, if_pos h1]; omega
    · have i := ih (fun j hj => h j (by omega)) ⟨j, by omega, h1, h2⟩
      by_cases c : e' (ni + k) = 2
      · rw [if_pos c, if_pos (t c)]; omega
      · rw [if_neg c]; split <;> omega
theorem st_vd (x : rn_T) (e : Nat → Int32) : (∀ s, s < ni + no → st_v ni no x e s = e s) ∨ st_u ni (st_v ni no x e) no < st_u ni e no := by
  by_cases c : ∃ j, j < no ∧ e (ni + j) = 2 ∧ st_v ni no x e (ni + j) ≠ 2
  · right
    refine st_us ni e _ no (fun j hj h => ?_) c
    unfold st_v at h
    by_cases g : ni ≤ ni + j ∧ ni + j < ni + no ∧ e (ni + j) = 2
    · exact g.2.2
    · rw [if_neg g] at h; exact h
  · left
    intro s hs
    by_cases g : ni ≤ s ∧ s < ni + no ∧ e s = 2
    · apply Classical.byContradiction
      intro z
      apply c
      refine ⟨s - ni, by omega, ?_, ?_⟩
      · rw [show ni + (s - ni) = s by omega]; exact g.2.2
      · rw [show ni + (s - ni) = s by omega]
        intro y; apply z; rw [y, g.2.2]
    · unfold st_v; rw [if_neg g]
theorem st_dec (T : tr_F ni no N κ A P Q U) (hL : ac_L N κ L) (hr : st_r N U L r rt) (e : Nat → Int32) : ∀ k, (∃ j, j < k ∧ st_q ni no (st_F ni no N κ A P Q U L rt (st_i ni no N κ A P Q U L rt e j)) (st_i ni no N κ A P Q U L rt e j)) ∨ st_u ni (st_i ni no N κ A P Q U L rt e k) no + k ≤ no := by
  intro k
  induction k with
  | zero => right; exact st_ul ni _ no
  | succ k ih =>
    rcases ih with ⟨j, hj, h⟩ | h
    · exact Or.inl ⟨j, by omega, h⟩
    · rcases st_vd (ni := ni) (no := no) (st_R N κ A P Q U L (st_i ni no N κ A P Q U L rt e k) rt) (st_i ni no N κ A P Q U L rt e k) with g | g
      · exact Or.inl ⟨k, by omega, g⟩
      · right
        have : st_u ni (st_i ni no N κ A P Q U L rt e (k + 1)) no < st_u ni (st_i ni no N κ A P Q U L rt e k) no := g
        omega
theorem st_end (T : tr_F ni no N κ A P Q U) (hL : ac_L N κ L) (hr : st_r N U L r rt) (e : Nat → Int32) {k : Nat} (hk : no ≤ k) : st_q ni no (st_F ni no N κ A P Q U L rt (st_i ni no N κ A P Q U L rt e k)) (st_i ni no N κ A P Q U L rt e k) := by
  rcases st_dec T hL hr e (k + 1) with ⟨j, hj, h⟩ | h
  · have := st_ik T hL hr h (st_qr _) (k - j)
    rw [show j + (k - j) = k by omega] at this
    exact st_qt (st_Fe T hL hr (st_qs this)) (st_qt h this)
  · omega
end
end
section
/-! ===== Y: resumptions, all runs ===== -/
section
variable {f_inputs f_outputs f_cap f_count f_phase f_root f_instants f_rejected f_activeLeaves : Int32} {a_kind a_arg a_first a_second a_parent a_shown a_e a_fst a_ms a_cs a_mk a_ck a_left : Nat → Int32}
variable {post : SY → Prop} {R : Nat → rn_T} {ni no N : Nat} {κ A P Q U : Nat → Nat}
theorem yr_98 (T : tr_F ni no N κ A P Q U) (hT : ln_T N a_kind a_arg a_first a_second a_parent κ A P Q U) (hL : ac_L N κ f_activeLeaves) {n : Nat} (hn : n < N) (ha : ac_B N U f_activeLeaves n) (h64 : R 64 = rn_id)
    {x4 x5 x6 x7 x8 : Int32} {a b : Nat} (e4 : 5 ≤ κ n → x4 = nI (P n)) (e5 : 9 ≤ κ n → x5 = nI (Q n)) (e6 : κ n = 4 ∨ κ n = 7 ∨ κ n = 8 → x6 = a_e (A n)) (e7 : x7 = nI a) (e8 : x8 = nI b)
    (qa : 5 ≤ κ n → (ac_b N U f_activeLeaves (P n) = true ∧ a = 32 + P n) ∨ (ac_b N U f_activeLeaves (P n) = false ∧ a = 64)) (qb : 9 ≤ κ n → (ac_b N U f_activeLeaves (Q n) = true ∧ b = 32 + Q n) ∨ (ac_b N U f_activeLeaves (Q n) = false ∧ b = 64))
    (K : ∀ v, v = rn_rs (κ n) n (a_e (A n)) (ac_b N U f_activeLeaves (P n)) (ac_b N U f_activeLeaves (Q n)) (R (P n)) (R (Q n)) (R (32 + P n)) (R (32 + Q n)) (ac_k N U f_activeLeaves n) → post (f_inputs, f_outputs, f_cap, nI N, f_phase, f_root, f_instants, f_rejected, f_activeLeaves, a_kind, a_arg, a_first, a_second, a_parent, a_shown, a_e, a_fst, fun zz => ((rn_u R (32 + n) v) zz).1, fun zz => ((rn_u R (32 + n) v) zz).2.1, fun zz => ((rn_u R (32 + n) v) zz).2.2.1, fun zz => ((rn_u R (32 + n) v) zz).2.2.2.1, fun zz => ((rn_u R (32 + n) v) zz).2.2.2.2)) :
    wY_evalResume_98 post (nI n) (nI (32 + n)) (nI (κ n)) x4 x5 x6 x7 x8 f_inputs f_outputs f_cap (nI N) f_phase f_root f_instants f_rejected f_activeLeaves a_kind a_arg a_first a_second a_parent a_shown a_e a_fst (fun zz => (R zz).1) (fun zz => (R zz).2.1) (fun zz => (R zz).2.2.1) (fun zz => (R zz).2.2.2.1) (fun zz => (R zz).2.2.2.2) := by
  have hN := T.1
  have hk := tr_k T hn
  have hlf := lc_lf T hL hn ha
  have t31 : n + 32 < 2 ^ 31 := by omega
  have ne : ∀ k, k < 12 → κ n ≠ k → ¬ nI (κ n) = nI k := fun k hk h z => h ((nI_eq (by omega) (by omega)).mp z)
  have eqn : ∀ k, κ n = k → nI (κ n) = nI k := fun k h => congrArg nI h
  have ht : 32 + n < 65 := by omega
  subst e7 e8
  have hh : κ n = 1 ∨ κ n = 4 ∨ κ n = 5 ∨ κ n = 6 ∨ κ n = 7 ∨ κ n = 8 ∨ κ n = 9 ∨ κ n = 10 ∨ κ n = 11 := by
    rcases Nat.lt_or_ge (κ n) 5 with l | l
    · rcases hlf l with h | h
      · exact Or.inl h
      · exact Or.inr (Or.inl h)
    · omega
  by_cases k1 : κ n = 1
  · refine br_t (eqn 1 k1) (yr_put ht rfl (K _ ?_))
    rw [k1]; rfl
  refine br_f (ne 1 (by omega) k1) ?_
  by_cases k4 : κ n = 4
  · have v6 := e6 (by omega)
    subst v6
    rw [k4] at K
    refine br_t (eqn 4 k4) (br_c (fun v1 => yr_put ht rfl (K _ ?_)) (fun v1 => ?_))
    · show _ = if a_e (A n) = 1 then _ else _
      rw [if_pos v1]
    · refine br_t (eqn 4 k4) (br_c (fun v0 => yr_put ht rfl (K _ ?_)) (fun v0 => ?_))
      · show _ = if a_e (A n) = 1 then _ else if a_e (A n) = 0 then _ else _
        rw [if_neg v1, if_pos v0]
      · refine br_t (eqn 4 k4) (yr_put ht rfl (K _ ?_))
        show _ = if a_e (A n) = 1 then _ else if a_e (A n) = 0 then _ else _
        rw [if_neg v1, if_neg v0]
  refine br_f (ne 4 (by omega) k4) ?_
  refine br_f (ne 4 (by omega) k4) ?_
  refine br_f (ne 4 (by omega) k4) ?_
  have k5 : 5 ≤ κ n := by omega
  have hp := tr_p T hn k5
  have qa := qa k5
  have e4 := e4 k5
  have a65 : a < 65 := by omega
  have Ra : R a = if ac_b N U f_activeLeaves (P n) = true then R (32 + P n) else rn_id := by
    rcases qa with ⟨x, y⟩ | ⟨x, y⟩
    · rw [x, y, if_pos rfl]
    · rw [x, y, if_neg Bool.false_ne_true]; exact h64
  by_cases k9 : κ n = 9
  · have qb := qb (by omega)
    have hq := tr_q T hn (by omega)
    rw [k9] at K
    refine br_t (eqn 9 k9) (pk_eq a 64 (fun z => ?_) (fun z => ?_))
    · have pa : ac_b N U f_activeLeaves (P n) = false := by rcases qa with ⟨x, y⟩ | ⟨x, y⟩; · omega
                                                            · exact x
      refine yr_copy ht (by omega) rfl rfl (K _ ?_)
      show _ = if ac_b N U f_activeLeaves (P n) = true then _ else if ac_b N U f_activeLeaves (Q n) = true then _ else _
      rw [if_neg (by rw [pa]; exact Bool.false_ne_true)]
      rcases qb with ⟨x, y⟩ | ⟨x, y⟩
      · rw [if_pos x, y]
      · rw [if_neg (by rw [x]; exact Bool.false_ne_true), y, h64]
    · have pa : ac_b N U f_activeLeaves (P n) = true ∧ a = 32 + P n := by rcases qa with h | ⟨x, y⟩; · exact h
                                                                          · omega
      refine yr_copy ht a65 rfl rfl (K _ ?_)
      show _ = if ac_b N U f_activeLeaves (P n) = true then _ else _
      rw [if_pos pa.1, pa.2]
  refine br_f (ne 9 (by omega) k9) ?_
  by_cases k10 : κ n = 10
  · have qb := qb (by omega)
    have hq := tr_q T hn (by omega)
    have e5 := e5 (by omega)
    rw [k10] at K
    refine br_t (eqn 10 k10) (pk_eq a 64 (fun z => ?_) (fun z => ?_))
    · have pa : ac_b N U f_activeLeaves (P n) = false := by rcases qa with ⟨x, y⟩ | ⟨x, y⟩; · omega
                                                            · exact x
      refine br_t (eqn 10 k10) (yr_copy ht (by omega) rfl rfl (K _ ?_))
      show _ = if ac_b N U f_activeLeaves (P n) = true then _ else if ac_b N U f_activeLeaves (Q n) = true then _ else _
      rw [if_neg (by rw [pa]; exact Bool.false_ne_true)]
      rcases qb with ⟨x, y⟩ | ⟨x, y⟩
      · rw [if_pos x, y]
      · rw [if_neg (by rw [x]; exact Bool.false_ne_true), y, h64]
    · have pa : ac_b N U f_activeLeaves (P n) = true ∧ a = 32 + P n := by rcases qa with h | ⟨x, y⟩; · exact h
                                                                          · omega
      refine yr_then ht a65 (show Q n < 65 by omega) rfl rfl e5 (K _ ?_)
      show _ = if ac_b N U f_activeLeaves (P n) = true then _ else _
      rw [if_pos pa.1, pa.2]
  refine br_f (ne 10 (by omega) k10) ?_
  refine br_f (ne 10 (by omega) k10) ?_
  by_cases k11 : κ n = 11
  · have qb := qb (by omega)
    have hq := tr_q T hn (by omega)
    rw [k11] at K
    refine br_t (eqn 11 k11) (yr_par ht a65 (show b < 65 by omega) rfl rfl rfl (K _ ?_))
    show _ = rn_pa (if ac_b N U f_activeLeaves (P n) = true then _ else _) (if ac_b N U f_activeLeaves (Q n) = true then _ else _)
    have Rb : R b = if ac_b N U f_activeLeaves (Q n) = true then R (32 + Q n) else rn_id := by
      rcases qb with ⟨x, y⟩ | ⟨x, y⟩
      · rw [x, y, if_pos rfl]
      · rw [x, y, if_neg Bool.false_ne_true]; exact h64
    rw [Ra, Rb]
  refine br_f (ne 11 (by omega) k11) ?_
  by_cases q5 : κ n = 5
  · rw [q5] at K
    refine br_t (eqn 5 q5) (yr_then ht a65 (show P n < 65 by omega) rfl rfl e4 (K _ ?_))
    rw [Ra]; rfl
  refine br_f (ne 5 (by omega) q5) ?_
  by_cases q6 : κ n = 6
  · rw [q6] at K
    refine br_t (eqn 6 q6) (yr_trap ht a65 rfl rfl (K _ ?_))
    rw [Ra]; rfl
  refine br_f (ne 6 (by omega) q6) ?_
  have v6 := e6 (by omega)
  subst v6
  have ia : vp_in (nI a) 65 := vp_in_nI a65 (by decide)
  have ca : (nI a).toNatClampNeg = a := nI_clamp (by omega)
  by_cases q7 : κ n = 7
  · rw [q7] at K
    refine br_c (fun v0 => yr_copy ht a65 rfl rfl (K _ ?_)) (fun v0 => br_t (eqn 7 q7) (br_c (fun v1 => yr_put ht rfl (K _ ?_)) (fun v1 => br_t (eqn 7 q7) ⟨ia, ia, ?_⟩)))
    · show _ = if a_e (A n) = 0 then _ else _
      rw [if_pos v0, Ra]
    · show _ = if a_e (A n) = 0 then _ else if a_e (A n) = 1 then _ else _
      rw [if_neg v0, if_pos v1]
    · rw [ca]
      refine yr_put ht rfl (K _ ?_)
      show _ = if a_e (A n) = 0 then _ else if a_e (A n) = 1 then _ else _
      rw [if_neg v0, if_neg v1, ← Ra]
  · have q8 : κ n = 8 := by omega
    rw [q8] at K
    refine br_c (fun v0 => yr_copy ht a65 rfl rfl (K _ ?_)) (fun v0 => br_f (ne 7 (by omega) q7) (br_f (ne 7 (by omega) q7) (br_c (fun v1 => ?_) (fun v1 => ⟨ia, ia, ?_⟩))))
    · show _ = if a_e (A n) = 0 then _ else _
      rw [if_pos v0, Ra]
    · refine yb_ab hN (fun m hm hu => (tr_u T hm hu).1) hT (by omega) (yr_put ht rfl (K _ ?_))
      show _ = if a_e (A n) = 0 then _ else if a_e (A n) = 1 then _ else _
      rw [if_neg v0, if_pos v1]
    · rw [ca]
      refine yr_put ht rfl (K _ ?_)
      show _ = if a_e (A n) = 0 then _ else if a_e (A n) = 1 then _ else _
      rw [if_neg v0, if_neg v1, ← Ra]
theorem yr_54 (T : tr_F ni no N κ A P Q U) (hT : ln_T N a_kind a_arg a_first a_second a_parent κ A P Q U) (hL : ac_L N κ f_activeLeaves) {n : Nat} (hn : n < N) (ha : ac_B N U f_activeLeaves n) (h64 : R 64 = rn_id) {x6 : Int32} (e6 : κ n = 4 ∨ κ n = 7 ∨ κ n = 8 → x6 = a_e (A n))
    (K : ∀ v, v = rn_rs (κ n) n (a_e (A n)) (ac_b N U f_activeLeaves (P n)) (ac_b N U f_activeLeaves (Q n)) (R (P n)) (R (Q n)) (R (32 + P n)) (R (32 + Q n)) (ac_k N U f_activeLeaves n) → post (f_inputs, f_outputs, f_cap, nI N, f_phase, f_root, f_instants, f_rejected, f_activeLeaves, a_kind, a_arg, a_first, a_second, a_parent, a_shown, a_e, a_fst, fun zz => ((rn_u R (32 + n) v) zz).1, fun zz => ((rn_u R (32 + n) v) zz).2.1, fun zz => ((rn_u R (32 + n) v) zz).2.2.1, fun zz => ((rn_u R (32 + n) v) zz).2.2.2.1, fun zz => ((rn_u R (32 + n) v) zz).2.2.2.2)) :
    wY_evalResume_54 post (nI n) (nI (32 + n)) (nI (κ n)) (a_first n) (a_second n) x6 f_inputs f_outputs f_cap (nI N) f_phase f_root f_instants f_rejected f_activeLeaves a_kind a_arg a_first a_second a_parent a_shown a_e a_fst (fun zz => (R zz).1) (fun zz => (R zz).2.1) (fun zz => (R zz).2.2.1) (fun zz => (R zz).2.2.2.1) (fun zz => (R zz).2.2.2.2) := by
  have hN := T.1
  obtain ⟨t1, t2, t3, t4, t5, t6, t7, t8⟩ := hT n hn
  have m5 : (-5 : Int32) < 0 := by decide
  have nm : ¬ (-1 : Int32) = 1 := by decide
  have n0 : ¬ (0 : Int32) = 1 := by decide
  have second : ∀ a : Nat, (5 ≤ κ n → (ac_b N U f_activeLeaves (P n) = true ∧ a = 32 + P n) ∨ (ac_b N U f_activeLeaves (P n) = false ∧ a = 64)) → wY_evalResume_76 post (nI n) (nI (32 + n)) (nI (κ n)) (a_first n) (a_second n) x6 (nI a) f_inputs f_outputs f_cap (nI N) f_phase f_root f_instants f_rejected f_activeLeaves a_kind a_arg a_first a_second a_parent a_shown a_e a_fst (fun zz => (R zz).1) (fun zz => (R zz).2.1) (fun zz => (R zz).2.2.1) (fun zz => (R zz).2.2.2.1) (fun zz => (R zz).2.2.2.2) := by
    intro a qa
    unfold wY_evalResume_76
    by_cases k9 : 9 ≤ κ n
    · have hq := tr_q T hn k9
      rw [t5 k9]
      refine yb_ac T hT (show Q n < N by omega) (fun b => br_t rfl ?_) (fun b => br_f n0 ?_)
      · rw [show 32 + nI (Q n) = nI (32 + Q n) from nI_add 32 (Q n)]
        exact yr_98 T hT hL hn ha h64 t3 (fun _ => rfl) e6 rfl rfl qa (fun _ => Or.inl ⟨pb_t b, rfl⟩) K
      · exact yr_98 T hT hL hn ha h64 t3 (fun _ => rfl) e6 rfl (show (64 : Int32) = nI 64 from rfl) qa (fun _ => Or.inr ⟨pb_f b, rfl⟩) K
    · rw [t4 (by omega)]
      exact yb_ac5 m5 (br_f nm (yr_98 T hT hL hn ha h64 t3 (fun h => absurd h k9) e6 rfl (show (64 : Int32) = nI 64 from rfl) qa (fun h => absurd h k9) K))
  unfold wY_evalResume_54
  by_cases k5 : 5 ≤ κ n
  · have hp := tr_p T hn k5
    have f := t3 k5
    rw [f] at second ⊢
    refine yb_ac T hT (show P n < N by omega) (fun b => br_t rfl ?_) (fun b => br_f n0 ?_)
    · rw [show 32 + nI (P n) = nI (32 + P n) from nI_add 32 (P n)]
      exact second (32 + P n) (fun _ => Or.inl ⟨pb_t b, rfl⟩)
    · exact second 64 (fun _ => Or.inr ⟨pb_f b, rfl⟩)
  · have f := t2 (by omega)
    rw [f] at second ⊢
    exact yb_ac5 m5 (br_f nm (second 64 (fun h => absurd h k5)))
theorem yr_res (T : tr_F ni no N κ A P Q U) (hio : ni + no ≤ 10) (hT : ln_T N a_kind a_arg a_first a_second a_parent κ A P Q U) (hL : ac_L N κ f_activeLeaves) {n : Nat} (hn : n < N) (ha : ac_B N U f_activeLeaves n) (h64 : R 64 = rn_id)
    (K : ∀ v, v = rn_rs (κ n) n (a_e (A n)) (ac_b N U f_activeLeaves (P n)) (ac_b N U f_activeLeaves (Q n)) (R (P n)) (R (Q n)) (R (32 + P n)) (R (32 + Q n)) (ac_k N U f_activeLeaves n) → post (f_inputs, f_outputs, f_cap, nI N, f_phase, f_root, f_instants, f_rejected, f_activeLeaves, a_kind, a_arg, a_first, a_second, a_parent, a_shown, a_e, a_fst, fun zz => ((rn_u R (32 + n) v) zz).1, fun zz => ((rn_u R (32 + n) v) zz).2.1, fun zz => ((rn_u R (32 + n) v) zz).2.2.1, fun zz => ((rn_u R (32 + n) v) zz).2.2.2.1, fun zz => ((rn_u R (32 + n) v) zz).2.2.2.2)) :
    wpY_evalResume post (f_inputs, f_outputs, f_cap, nI N, f_phase, f_root, f_instants, f_rejected, f_activeLeaves, a_kind, a_arg, a_first, a_second, a_parent, a_shown, a_e, a_fst, fun zz => (R zz).1, fun zz => (R zz).2.1, fun zz => (R zz).2.2.1, fun zz => (R zz).2.2.2.1, fun zz => (R zz).2.2.2.2) (nI n) := by
  have hN := T.1
  have hk := tr_k T hn
  obtain ⟨t1, t2, t3, t4, t5, t6, t7, t8⟩ := hT n hn
  have h9 := (T.2 n hn).2.2.2.2
  have hlf := lc_lf T hL hn ha
  have hi : vp_in (nI n) 32 := vp_in_nI (by omega) (by decide)
  refine nm_r (nI_add 32 n) ⟨hi, ?_⟩
  rw [nI_clamp (show n < 2 ^ 31 by omega)]
  refine nm_r t1 ⟨hi, nm_e ⟨hi, nm_e ⟨hi, ?_⟩⟩⟩
  by_cases k : κ n = 4 ∨ κ n = 7 ∨ κ n = 8 ∨ κ n = 9
  · have hA := h9.2.1 (by omega)
    have eA := t6 (by omega)
    rw [eA]
    refine br_f (rc_m5 (by omega)) ⟨hi, vp_in_nI (by omega) (by decide), ?_⟩
    rw [nI_clamp (show A n < 2 ^ 31 by omega)]
    exact yr_54 T hT hL hn ha h64 (fun _ => rfl) K
  · have eA := t7 (by omega)
    rw [eA]
    exact br_t rfl (yr_54 T hT hL hn ha h64 (fun h => absurd h (by omega)) K)
end
section
variable {f_inputs f_outputs f_cap f_count f_phase f_root f_instants f_rejected f_activeLeaves : Int32} {a_kind a_arg a_first a_second a_parent a_shown a_e a_fst a_ms a_cs a_mk a_ck a_left : Nat → Int32}
variable {post : Int32 → SY → Prop} {R : Nat → rn_T} {ni no N : Nat} {κ A P Q U : Nat → Nat}
theorem yr_all_l (T : tr_F ni no N κ A P Q U) (hio : ni + no ≤ 10) (hT : ln_T N a_kind a_arg a_first a_second a_parent κ A P Q U) (hL : ac_L N κ f_activeLeaves) {r : Nat}
    (K : ∀ R, lc_R N κ A P Q U f_activeLeaves a_e R → post (nI (if f_phase = 2 then 32 + r else r)) (f_inputs, f_outputs, f_cap, nI N, f_phase, nI r, f_instants, f_rejected, f_activeLeaves, a_kind, a_arg, a_first, a_second, a_parent, a_shown, a_e, a_fst, fun zz => (R zz).1, fun zz => (R zz).2.1, fun zz => (R zz).2.2.1, fun zz => (R zz).2.2.2.1, fun zz => (R zz).2.2.2.2)) :
    ∀ d m R n, m + d = N → d < n → R 64 = rn_id → (∀ k, k < m → lc_P N κ A P Q U f_activeLeaves a_e R k) → wY_evalAll_13 post n (nI m) f_inputs f_outputs f_cap (nI N) f_phase (nI r) f_instants f_rejected f_activeLeaves a_kind a_arg a_first a_second a_parent a_shown a_e a_fst (fun zz => (R zz).1) (fun zz => (R zz).2.1) (fun zz => (R zz).2.2.1) (fun zz => (R zz).2.2.2.1) (fun zz => (R zz).2.2.2.2) := by
  intro d
  have hN := T.1
  induction d with
  | zero =>
    intro m R n h1 hn h64 h
    obtain ⟨n, rfl⟩ : ∃ z, n = z + 1 := ⟨n - 1, by omega⟩
    rw [show m = N by omega] at h ⊢
    have k := K R ⟨h64, h⟩
    refine pk_le N N (fun _ => br_c (fun p => ?_) (fun p => ?_)) (fun h => absurd h (by omega))
    · rw [if_pos p] at k
      rw [show 32 + nI r = nI (32 + r) from nI_add 32 r]; exact k
    · rw [if_neg p] at k; exact k
  | succ d ih =>
    intro m R n h1 hn h64 h
    obtain ⟨n, rfl⟩ : ∃ z, n = z + 1 := ⟨n - 1, by omega⟩
    refine pk_le N m (fun h => absurd h (by omega)) (fun _ => ?_)
    refine yr_start T hio hT (show m < N by omega) ?_
    intro v hv
    have s1 := lc_s1 T hL (show m < N by omega) h64 h hv
    refine yb_ac T hT (show m < N by omega) (fun a => br_t rfl ?_) (fun a => br_f (by decide) (nm_r (nI_1 m) ?_))
    · refine yr_res T hio hT hL (show m < N by omega) a s1.1 ?_
      intro w hw
      have s2 := lc_s2 T hL (show m < N by omega) s1.1 s1.2.1 s1.2.2 a hw
      exact nm_r (nI_1 m) (ih (m + 1) _ n (by omega) (by omega) s2.1 s2.2)
    · exact ih (m + 1) _ n (by omega) (by omega) s1.1 (lc_s0 s1.2.1 s1.2.2 a)
theorem yr_all (T : tr_F ni no N κ A P Q U) (hio : ni + no ≤ 10) (hT : ln_T N a_kind a_arg a_first a_second a_parent κ A P Q U) (hL : ac_L N κ f_activeLeaves) {r : Nat}
    (K : ∀ R, lc_R N κ A P Q U f_activeLeaves a_e R → post (nI (if f_phase = 2 then 32 + r else r)) (f_inputs, f_outputs, f_cap, nI N, f_phase, nI r, f_instants, f_rejected, f_activeLeaves, a_kind, a_arg, a_first, a_second, a_parent, a_shown, a_e, a_fst, fun zz => (R zz).1, fun zz => (R zz).2.1, fun zz => (R zz).2.2.1, fun zz => (R zz).2.2.2.1, fun zz => (R zz).2.2.2.2)) : wpY_evalAll post (f_inputs, f_outputs, f_cap, nI N, f_phase, nI r, f_instants, f_rejected, f_activeLeaves, a_kind, a_arg, a_first, a_second, a_parent, a_shown, a_e, a_fst, fun zz => (R zz).1, fun zz => (R zz).2.1, fun zz => (R zz).2.2.1, fun zz => (R zz).2.2.2.1, fun zz => (R zz).2.2.2.2) := by
  unfold wpY_evalAll
  refine yr_put (by omega) (show (64 : Int32) = nI 64 from rfl) ?_
  exact ⟨N + 1, yr_all_l T hio hT hL K N 0 _ (N + 1) (by omega) (by omega) rn_us (fun k h => absurd h (by omega))⟩
end
end
section
/-! ===== Y: solve ===== -/
theorem rc_sh1v {n : Nat} (hn : n < 32) (x : Int32) : ((x >>> (nI n &&& 31)) &&& 1) = if bt x n = true then 1 else 0 := by
  cases z : bt x n with
  | false => rw [if_neg Bool.false_ne_true]; exact (rc_shr1 hn x).mpr z
  | true =>
    rw [if_pos rfl]
    apply rc_bx
    intro i
    rw [b_and, rc_b1]
    by_cases e : i = 0
    · subst e
      rw [b_sshr n hn x (by omega), if_pos (by omega), show n + 0 = n from rfl, z]
      exact Iff.rfl
    · rw [decide_eq_false e, Bool.and_false]
/-- the signals at the start of the rounds: the inputs m, the outputs open -/
def sg_0 (ni : Nat) (m : Nat → Bool) : Nat → Int32 := fun s => if s < ni then (if m s = true then 1 else 0) else 2
noncomputable def sg_a (ni no : Nat) (e : Nat → Int32) (x : rn_T) : Int32 := if pb_P (∃ s, ni ≤ s ∧ s < ni + no ∧ e s = 2) = true then 2 else if bt x.2.2.1 0 = true then 0 else 1
section
variable {f_inputs f_outputs f_cap f_count f_phase f_root f_instants f_rejected f_activeLeaves : Int32} {a_kind a_arg a_first a_second a_parent a_shown a_e a_fst a_ms a_cs a_mk a_ck a_left : Nat → Int32}
variable {post : Int32 → SY → Prop} {R : Nat → rn_T} {ni no N : Nat} {κ A P Q U : Nat → Nat} {rt : Nat}
theorem ys_192 (hni : ni ≤ 4) (hno : no ≤ 6) (hrt : rt < 65) {e : Nat → Int32} (K : post (sg_a ni no e (R rt)) (nI ni, nI no, f_cap, f_count, f_phase, f_root, f_instants, f_rejected, f_activeLeaves, a_kind, a_arg, a_first, a_second, a_parent, a_shown, e, a_fst, fun zz => (R zz).1, fun zz => (R zz).2.1, fun zz => (R zz).2.2.1, fun zz => (R zz).2.2.2.1, fun zz => (R zz).2.2.2.2)) :
    ∀ d s n, s + d = ni + no → d < n → ni ≤ s → (∀ j, ni ≤ j → j < s → e j ≠ 2) → wY_solve_192 post (nI rt) (nI ni) (nI no) f_cap f_count f_phase f_root f_instants f_rejected f_activeLeaves a_kind a_arg a_first a_second a_parent a_shown e a_fst (fun zz => (R zz).1) (fun zz => (R zz).2.1) (fun zz => (R zz).2.2.1) (fun zz => (R zz).2.2.2.1) (fun zz => (R zz).2.2.2.2) n (nI s) := by
  intro d
  induction d with
  | zero =>
    intro s n h1 hn hs h
    obtain ⟨n, rfl⟩ : ∃ z, n = z + 1 := ⟨n - 1, by omega⟩
    rw [show s = ni + no by omega] at h ⊢
    have z : pb_P (∃ s, ni ≤ s ∧ s < ni + no ∧ e s = 2) = false := pb_f (fun ⟨j, a, b, c⟩ => h j a b c)
    unfold sg_a at K
    rw [z, if_neg Bool.false_ne_true] at K
    refine pk_le (ni + no) (ni + no) (fun _ => ⟨vp_in_nI hrt (by decide), ?_⟩) (fun h => absurd h (by omega)) (nI_add ni no)
    rw [nI_clamp (show rt < 2 ^ 31 by omega)]
    refine rc_ifb (rc_and1 _) (fun m => ?_) (fun m => ?_)
    · have m : bt (R rt).2.2.1 0 = false := m
      rw [m, if_neg Bool.false_ne_true] at K; exact K
    · have m : bt (R rt).2.2.1 0 = true := m
      rw [m, if_pos rfl] at K; exact K
  | succ d ih =>
    intro s n h1 hn hs h
    obtain ⟨n, rfl⟩ : ∃ z, n = z + 1 := ⟨n - 1, by omega⟩
    refine pk_le (ni + no) s (fun h => absurd h (by omega)) (fun _ => ⟨vp_in_nI (by omega) (by decide), ?_⟩) (nI_add ni no)
    rw [nI_clamp (show s < 2 ^ 31 by omega)]
    refine br_c (fun z => ?_) (fun z => nm_r (nI_1 s) (ih (s + 1) n (by omega) (by omega) (by omega) ?_))
    · unfold sg_a at K
      rw [pb_t ⟨s, hs, by omega, z⟩, if_pos rfl] at K
      exact K
    · intro j a b
      by_cases c : j = s
      · subst c; exact z
      · exact h j a (by omega)
theorem ys_78 {J : Int32 → Int32 → Int32 → Int32 → Int32 → Int32 → Int32 → Int32 → Int32 → Int32 → Int32 → Int32 → (Nat → Int32) → (Nat → Int32) → (Nat → Int32) → (Nat → Int32) → (Nat → Int32) → (Nat → Int32) → (Nat → Int32) → (Nat → Int32) → (Nat → Int32) → (Nat → Int32) → (Nat → Int32) → (Nat → Int32) → (Nat → Int32) → Prop}
    (hni : ni ≤ 4) (hno : no ≤ 6) (hrt : rt < 65) {e : Nat → Int32} {i : Nat}
    (K0 : (∀ s, s < ni + no → st_v ni no (R rt) e s = e s) → J 0 (nI rt) (nI (i + 1)) (nI ni) (nI no) f_cap f_count f_phase f_root f_instants f_rejected f_activeLeaves a_kind a_arg a_first a_second a_parent a_shown (st_v ni no (R rt) e) a_fst (fun zz => (R zz).1) (fun zz => (R zz).2.1) (fun zz => (R zz).2.2.1) (fun zz => (R zz).2.2.2.1) (fun zz => (R zz).2.2.2.2))
    (K1 : (∃ s, s < ni + no ∧ st_v ni no (R rt) e s ≠ e s) → J 1 (nI rt) (nI (i + 1)) (nI ni) (nI no) f_cap f_count f_phase f_root f_instants f_rejected f_activeLeaves a_kind a_arg a_first a_second a_parent a_shown (st_v ni no (R rt) e) a_fst (fun zz => (R zz).1) (fun zz => (R zz).2.1) (fun zz => (R zz).2.2.1) (fun zz => (R zz).2.2.2.1) (fun zz => (R zz).2.2.2.2)) :
    ∀ d s n x2 (cur : Nat → Int32), s + d = ni + no → d < n → ni ≤ s → (∀ j, cur j = if j < s then st_v ni no (R rt) e j else e j) →
      ((x2 = 0 ∧ ∀ j, j < s → st_v ni no (R rt) e j = e j) ∨ (x2 = 1 ∧ ∃ j, j < s ∧ st_v ni no (R rt) e j ≠ e j)) →
      wY_solve_78 post J (nI rt) (nI i) (nI ni) (nI no) f_cap f_count f_phase f_root f_instants f_rejected f_activeLeaves n x2 (nI s) a_kind a_arg a_first a_second a_parent a_shown cur a_fst (fun zz => (R zz).1) (fun zz => (R zz).2.1) (fun zz => (R zz).2.2.1) (fun zz => (R zz).2.2.2.1) (fun zz => (R zz).2.2.2.2) := by
  intro d
  induction d with
  | zero =>
    intro s n x2 cur h1 hn hs hc hx
    obtain ⟨n, rfl⟩ : ∃ z, n = z + 1 := ⟨n - 1, by omega⟩
    rw [show s = ni + no by omega] at hx hc ⊢
    have ce : cur = st_v ni no (R rt) e := by
      funext j
      rw [hc j]
      by_cases l : j < ni + no
      · rw [if_pos l]
      · rw [if_neg l]; unfold st_v; rw [if_neg (fun z => l z.2.1)]
    subst ce
    refine pk_le (ni + no) (ni + no) (fun _ => nm_r (nI_1 i) ?_) (fun h => absurd h (by omega)) (nI_add ni no)
    rcases hx with ⟨a, b⟩ | ⟨a, j, b, c⟩
    · rw [a]; exact K0 b
    · rw [a]; exact K1 ⟨j, b, c⟩
  | succ d ih =>
    intro s n x2 cur h1 hn hs hc hx
    obtain ⟨n, rfl⟩ : ∃ z, n = z + 1 := ⟨n - 1, by omega⟩
    have hi : vp_in (nI s) 10 := vp_in_nI (by omega) (by decide)
    have cs : (nI s).toNatClampNeg = s := nI_clamp (by omega)
    have cr : (nI rt).toNatClampNeg = rt := nI_clamp (by omega)
    have ir : vp_in (nI rt) 65 := vp_in_nI hrt (by decide)
    have es : cur s = e s := by rw [hc s, if_neg (by omega)]
    -- what a step makes of the array
    have step : ∀ (v : Int32) (cur' : Nat → Int32), st_v ni no (R rt) e s = v → (∀ j, cur' j = if j = s then v else cur j) → (∀ j, cur' j = if j < s + 1 then st_v ni no (R rt) e j else e j) := by
      intro v cur' hv h j
      rw [h j]
      by_cases c : j = s
      · subst c; rw [if_pos rfl, if_pos (by omega), hv]
      · rw [if_neg c, hc j]
        by_cases l : j < s
        · rw [if_pos l, if_pos (by omega)]
        · rw [if_neg l, if_neg (by omega)]
    have same : st_v ni no (R rt) e s = e s → ((x2 = 0 ∧ ∀ j, j < s + 1 → st_v ni no (R rt) e j = e j) ∨ (x2 = 1 ∧ ∃ j, j < s + 1 ∧ st_v ni no (R rt) e j ≠ e j)) := by
      intro hs
      rcases hx with ⟨a, b⟩ | ⟨a, j, b, c⟩
      · refine Or.inl ⟨a, fun j hj => ?_⟩
        by_cases c : j = s
        · subst c; exact hs
        · exact b j (by omega)
      · exact Or.inr ⟨a, j, by omega, c⟩
    have sv : st_v ni no (R rt) e s = if e s = 2 then (if bt (R rt).1 s = true then 1 else if bt (R rt).2.1 s = true then 2 else 0) else e s := by
      unfold st_v
      by_cases c : e s = 2
      · rw [if_pos c, if_pos ⟨hs, by omega, c⟩]
      · rw [if_neg c, if_neg (fun z => c z.2.2)]
    -- the join at 160
    have j160 : ∀ (v : Int32) (cur' : Nat → Int32), st_v ni no (R rt) e s = v → (∀ j, cur' j = if j = s then v else cur j) →
        wY_solve_160 post J (wY_solve_78 post J (nI rt) (nI i) (nI ni) (nI no) f_cap f_count f_phase f_root f_instants f_rejected f_activeLeaves n) x2 (nI rt) (nI i) (nI s) (e s) (nI ni) (nI no) f_cap f_count f_phase f_root f_instants f_rejected f_activeLeaves a_kind a_arg a_first a_second a_parent a_shown cur' a_fst (fun zz => (R zz).1) (fun zz => (R zz).2.1) (fun zz => (R zz).2.2.1) (fun zz => (R zz).2.2.2.1) (fun zz => (R zz).2.2.2.2) := by
      intro v cur' hv h
      refine ⟨hi, ?_⟩
      rw [cs]
      have cv : cur' s = v := by rw [h s, if_pos rfl]
      refine br_c (fun z => nm_r (nI_1 s) ?_) (fun z => nm_r (nI_1 s) ?_)
      · exact ih (s + 1) n x2 cur' (by omega) (by omega) (by omega) (step v cur' hv h) (same (by rw [hv, ← cv]; exact z))
      · exact ih (s + 1) n 1 cur' (by omega) (by omega) (by omega) (step v cur' hv h) (Or.inr ⟨rfl, s, by omega, by rw [hv, ← cv]; exact z⟩)
    have curs : ∀ v, cur s = v → ∀ j, cur j = if j = s then v else cur j := by
      intro v hv j
      by_cases c : j = s
      · subst c; rw [if_pos rfl]; exact hv
      · rw [if_neg c]
    refine pk_le (ni + no) s (fun h => absurd h (by omega)) (fun _ => ⟨hi, ?_⟩) (nI_add ni no)
    rw [cs]
    refine nm_r es (br_c (fun e2 => ⟨ir, ?_⟩) (fun e2 => br_f e2 ?_))
    · rw [if_pos e2] at sv
      rw [cr]
      refine rc_ifb (rc_shr1 (show s < 32 by omega) _) (fun m => ?_) (fun m => ⟨hi, ?_⟩)
      · have m : bt (R rt).1 s = false := m
        rw [m, if_neg Bool.false_ne_true] at sv
        refine br_t e2 ⟨ir, ?_⟩
        rw [cr]
        refine rc_ifb (rc_shr1 (show s < 32 by omega) _) (fun c => ⟨hi, ?_⟩) (fun c => ?_)
        · have c : bt (R rt).2.1 s = false := c
          rw [c, if_neg Bool.false_ne_true] at sv
          rw [cs]
          exact nm_e (j160 0 _ sv (fun j => rfl))
        · have c : bt (R rt).2.1 s = true := c
          rw [c, if_pos rfl] at sv
          exact j160 2 cur sv (curs 2 (es.trans e2))
      · have m : bt (R rt).1 s = true := m
        rw [m, if_pos rfl] at sv
        exact nm_e (j160 1 _ sv (fun j => rfl))
    · rw [if_neg e2] at sv
      exact j160 (e s) cur sv (curs _ es)
theorem ys_54 (T : tr_F ni no N κ A P Q U) (hni : ni ≤ 4) (hno : no ≤ 6) (hT : ln_T N a_kind a_arg a_first a_second a_parent κ A P Q U) (hL : ac_L N κ f_activeLeaves) {r : Nat} (ert : rt = if f_phase = 2 then 32 + r else r) (hr : st_r N U f_activeLeaves r rt)
    {e0 : Nat → Int32} (K : ∀ ef R, st_L ni no N κ A P Q U f_activeLeaves rt e0 ef → lc_R N κ A P Q U f_activeLeaves ef R → post (sg_a ni no ef (R rt)) (nI ni, nI no, f_cap, nI N, f_phase, nI r, f_instants, f_rejected, f_activeLeaves, a_kind, a_arg, a_first, a_second, a_parent, a_shown, ef, a_fst, fun zz => (R zz).1, fun zz => (R zz).2.1, fun zz => (R zz).2.2.1, fun zz => (R zz).2.2.2.1, fun zz => (R zz).2.2.2.2)) :
    ∀ u i e (R : Nat → rn_T) x3 n, st_u ni e no ≤ u → u + i ≤ no → u + 2 ≤ n → st_q ni no e (st_i ni no N κ A P Q U f_activeLeaves rt e0 i) →
      wY_solve_54 post n 1 x3 (nI i) (nI ni) (nI no) f_cap (nI N) f_phase (nI r) f_instants f_rejected f_activeLeaves a_kind a_arg a_first a_second a_parent a_shown e a_fst (fun zz => (R zz).1) (fun zz => (R zz).2.1) (fun zz => (R zz).2.2.1) (fun zz => (R zz).2.2.2.1) (fun zz => (R zz).2.2.2.2) := by
  have hN := T.1
  have hrt : rt < 65 := by have := hr.1; rcases hr.2 with h | ⟨h, _⟩ <;> omega
  intro u
  induction u with
  | zero =>
    intro i e R x3 n hu hi hn he
    obtain ⟨n, rfl⟩ : ∃ z, n = z + 1 := ⟨n - 1, by omega⟩
    refine pk_le 8 i (fun h => absurd h (by omega)) (fun _ => br_f (by decide) ?_)
    refine yr_all T (by omega) hT hL ?_
    intro R1 hR1
    rw [← ert]
    have hF := st_FR (ni := ni) (no := no) T hL hr hR1
    refine ⟨no + 1, ys_78 (e := e) (i := i) (R := R1) (rt := rt) hni hno hrt ?_ ?_ no ni (no + 1) 0 e (by omega) (by omega) (Nat.le_refl _) ?_ (Or.inl ⟨rfl, fun j hj => ?_⟩)⟩
    · intro sm
      obtain ⟨n, rfl⟩ : ∃ z, n = z + 1 := ⟨n - 1, by omega⟩
      have le : st_L ni no N κ A P Q U f_activeLeaves rt e0 (st_v ni no (R1 rt) e) := by
        refine ⟨i, st_qt sm he, ?_⟩
        exact st_qt (st_Fe T hL hr sm) (by rw [hF]; exact st_qr _)
      have fin := K _ R1 le (lc_Re T hL (st_qs sm) hR1)
      exact br_c (fun _ => ⟨no + 1, ys_192 hni hno hrt fin no ni (no + 1) (by omega) (by omega) (Nat.le_refl _) (fun j a b => absurd b (by omega))⟩)
        (fun _ => br_t rfl ⟨no + 1, ys_192 hni hno hrt fin no ni (no + 1) (by omega) (by omega) (Nat.le_refl _) (fun j a b => absurd b (by omega))⟩)
    · intro ⟨s, hs, h⟩
      rcases st_vd (ni := ni) (no := no) (R1 rt) e with g | g
      · exact absurd (g s hs) h
      · omega
    · intro j
      by_cases l : j < ni
      · rw [if_pos l]; unfold st_v; rw [if_neg (by omega)]
      · rw [if_neg l]
    · unfold st_v; rw [if_neg (by omega)]
  | succ u ih =>
    intro i e R x3 n hu hi hn he
    obtain ⟨n, rfl⟩ : ∃ z, n = z + 1 := ⟨n - 1, by omega⟩
    refine pk_le 8 i (fun h => absurd h (by omega)) (fun _ => br_f (by decide) ?_)
    refine yr_all T (by omega) hT hL ?_
    intro R1 hR1
    rw [← ert]
    have hF := st_FR (ni := ni) (no := no) T hL hr hR1
    refine ⟨no + 1, ys_78 (e := e) (i := i) (R := R1) (rt := rt) hni hno hrt ?_ ?_ no ni (no + 1) 0 e (by omega) (by omega) (Nat.le_refl _) ?_ (Or.inl ⟨rfl, fun j hj => ?_⟩)⟩
    · intro sm
      obtain ⟨n, rfl⟩ : ∃ z, n = z + 1 := ⟨n - 1, by omega⟩
      have le : st_L ni no N κ A P Q U f_activeLeaves rt e0 (st_v ni no (R1 rt) e) := by
        refine ⟨i, st_qt sm he, ?_⟩
        exact st_qt (st_Fe T hL hr sm) (by rw [hF]; exact st_qr _)
      have fin := K _ R1 le (lc_Re T hL (st_qs sm) hR1)
      exact br_c (fun _ => ⟨no + 1, ys_192 hni hno hrt fin no ni (no + 1) (by omega) (by omega) (Nat.le_refl _) (fun j a b => absurd b (by omega))⟩)
        (fun _ => br_t rfl ⟨no + 1, ys_192 hni hno hrt fin no ni (no + 1) (by omega) (by omega) (Nat.le_refl _) (fun j a b => absurd b (by omega))⟩)
    · intro ⟨s, hs, h⟩
      rcases st_vd (ni := ni) (no := no) (R1 rt) e with g | g
      · exact absurd (g s hs) h
      · refine ih (i + 1) _ R1 (nI rt) n (by omega) (by omega) (by omega) ?_
        have := st_Fe T hL hr he
        rw [hF] at this
        exact this
    · intro j
      by_cases l : j < ni
      · rw [if_pos l]; unfold st_v; rw [if_neg (by omega)]
      · rw [if_neg l]
    · unfold st_v; rw [if_neg (by omega)]
theorem ys_2 (T : tr_F ni no N κ A P Q U) (hni : ni ≤ 4) (hno : no ≤ 6) (hT : ln_T N a_kind a_arg a_first a_second a_parent κ A P Q U) (hL : ac_L N κ f_activeLeaves) {r : Nat} (ert : rt = if f_phase = 2 then 32 + r else r) (hr : st_r N U f_activeLeaves r rt)
    {x : Int32} (K : ∀ ef R, st_L ni no N κ A P Q U f_activeLeaves rt (sg_0 ni (bt x)) ef → lc_R N κ A P Q U f_activeLeaves ef R → post (sg_a ni no ef (R rt)) (nI ni, nI no, f_cap, nI N, f_phase, nI r, f_instants, f_rejected, f_activeLeaves, a_kind, a_arg, a_first, a_second, a_parent, a_shown, ef, a_fst, fun zz => (R zz).1, fun zz => (R zz).2.1, fun zz => (R zz).2.2.1, fun zz => (R zz).2.2.2.1, fun zz => (R zz).2.2.2.2)) :
    ∀ d s n (e : Nat → Int32), s + d = ni + no → d < n → (∀ j, j < s → e j = sg_0 ni (bt x) j) →
      wY_solve_2 post x (nI ni) (nI no) f_cap (nI N) f_phase (nI r) f_instants f_rejected f_activeLeaves n (nI s) a_kind a_arg a_first a_second a_parent a_shown e a_fst (fun zz => (R zz).1) (fun zz => (R zz).2.1) (fun zz => (R zz).2.2.1) (fun zz => (R zz).2.2.2.1) (fun zz => (R zz).2.2.2.2) := by
  intro d
  induction d with
  | zero =>
    intro s n e h1 hn he
    obtain ⟨n, rfl⟩ : ∃ z, n = z + 1 := ⟨n - 1, by omega⟩
    rw [show s = ni + no by omega] at he ⊢
    refine pk_le (ni + no) (ni + no) (fun _ => ?_) (fun h => absurd h (by omega)) (nI_add ni no)
    exact ⟨no + 2, ys_54 T hni hno hT hL ert hr K no 0 e R (nI r) (no + 2) (st_ul ni e no) (by omega) (by omega) he⟩
  | succ d ih =>
    intro s n e h1 hn he
    obtain ⟨n, rfl⟩ : ∃ z, n = z + 1 := ⟨n - 1, by omega⟩
    have hi : vp_in (nI s) 10 := vp_in_nI (by omega) (by decide)
    have cs : (nI s).toNatClampNeg = s := nI_clamp (by omega)
    have nxt : ∀ v, v = sg_0 ni (bt x) s → ∀ j, j < s + 1 → upd e s v j = sg_0 ni (bt x) j := by
      intro v hv j hj
      by_cases c : j = s
      · subst c; rw [pk_us]; exact hv
      · rw [pk_un c]; exact he j (by omega)
    refine pk_le (ni + no) s (fun h => absurd h (by omega)) (fun _ => pk_le ni s (fun h => ⟨hi, ?_⟩) (fun h => ⟨hi, ?_⟩)) (nI_add ni no)
    · rw [cs, nI_1 s]
      exact nm_e (nm_e (ih (s + 1) n _ (by omega) (by omega) (nxt _ (by unfold sg_0; rw [if_neg (by omega)]))))
    · rw [cs, nI_1 s]
      exact nm_e (nm_e (ih (s + 1) n _ (by omega) (by omega) (nxt _ (by unfold sg_0; rw [if_pos h]; exact rc_sh1v (by omega) x))))
theorem ys_solve (T : tr_F ni no N κ A P Q U) (hni : ni ≤ 4) (hno : no ≤ 6) (hT : ln_T N a_kind a_arg a_first a_second a_parent κ A P Q U) (hL : ac_L N κ f_activeLeaves) {r : Nat} (ert : rt = if f_phase = 2 then 32 + r else r) (hr : st_r N U f_activeLeaves r rt)
    {x : Int32} (K : ∀ ef R, st_L ni no N κ A P Q U f_activeLeaves rt (sg_0 ni (bt x)) ef → lc_R N κ A P Q U f_activeLeaves ef R → post (sg_a ni no ef (R rt)) (nI ni, nI no, f_cap, nI N, f_phase, nI r, f_instants, f_rejected, f_activeLeaves, a_kind, a_arg, a_first, a_second, a_parent, a_shown, ef, a_fst, fun zz => (R zz).1, fun zz => (R zz).2.1, fun zz => (R zz).2.2.1, fun zz => (R zz).2.2.2.1, fun zz => (R zz).2.2.2.2)) :
    wpY_solve post (nI ni, nI no, f_cap, nI N, f_phase, nI r, f_instants, f_rejected, f_activeLeaves, a_kind, a_arg, a_first, a_second, a_parent, a_shown, a_e, a_fst, fun zz => (R zz).1, fun zz => (R zz).2.1, fun zz => (R zz).2.2.1, fun zz => (R zz).2.2.2.1, fun zz => (R zz).2.2.2.2) x :=
  ⟨ni + no + 1, ys_2 T hni hno hT hL ert hr K (ni + no) 0 (ni + no + 1) a_e (by omega) (by omega) (fun j h => absurd h (by omega))⟩
end
end
section
/-! ===== X: the rows of one node ===== -/
theorem rw_Df {c0 c : ck_T} {ce0 ce : Nat → Int32} {ρ : Nat} {f g : (Nat → kv_T) → Nat → kv_T} (D : rw_D c0 ce0 ρ f c ce) (h : ∀ V, ck_V V c → f V = g V) : rw_D c0 ce0 ρ g c ce :=
  ⟨D.1, D.2.1, D.2.2.1, D.2.2.2.1, fun V v => (D.2.2.2.2 V v).trans (h V v)⟩
theorem rw_CpD {c : ck_T} {ce0 ce : Nat → Int32} {ρ a : Nat} (h : rw_Cp ρ a ce0 ce) (O : ck_O c) (R : rw_R c ce0 a) : rw_D c ce0 ρ (fun V => rw_v V ce0 a) c ce := by
  refine ⟨O, ck_Xr c, h.1, fun k hk => ?_, fun V v => ?_⟩
  · obtain ⟨w, hw, e⟩ := R k hk
    exact ⟨w, hw, by rw [h.2 k hk]; exact e⟩
  · funext k
    show rw_v V ce ρ k = rw_v V ce0 a k
    unfold rw_v
    by_cases e : k < 12
    · rw [if_pos e, if_pos e, h.2 k e]
    · rw [if_neg e, if_neg e]
theorem rw_BkD {c : ck_T} {ce0 ce : Nat → Int32} {ρ : Nat} (h : rw_Bk ρ ce0 ce) (O : ck_O c) : rw_D c ce0 ρ (fun _ _ => kv_0) c ce := by
  have O1 := O.1
  refine ⟨O, ck_Xr c, h.1, fun k hk => ⟨0, by omega, by rw [h.2 k hk]; rfl⟩, fun V v => ?_⟩
  funext k
  unfold rw_v
  by_cases e : k < 12
  · rw [if_pos e, h.2 k e]; exact v.1
  · rw [if_neg e]
theorem rw_Dset {c0 c : ck_T} {ce0 ce : Nat → Int32} {ρ j w : Nat} {f : (Nat → kv_T) → Nat → kv_T} (D : rw_D c0 ce0 ρ f c ce) (hj : j < 12) (hw : w < c.1) : rw_D c0 ce0 ρ (fun V k => if k = j then V w else f V k) c (upd ce (ρ * 12 + j) (nI w)) := by
  have O2 := D.1.2.1
  refine ⟨D.1, D.2.1, fun i hi => ?_, fun k hk => ?_, fun V v => ?_⟩
  · rw [pk_un (by omega)]; exact D.2.2.1 i hi
  · by_cases e : k = j
    · subst e; exact ⟨w, hw, pk_us⟩
    · obtain ⟨x, hx, ex⟩ := D.2.2.2.1 k hk
      exact ⟨x, hx, by rw [pk_un (by omega)]; exact ex⟩
  · have q := D.2.2.2.2 V v
    funext k
    show rw_v V (upd ce (ρ * 12 + j) (nI w)) ρ k = if k = j then V w else f V k
    rw [← q]
    by_cases e : k = j
    · subst e; rw [if_pos rfl, rw_v1 hj, pk_us, nI_clamp (by omega)]
    · rw [if_neg e]
      unfold rw_v
      by_cases g : k < 12
      · rw [if_pos g, if_pos g, pk_un (by omega)]
      · rw [if_neg g, if_neg g]
/-- the two constant rows -/
def rw_E (c : ck_T) (ce : Nat → Int32) : Prop := rw_R c ce 65 ∧ rw_R c ce 66 ∧ ∀ V, ck_V V c → rw_v V ce 65 = rc_end ∧ rw_v V ce 66 = rc_sty
/-- what a node's resume row leaves: rows 67 and 68 are scratch -/
def rw_N (c0 : ck_T) (ce0 : Nat → Int32) (ρ : Nat) (f : (Nat → kv_T) → Nat → kv_T) (c : ck_T) (ce : Nat → Int32) : Prop :=
  ck_O c ∧ ck_X c0 c ∧ (∀ a, a < 69 → a ≠ ρ → a ≠ 67 → a ≠ 68 → ∀ k, k < 12 → ce (a * 12 + k) = ce0 (a * 12 + k)) ∧ rw_R c ce ρ ∧ (∀ V, ck_V V c → rw_v V ce ρ = f V)
theorem rw_DN {c0 c : ck_T} {ce0 ce : Nat → Int32} {ρ : Nat} {f : (Nat → kv_T) → Nat → kv_T} (D : rw_D c0 ce0 ρ f c ce) : rw_N c0 ce0 ρ f c ce :=
  ⟨D.1, D.2.1, fun a _ h _ _ k hk => D.2.2.1 _ (rw_far h hk rfl), D.2.2.2.1, D.2.2.2.2⟩
def rc_sl (κ : Nat) (rg sp sq : kv_T) : kv_T := if κ = 1 ∨ κ = 4 then rg else if κ < 5 then kv_0 else if κ < 9 then sp else kv_O sp sq
section
variable {f_wireFalse f_wireTrue f_signalBase f_bootWire f_registerBase f_firstGate f_wireLimit f_opAnd f_opOr f_opNot f_codes f_cells f_resumeBase f_rootRow f_endRow f_stayRow f_leftRow f_rightRow f_inputSignals f_outputSignals f_nodeLimit f_count f_phaseNow f_instantCount f_rejectedCount f_wireCount f_logicEnd : Int32} {a_kindOf a_argOf a_firstOf a_secondOf a_parentOf a_activeNode a_lastStatus a_inTree a_trapDepth a_firstCodes a_gateOp a_gateA a_gateB a_inverseOf a_cell a_selWire a_keepStart a_keepResume a_frozen a_nextWire : Nat → Int32} {a_must a_can : Nat → Int64}
variable {post : SX → Prop} {c0 : ck_T} {ce0 sw0 : Nat → Int32} {ni no N : Nat} {κ A P Q U : Nat → Nat}
theorem xn_rk {pi : Int32 → Prop} {k : Nat} (hk : k ≤ 11) (K1 : k = 1 ∨ k = 4 → pi 1) (K0 : ¬ (k = 1 ∨ k = 4) → pi 0) : wpX_isRegisterKind pi (f_wireFalse, f_wireTrue, f_signalBase, f_bootWire, f_registerBase, f_firstGate, f_wireLimit, f_opAnd, f_opOr, f_opNot, f_codes, f_cells, f_resumeBase, f_rootRow, f_endRow, f_stayRow, f_leftRow, f_rightRow, f_inputSignals, f_outputSignals, f_nodeLimit, f_count, f_phaseNow, f_instantCount, f_rejectedCount, f_wireCount, f_logicEnd, a_kindOf, a_argOf, a_firstOf, a_secondOf, a_parentOf, a_activeNode, a_lastStatus, a_inTree, a_trapDepth, a_firstCodes, a_gateOp, a_gateA, a_gateB, a_inverseOf, a_cell, a_selWire, a_keepStart, a_keepResume, a_frozen, a_nextWire, a_must, a_can) (nI k) :=
  pk_eq k 1 (fun h => K1 (Or.inl h)) (fun h1 => pk_eq k 4 (fun h => K1 (Or.inr h)) (fun h4 => K0 (fun z => z.elim h1 h4)))
theorem xn_sel (T : tr_F ni no N κ A P Q U) (hT : ln_T N a_kindOf a_argOf a_firstOf a_secondOf a_parentOf κ A P Q U) {n : Nat} (hn : n < N) (O : ck_O c0) (hB : c0.1 + 1 ≤ 4096)
    (hP : 5 ≤ κ n → ∃ w, w < c0.1 ∧ sw0 (P n) = nI w) (hQ : 9 ≤ κ n → ∃ w, w < c0.1 ∧ sw0 (Q n) = nI w)
    (K : ∀ c sw, ck_O c → ck_X c0 c → c.1 ≤ c0.1 + (if κ n < 9 then 0 else 1) → (∀ m, m ≠ n → sw m = sw0 m) → (∃ w, w < c.1 ∧ sw n = nI w) → (∀ V, ck_V V c → V (sw n).toNatClampNeg = rc_sl (κ n) (V (13 + n)) (V (sw0 (P n)).toNatClampNeg) (V (sw0 (Q n)).toNatClampNeg)) → post (f_wireFalse, f_wireTrue, f_signalBase, f_bootWire, f_registerBase, f_firstGate, f_wireLimit, f_opAnd, f_opOr, f_opNot, f_codes, f_cells, f_resumeBase, f_rootRow, f_endRow, f_stayRow, f_leftRow, f_rightRow, f_inputSignals, f_outputSignals, f_nodeLimit, f_count, f_phaseNow, f_instantCount, f_rejectedCount, nI c.1, f_logicEnd, a_kindOf, a_argOf, a_firstOf, a_secondOf, a_parentOf, a_activeNode, a_lastStatus, a_inTree, a_trapDepth, a_firstCodes, c.2.1, c.2.2.1, c.2.2.2.1, c.2.2.2.2, ce0, sw, a_keepStart, a_keepResume, a_frozen, a_nextWire, a_must, a_can)) :
    wpX_buildSelection post (f_wireFalse, f_wireTrue, f_signalBase, f_bootWire, f_registerBase, f_firstGate, f_wireLimit, f_opAnd, f_opOr, f_opNot, f_codes, f_cells, f_resumeBase, f_rootRow, f_endRow, f_stayRow, f_leftRow, f_rightRow, f_inputSignals, f_outputSignals, f_nodeLimit, f_count, f_phaseNow, f_instantCount, f_rejectedCount, nI c0.1, f_logicEnd, a_kindOf, a_argOf, a_firstOf, a_secondOf, a_parentOf, a_activeNode, a_lastStatus, a_inTree, a_trapDepth, a_firstCodes, c0.2.1, c0.2.2.1, c0.2.2.2.1, c0.2.2.2.2, ce0, sw0, a_keepStart, a_keepResume, a_frozen, a_nextWire, a_must, a_can) (nI n) := by
  have hN := T.1
  have hk := tr_k T hn
  have O1 := O.1
  have O2 := O.2.1
  obtain ⟨t1, t2, t3, t4, t5, t6, t7, t8⟩ := hT n hn
  have hi : vp_in (nI n) 32 := vp_in_nI (by omega) (by decide)
  have cn : (nI n).toNatClampNeg = n := nI_clamp (by omega)
  refine ⟨hi, ?_⟩
  rw [cn]
  refine nm_r t1 (xn_rk hk (fun h => br_f (by decide) ?_) (fun h => br_t rfl ?_))
  · refine nm_r (nI_add 13 n) ⟨hi, ?_⟩
    refine nm_e (K c0 _ O (ck_Xr c0) (by omega) (fun m hm => pk_un hm) ⟨13 + n, by omega, pk_us⟩ (fun V v => ?_))
    unfold rc_sl
    rw [if_pos h, pk_us, nI_clamp (by omega)]
  · refine pk_lt (κ n) 9 (fun k9 => pk_lt (κ n) 5 (fun k5 => ⟨hi, ?_⟩) (fun k5 => ?_)) (fun k9 => ?_)
    · refine nm_e (K c0 _ O (ck_Xr c0) (by omega) (fun m hm => pk_un hm) ⟨0, by omega, pk_us⟩ (fun V v => ?_))
      unfold rc_sl
      rw [if_neg h, if_pos k5, pk_us]; exact v.1
    · obtain ⟨w, hw, e⟩ := hP k5
      have hp := tr_p T hn k5
      rw [t3 k5]
      refine ⟨hi, vp_in_nI (by omega) (by decide), ?_⟩
      rw [nI_clamp (show P n < 2 ^ 31 by omega)]
      refine nm_e ⟨hi, ?_⟩
      refine nm_e (K c0 _ O (ck_Xr c0) (by omega) (fun m hm => pk_un hm) ⟨w, hw, by rw [pk_us]; exact e⟩ (fun V v => ?_))
      unfold rc_sl
      rw [if_neg h, if_neg (by omega), if_pos k9, pk_us]
    · obtain ⟨w, hw, e⟩ := hP (by omega)
      obtain ⟨w2, hw2, e2⟩ := hQ k9
      have hp := tr_p T hn (by omega)
      have hq := tr_q T hn k9
      rw [t3 (by omega), t5 k9]
      refine ⟨hi, vp_in_nI (by omega) (by decide), hi, vp_in_nI (by omega) (by decide), ?_⟩
      rw [nI_clamp (show P n < 2 ^ 31 by omega), nI_clamp (show Q n < 2 ^ 31 by omega), e, e2]
      refine xg_or O (by omega) hw hw2 ?_
      intro d c' O' X' n' l' v'
      refine ⟨hi, nm_e (K c' _ O' X' (by rw [if_neg (by omega)]; exact n') (fun m hm => pk_un hm) ⟨d, l', pk_us⟩ (fun V v => ?_))⟩
      have := O'.2.1
      unfold rc_sl
      rw [if_neg h, if_neg (by omega), if_neg (by omega), pk_us, nI_clamp (by omega), v' V v, e, e2, nI_clamp (by omega), nI_clamp (by omega)]
theorem xn_start (T : tr_F ni no N κ A P Q U) (hni : ni ≤ 4) (hno : no ≤ 6) (hT : ln_T N a_kindOf a_argOf a_firstOf a_secondOf a_parentOf κ A P Q U) {n : Nat} (hn : n < N) (O : ck_O c0) (hB : c0.1 + 37 ≤ 4096) (E : rw_E c0 ce0)
    (hP : 5 ≤ κ n → rw_R c0 ce0 (P n)) (hQ : 9 ≤ κ n → rw_R c0 ce0 (Q n))
    (K : ∀ c ce, rw_D c0 ce0 n (fun V => rc_st (κ n) (A n) ni (V (2 + A n)) (rw_v V ce0 (P n)) (rw_v V ce0 (Q n))) c ce → c.1 ≤ c0.1 + (if κ n < 9 then 1 else 37) → post (f_wireFalse, f_wireTrue, f_signalBase, f_bootWire, f_registerBase, f_firstGate, f_wireLimit, f_opAnd, f_opOr, f_opNot, f_codes, f_cells, f_resumeBase, f_rootRow, f_endRow, f_stayRow, f_leftRow, f_rightRow, nI ni, f_outputSignals, f_nodeLimit, f_count, f_phaseNow, f_instantCount, f_rejectedCount, nI c.1, f_logicEnd, a_kindOf, a_argOf, a_firstOf, a_secondOf, a_parentOf, a_activeNode, a_lastStatus, a_inTree, a_trapDepth, a_firstCodes, c.2.1, c.2.2.1, c.2.2.2.1, c.2.2.2.2, ce, sw0, a_keepStart, a_keepResume, a_frozen, a_nextWire, a_must, a_can)) :
    wpX_buildStart post (f_wireFalse, f_wireTrue, f_signalBase, f_bootWire, f_registerBase, f_firstGate, f_wireLimit, f_opAnd, f_opOr, f_opNot, f_codes, f_cells, f_resumeBase, f_rootRow, f_endRow, f_stayRow, f_leftRow, f_rightRow, nI ni, f_outputSignals, f_nodeLimit, f_count, f_phaseNow, f_instantCount, f_rejectedCount, nI c0.1, f_logicEnd, a_kindOf, a_argOf, a_firstOf, a_secondOf, a_parentOf, a_activeNode, a_lastStatus, a_inTree, a_trapDepth, a_firstCodes, c0.2.1, c0.2.2.1, c0.2.2.2.1, c0.2.2.2.2, ce0, sw0, a_keepStart, a_keepResume, a_frozen, a_nextWire, a_must, a_can) (nI n) := by
  have hN := T.1
  have hk := tr_k T hn
  have O1 := O.1
  have O2 := O.2.1
  obtain ⟨t1, t2, t3, t4, t5, t6, t7, t8⟩ := hT n hn
  have h9 := (T.2 n hn).2.2.2.2
  have hi : vp_in (nI n) 32 := vp_in_nI (by omega) (by decide)
  have cn : (nI n).toNatClampNeg = n := nI_clamp (by omega)
  have n69 : n < 69 := by omega
  refine ⟨hi, ?_⟩
  rw [cn]
  refine nm_r t1 (nm_r (show nI n * 12 = nI (n * 12) from pk_mul n 12) ⟨hi, nm_e ⟨hi, nm_e ?_⟩⟩)
  have b1 : c0.1 ≤ c0.1 + (if κ n < 9 then 1 else 37) := by omega
  refine pk_eq (κ n) 0 (fun h => xr_copy (a := 65) rfl rfl n69 (by omega) (by omega) (fun ce hc => K c0 ce (rw_Df (rw_CpD hc O E.1) (fun V v => ?_)) b1)) (fun h0 => ?_)
  · rw [h, (E.2.2 V v).1]; rfl
  refine xn_rk hk (fun h => br_f (by decide) (xr_copy (a := 66) rfl rfl n69 (by omega) (by omega) (fun ce hc => K c0 ce (rw_Df (rw_CpD hc O E.2.1) (fun V v => ?_)) b1))) (fun h14 => br_t rfl ?_)
  · rw [(E.2.2 V v).2]
    unfold rc_st; rw [if_neg h0, if_pos h]
  refine pk_eq (κ n) 2 (fun h => ?_) (fun h2 => ?_)
  · have a1 := h9.1 h
    have a2 := h9.2.1 (Or.inl h)
    refine xr_copy (a := 65) rfl rfl n69 (by omega) (by omega) (fun ce hc => ⟨hi, ?_⟩)
    rw [t6 (by omega), show nI (n * 12) + 6 = nI (n * 12 + 6) from nI_add _ 6, nI_add, pk_sub (show ni ≤ n * 12 + 6 + A n by omega), show n * 12 + 6 + A n - ni = n * 12 + (6 + A n - ni) by omega]
    refine ⟨vp_in_nI (by omega) (by decide), ?_⟩
    rw [nI_clamp (show n * 12 + (6 + A n - ni) < 2 ^ 31 by omega)]
    refine nm_e (K c0 _ (rw_Df (rw_Dset (w := 1) (rw_CpD hc O E.1) (show 6 + A n - ni < 12 by omega) (by omega)) (fun V v => ?_)) b1)
    rw [h]
    funext k
    show (if k = 6 + A n - ni then V 1 else rw_v V ce0 65 k) = if k = 6 + A n - ni then kv_1 else rc_end k
    rw [v.2.1, (E.2.2 V v).1]
  refine pk_eq (κ n) 3 (fun h => ?_) (fun h3 => ?_)
  · have a1 := h9.2.2 h
    refine xr_blank rfl n69 (fun ce hc => ⟨hi, ?_⟩)
    rw [t6 (by omega), show nI (n * 12) + 2 = nI (n * 12 + 2) from nI_add _ 2, nI_add, show n * 12 + 2 + A n = n * 12 + (2 + A n) by omega]
    refine ⟨vp_in_nI (by omega) (by decide), ?_⟩
    rw [nI_clamp (show n * 12 + (2 + A n) < 2 ^ 31 by omega)]
    refine nm_e (K c0 _ (rw_Df (rw_Dset (w := 1) (rw_BkD hc O) (show 2 + A n < 12 by omega) (by omega)) (fun V v => ?_)) b1)
    rw [h]
    funext k
    show (if k = 2 + A n then V 1 else kv_0) = if k = 2 + A n then kv_1 else kv_0
    rw [v.2.1]
  have k5 : 5 ≤ κ n := by omega
  have hp := tr_p T hn k5
  have RP := hP k5
  rw [t3 k5, show nI (P n) * 12 = nI (P n * 12) from pk_mul (P n) 12]
  refine pk_eq (κ n) 9 (fun h => ?_) (fun h9' => ?_)
  · have hq := tr_q T hn (by omega)
    have hA := h9.2.1 (by omega)
    rw [t5 (by omega), t6 (by omega), show nI (Q n) * 12 = nI (Q n * 12) from pk_mul (Q n) 12]
    refine ⟨hi, xr_mux (cd := 2 + A n) rfl (nI_add 2 (A n)) rfl rfl n69 (by omega) (by omega) (by omega) (by omega) O RP (hQ (by omega)) (by omega) hB (fun c ce D hc => K c ce (rw_Df D (fun V v => ?_)) ?_)⟩
    · rw [h]; rfl
    · rw [if_neg (by omega)]; exact hc
  refine pk_eq (κ n) 10 (fun h => ?_) (fun h10 => ?_)
  · have hq := tr_q T hn (by omega)
    rw [t5 (by omega), show nI (Q n) * 12 = nI (Q n * 12) from pk_mul (Q n) 12]
    refine xr_then rfl rfl rfl n69 (by omega) (by omega) (by omega) (by omega) O RP (hQ (by omega)) (by omega) (fun c ce D hc => K c ce (rw_Df D (fun V v => ?_)) ?_)
    · rw [h]; rfl
    · rw [if_neg (by omega)]; omega
  refine pk_eq (κ n) 11 (fun h => ?_) (fun h11 => ?_)
  · have hq := tr_q T hn (by omega)
    rw [t5 (by omega), show nI (Q n) * 12 = nI (Q n * 12) from pk_mul (Q n) 12]
    refine xr_par rfl rfl rfl n69 (by omega) (by omega) (by omega) (by omega) O RP (hQ (by omega)) (by omega) (fun c ce D hc => K c ce (rw_Df D (fun V v => ?_)) ?_)
    · rw [h]; rfl
    · rw [if_neg (by omega)]; omega
  refine pk_eq (κ n) 6 (fun h => ?_) (fun h6 => ?_)
  · refine xr_trap rfl rfl n69 (by omega) (by omega) O RP (by omega) (fun c ce D hc => K c ce (rw_Df D (fun V v => ?_)) ?_)
    · rw [h]; rfl
    · rw [if_pos (by omega)]; exact hc
  · refine xr_copy (a := P n) rfl rfl n69 (by omega) (by omega) (fun ce hc => K c0 ce (rw_Df (rw_CpD hc O RP) (fun V v => ?_)) b1)
    unfold rc_st
    rw [if_neg h0, if_neg h14, if_neg h2, if_neg h3, if_neg h9', if_neg h10, if_neg h11, if_neg h6]
end
end
section
/-! ===== X: the resume row of one node ===== -/
theorem rw_nb {a b k : Nat} (h : a ≠ b) (hk : k < 12) : a * 12 + k < b * 12 ∨ b * 12 + 12 ≤ a * 12 + k := by omega
section
variable {f_wireFalse f_wireTrue f_signalBase f_bootWire f_registerBase f_firstGate f_wireLimit f_opAnd f_opOr f_opNot f_codes f_cells f_resumeBase f_rootRow f_endRow f_stayRow f_leftRow f_rightRow f_inputSignals f_outputSignals f_nodeLimit f_count f_phaseNow f_instantCount f_rejectedCount f_wireCount f_logicEnd : Int32} {a_kindOf a_argOf a_firstOf a_secondOf a_parentOf a_activeNode a_lastStatus a_inTree a_trapDepth a_firstCodes a_gateOp a_gateA a_gateB a_inverseOf a_cell a_selWire a_keepStart a_keepResume a_frozen a_nextWire : Nat → Int32} {a_must a_can : Nat → Int64}
variable {post : SX → Prop} {c0 : ck_T} {ce0 sw0 : Nat → Int32} {ni no N : Nat} {κ A P Q U : Nat → Nat}
theorem xn_two (T : tr_F ni no N κ A P Q U) (hT : ln_T N a_kindOf a_argOf a_firstOf a_secondOf a_parentOf κ A P Q U) {n : Nat} (hn : n < N) (k9 : 9 ≤ κ n) (O : ck_O c0) (hB : c0.1 + 110 ≤ 4096) (E : rw_E c0 ce0)
    (hQ : rw_R c0 ce0 (Q n)) (hrP : rw_R c0 ce0 (32 + P n)) (hrQ : rw_R c0 ce0 (32 + Q n)) (sP : ∃ w, w < c0.1 ∧ sw0 (P n) = nI w) (sQ : ∃ w, w < c0.1 ∧ sw0 (Q n) = nI w)
    (K : ∀ c ce, rw_N c0 ce0 (32 + n) (fun V => rc_rs (κ n) (V (2 + A n)) (V (sw0 (P n)).toNatClampNeg) (V (sw0 (Q n)).toNatClampNeg) (rw_v V ce0 (P n)) (rw_v V ce0 (Q n)) (rw_v V ce0 (32 + P n)) (rw_v V ce0 (32 + Q n))) c ce → c.1 ≤ c0.1 + 110 → post (f_wireFalse, f_wireTrue, f_signalBase, f_bootWire, f_registerBase, f_firstGate, f_wireLimit, f_opAnd, f_opOr, f_opNot, f_codes, f_cells, f_resumeBase, f_rootRow, f_endRow, f_stayRow, f_leftRow, f_rightRow, f_inputSignals, f_outputSignals, f_nodeLimit, f_count, f_phaseNow, f_instantCount, f_rejectedCount, nI c.1, f_logicEnd, a_kindOf, a_argOf, a_firstOf, a_secondOf, a_parentOf, a_activeNode, a_lastStatus, a_inTree, a_trapDepth, a_firstCodes, c.2.1, c.2.2.1, c.2.2.2.1, c.2.2.2.2, ce, sw0, a_keepStart, a_keepResume, a_frozen, a_nextWire, a_must, a_can)) :
    wpX_buildResumeOfTwo post (f_wireFalse, f_wireTrue, f_signalBase, f_bootWire, f_registerBase, f_firstGate, f_wireLimit, f_opAnd, f_opOr, f_opNot, f_codes, f_cells, f_resumeBase, f_rootRow, f_endRow, f_stayRow, f_leftRow, f_rightRow, f_inputSignals, f_outputSignals, f_nodeLimit, f_count, f_phaseNow, f_instantCount, f_rejectedCount, nI c0.1, f_logicEnd, a_kindOf, a_argOf, a_firstOf, a_secondOf, a_parentOf, a_activeNode, a_lastStatus, a_inTree, a_trapDepth, a_firstCodes, c0.2.1, c0.2.2.1, c0.2.2.2.1, c0.2.2.2.2, ce0, sw0, a_keepStart, a_keepResume, a_frozen, a_nextWire, a_must, a_can) (nI n) (nI ((32 + n) * 12)) (nI ((32 + P n) * 12)) := by
  have hN := T.1
  have hk := tr_k T hn
  have O1 := O.1
  have O2 := O.2.1
  have hp := tr_p T hn (by omega)
  have hq := tr_q T hn k9
  obtain ⟨t1, t2, t3, t4, t5, t6, t7, t8⟩ := hT n hn
  obtain ⟨wp, hwp, ep⟩ := sP
  obtain ⟨wq, hwq, eq⟩ := sQ
  have cp : ∀ V : Nat → kv_T, V (sw0 (P n)).toNatClampNeg = V wp := fun V => by rw [ep, nI_clamp (by omega)]
  have cq : ∀ V : Nat → kv_T, V (sw0 (Q n)).toNatClampNeg = V wq := fun V => by rw [eq, nI_clamp (by omega)]
  have hi : vp_in (nI n) 32 := vp_in_nI (by omega) (by decide)
  refine ⟨hi, ?_⟩
  rw [nI_clamp (show n < 2 ^ 31 by omega), t3 (by omega), t5 k9, nI_clamp (show P n < 2 ^ 31 by omega), nI_clamp (show Q n < 2 ^ 31 by omega)]
  refine nm_r t1 ⟨hi, vp_in_nI (by omega) (by decide), nm_r ep ⟨hi, vp_in_nI (by omega) (by decide), nm_r eq ⟨hi, nm_r (show nI (Q n) * 12 = nI (Q n * 12) from pk_mul (Q n) 12) ?_⟩⟩⟩
  refine nm_r (show 384 + nI (Q n * 12) = nI ((32 + Q n) * 12) from (nI_add 384 (Q n * 12)).trans (congrArg nI (by omega))) ?_
  refine pk_eq (κ n) 9 (fun h => ?_) (fun h9 => ?_)
  · refine xr_mux (cd := wp) rfl rfl rfl rfl (by omega) (by omega) (by omega) (by omega) (by omega) O hrP hrQ hwp (by omega) (fun c ce D hc => K c ce (rw_DN (rw_Df D (fun V v => ?_))) (by omega))
    rw [h, cp V]; rfl
  refine pk_eq (κ n) 10 (fun h => ?_) (fun h10 => ?_)
  · refine xr_then (ρ := 67) rfl rfl rfl (by omega) (by omega) (by omega) (by omega) (by omega) O hrP hQ (by omega) (fun c1 ce1 D1 hc1 => ?_)
    have X1 := D1.2.1.1
    have fr : ∀ a, a < 69 → a ≠ 67 → ∀ k, k < 12 → ce1 (a * 12 + k) = ce0 (a * 12 + k) := fun a _ h k hk => D1.2.2.1 _ (rw_nb h hk)
    refine xr_mux (ρ := 32 + n) (a := 67) (b := 32 + Q n) (cd := wp) rfl rfl rfl rfl (by omega) (by omega) (by omega) (by omega) (by omega) D1.1 D1.2.2.2.1 (rw_Rc hrQ X1 (fr _ (by omega) (by omega))) (by omega) (by omega) (fun c ce D hc => K c ce ?_ (by omega))
    refine ⟨D.1, ck_Xt D1.2.1 D.2.1, fun a ha h1 h2 _ k hk => ?_, D.2.2.2.1, fun V v => ?_⟩
    · rw [D.2.2.1 _ (rw_nb h1 hk)]; exact fr a ha h2 k hk
    · have q : rw_v V ce (32 + n) = rc_mx (V wp) (rw_v V ce1 67) (rw_v V ce1 (32 + Q n)) := D.2.2.2.2 V v
      have q1 : rw_v V ce1 67 = rc_th (rw_v V ce0 (32 + P n)) (rw_v V ce0 (Q n)) := D1.2.2.2.2 V (ck_XV D.2.1 v)
      rw [q, q1, rw_vc (fr (32 + Q n) (by omega) (by omega)), h]
      dsimp only
      rw [cp V]; rfl
  · have h11 : κ n = 11 := by omega
    refine xr_mux (ρ := 67) (a := 32 + P n) (b := 65) (cd := wp) rfl rfl rfl rfl (by omega) (by omega) (by omega) (by omega) (by omega) O hrP E.1 hwp (by omega) (fun c1 ce1 D1 hc1 => ?_)
    have X1 := D1.2.1.1
    have fr : ∀ a, a < 69 → a ≠ 67 → ∀ k, k < 12 → ce1 (a * 12 + k) = ce0 (a * 12 + k) := fun a _ h k hk => D1.2.2.1 _ (rw_nb h hk)
    refine xr_mux (ρ := 68) (a := 32 + Q n) (b := 65) (cd := wq) rfl rfl rfl rfl (by omega) (by omega) (by omega) (by omega) (by omega) D1.1 (rw_Rc hrQ X1 (fr _ (by omega) (by omega))) (rw_Rc E.1 X1 (fr _ (by omega) (by omega))) (by omega) (by omega) (fun c2 ce2 D2 hc2 => ?_)
    have X2 := D2.2.1.1
    have fr2 : ∀ a, a < 69 → a ≠ 68 → ∀ k, k < 12 → ce2 (a * 12 + k) = ce1 (a * 12 + k) := fun a _ h k hk => D2.2.2.1 _ (rw_nb h hk)
    refine xr_par (ρ := 32 + n) (a := 67) (b := 68) rfl rfl rfl (by omega) (by omega) (by omega) (by omega) (by omega) D2.1 (rw_Rc D1.2.2.2.1 X2 (fr2 _ (by omega) (by omega))) D2.2.2.2.1 (by omega) (fun c ce D hc => K c ce ?_ (by omega))
    refine ⟨D.1, ck_Xt D1.2.1 (ck_Xt D2.2.1 D.2.1), fun a ha h1 h2 h3 k hk => ?_, D.2.2.2.1, fun V v => ?_⟩
    · rw [D.2.2.1 _ (rw_nb h1 hk), fr2 a ha h3 k hk]; exact fr a ha h2 k hk
    · have v2 := ck_XV D.2.1 v
      have v1 := ck_XV D2.2.1 v2
      have v0 := ck_XV D1.2.1 v1
      have q : rw_v V ce (32 + n) = rc_pr (rw_v V ce2 67) (rw_v V ce2 68) := D.2.2.2.2 V v
      have q2 : rw_v V ce2 68 = rc_mx (V wq) (rw_v V ce1 (32 + Q n)) (rw_v V ce1 65) := D2.2.2.2.2 V v2
      have q1 : rw_v V ce1 67 = rc_mx (V wp) (rw_v V ce0 (32 + P n)) (rw_v V ce0 65) := D1.2.2.2.2 V v1
      rw [q, q2, rw_vc (fr2 67 (by omega) (by omega)), q1, rw_vc (fr (32 + Q n) (by omega) (by omega)), rw_vc (fr 65 (by omega) (by omega)), (E.2.2 V v0).1, h11]
      dsimp only
      rw [cp V, cq V]; rfl
theorem xn_res (T : tr_F ni no N κ A P Q U) (hio : ni + no ≤ 10) (hT : ln_T N a_kindOf a_argOf a_firstOf a_secondOf a_parentOf κ A P Q U) {n : Nat} (hn : n < N) (O : ck_O c0) (hB : c0.1 + 110 ≤ 4096) (E : rw_E c0 ce0)
    (hP : 5 ≤ κ n → rw_R c0 ce0 (P n)) (hQ : 9 ≤ κ n → rw_R c0 ce0 (Q n)) (hrP : 5 ≤ κ n → rw_R c0 ce0 (32 + P n)) (hrQ : 9 ≤ κ n → rw_R c0 ce0 (32 + Q n)) (sP : 9 ≤ κ n → ∃ w, w < c0.1 ∧ sw0 (P n) = nI w) (sQ : 9 ≤ κ n → ∃ w, w < c0.1 ∧ sw0 (Q n) = nI w)
    (K : ∀ c ce, rw_N c0 ce0 (32 + n) (fun V => rc_rs (κ n) (V (2 + A n)) (V (sw0 (P n)).toNatClampNeg) (V (sw0 (Q n)).toNatClampNeg) (rw_v V ce0 (P n)) (rw_v V ce0 (Q n)) (rw_v V ce0 (32 + P n)) (rw_v V ce0 (32 + Q n))) c ce → c.1 ≤ c0.1 + (if κ n < 9 then 37 else 110) → post (f_wireFalse, f_wireTrue, f_signalBase, f_bootWire, f_registerBase, f_firstGate, f_wireLimit, f_opAnd, f_opOr, f_opNot, f_codes, f_cells, f_resumeBase, f_rootRow, f_endRow, f_stayRow, f_leftRow, f_rightRow, f_inputSignals, f_outputSignals, f_nodeLimit, f_count, f_phaseNow, f_instantCount, f_rejectedCount, nI c.1, f_logicEnd, a_kindOf, a_argOf, a_firstOf, a_secondOf, a_parentOf, a_activeNode, a_lastStatus, a_inTree, a_trapDepth, a_firstCodes, c.2.1, c.2.2.1, c.2.2.2.1, c.2.2.2.2, ce, sw0, a_keepStart, a_keepResume, a_frozen, a_nextWire, a_must, a_can)) :
    wpX_buildResume post (f_wireFalse, f_wireTrue, f_signalBase, f_bootWire, f_registerBase, f_firstGate, f_wireLimit, f_opAnd, f_opOr, f_opNot, f_codes, f_cells, f_resumeBase, f_rootRow, f_endRow, f_stayRow, f_leftRow, f_rightRow, f_inputSignals, f_outputSignals, f_nodeLimit, f_count, f_phaseNow, f_instantCount, f_rejectedCount, nI c0.1, f_logicEnd, a_kindOf, a_argOf, a_firstOf, a_secondOf, a_parentOf, a_activeNode, a_lastStatus, a_inTree, a_trapDepth, a_firstCodes, c0.2.1, c0.2.2.1, c0.2.2.2.1, c0.2.2.2.2, ce0, sw0, a_keepStart, a_keepResume, a_frozen, a_nextWire, a_must, a_can) (nI n) := by
  have hN := T.1
  have hk := tr_k T hn
  have O1 := O.1
  have O2 := O.2.1
  obtain ⟨t1, t2, t3, t4, t5, t6, t7, t8⟩ := hT n hn
  have h9 := (T.2 n hn).2.2.2.2
  have hi : vp_in (nI n) 32 := vp_in_nI (by omega) (by decide)
  have cn : (nI n).toNatClampNeg = n := nI_clamp (by omega)
  have n69 : 32 + n < 69 := by omega
  refine ⟨hi, ?_⟩
  rw [cn]
  refine nm_r t1 (nm_r (show 384 + nI n * 12 = nI ((32 + n) * 12) from (congrArg (fun z => (384 : Int32) + z) (pk_mul n 12)).trans ((nI_add 384 (n * 12)).trans (congrArg nI (by omega)))) ?_)
  refine pk_eq (κ n) 4 (fun h => ?_) (fun h4 => pk_le 5 (κ n) (fun k5 => ⟨hi, ?_⟩) (fun k5 => ?_))
  · have hA := h9.2.1 (by omega)
    rw [t6 (by omega)]
    refine ⟨hi, xr_mux (a := 65) (b := 66) (cd := 2 + A n) rfl (nI_add 2 (A n)) rfl rfl n69 (by omega) (by omega) (by omega) (by omega) O E.1 E.2.1 (by omega) (by omega) (fun c ce D hc => K c ce (rw_DN (rw_Df D (fun V v => ?_))) ?_)⟩
    · have v0 := ck_XV D.2.1 v
      rw [h, (E.2.2 V v0).1, (E.2.2 V v0).2]; rfl
    · rw [if_pos (by omega)]; exact hc
  · have hp := tr_p T hn k5
    rw [t3 k5]
    refine nm_r (show nI (P n) * 12 = nI (P n * 12) from pk_mul (P n) 12) (nm_r (show 384 + nI (P n * 12) = nI ((32 + P n) * 12) from (nI_add 384 (P n * 12)).trans (congrArg nI (by omega))) ?_)
    refine pk_eq (κ n) 5 (fun h => ?_) (fun h5 => ?_)
    · refine xr_then rfl rfl rfl n69 (by omega) (by omega) (by omega) (by omega) O (hrP k5) (hP k5) (by omega) (fun c ce D hc => K c ce (rw_DN (rw_Df D (fun V v => ?_))) ?_)
      · rw [h]; rfl
      · rw [if_pos (by omega)]; omega
    refine pk_eq (κ n) 6 (fun h => ?_) (fun h6 => ?_)
    · refine xr_trap rfl rfl n69 (by omega) (by omega) O (hrP k5) (by omega) (fun c ce D hc => K c ce (rw_DN (rw_Df D (fun V v => ?_))) ?_)
      · rw [h]; rfl
      · rw [if_pos (by omega)]; omega
    refine pk_eq (κ n) 7 (fun h => ?_) (fun h7 => ?_)
    · have hA := h9.2.1 (by omega)
      rw [t6 (by omega)]
      refine ⟨hi, xr_mux (a := 65) (b := 32 + P n) (cd := 2 + A n) rfl (nI_add 2 (A n)) rfl rfl n69 (by omega) (by omega) (by omega) (by omega) O E.1 (hrP k5) (by omega) (by omega) (fun c ce D hc => K c ce (rw_DN (rw_Df D (fun V v => ?_))) ?_)⟩
      · have v0 := ck_XV D.2.1 v
        rw [h, (E.2.2 V v0).1]; rfl
      · rw [if_pos (by omega)]; exact hc
    refine pk_eq (κ n) 8 (fun h => ?_) (fun h8 => ?_)
    · have hA := h9.2.1 (by omega)
      rw [t6 (by omega)]
      refine ⟨hi, xr_mux (a := 66) (b := 32 + P n) (cd := 2 + A n) rfl (nI_add 2 (A n)) rfl rfl n69 (by omega) (by omega) (by omega) (by omega) O E.2.1 (hrP k5) (by omega) (by omega) (fun c ce D hc => K c ce (rw_DN (rw_Df D (fun V v => ?_))) ?_)⟩
      · have v0 := ck_XV D.2.1 v
        rw [h, (E.2.2 V v0).2]; rfl
      · rw [if_pos (by omega)]; exact hc
    · exact xn_two T hT hn (by omega) O hB E (hQ (by omega)) (hrP k5) (hrQ (by omega)) (sP (by omega)) (sQ (by omega)) (fun c ce D hc => K c ce D (by rw [if_neg (by omega)]; exact hc))
  · refine xr_copy (ρ := 32 + n) (a := 65) rfl rfl n69 (by omega) (by omega) (fun ce hc => K c0 ce (rw_DN (rw_Df (rw_CpD hc O E.1) (fun V v => ?_))) (by omega))
    rw [(E.2.2 V v).1]
    unfold rc_rs
    rw [if_neg h4, if_pos k5]
end
end
section
/-! ===== X: the next state's gates, one node ===== -/
/-- all 32 entries are wires -/
def kp_W (c : ck_T) (f : Nat → Int32) : Prop := ∀ m, m < 32 → ∃ w, w < c.1 ∧ f m = nI w
theorem kp_Wx {c c' : ck_T} {f : Nat → Int32} (h : kp_W c f) (X : c.1 ≤ c'.1) : kp_W c' f := fun m hm => by obtain ⟨w, hw, e⟩ := h m hm; exact ⟨w, by omega, e⟩
theorem kp_Wu {c : ck_T} {f : Nat → Int32} {p d : Nat} (h : kp_W c f) (hd : d < c.1) : kp_W c (upd f p (nI d)) := by
  intro m hm
  by_cases e : m = p
  · subst e; exact ⟨d, hd, pk_us⟩
  · obtain ⟨w, hw, g⟩ := h m hm
    exact ⟨w, hw, by rw [pk_un e]; exact g⟩
def kp_E (κ A P Q : Nat → Nat) (V : Nat → kv_T) (ce sw ks kr fz nx : Nat → Int32) (n : Nat) : Prop :=
  ns_E κ A P Q (fun m => rw_v V ce m) (fun m => rw_v V ce (32 + m)) (fun m => V (sw m).toNatClampNeg) (fun s => V (2 + s)) (fun m => V (13 + m)) (fun m => V (ks m).toNatClampNeg) (fun m => V (kr m).toNatClampNeg) (fun m => V (fz m).toNatClampNeg) (fun m => V (nx m).toNatClampNeg) n
/-- node n has been dealt with -/
def kp_S (κ A P Q : Nat → Nat) (ce sw : Nat → Int32) (n : Nat) (c : ck_T) (ks kr fz nx : Nat → Int32) (c' : ck_T) (ks' kr' fz' nx' : Nat → Int32) : Prop :=
  ck_O c' ∧ ck_X c c' ∧ c'.1 ≤ c.1 + 12 ∧ kp_W c' ks' ∧ kp_W c' kr' ∧ kp_W c' fz' ∧ kp_W c' nx' ∧
  (∀ m, ¬ (5 ≤ κ n ∧ m = P n) → ¬ (9 ≤ κ n ∧ m = Q n) → ks' m = ks m ∧ kr' m = kr m ∧ fz' m = fz m) ∧ (∀ m, m ≠ n → nx' m = nx m) ∧
  (∀ V, ck_V V c' → kp_E κ A P Q V ce sw ks' kr' fz' nx' n)
theorem kp_c {c : ck_T} {w : Nat} (O : ck_O c) (h : w < c.1) : (nI w).toNatClampNeg = w := nI_clamp (by have := O.2.1; omega)
section
variable {f_wireFalse f_wireTrue f_signalBase f_bootWire f_registerBase f_firstGate f_wireLimit f_opAnd f_opOr f_opNot f_codes f_cells f_resumeBase f_rootRow f_endRow f_stayRow f_leftRow f_rightRow f_inputSignals f_outputSignals f_nodeLimit f_count f_phaseNow f_instantCount f_rejectedCount f_wireCount f_logicEnd : Int32} {a_kindOf a_argOf a_firstOf a_secondOf a_parentOf a_activeNode a_lastStatus a_inTree a_trapDepth a_firstCodes a_gateOp a_gateA a_gateB a_inverseOf a_cell a_selWire a_keepStart a_keepResume a_frozen a_nextWire : Nat → Int32} {a_must a_can : Nat → Int64}
variable {post : SX → Prop} {c : ck_T} {ks kr fz nx : Nat → Int32} {ni no N : Nat} {κ A P Q U : Nat → Nat}
theorem xk_ps {p k w : Nat} {x1 x2 : Int32} (e1 : x1 = nI p) (e2 : x2 = nI w) (hp : p < 32) (ek : ks p = nI k) (O : ck_O c) (hB : c.1 < 4096) (hk : k < c.1) (hw : w < c.1)
    (K : ∀ d c', ck_O c' → ck_X c c' → c'.1 ≤ c.1 + 1 → d < c'.1 → (∀ V, ck_V V c' → V d = kv_O (V k) (V w)) → post (f_wireFalse, f_wireTrue, f_signalBase, f_bootWire, f_registerBase, f_firstGate, f_wireLimit, f_opAnd, f_opOr, f_opNot, f_codes, f_cells, f_resumeBase, f_rootRow, f_endRow, f_stayRow, f_leftRow, f_rightRow, f_inputSignals, f_outputSignals, f_nodeLimit, f_count, f_phaseNow, f_instantCount, f_rejectedCount, nI c'.1, f_logicEnd, a_kindOf, a_argOf, a_firstOf, a_secondOf, a_parentOf, a_activeNode, a_lastStatus, a_inTree, a_trapDepth, a_firstCodes, c'.2.1, c'.2.2.1, c'.2.2.2.1, c'.2.2.2.2, a_cell, a_selWire, upd ks p (nI d), a_keepResume, a_frozen, a_nextWire, a_must, a_can)) : wpX_passStart post (f_wireFalse, f_wireTrue, f_signalBase, f_bootWire, f_registerBase, f_firstGate, f_wireLimit, f_opAnd, f_opOr, f_opNot, f_codes, f_cells, f_resumeBase, f_rootRow, f_endRow, f_stayRow, f_leftRow, f_rightRow, f_inputSignals, f_outputSignals, f_nodeLimit, f_count, f_phaseNow, f_instantCount, f_rejectedCount, nI c.1, f_logicEnd, a_kindOf, a_argOf, a_firstOf, a_secondOf, a_parentOf, a_activeNode, a_lastStatus, a_inTree, a_trapDepth, a_firstCodes, c.2.1, c.2.2.1, c.2.2.2.1, c.2.2.2.2, a_cell, a_selWire, ks, a_keepResume, a_frozen, a_nextWire, a_must, a_can) x1 x2 := by
  subst e1 e2
  have hi : vp_in (nI p) 32 := vp_in_nI hp (by decide)
  have cp : (nI p).toNatClampNeg = p := nI_clamp (by omega)
  refine ⟨hi, ?_⟩
  rw [cp, ek]
  refine xg_or O hB hk hw (fun d c' O' X' n' l' v' => ⟨hi, ?_⟩)
  exact nm_e (K d c' O' X' n' l' v')
theorem xk_pr {p k w : Nat} {x1 x2 : Int32} (e1 : x1 = nI p) (e2 : x2 = nI w) (hp : p < 32) (ek : kr p = nI k) (O : ck_O c) (hB : c.1 < 4096) (hk : k < c.1) (hw : w < c.1)
    (K : ∀ d c', ck_O c' → ck_X c c' → c'.1 ≤ c.1 + 1 → d < c'.1 → (∀ V, ck_V V c' → V d = kv_O (V k) (V w)) → post (f_wireFalse, f_wireTrue, f_signalBase, f_bootWire, f_registerBase, f_firstGate, f_wireLimit, f_opAnd, f_opOr, f_opNot, f_codes, f_cells, f_resumeBase, f_rootRow, f_endRow, f_stayRow, f_leftRow, f_rightRow, f_inputSignals, f_outputSignals, f_nodeLimit, f_count, f_phaseNow, f_instantCount, f_rejectedCount, nI c'.1, f_logicEnd, a_kindOf, a_argOf, a_firstOf, a_secondOf, a_parentOf, a_activeNode, a_lastStatus, a_inTree, a_trapDepth, a_firstCodes, c'.2.1, c'.2.2.1, c'.2.2.2.1, c'.2.2.2.2, a_cell, a_selWire, a_keepStart, upd kr p (nI d), a_frozen, a_nextWire, a_must, a_can)) : wpX_passResume post (f_wireFalse, f_wireTrue, f_signalBase, f_bootWire, f_registerBase, f_firstGate, f_wireLimit, f_opAnd, f_opOr, f_opNot, f_codes, f_cells, f_resumeBase, f_rootRow, f_endRow, f_stayRow, f_leftRow, f_rightRow, f_inputSignals, f_outputSignals, f_nodeLimit, f_count, f_phaseNow, f_instantCount, f_rejectedCount, nI c.1, f_logicEnd, a_kindOf, a_argOf, a_firstOf, a_secondOf, a_parentOf, a_activeNode, a_lastStatus, a_inTree, a_trapDepth, a_firstCodes, c.2.1, c.2.2.1, c.2.2.2.1, c.2.2.2.2, a_cell, a_selWire, a_keepStart, kr, a_frozen, a_nextWire, a_must, a_can) x1 x2 := by
  subst e1 e2
  have hi : vp_in (nI p) 32 := vp_in_nI hp (by decide)
  have cp : (nI p).toNatClampNeg = p := nI_clamp (by omega)
  refine ⟨hi, ?_⟩
  rw [cp, ek]
  refine xg_or O hB hk hw (fun d c' O' X' n' l' v' => ⟨hi, ?_⟩)
  exact nm_e (K d c' O' X' n' l' v')
theorem xk_reg {n : Nat} (hn : n < 32) (k14 : κ n = 1 ∨ κ n = 4) (O : ck_O c) (hB : c.1 + 12 ≤ 4096) (Wk : kp_W c ks) (Wr : kp_W c kr) (Wf : kp_W c fz) (Wn : kp_W c nx)
    (K : ∀ c' nx', kp_S κ A P Q a_cell a_selWire n c ks kr fz nx c' ks kr fz nx' → post (f_wireFalse, f_wireTrue, f_signalBase, f_bootWire, f_registerBase, f_firstGate, f_wireLimit, f_opAnd, f_opOr, f_opNot, f_codes, f_cells, f_resumeBase, f_rootRow, f_endRow, f_stayRow, f_leftRow, f_rightRow, f_inputSignals, f_outputSignals, f_nodeLimit, f_count, f_phaseNow, f_instantCount, f_rejectedCount, nI c'.1, f_logicEnd, a_kindOf, a_argOf, a_firstOf, a_secondOf, a_parentOf, a_activeNode, a_lastStatus, a_inTree, a_trapDepth, a_firstCodes, c'.2.1, c'.2.2.1, c'.2.2.2.1, c'.2.2.2.2, a_cell, a_selWire, ks, kr, fz, nx', a_must, a_can)) :
    wpX_buildRegister post (f_wireFalse, f_wireTrue, f_signalBase, f_bootWire, f_registerBase, f_firstGate, f_wireLimit, f_opAnd, f_opOr, f_opNot, f_codes, f_cells, f_resumeBase, f_rootRow, f_endRow, f_stayRow, f_leftRow, f_rightRow, f_inputSignals, f_outputSignals, f_nodeLimit, f_count, f_phaseNow, f_instantCount, f_rejectedCount, nI c.1, f_logicEnd, a_kindOf, a_argOf, a_firstOf, a_secondOf, a_parentOf, a_activeNode, a_lastStatus, a_inTree, a_trapDepth, a_firstCodes, c.2.1, c.2.2.1, c.2.2.2.1, c.2.2.2.2, a_cell, a_selWire, ks, kr, fz, nx, a_must, a_can) (nI n) := by
  have O1 := O.1
  have hi : vp_in (nI n) 32 := vp_in_nI hn (by decide)
  have cn : (nI n).toNatClampNeg = n := nI_clamp (by omega)
  obtain ⟨k, hk, ek⟩ := Wk n hn
  obtain ⟨r, hr, er⟩ := Wr n hn
  obtain ⟨f, hf, ef⟩ := Wf n hn
  refine ⟨hi, ?_⟩
  rw [cn, ef, show 13 + nI n = nI (13 + n) from nI_add 13 n]
  refine xg_and O (by omega) hf (by omega) (fun d1 c1 O1' X1 n1 l1 v1 => ⟨hi, hi, ?_⟩)
  have X1' := X1.1
  rw [ek, er]
  refine xg_or O1' (by omega) (by omega) (by omega) (fun d2 c2 O2' X2 n2 l2 v2 => ?_)
  have X2' := X2.1
  refine xg_or O2' (by omega) l2 (by omega) (fun d3 c3 O3' X3 n3 l3 v3 => ⟨hi, nm_e (K c3 _ ?_)⟩)
  have X3' := X3.1
  refine ⟨O3', ck_Xt X1 (ck_Xt X2 X3), by omega, kp_Wx Wk (by omega), kp_Wx Wr (by omega), kp_Wx Wf (by omega), kp_Wu (kp_Wx Wn (by omega)) l3, fun m _ _ => ⟨rfl, rfl, rfl⟩, fun m hm => pk_un hm, fun V v => ?_⟩
  have w2 := ck_XV X3 v
  have w1 := ck_XV X2 w2
  refine ⟨fun _ => ?_, fun h => absurd h (by omega), fun h => absurd h (by omega), fun h => absurd h (by omega), fun h => absurd h (by omega), fun h => absurd h (by omega), fun h => absurd h (by omega)⟩
  show V (upd nx n (nI d3) n).toNatClampNeg = _
  rw [pk_us, kp_c O3' l3, v3 V v, v2 V w2, v1 V w1]
  show _ = kv_O (kv_O (V (ks n).toNatClampNeg) (V (kr n).toNatClampNeg)) (kv_A (V (fz n).toNatClampNeg) (V (13 + n)))
  rw [ek, er, ef, kp_c O hk, kp_c O hr, kp_c O hf]
theorem xk_one (T : tr_F ni no N κ A P Q U) (hio : ni + no ≤ 10) (hT : ln_T N a_kindOf a_argOf a_firstOf a_secondOf a_parentOf κ A P Q U) {n : Nat} (hn : n < N) (k5 : 5 ≤ κ n) (k9 : κ n < 9) (O : ck_O c) (hB : c.1 + 12 ≤ 4096)
    (Wk : kp_W c ks) (Wr : kp_W c kr) (Wf : kp_W c fz) (Wn : kp_W c nx) (zk : ks (P n) = 0) (zr : kr (P n) = 0) (hrP : rw_R c a_cell (32 + P n))
    (K : ∀ c' ks' kr' fz', kp_S κ A P Q a_cell a_selWire n c ks kr fz nx c' ks' kr' fz' nx → post (f_wireFalse, f_wireTrue, f_signalBase, f_bootWire, f_registerBase, f_firstGate, f_wireLimit, f_opAnd, f_opOr, f_opNot, f_codes, f_cells, f_resumeBase, f_rootRow, f_endRow, f_stayRow, f_leftRow, f_rightRow, f_inputSignals, f_outputSignals, f_nodeLimit, f_count, f_phaseNow, f_instantCount, f_rejectedCount, nI c'.1, f_logicEnd, a_kindOf, a_argOf, a_firstOf, a_secondOf, a_parentOf, a_activeNode, a_lastStatus, a_inTree, a_trapDepth, a_firstCodes, c'.2.1, c'.2.2.1, c'.2.2.2.1, c'.2.2.2.2, a_cell, a_selWire, ks', kr', fz', nx, a_must, a_can)) :
    wpX_keepOne post (f_wireFalse, f_wireTrue, f_signalBase, f_bootWire, f_registerBase, f_firstGate, f_wireLimit, f_opAnd, f_opOr, f_opNot, f_codes, f_cells, f_resumeBase, f_rootRow, f_endRow, f_stayRow, f_leftRow, f_rightRow, f_inputSignals, f_outputSignals, f_nodeLimit, f_count, f_phaseNow, f_instantCount, f_rejectedCount, nI c.1, f_logicEnd, a_kindOf, a_argOf, a_firstOf, a_secondOf, a_parentOf, a_activeNode, a_lastStatus, a_inTree, a_trapDepth, a_firstCodes, c.2.1, c.2.2.1, c.2.2.2.1, c.2.2.2.2, a_cell, a_selWire, ks, kr, fz, nx, a_must, a_can) (nI n) := by
  have hN := T.1
  have O1 := O.1
  have hp := tr_p T hn k5
  have h9 := (T.2 n hn).2.2.2.2
  obtain ⟨t1, t2, t3, t4, t5, t6, t7, t8⟩ := hT n hn
  have hi : vp_in (nI n) 32 := vp_in_nI (by omega) (by decide)
  have cn : (nI n).toNatClampNeg = n := nI_clamp (by omega)
  have ip : vp_in (nI (P n)) 32 := vp_in_nI (by omega) (by decide)
  have cp : (nI (P n)).toNatClampNeg = P n := nI_clamp (by omega)
  have np : n ≠ P n := by omega
  obtain ⟨k, hk, ek⟩ := Wk n (by omega)
  obtain ⟨r, hr, er⟩ := Wr n (by omega)
  obtain ⟨f, hf, ef⟩ := Wf n (by omega)
  refine ⟨hi, ?_⟩
  rw [cn]
  refine nm_r t1 ⟨hi, nm_r (t3 k5) ⟨hi, nm_r er ⟨hi, ip, ?_⟩⟩⟩
  rw [cp, ef]
  refine nm_e ⟨hi, ?_⟩
  refine xk_ps (k := 0) rfl ek (by omega) zk O (by omega) (by omega) hk (fun d1 c1 O1' X1 n1 l1 v1 => ?_)
  have X1' := X1.1
  refine pk_eq (κ n) 5 (fun h => ?_) (fun h5 => pk_eq (κ n) 8 (fun h => ?_) (fun h8 => ?_))
  · obtain ⟨w0, hw0, e0⟩ := hrP 0 (by omega)
    obtain ⟨w1, hw1, e1⟩ := hrP 1 (by omega)
    refine nm_r (show 384 + nI (P n) * 12 = nI ((32 + P n) * 12) from (congrArg (fun z => (384 : Int32) + z) (pk_mul (P n) 12)).trans ((nI_add 384 (P n * 12)).trans (congrArg nI (by omega)))) ⟨pk_in ((32 + P n) * 12 + 1) 828 (by omega) (nI_add _ 1), ?_⟩
    rw [show nI ((32 + P n) * 12) + 1 = nI ((32 + P n) * 12 + 1) from nI_add _ 1, nI_clamp (show (32 + P n) * 12 + 1 < 2 ^ 31 by omega), e1]
    refine xg_and O1' (by omega) (by omega) (by omega) (fun d2 c2 O2' X2 n2 l2 v2 => ⟨vp_in_nI (by omega) (by decide), ?_⟩)
    have X2' := X2.1
    rw [nI_clamp (show (32 + P n) * 12 < 2 ^ 31 by omega), show a_cell ((32 + P n) * 12) = nI w0 from e0]
    refine xg_and O2' (by omega) (by omega) (by omega) (fun d3 c3 O3' X3 n3 l3 v3 => ?_)
    have X3' := X3.1
    refine xk_pr (k := 0) rfl rfl (by omega) zr O3' (by omega) (by omega) (by omega) (fun d4 c4 O4' X4 n4 l4 v4 => ?_)
    have X4' := X4.1
    refine xk_ps (k := d1) rfl rfl (by omega) pk_us O4' (by omega) (by omega) (by omega) (fun d5 c5 O5' X5 n5 l5 v5 => K c5 _ _ _ ?_)
    have X5' := X5.1
    refine ⟨O5', ck_Xt X1 (ck_Xt X2 (ck_Xt X3 (ck_Xt X4 X5))), by omega, kp_Wu (kp_Wu (kp_Wx Wk (by omega)) (by omega)) l5, kp_Wu (kp_Wx Wr (by omega)) (by omega), kp_Wu (kp_Wx Wf (by omega)) (by omega), kp_Wx Wn (by omega), fun m h1 _ => ?_, fun m _ => rfl, fun V v => ?_⟩
    · have e : m ≠ P n := fun e => h1 ⟨k5, e⟩
      exact ⟨by rw [pk_un e, pk_un e], pk_un e, pk_un e⟩
    · have w4 := ck_XV X5 v
      have w3 := ck_XV X4 w4
      have w2 := ck_XV X3 w3
      have w1' := ck_XV X2 w2
      refine ⟨fun h => absurd h (by omega), fun _ => ?_, fun h => absurd h (by omega), fun h => absurd h (by omega), fun h => absurd h (by omega), fun h => absurd h (by omega), fun h => absurd h (by omega)⟩
      show V (upd fz (P n) (nI f) (P n)).toNatClampNeg = V (upd fz (P n) (nI f) n).toNatClampNeg ∧ V (upd (upd ks (P n) (nI d1)) (P n) (nI d5) (P n)).toNatClampNeg = kv_O (V (upd (upd ks (P n) (nI d1)) (P n) (nI d5) n).toNatClampNeg) (kv_A (V (upd kr (P n) (nI d4) n).toNatClampNeg) (rw_v V a_cell (32 + P n) 0)) ∧ V (upd kr (P n) (nI d4) (P n)).toNatClampNeg = kv_A (V (upd kr (P n) (nI d4) n).toNatClampNeg) (rw_v V a_cell (32 + P n) 1)
      rw [pk_us, pk_un np, pk_us, pk_un np, pk_un np, pk_us, pk_un np, ef, ek, er, kp_c O hf, kp_c O5' l5, kp_c O hk, kp_c O hr, kp_c O4' l4, rw_v1 (by omega), rw_v1 (by omega), show a_cell ((32 + P n) * 12 + 0) = nI w0 from e0, e1, kp_c O hw0, kp_c O hw1,
        v5 V v, v4 V w4, v3 V w3, v2 V w2, v1 V w1', v.1, kv_O0l, kv_O0l]
      exact ⟨rfl, rfl, rfl⟩
  · have hA := h9.2.1 (by omega)
    refine ⟨hi, ?_⟩
    rw [t6 (by omega)]
    refine nm_r (nI_add 2 (A n)) ?_
    refine xg_inv O1' (by omega) (by omega) (fun d2 c2 O2' X2 n2 l2 v2 => ?_)
    have X2' := X2.1
    refine xg_and O2' (by omega) (by omega) l2 (fun d3 c3 O3' X3 n3 l3 v3 => ?_)
    have X3' := X3.1
    refine xg_and O3' (by omega) (by omega) (by omega) (fun d4 c4 O4' X4 n4 l4 v4 => ?_)
    have X4' := X4.1
    refine xk_pr (k := 0) rfl rfl (by omega) zr O4' (by omega) (by omega) (by omega) (fun d5 c5 O5' X5 n5 l5 v5 => ⟨ip, ?_⟩)
    have X5' := X5.1
    rw [pk_us]
    refine xg_or O5' (by omega) (by omega) (by omega) (fun d6 c6 O6' X6 n6 l6 v6 => ⟨ip, ?_⟩)
    have X6' := X6.1
    refine nm_e (K c6 _ _ _ ?_)
    refine ⟨O6', ck_Xt X1 (ck_Xt X2 (ck_Xt X3 (ck_Xt X4 (ck_Xt X5 X6)))), by omega, kp_Wu (kp_Wx Wk (by omega)) (by omega), kp_Wu (kp_Wx Wr (by omega)) (by omega), kp_Wu (kp_Wu (kp_Wx Wf (by omega)) (by omega)) l6, kp_Wx Wn (by omega), fun m h1 _ => ?_, fun m _ => rfl, fun V v => ?_⟩
    · have e : m ≠ P n := fun e => h1 ⟨k5, e⟩
      exact ⟨pk_un e, pk_un e, by rw [pk_un e, pk_un e]⟩
    · have w5 := ck_XV X6 v
      have w4 := ck_XV X5 w5
      have w3 := ck_XV X4 w4
      have w2 := ck_XV X3 w3
      have w1' := ck_XV X2 w2
      refine ⟨fun h => absurd h (by omega), fun h => absurd h (by omega), fun h => absurd h (by omega), fun _ => ?_, fun h => absurd h (by omega), fun h => absurd h (by omega), fun h => absurd h (by omega)⟩
      show V (upd (upd fz (P n) (nI f)) (P n) (nI d6) (P n)).toNatClampNeg = kv_O (V (upd (upd fz (P n) (nI f)) (P n) (nI d6) n).toNatClampNeg) (kv_A (V (upd kr (P n) (nI d5) n).toNatClampNeg) (V (2 + A n))) ∧ V (upd ks (P n) (nI d1) (P n)).toNatClampNeg = V (upd ks (P n) (nI d1) n).toNatClampNeg ∧ V (upd kr (P n) (nI d5) (P n)).toNatClampNeg = kv_A (V (upd kr (P n) (nI d5) n).toNatClampNeg) (kv_N (V (2 + A n)))
      rw [pk_us, pk_un np, pk_un np, pk_un np, pk_us, pk_un np, pk_us, ef, ek, er, kp_c O6' l6, kp_c O hf, kp_c O hr, kp_c O1' l1, kp_c O hk, kp_c O5' l5, v6 V v, v5 V w5, v4 V w4, v3 V w3, v2 V w2, v1 V w1', v.1, kv_O0l, kv_O0l]
      exact ⟨rfl, rfl, rfl⟩
  · refine xk_pr (k := 0) rfl rfl (by omega) zr O1' (by omega) (by omega) (by omega) (fun d2 c2 O2' X2 n2 l2 v2 => K c2 _ _ _ ?_)
    have X2' := X2.1
    refine ⟨O2', ck_Xt X1 X2, by omega, kp_Wu (kp_Wx Wk (by omega)) (by omega), kp_Wu (kp_Wx Wr (by omega)) l2, kp_Wu (kp_Wx Wf (by omega)) (by omega), kp_Wx Wn (by omega), fun m h1 _ => ?_, fun m _ => rfl, fun V v => ?_⟩
    · have e : m ≠ P n := fun e => h1 ⟨k5, e⟩
      exact ⟨pk_un e, pk_un e, pk_un e⟩
    · have w1' := ck_XV X2 v
      refine ⟨fun h => absurd h (by omega), fun h => absurd h (by omega), fun _ => ?_, fun h => absurd h (by omega), fun h => absurd h (by omega), fun h => absurd h (by omega), fun h => absurd h (by omega)⟩
      show V (upd fz (P n) (nI f) (P n)).toNatClampNeg = V (upd fz (P n) (nI f) n).toNatClampNeg ∧ V (upd ks (P n) (nI d1) (P n)).toNatClampNeg = V (upd ks (P n) (nI d1) n).toNatClampNeg ∧ V (upd kr (P n) (nI d2) (P n)).toNatClampNeg = V (upd kr (P n) (nI d2) n).toNatClampNeg
      rw [pk_us, pk_un np, pk_us, pk_un np, pk_us, pk_un np, ef, ek, er, kp_c O hf, kp_c O1' l1, kp_c O hk, kp_c O2' l2, kp_c O hr, v2 V v, v1 V w1', v.1, kv_O0l, kv_O0l]
      exact ⟨rfl, rfl, rfl⟩
end
end
section
/-! ===== X: the next state's gates, nodes with two children ===== -/
theorem kp_2 {f : Nat → Int32} {p q : Nat} {a b : Int32} (h : p ≠ q) : upd (upd f p a) q b p = a ∧ upd (upd f p a) q b q = b ∧ ∀ m, m ≠ p → m ≠ q → upd (upd f p a) q b m = f m :=
  ⟨by rw [pk_un h, pk_us], pk_us, fun m h1 h2 => by rw [pk_un h2, pk_un h1]⟩
section
variable {f_wireFalse f_wireTrue f_signalBase f_bootWire f_registerBase f_firstGate f_wireLimit f_opAnd f_opOr f_opNot f_codes f_cells f_resumeBase f_rootRow f_endRow f_stayRow f_leftRow f_rightRow f_inputSignals f_outputSignals f_nodeLimit f_count f_phaseNow f_instantCount f_rejectedCount f_wireCount f_logicEnd : Int32} {a_kindOf a_argOf a_firstOf a_secondOf a_parentOf a_activeNode a_lastStatus a_inTree a_trapDepth a_firstCodes a_gateOp a_gateA a_gateB a_inverseOf a_cell a_selWire a_keepStart a_keepResume a_frozen a_nextWire : Nat → Int32} {a_must a_can : Nat → Int64}
variable {post : SX → Prop} {c : ck_T} {ks kr fz nx : Nat → Int32} {ni no N : Nat} {κ A P Q U : Nat → Nat}
theorem xk_pres (T : tr_F ni no N κ A P Q U) (hio : ni + no ≤ 10) (hT : ln_T N a_kindOf a_argOf a_firstOf a_secondOf a_parentOf κ A P Q U) {n k r wp wq : Nat} (hn : n < N) (k9 : κ n = 9) (O : ck_O c) (hB : c.1 + 12 ≤ 4096)
    (hk : k < c.1) (ek : ks n = nI k) (hr : r < c.1) (er : kr n = nI r) (zkp : ks (P n) = 0) (zrp : kr (P n) = 0) (zkq : ks (Q n) = 0) (zrq : kr (Q n) = 0) (hwp : wp < c.1) (ep : a_selWire (P n) = nI wp) (hwq : wq < c.1) (eq : a_selWire (Q n) = nI wq)
    (K : ∀ c' a b d e, ck_O c' → ck_X c c' → c'.1 ≤ c.1 + 12 → a < c'.1 → b < c'.1 → d < c'.1 → e < c'.1 → (∀ V, ck_V V c' → V a = kv_A (V k) (V (2 + A n)) ∧ V b = kv_A (V k) (kv_N (V (2 + A n))) ∧ V d = kv_A (V r) (V wp) ∧ V e = kv_A (V r) (V wq)) →
      post (f_wireFalse, f_wireTrue, f_signalBase, f_bootWire, f_registerBase, f_firstGate, f_wireLimit, f_opAnd, f_opOr, f_opNot, f_codes, f_cells, f_resumeBase, f_rootRow, f_endRow, f_stayRow, f_leftRow, f_rightRow, f_inputSignals, f_outputSignals, f_nodeLimit, f_count, f_phaseNow, f_instantCount, f_rejectedCount, nI c'.1, f_logicEnd, a_kindOf, a_argOf, a_firstOf, a_secondOf, a_parentOf, a_activeNode, a_lastStatus, a_inTree, a_trapDepth, a_firstCodes, c'.2.1, c'.2.2.1, c'.2.2.2.1, c'.2.2.2.2, a_cell, a_selWire, upd (upd ks (P n) (nI a)) (Q n) (nI b), upd (upd kr (P n) (nI d)) (Q n) (nI e), fz, nx, a_must, a_can)) :
    wpX_keepPresent post (f_wireFalse, f_wireTrue, f_signalBase, f_bootWire, f_registerBase, f_firstGate, f_wireLimit, f_opAnd, f_opOr, f_opNot, f_codes, f_cells, f_resumeBase, f_rootRow, f_endRow, f_stayRow, f_leftRow, f_rightRow, f_inputSignals, f_outputSignals, f_nodeLimit, f_count, f_phaseNow, f_instantCount, f_rejectedCount, nI c.1, f_logicEnd, a_kindOf, a_argOf, a_firstOf, a_secondOf, a_parentOf, a_activeNode, a_lastStatus, a_inTree, a_trapDepth, a_firstCodes, c.2.1, c.2.2.1, c.2.2.2.1, c.2.2.2.2, a_cell, a_selWire, ks, kr, fz, nx, a_must, a_can) (nI n) := by
  have hN := T.1
  have O1 := O.1
  have hp := tr_p T hn (by omega)
  have hq := tr_q T hn (by omega)
  have hA := (T.2 n hn).2.2.2.2.2.1 (by omega)
  obtain ⟨t1, t2, t3, t4, t5, t6, t7, t8⟩ := hT n hn
  have hi : vp_in (nI n) 32 := vp_in_nI (by omega) (by decide)
  have ip : vp_in (nI (P n)) 32 := vp_in_nI (by omega) (by decide)
  have iq : vp_in (nI (Q n)) 32 := vp_in_nI (by omega) (by decide)
  have cn : (nI n).toNatClampNeg = n := nI_clamp (by omega)
  have cp : (nI (P n)).toNatClampNeg = P n := nI_clamp (by omega)
  have cq : (nI (Q n)).toNatClampNeg = Q n := nI_clamp (by omega)
  have pq := hq.2.2
  refine ⟨hi, ?_⟩
  rw [cn]
  refine nm_r (t3 (by omega)) ⟨hi, nm_r (t5 (by omega)) ⟨hi, ?_⟩⟩
  rw [t6 (by omega), cp, cq]
  refine nm_r (nI_add 2 (A n)) ?_
  refine xg_inv O (by omega) (by omega) (fun d1 c1 O1' X1 n1 l1 v1 => ⟨hi, ?_⟩)
  have X1' := X1.1
  rw [ek]
  refine xg_and O1' (by omega) (by omega) (by omega) (fun d2 c2 O2' X2 n2 l2 v2 => ⟨hi, ?_⟩)
  have X2' := X2.1
  rw [ek]
  refine xg_and O2' (by omega) (by omega) (by omega) (fun d3 c3 O3' X3 n3 l3 v3 => ⟨hi, ip, ?_⟩)
  have X3' := X3.1
  rw [er, ep]
  refine xg_and O3' (by omega) (by omega) (by omega) (fun d4 c4 O4' X4 n4 l4 v4 => ⟨hi, iq, ?_⟩)
  have X4' := X4.1
  rw [er, eq]
  refine xg_and O4' (by omega) (by omega) (by omega) (fun d5 c5 O5' X5 n5 l5 v5 => ?_)
  have X5' := X5.1
  refine xk_ps (k := 0) rfl rfl (by omega) zkp O5' (by omega) (by omega) (by omega) (fun d6 c6 O6' X6 n6 l6 v6 => ?_)
  have X6' := X6.1
  refine xk_ps (k := 0) rfl rfl (by omega) (by rw [pk_un (Ne.symm pq)]; exact zkq) O6' (by omega) (by omega) (by omega) (fun d7 c7 O7' X7 n7 l7 v7 => ?_)
  have X7' := X7.1
  refine xk_pr (k := 0) rfl rfl (by omega) zrp O7' (by omega) (by omega) (by omega) (fun d8 c8 O8' X8 n8 l8 v8 => ?_)
  have X8' := X8.1
  refine xk_pr (k := 0) rfl rfl (by omega) (by rw [pk_un (Ne.symm pq)]; exact zrq) O8' (by omega) (by omega) (by omega) (fun d9 c9 O9' X9 n9 l9 v9 => ?_)
  have X9' := X9.1
  refine K c9 d6 d7 d8 d9 O9' (ck_Xt X1 (ck_Xt X2 (ck_Xt X3 (ck_Xt X4 (ck_Xt X5 (ck_Xt X6 (ck_Xt X7 (ck_Xt X8 X9)))))))) (by omega) (by omega) (by omega) (by omega) l9 (fun V v => ?_)
  have w8 := ck_XV X9 v
  have w7 := ck_XV X8 w8
  have w6 := ck_XV X7 w7
  have w5 := ck_XV X6 w6
  have w4 := ck_XV X5 w5
  have w3 := ck_XV X4 w4
  have w2 := ck_XV X3 w3
  have w1 := ck_XV X2 w2
  rw [v9 V v, v8 V w8, v7 V w7, v6 V w6, v5 V w5, v4 V w4, v3 V w3, v2 V w2, v1 V w1, v.1, kv_O0l, kv_O0l, kv_O0l, kv_O0l]
  exact ⟨rfl, rfl, rfl, rfl⟩
theorem xk_seq (T : tr_F ni no N κ A P Q U) (hT : ln_T N a_kindOf a_argOf a_firstOf a_secondOf a_parentOf κ A P Q U) {n k r wp : Nat} (hn : n < N) (k9 : κ n = 10) (O : ck_O c) (hB : c.1 + 12 ≤ 4096)
    (hk : k < c.1) (ek : ks n = nI k) (hr : r < c.1) (er : kr n = nI r) (zkp : ks (P n) = 0) (zrp : kr (P n) = 0) (zkq : ks (Q n) = 0) (zrq : kr (Q n) = 0) (hwp : wp < c.1) (ep : a_selWire (P n) = nI wp) (RP : rw_R c a_cell (P n)) (RrP : rw_R c a_cell (32 + P n))
    (K : ∀ c' a b d e f, ck_O c' → ck_X c c' → c'.1 ≤ c.1 + 12 → a < c'.1 → b < c'.1 → d < c'.1 → e < c'.1 → f < c'.1 → (∀ V, ck_V V c' → V a = kv_A (V k) (rw_v V a_cell (P n) 1) ∧ V f = kv_O (kv_A (V k) (rw_v V a_cell (P n) 0)) (kv_A (kv_A (V r) (V wp)) (rw_v V a_cell (32 + P n) 0)) ∧ V d = kv_A (kv_A (V r) (V wp)) (rw_v V a_cell (32 + P n) 1) ∧ V e = kv_A (V r) (kv_N (V wp))) →
      post (f_wireFalse, f_wireTrue, f_signalBase, f_bootWire, f_registerBase, f_firstGate, f_wireLimit, f_opAnd, f_opOr, f_opNot, f_codes, f_cells, f_resumeBase, f_rootRow, f_endRow, f_stayRow, f_leftRow, f_rightRow, f_inputSignals, f_outputSignals, f_nodeLimit, f_count, f_phaseNow, f_instantCount, f_rejectedCount, nI c'.1, f_logicEnd, a_kindOf, a_argOf, a_firstOf, a_secondOf, a_parentOf, a_activeNode, a_lastStatus, a_inTree, a_trapDepth, a_firstCodes, c'.2.1, c'.2.2.1, c'.2.2.2.1, c'.2.2.2.2, a_cell, a_selWire, upd (upd (upd ks (P n) (nI a)) (Q n) (nI b)) (Q n) (nI f), upd (upd kr (P n) (nI d)) (Q n) (nI e), fz, nx, a_must, a_can)) :
    wpX_keepSeq post (f_wireFalse, f_wireTrue, f_signalBase, f_bootWire, f_registerBase, f_firstGate, f_wireLimit, f_opAnd, f_opOr, f_opNot, f_codes, f_cells, f_resumeBase, f_rootRow, f_endRow, f_stayRow, f_leftRow, f_rightRow, f_inputSignals, f_outputSignals, f_nodeLimit, f_count, f_phaseNow, f_instantCount, f_rejectedCount, nI c.1, f_logicEnd, a_kindOf, a_argOf, a_firstOf, a_secondOf, a_parentOf, a_activeNode, a_lastStatus, a_inTree, a_trapDepth, a_firstCodes, c.2.1, c.2.2.1, c.2.2.2.1, c.2.2.2.2, a_cell, a_selWire, ks, kr, fz, nx, a_must, a_can) (nI n) := by
  have hN := T.1
  have O1 := O.1
  have hp := tr_p T hn (by omega)
  have hq := tr_q T hn (by omega)
  obtain ⟨t1, t2, t3, t4, t5, t6, t7, t8⟩ := hT n hn
  have hi : vp_in (nI n) 32 := vp_in_nI (by omega) (by decide)
  have ip : vp_in (nI (P n)) 32 := vp_in_nI (by omega) (by decide)
  have cn : (nI n).toNatClampNeg = n := nI_clamp (by omega)
  have cp : (nI (P n)).toNatClampNeg = P n := nI_clamp (by omega)
  have pq := hq.2.2
  have np : n ≠ P n := by omega
  have nq : n ≠ Q n := by omega
  obtain ⟨s0, hs0, es0⟩ := RP 0 (by omega)
  obtain ⟨s1, hs1, es1⟩ := RP 1 (by omega)
  obtain ⟨r0, hr0, er0⟩ := RrP 0 (by omega)
  obtain ⟨r1, hr1, er1⟩ := RrP 1 (by omega)
  have g0 : a_cell (nI (P n * 12)).toNatClampNeg = nI s0 := by rw [nI_clamp (by omega)]; exact es0
  have g1 : a_cell (nI (P n * 12) + 1).toNatClampNeg = nI s1 := by rw [show nI (P n * 12) + 1 = nI (P n * 12 + 1) from nI_add _ 1, nI_clamp (by omega)]; exact es1
  have g2 : a_cell (nI ((32 + P n) * 12)).toNatClampNeg = nI r0 := by rw [nI_clamp (by omega)]; exact er0
  have g3 : a_cell (nI ((32 + P n) * 12) + 1).toNatClampNeg = nI r1 := by rw [show nI ((32 + P n) * 12) + 1 = nI ((32 + P n) * 12 + 1) from nI_add _ 1, nI_clamp (by omega)]; exact er1
  refine ⟨hi, ?_⟩
  rw [cn]
  refine nm_r (t3 (by omega)) ⟨hi, nm_r (t5 (by omega)) ?_⟩
  refine nm_r (show nI (P n) * 12 = nI (P n * 12) from pk_mul (P n) 12) (nm_r (show 384 + nI (P n * 12) = nI ((32 + P n) * 12) from (nI_add 384 (P n * 12)).trans (congrArg nI (by omega))) ⟨hi, pk_in (P n * 12 + 1) 828 (by omega) (nI_add _ 1), ?_⟩)
  rw [ek, g1, cp]
  refine xg_and O (by omega) hk hs1 (fun d1 c1 O1' X1 n1 l1 v1 => ⟨hi, vp_in_nI (by omega) (by decide), ?_⟩)
  have X1' := X1.1
  rw [ek, g0]
  refine xg_and O1' (by omega) (by omega) (by omega) (fun d2 c2 O2' X2 n2 l2 v2 => ?_)
  have X2' := X2.1
  refine xk_ps (k := 0) rfl rfl (by omega) zkp O2' (by omega) (by omega) (by omega) (fun d3 c3 O3' X3 n3 l3 v3 => ?_)
  have X3' := X3.1
  refine xk_ps (k := 0) rfl rfl (by omega) (by rw [pk_un (Ne.symm pq)]; exact zkq) O3' (by omega) (by omega) (by omega) (fun d4 c4 O4' X4 n4 l4 v4 => ⟨hi, ip, ?_⟩)
  have X4' := X4.1
  rw [er, ep]
  refine xg_and O4' (by omega) (by omega) (by omega) (fun d5 c5 O5' X5 n5 l5 v5 => ⟨pk_in ((32 + P n) * 12 + 1) 828 (by omega) (nI_add _ 1), ?_⟩)
  have X5' := X5.1
  rw [g3]
  refine xg_and O5' (by omega) (by omega) (by omega) (fun d6 c6 O6' X6 n6 l6 v6 => ⟨vp_in_nI (by omega) (by decide), ?_⟩)
  have X6' := X6.1
  rw [g2]
  refine xg_and O6' (by omega) (by omega) (by omega) (fun d7 c7 O7' X7 n7 l7 v7 => ?_)
  have X7' := X7.1
  refine xk_pr (k := 0) rfl rfl (by omega) zrp O7' (by omega) (by omega) (by omega) (fun d8 c8 O8' X8 n8 l8 v8 => ?_)
  have X8' := X8.1
  refine xk_ps (k := d4) rfl rfl (by omega) pk_us O8' (by omega) (by omega) (by omega) (fun d9 c9 O9' X9 n9 l9 v9 => ⟨ip, ?_⟩)
  have X9' := X9.1
  rw [ep]
  refine xg_inv O9' (by omega) (by omega) (fun da ca Oa' Xa na la va => ⟨hi, ?_⟩)
  have Xa' := Xa.1
  rw [pk_un np, er]
  refine xg_and Oa' (by omega) (by omega) la (fun db cb Ob' Xb nb lb vb => ?_)
  have Xb' := Xb.1
  refine xk_pr (k := 0) rfl rfl (by omega) (by rw [pk_un (Ne.symm pq)]; exact zrq) Ob' (by omega) (by omega) (by omega) (fun de cc Oc' Xc nc lc vc => ?_)
  have Xc' := Xc.1
  refine K cc d3 d4 d8 de d9 Oc' (ck_Xt X1 (ck_Xt X2 (ck_Xt X3 (ck_Xt X4 (ck_Xt X5 (ck_Xt X6 (ck_Xt X7 (ck_Xt X8 (ck_Xt X9 (ck_Xt Xa (ck_Xt Xb Xc))))))))))) (by omega) (by omega) (by omega) (by omega) lc (by omega) (fun V v => ?_)
  have wb := ck_XV Xc v
  have wa := ck_XV Xb wb
  have w9 := ck_XV Xa wa
  have w8 := ck_XV X9 w9
  have w7 := ck_XV X8 w8
  have w6 := ck_XV X7 w7
  have w5 := ck_XV X6 w6
  have w4 := ck_XV X5 w5
  have w3 := ck_XV X4 w4
  have w2 := ck_XV X3 w3
  have w1 := ck_XV X2 w2
  rw [vc V v, vb V wb, va V wa, v9 V w9, v8 V w8, v7 V w7, v6 V w6, v5 V w5, v4 V w4, v3 V w3, v2 V w2, v1 V w1, v.1, kv_O0l, kv_O0l, kv_O0l, kv_O0l,
    rw_v1 (by omega), rw_v1 (by omega), rw_v1 (by omega), rw_v1 (by omega), es0, es1, er0, er1, kp_c O hs0, kp_c O hs1, kp_c O hr0, kp_c O hr1]
  exact ⟨rfl, rfl, rfl, rfl⟩
theorem xk_br {n x k r ws : Nat} {x1 : Int32} (e1 : x1 = nI x) (hn : n < 32) (hx : x < 32) (O : ck_O c) (hB : c.1 + 5 ≤ 4096) (nx' : n ≠ x)
    (hk : k < c.1) (ek : ks n = nI k) (hr : r < c.1) (er : kr n = nI r) (zk : ks x = 0) (zr : kr x = 0) (hws : ws < c.1) (es : a_selWire x = nI ws) (RP : rw_R c a_cell x) (RrP : rw_R c a_cell (32 + x))
    (K : ∀ c' a d, ck_O c' → ck_X c c' → c'.1 ≤ c.1 + 5 → a < c'.1 → d < c'.1 → (∀ V, ck_V V c' → V a = kv_A (V k) (rw_v V a_cell x 1) ∧ V d = kv_A (kv_A (V r) (V ws)) (rw_v V a_cell (32 + x) 1)) →
      post (f_wireFalse, f_wireTrue, f_signalBase, f_bootWire, f_registerBase, f_firstGate, f_wireLimit, f_opAnd, f_opOr, f_opNot, f_codes, f_cells, f_resumeBase, f_rootRow, f_endRow, f_stayRow, f_leftRow, f_rightRow, f_inputSignals, f_outputSignals, f_nodeLimit, f_count, f_phaseNow, f_instantCount, f_rejectedCount, nI c'.1, f_logicEnd, a_kindOf, a_argOf, a_firstOf, a_secondOf, a_parentOf, a_activeNode, a_lastStatus, a_inTree, a_trapDepth, a_firstCodes, c'.2.1, c'.2.2.1, c'.2.2.2.1, c'.2.2.2.2, a_cell, a_selWire, upd ks x (nI a), upd kr x (nI d), fz, nx, a_must, a_can)) :
    wpX_keepBranch post (f_wireFalse, f_wireTrue, f_signalBase, f_bootWire, f_registerBase, f_firstGate, f_wireLimit, f_opAnd, f_opOr, f_opNot, f_codes, f_cells, f_resumeBase, f_rootRow, f_endRow, f_stayRow, f_leftRow, f_rightRow, f_inputSignals, f_outputSignals, f_nodeLimit, f_count, f_phaseNow, f_instantCount, f_rejectedCount, nI c.1, f_logicEnd, a_kindOf, a_argOf, a_firstOf, a_secondOf, a_parentOf, a_activeNode, a_lastStatus, a_inTree, a_trapDepth, a_firstCodes, c.2.1, c.2.2.1, c.2.2.2.1, c.2.2.2.2, a_cell, a_selWire, ks, kr, fz, nx, a_must, a_can) (nI n) x1 := by
  subst e1
  have O1 := O.1
  have hi : vp_in (nI n) 32 := vp_in_nI (by omega) (by decide)
  have ip : vp_in (nI x) 32 := vp_in_nI (by omega) (by decide)
  have cn : (nI n).toNatClampNeg = n := nI_clamp (by omega)
  have cp : (nI x).toNatClampNeg = x := nI_clamp (by omega)
  obtain ⟨s1, hs1, es1⟩ := RP 1 (by omega)
  obtain ⟨r1, hr1, er1⟩ := RrP 1 (by omega)
  have q3 : (384 : Int32) + nI (x * 12) = nI ((32 + x) * 12) := (nI_add 384 (x * 12)).trans (congrArg nI (by omega))
  have g1 : a_cell (nI (x * 12) + 1).toNatClampNeg = nI s1 := by rw [show nI (x * 12) + 1 = nI (x * 12 + 1) from nI_add _ 1, nI_clamp (by omega)]; exact es1
  have g3 : a_cell (384 + nI (x * 12) + 1).toNatClampNeg = nI r1 := by rw [q3, show nI ((32 + x) * 12) + 1 = nI ((32 + x) * 12 + 1) from nI_add _ 1, nI_clamp (by omega)]; exact er1
  refine nm_r (show nI x * 12 = nI (x * 12) from pk_mul x 12) ⟨hi, pk_in (x * 12 + 1) 828 (by omega) (nI_add _ 1), ?_⟩
  rw [cn, ek, g1]
  refine xg_and O (by omega) hk hs1 (fun d1 c1 O1' X1 n1 l1 v1 => ?_)
  have X1' := X1.1
  refine xk_ps (k := 0) rfl rfl (by omega) zk O1' (by omega) (by omega) (by omega) (fun d2 c2 O2' X2 n2 l2 v2 => ⟨hi, ip, ?_⟩)
  have X2' := X2.1
  rw [er, cp, es]
  refine xg_and O2' (by omega) (by omega) (by omega) (fun d3 c3 O3' X3 n3 l3 v3 => ⟨by rw [q3]; exact pk_in ((32 + x) * 12 + 1) 828 (by omega) (nI_add _ 1), ?_⟩)
  have X3' := X3.1
  rw [g3]
  refine xg_and O3' (by omega) (by omega) (by omega) (fun d4 c4 O4' X4 n4 l4 v4 => ?_)
  have X4' := X4.1
  refine xk_pr (k := 0) rfl rfl (by omega) zr O4' (by omega) (by omega) (by omega) (fun d5 c5 O5' X5 n5 l5 v5 => ?_)
  have X5' := X5.1
  refine K c5 d2 d5 O5' (ck_Xt X1 (ck_Xt X2 (ck_Xt X3 (ck_Xt X4 X5)))) (by omega) (by omega) l5 (fun V v => ?_)
  have w4 := ck_XV X5 v
  have w3 := ck_XV X4 w4
  have w2 := ck_XV X3 w3
  have w1 := ck_XV X2 w2
  rw [v5 V v, v4 V w4, v3 V w3, v2 V w2, v1 V w1, v.1, kv_O0l, kv_O0l, rw_v1 (by omega), rw_v1 (by omega), es1, er1, kp_c O hs1, kp_c O hr1]
  exact ⟨rfl, rfl⟩
end
end
section
/-! ===== X: the next state's gates, all nodes ===== -/
section
variable {f_wireFalse f_wireTrue f_signalBase f_bootWire f_registerBase f_firstGate f_wireLimit f_opAnd f_opOr f_opNot f_codes f_cells f_resumeBase f_rootRow f_endRow f_stayRow f_leftRow f_rightRow f_inputSignals f_outputSignals f_nodeLimit f_count f_phaseNow f_instantCount f_rejectedCount f_wireCount f_logicEnd : Int32} {a_kindOf a_argOf a_firstOf a_secondOf a_parentOf a_activeNode a_lastStatus a_inTree a_trapDepth a_firstCodes a_gateOp a_gateA a_gateB a_inverseOf a_cell a_selWire a_keepStart a_keepResume a_frozen a_nextWire : Nat → Int32} {a_must a_can : Nat → Int64}
variable {post : SX → Prop} {c : ck_T} {ks kr fz nx : Nat → Int32} {ni no N : Nat} {κ A P Q U : Nat → Nat}
theorem xk_two (T : tr_F ni no N κ A P Q U) (hio : ni + no ≤ 10) (hT : ln_T N a_kindOf a_argOf a_firstOf a_secondOf a_parentOf κ A P Q U) {n : Nat} (hn : n < N) (k9 : 9 ≤ κ n) (O : ck_O c) (hB : c.1 + 12 ≤ 4096)
    (Wk : kp_W c ks) (Wr : kp_W c kr) (Wf : kp_W c fz) (Wn : kp_W c nx) (zkp : ks (P n) = 0) (zrp : kr (P n) = 0) (zkq : ks (Q n) = 0) (zrq : kr (Q n) = 0) (RP : rw_R c a_cell (P n)) (RQ : rw_R c a_cell (Q n)) (RrP : rw_R c a_cell (32 + P n)) (RrQ : rw_R c a_cell (32 + Q n))
    (sP : ∃ w, w < c.1 ∧ a_selWire (P n) = nI w) (sQ : ∃ w, w < c.1 ∧ a_selWire (Q n) = nI w)
    (K : ∀ c' ks' kr' fz', kp_S κ A P Q a_cell a_selWire n c ks kr fz nx c' ks' kr' fz' nx → post (f_wireFalse, f_wireTrue, f_signalBase, f_bootWire, f_registerBase, f_firstGate, f_wireLimit, f_opAnd, f_opOr, f_opNot, f_codes, f_cells, f_resumeBase, f_rootRow, f_endRow, f_stayRow, f_leftRow, f_rightRow, f_inputSignals, f_outputSignals, f_nodeLimit, f_count, f_phaseNow, f_instantCount, f_rejectedCount, nI c'.1, f_logicEnd, a_kindOf, a_argOf, a_firstOf, a_secondOf, a_parentOf, a_activeNode, a_lastStatus, a_inTree, a_trapDepth, a_firstCodes, c'.2.1, c'.2.2.1, c'.2.2.2.1, c'.2.2.2.2, a_cell, a_selWire, ks', kr', fz', nx, a_must, a_can)) :
    wpX_keepTwo post (f_wireFalse, f_wireTrue, f_signalBase, f_bootWire, f_registerBase, f_firstGate, f_wireLimit, f_opAnd, f_opOr, f_opNot, f_codes, f_cells, f_resumeBase, f_rootRow, f_endRow, f_stayRow, f_leftRow, f_rightRow, f_inputSignals, f_outputSignals, f_nodeLimit, f_count, f_phaseNow, f_instantCount, f_rejectedCount, nI c.1, f_logicEnd, a_kindOf, a_argOf, a_firstOf, a_secondOf, a_parentOf, a_activeNode, a_lastStatus, a_inTree, a_trapDepth, a_firstCodes, c.2.1, c.2.2.1, c.2.2.2.1, c.2.2.2.2, a_cell, a_selWire, ks, kr, fz, nx, a_must, a_can) (nI n) := by
  have hN := T.1
  have hkk := tr_k T hn
  have O1 := O.1
  have hp := tr_p T hn (by omega)
  have hq := tr_q T hn k9
  obtain ⟨t1, t2, t3, t4, t5, t6, t7, t8⟩ := hT n hn
  have hi : vp_in (nI n) 32 := vp_in_nI (by omega) (by decide)
  have ip : vp_in (nI (P n)) 32 := vp_in_nI (by omega) (by decide)
  have iq : vp_in (nI (Q n)) 32 := vp_in_nI (by omega) (by decide)
  have cn : (nI n).toNatClampNeg = n := nI_clamp (by omega)
  have cp : (nI (P n)).toNatClampNeg = P n := nI_clamp (by omega)
  have cq : (nI (Q n)).toNatClampNeg = Q n := nI_clamp (by omega)
  have pq := hq.2.2
  have np : n ≠ P n := by omega
  have nq : n ≠ Q n := by omega
  obtain ⟨k, hk, ek⟩ := Wk n (by omega)
  obtain ⟨r, hr, er⟩ := Wr n (by omega)
  obtain ⟨f, hf, ef⟩ := Wf n (by omega)
  obtain ⟨wp, hwp, ep⟩ := sP
  obtain ⟨wq, hwq, eq⟩ := sQ
  refine ⟨hi, ?_⟩
  rw [cn, t3 (by omega), t5 k9, cp, cq, ef]
  refine nm_r t1 ⟨hi, hi, ip, nm_e ⟨hi, hi, iq, ?_⟩⟩
  rw [pk_un np, ef]
  refine nm_e ?_
  have fz2 := kp_2 (f := fz) (a := nI f) (b := nI f) pq
  have fzn : upd (upd fz (P n) (nI f)) (Q n) (nI f) n = nI f := by rw [fz2.2.2 n np nq, ef]
  have Wf' : ∀ c', c.1 ≤ c'.1 → kp_W c' (upd (upd fz (P n) (nI f)) (Q n) (nI f)) := fun c' X => kp_Wu (kp_Wu (kp_Wx Wf X) (by omega)) (by omega)
  refine pk_eq (κ n) 9 (fun h => ?_) (fun h9 => pk_eq (κ n) 10 (fun h => ?_) (fun h10 => ?_))
  · refine xk_pres T hio hT hn h O hB hk ek hr er zkp zrp zkq zrq hwp ep hwq eq (fun c' a b d e O' X' n' la lb ld le v' => K c' _ _ _ ?_)
    have X1 := X'.1
    have k2 := kp_2 (f := ks) (a := nI a) (b := nI b) pq
    have r2 := kp_2 (f := kr) (a := nI d) (b := nI e) pq
    refine ⟨O', X', n', kp_Wu (kp_Wu (kp_Wx Wk X1) la) lb, kp_Wu (kp_Wu (kp_Wx Wr X1) ld) le, Wf' c' X1, kp_Wx Wn X1, fun m h1 h2 => ?_, fun m _ => rfl, fun V v => ?_⟩
    · have a1 : m ≠ P n := fun z => h1 ⟨by omega, z⟩
      have a2 : m ≠ Q n := fun z => h2 ⟨k9, z⟩
      exact ⟨k2.2.2 m a1 a2, r2.2.2 m a1 a2, fz2.2.2 m a1 a2⟩
    · obtain ⟨va, vb, vd, ve⟩ := v' V v
      refine ⟨fun h => absurd h (by omega), fun h => absurd h (by omega), fun h => absurd h (by omega), fun h => absurd h (by omega), fun _ => ?_, fun h => absurd h (by omega), fun h => absurd h (by omega)⟩
      dsimp only
      rw [k2.1, k2.2.1, k2.2.2 n np nq, r2.1, r2.2.1, r2.2.2 n np nq, fz2.1, fz2.2.1, fzn, ek, er, ep, eq, kp_c O' la, kp_c O' lb, kp_c O' ld, kp_c O' le, kp_c O hk, kp_c O hr, kp_c O hwp, kp_c O hwq, va, vb, vd, ve]
      exact ⟨rfl, rfl, rfl, rfl, rfl, rfl⟩
  · refine xk_seq T hT hn h O hB hk ek hr er zkp zrp zkq zrq hwp ep RP RrP (fun c' a b d e g O' X' n' la lb ld le lg v' => K c' _ _ _ ?_)
    have X1 := X'.1
    have k2 : upd (upd (upd ks (P n) (nI a)) (Q n) (nI b)) (Q n) (nI g) (P n) = nI a ∧ upd (upd (upd ks (P n) (nI a)) (Q n) (nI b)) (Q n) (nI g) (Q n) = nI g ∧ ∀ m, m ≠ P n → m ≠ Q n → upd (upd (upd ks (P n) (nI a)) (Q n) (nI b)) (Q n) (nI g) m = ks m :=
      ⟨by rw [pk_un pq, pk_un pq, pk_us], pk_us, fun m h1 h2 => by rw [pk_un h2, pk_un h2, pk_un h1]⟩
    have r2 := kp_2 (f := kr) (a := nI d) (b := nI e) pq
    refine ⟨O', X', n', kp_Wu (kp_Wu (kp_Wu (kp_Wx Wk X1) la) lb) lg, kp_Wu (kp_Wu (kp_Wx Wr X1) ld) le, Wf' c' X1, kp_Wx Wn X1, fun m h1 h2 => ?_, fun m _ => rfl, fun V v => ?_⟩
    · have a1 : m ≠ P n := fun z => h1 ⟨by omega, z⟩
      have a2 : m ≠ Q n := fun z => h2 ⟨k9, z⟩
      exact ⟨k2.2.2 m a1 a2, r2.2.2 m a1 a2, fz2.2.2 m a1 a2⟩
    · obtain ⟨va, vb, vd, ve⟩ := v' V v
      refine ⟨fun h => absurd h (by omega), fun h => absurd h (by omega), fun h => absurd h (by omega), fun h => absurd h (by omega), fun h => absurd h (by omega), fun _ => ?_, fun h => absurd h (by omega)⟩
      dsimp only
      rw [k2.1, k2.2.1, k2.2.2 n np nq, r2.1, r2.2.1, r2.2.2 n np nq, fz2.1, fz2.2.1, fzn, ek, er, ep, kp_c O' la, kp_c O' lg, kp_c O' ld, kp_c O' le, kp_c O hk, kp_c O hr, kp_c O hwp, va, vb, vd, ve]
      exact ⟨rfl, rfl, rfl, rfl, rfl, rfl⟩
  · have h11 : κ n = 11 := by omega
    refine ⟨hi, ?_⟩
    refine xk_br (x := P n) rfl (by omega) (by omega) O (by omega) np hk ek hr er zkp zrp hwp ep RP RrP (fun c1 a d O1' X1 n1 la ld v1 => ⟨hi, ?_⟩)
    have X1' := X1.1
    rw [t5 k9]
    refine xk_br (x := Q n) rfl (by omega) (by omega) O1' (by omega) nq (show k < c1.1 by omega) (by rw [pk_un np]; exact ek) (show r < c1.1 by omega) (by rw [pk_un np]; exact er) (by rw [pk_un (Ne.symm pq)]; exact zkq) (by rw [pk_un (Ne.symm pq)]; exact zrq) (show wq < c1.1 by omega) eq
      (rw_Rc RQ X1' (fun _ _ => rfl)) (rw_Rc RrQ X1' (fun _ _ => rfl)) (fun c' b e O' X2 n2 lb le v2 => K c' _ _ _ ?_)
    have X2' := X2.1
    have k2 := kp_2 (f := ks) (a := nI a) (b := nI b) pq
    have r2 := kp_2 (f := kr) (a := nI d) (b := nI e) pq
    have la' : a < c'.1 := by omega
    have ld' : d < c'.1 := by omega
    refine ⟨O', ck_Xt X1 X2, by omega, kp_Wu (kp_Wu (kp_Wx Wk (by omega)) la') lb, kp_Wu (kp_Wu (kp_Wx Wr (by omega)) ld') le, Wf' c' (by omega), kp_Wx Wn (by omega), fun m h1 h2 => ?_, fun m _ => rfl, fun V v => ?_⟩
    · have a1 : m ≠ P n := fun z => h1 ⟨by omega, z⟩
      have a2 : m ≠ Q n := fun z => h2 ⟨k9, z⟩
      exact ⟨k2.2.2 m a1 a2, r2.2.2 m a1 a2, fz2.2.2 m a1 a2⟩
    · obtain ⟨va, vd⟩ := v1 V (ck_XV X2 v)
      obtain ⟨vb, ve⟩ := v2 V v
      refine ⟨fun h => absurd h (by omega), fun h => absurd h (by omega), fun h => absurd h (by omega), fun h => absurd h (by omega), fun h => absurd h (by omega), fun h => absurd h (by omega), fun _ => ?_⟩
      dsimp only
      rw [k2.1, k2.2.1, k2.2.2 n np nq, r2.1, r2.2.1, r2.2.2 n np nq, fz2.1, fz2.2.1, fzn, ek, er, ep, eq, kp_c O' la', kp_c O' lb, kp_c O' ld', kp_c O' le, kp_c O hk, kp_c O hr, kp_c O hwp, kp_c O hwq, va, vb, vd, ve]
      exact ⟨rfl, rfl, rfl, rfl, rfl, rfl⟩
end
/-- inTree is the tree of r -/
def kp_T (N : Nat) (U : Nat → Nat) (r : Nat) (it : Nat → Int32) : Prop := ∀ m, m < N → (tr_B N U m r → it m = 1) ∧ (¬ tr_B N U m r → it m = 0)
/-- rows and selections of the tree are wires -/
def kp_R (N : Nat) (U : Nat → Nat) (r : Nat) (c : ck_T) (ce sw : Nat → Int32) : Prop := ∀ m, m < N → tr_B N U m r → rw_R c ce m ∧ rw_R c ce (32 + m) ∧ ∃ w, w < c.1 ∧ sw m = nI w
/-- nodes from n upwards have been dealt with -/
def kp_I (N : Nat) (κ A P Q U : Nat → Nat) (r : Nat) (ce sw : Nat → Int32) (n : Nat) (c : ck_T) (ks kr fz nx : Nat → Int32) : Prop :=
  ck_O c ∧ kp_W c ks ∧ kp_W c kr ∧ kp_W c fz ∧ kp_W c nx ∧ (∀ m, m < N → m ≠ r → ¬ (tr_B N U (U m) r ∧ n ≤ U m ∧ U m < N) → ks m = 0 ∧ kr m = 0) ∧
  (∀ V, ck_V V c → (V (ks r).toNatClampNeg = kv_A (V 12) (rw_v V ce r 1) ∧ V (kr r).toNatClampNeg = kv_A (kv_N (V 12)) (rw_v V ce (32 + r) 1) ∧ V (fz r).toNatClampNeg = kv_0) ∧ ∀ m, n ≤ m → m < N → tr_B N U m r → kp_E κ A P Q V ce sw ks kr fz nx m)
theorem kp_Ec {κ A P Q : Nat → Nat} {V : Nat → kv_T} {ce sw ks kr fz nx ks' kr' fz' nx' : Nat → Int32} {n : Nat} (hn : ks' n = ks n ∧ kr' n = kr n ∧ fz' n = fz n) (hx : nx' n = nx n)
    (hp : 5 ≤ κ n → ks' (P n) = ks (P n) ∧ kr' (P n) = kr (P n) ∧ fz' (P n) = fz (P n)) (hq : 9 ≤ κ n → ks' (Q n) = ks (Q n) ∧ kr' (Q n) = kr (Q n) ∧ fz' (Q n) = fz (Q n))
    (h : kp_E κ A P Q V ce sw ks kr fz nx n) : kp_E κ A P Q V ce sw ks' kr' fz' nx' n := by
  obtain ⟨E1, E5, E6, E8, E9, E10, E11⟩ := h
  refine ⟨fun k => ?_, fun k => ?_, fun k => ?_, fun k => ?_, fun k => ?_, fun k => ?_, fun k => ?_⟩
  · have := E1 k
    dsimp only at this ⊢
    rw [hn.1, hn.2.1, hn.2.2, hx]; exact this
  · have := E5 k
    have p := hp (by omega)
    dsimp only at this ⊢
    rw [hn.1, hn.2.1, hn.2.2, p.1, p.2.1, p.2.2]; exact this
  · have := E6 k
    have p := hp (by omega)
    dsimp only at this ⊢
    rw [hn.1, hn.2.1, hn.2.2, p.1, p.2.1, p.2.2]; exact this
  · have := E8 k
    have p := hp (by omega)
    dsimp only at this ⊢
    rw [hn.1, hn.2.1, hn.2.2, p.1, p.2.1, p.2.2]; exact this
  · have := E9 k
    have p := hp (by omega)
    have q := hq (by omega)
    dsimp only at this ⊢
    rw [hn.1, hn.2.1, hn.2.2, p.1, p.2.1, p.2.2, q.1, q.2.1, q.2.2]; exact this
  · have := E10 k
    have p := hp (by omega)
    have q := hq (by omega)
    dsimp only at this ⊢
    rw [hn.1, hn.2.1, hn.2.2, p.1, p.2.1, p.2.2, q.1, q.2.1, q.2.2]; exact this
  · have := E11 k
    have p := hp (by omega)
    have q := hq (by omega)
    dsimp only at this ⊢
    rw [hn.1, hn.2.1, hn.2.2, p.1, p.2.1, p.2.2, q.1, q.2.1, q.2.2]; exact this
section
variable {ni no N : Nat} {κ A P Q U : Nat → Nat} {r n : Nat} {ce sw ks kr fz nx ks' kr' fz' nx' : Nat → Int32} {c c' : ck_T}
theorem kp_skip (hb : ¬ (n < N ∧ tr_B N U n r)) (I : kp_I N κ A P Q U r ce sw (n + 1) c ks kr fz nx) : kp_I N κ A P Q U r ce sw n c ks kr fz nx := by
  obtain ⟨O, W1, W2, W3, W4, Z, E⟩ := I
  refine ⟨O, W1, W2, W3, W4, fun m hm mr h => Z m hm mr (fun z => h ⟨z.1, by omega, z.2.2⟩), fun V v => ⟨(E V v).1, fun m h1 h2 h3 => ?_⟩⟩
  by_cases e : m = n
  · subst e; exact absurd ⟨h2, h3⟩ hb
  · exact (E V v).2 m (by omega) h2 h3
theorem kp_step (T : tr_F ni no N κ A P Q U) (hn : n < N) (hb : tr_B N U n r) (I : kp_I N κ A P Q U r ce sw (n + 1) c ks kr fz nx) (S : kp_S κ A P Q ce sw n c ks kr fz nx c' ks' kr' fz' nx') : kp_I N κ A P Q U r ce sw n c' ks' kr' fz' nx' := by
  obtain ⟨O, W1, W2, W3, W4, Z, E⟩ := I
  obtain ⟨O', X', _, W1', W2', W3', W4', fr, frx, E'⟩ := S
  have nr := tr_ge T hn hb
  have notc : ∀ m, U m ≠ n → ks' m = ks m ∧ kr' m = kr m ∧ fz' m = fz m := by
    intro m hm
    refine fr m (fun z => hm ?_) (fun z => hm ?_)
    · rw [z.2]; exact (tr_p T hn z.1).2
    · rw [z.2]; exact (tr_q T hn z.1).2.1
  have bigc : ∀ m, n ≤ m → ks' m = ks m ∧ kr' m = kr m ∧ fz' m = fz m := by
    intro m hm
    refine fr m (fun z => ?_) (fun z => ?_)
    · have := tr_p T hn z.1; omega
    · have := tr_q T hn z.1; omega
  refine ⟨O', W1', W2', W3', W4', fun m hm mr h => ?_, fun V v => ?_⟩
  · have um : U m ≠ n := fun z => h ⟨by rw [z]; exact hb, by omega, by omega⟩
    have := notc m um
    rw [this.1, this.2.1]
    exact Z m hm mr (fun z => h ⟨z.1, by omega, z.2.2⟩)
  · have E0 := E V (ck_XV X' v)
    have b := bigc r nr.1
    refine ⟨by rw [b.1, b.2.1, b.2.2]; exact E0.1, fun m h1 h2 h3 => ?_⟩
    by_cases e : m = n
    · subst e; exact E' V v
    · refine kp_Ec (bigc m h1) (frx m e) (fun k => notc _ (by rw [(tr_p T h2 k).2]; exact e)) (fun k => notc _ (by rw [(tr_q T h2 k).2.1]; exact e)) (E0.2 m (by omega) h2 h3)
end
end
section
/-! ===== X: buildNextState ===== -/
section
variable {f_wireFalse f_wireTrue f_signalBase f_bootWire f_registerBase f_firstGate f_wireLimit f_opAnd f_opOr f_opNot f_codes f_cells f_resumeBase f_rootRow f_endRow f_stayRow f_leftRow f_rightRow f_inputSignals f_outputSignals f_nodeLimit f_count f_phaseNow f_instantCount f_rejectedCount f_wireCount f_logicEnd : Int32} {a_kindOf a_argOf a_firstOf a_secondOf a_parentOf a_activeNode a_lastStatus a_inTree a_trapDepth a_firstCodes a_gateOp a_gateA a_gateB a_inverseOf a_cell a_selWire a_keepStart a_keepResume a_frozen a_nextWire : Nat → Int32} {a_must a_can : Nat → Int64}
variable {post : SX → Prop} {c c0 : ck_T} {ks kr fz nx : Nat → Int32} {ni no N : Nat} {κ A P Q U : Nat → Nat} {r : Nat}
theorem xk_all (T : tr_F ni no N κ A P Q U) (hio : ni + no ≤ 10) (hT : ln_T N a_kindOf a_argOf a_firstOf a_secondOf a_parentOf κ A P Q U) (hr : r < N) (hur : ¬ U r < N) (hI : kp_T N U r a_inTree) (hR : kp_R N U r c0 a_cell a_selWire) {B : Nat} (hB : B ≤ 4096)
    (K : ∀ c ks kr fz nx, kp_I N κ A P Q U r a_cell a_selWire 0 c ks kr fz nx → ck_X c0 c → c.1 ≤ B → post (f_wireFalse, f_wireTrue, f_signalBase, f_bootWire, f_registerBase, f_firstGate, f_wireLimit, f_opAnd, f_opOr, f_opNot, f_codes, f_cells, f_resumeBase, f_rootRow, f_endRow, f_stayRow, f_leftRow, f_rightRow, f_inputSignals, f_outputSignals, f_nodeLimit, f_count, f_phaseNow, f_instantCount, f_rejectedCount, nI c.1, f_logicEnd, a_kindOf, a_argOf, a_firstOf, a_secondOf, a_parentOf, a_activeNode, a_lastStatus, a_inTree, a_trapDepth, a_firstCodes, c.2.1, c.2.2.1, c.2.2.2.1, c.2.2.2.2, a_cell, a_selWire, ks, kr, fz, nx, a_must, a_can)) :
    ∀ n c ks kr fz nx m, n ≤ r + 1 → n < m → kp_I N κ A P Q U r a_cell a_selWire n c ks kr fz nx → ck_X c0 c → c.1 + 12 * n ≤ B →
      wX_buildNextState_100 post m (nI n + (-1)) f_wireFalse f_wireTrue f_signalBase f_bootWire f_registerBase f_firstGate f_wireLimit f_opAnd f_opOr f_opNot f_codes f_cells f_resumeBase f_rootRow f_endRow f_stayRow f_leftRow f_rightRow f_inputSignals f_outputSignals f_nodeLimit f_count f_phaseNow f_instantCount f_rejectedCount (nI c.1) f_logicEnd a_kindOf a_argOf a_firstOf a_secondOf a_parentOf a_activeNode a_lastStatus a_inTree a_trapDepth a_firstCodes c.2.1 c.2.2.1 c.2.2.2.1 c.2.2.2.2 a_cell a_selWire ks kr fz nx a_must a_can := by
  have hN := T.1
  intro n
  induction n with
  | zero =>
    intro c ks kr fz nx m hn hm I X hc
    obtain ⟨m, rfl⟩ : ∃ z, m = z + 1 := ⟨m - 1, by omega⟩
    exact br_t (by decide) (K c ks kr fz nx I X (by omega))
  | succ n ih =>
    intro c ks kr fz nx m hn hm I X hc
    obtain ⟨m, rfl⟩ : ∃ z, m = z + 1 := ⟨m - 1, by omega⟩
    have X' := X.1
    rw [pk_m1]
    have hi : vp_in (nI n) 32 := vp_in_nI (by omega) (by decide)
    have cn : (nI n).toNatClampNeg = n := nI_clamp (by omega)
    refine br_f (nI_pos (by omega)) ⟨hi, ?_⟩
    rw [cn]
    by_cases hb : tr_B N U n r
    · rw [(hI n (by omega)).1 hb]
      refine br_f (by decide) ⟨hi, ?_⟩
      have nN : n < N := by omega
      have hk := tr_k T nN
      obtain ⟨t1, t2, t3, t4, t5, t6, t7, t8⟩ := hT n nN
      have I' := I
      obtain ⟨O, W1, W2, W3, W4, Z, E⟩ := I'
      have zc : ∀ x, x < N → U x = n → ks x = 0 ∧ kr x = 0 := fun x hx ux => Z x hx (by intro e; rw [e] at ux; omega) (fun z => by omega)
      refine nm_r t1 (xn_rk hk (fun h => br_f (by decide) ?_) (fun h => br_t rfl ?_))
      · refine xk_reg (A := A) (P := P) (Q := Q) (κ := κ) (by omega) h O (by omega) W1 W2 W3 W4 (fun c' nx' S => nm_e ?_)
        have Sb := S.2.2.1
        exact ih c' ks kr fz nx' m (by omega) (by omega) (kp_step T nN hb I S) (ck_Xt X S.2.1) (by omega)
      · refine pk_lt (κ n) 9 (fun k9 => pk_lt (κ n) 5 (fun k5 => ?_) (fun k5 => ?_)) (fun k9 => ?_)
        · refine nm_e (ih c ks kr fz nx m (by omega) (by omega) (kp_step T nN hb I ⟨O, ck_Xr c, by omega, W1, W2, W3, W4, fun _ _ _ => ⟨rfl, rfl, rfl⟩, fun _ _ => rfl, fun V v => ?_⟩) X (by omega))
          exact ⟨fun z => absurd z h, fun z => absurd z (by omega), fun z => absurd z (by omega), fun z => absurd z (by omega), fun z => absurd z (by omega), fun z => absurd z (by omega), fun z => absurd z (by omega)⟩
        · have hp := tr_p T nN k5
          have z := zc (P n) (by omega) hp.2
          have RP := hR (P n) (by omega) (tr_tr hb (tr_bp T nN k5))
          refine xk_one T hio hT nN k5 k9 O (by omega) W1 W2 W3 W4 z.1 z.2 (rw_Rc RP.2.1 X' (fun _ _ => rfl)) (fun c' ks' kr' fz' S => nm_e ?_)
          have Sb := S.2.2.1
          exact ih c' ks' kr' fz' nx m (by omega) (by omega) (kp_step T nN hb I S) (ck_Xt X S.2.1) (by omega)
        · have hp := tr_p T nN (by omega)
          have hq := tr_q T nN k9
          have z := zc (P n) (by omega) hp.2
          have z2 := zc (Q n) (by omega) hq.2.1
          have RP := hR (P n) (by omega) (tr_tr hb (tr_bp T nN (by omega)))
          have RQ := hR (Q n) (by omega) (tr_tr hb (tr_bq T nN k9))
          refine xk_two T hio hT nN k9 O (by omega) W1 W2 W3 W4 z.1 z.2 z2.1 z2.2 (rw_Rc RP.1 X' (fun _ _ => rfl)) (rw_Rc RQ.1 X' (fun _ _ => rfl)) (rw_Rc RP.2.1 X' (fun _ _ => rfl)) (rw_Rc RQ.2.1 X' (fun _ _ => rfl))
            (by obtain ⟨w, hw, e⟩ := RP.2.2; exact ⟨w, by omega, e⟩) (by obtain ⟨w, hw, e⟩ := RQ.2.2; exact ⟨w, by omega, e⟩) (fun c' ks' kr' fz' S => nm_e ?_)
          have Sb := S.2.2.1
          exact ih c' ks' kr' fz' nx m (by omega) (by omega) (kp_step T nN hb I S) (ck_Xt X S.2.1) (by omega)
    · rw [(hI n (by omega)).2 hb]
      exact br_t rfl (nm_e (ih c ks kr fz nx m (by omega) (by omega) (kp_skip (fun z => hb z.2) I) X (by omega)))
theorem xk_ini (T : tr_F ni no N κ A P Q U) (hio : ni + no ≤ 10) (hT : ln_T N a_kindOf a_argOf a_firstOf a_secondOf a_parentOf κ A P Q U) (hr : r < N) (hur : ¬ U r < N) (hI : kp_T N U r a_inTree) (O : ck_O c0) (hR : kp_R N U r c0 a_cell a_selWire) (hB : c0.1 + 387 ≤ 4096)
    (K : ∀ c ks kr fz nx, kp_I N κ A P Q U r a_cell a_selWire 0 c ks kr fz nx → ck_X c0 c → post (f_wireFalse, f_wireTrue, f_signalBase, f_bootWire, f_registerBase, f_firstGate, f_wireLimit, f_opAnd, f_opOr, f_opNot, f_codes, f_cells, f_resumeBase, f_rootRow, f_endRow, f_stayRow, f_leftRow, f_rightRow, f_inputSignals, f_outputSignals, f_nodeLimit, f_count, f_phaseNow, f_instantCount, f_rejectedCount, nI c.1, f_logicEnd, a_kindOf, a_argOf, a_firstOf, a_secondOf, a_parentOf, a_activeNode, a_lastStatus, a_inTree, a_trapDepth, a_firstCodes, c.2.1, c.2.2.1, c.2.2.2.1, c.2.2.2.2, a_cell, a_selWire, ks, kr, fz, nx, a_must, a_can)) :
    ∀ d n ks kr fz nx m, n + d = 32 → d < m → (∀ j, j < n → ks j = 0 ∧ kr j = 0 ∧ fz j = 0 ∧ nx j = 0) →
      wX_buildNextState_2 post (nI r) f_wireFalse f_wireTrue f_signalBase f_bootWire f_registerBase f_firstGate f_wireLimit f_opAnd f_opOr f_opNot f_codes f_cells f_resumeBase f_rootRow f_endRow f_stayRow f_leftRow f_rightRow f_inputSignals f_outputSignals f_nodeLimit f_count f_phaseNow f_instantCount f_rejectedCount (nI c0.1) f_logicEnd m (nI n) a_kindOf a_argOf a_firstOf a_secondOf a_parentOf a_activeNode a_lastStatus a_inTree a_trapDepth a_firstCodes c0.2.1 c0.2.2.1 c0.2.2.2.1 c0.2.2.2.2 a_cell a_selWire ks kr fz nx a_must a_can := by
  have hN := T.1
  intro d
  induction d with
  | zero =>
    intro n ks kr fz nx m hn hm Z
    obtain ⟨m, rfl⟩ : ∃ z, m = z + 1 := ⟨m - 1, by omega⟩
    rw [show n = 32 by omega] at Z ⊢
    have O1 := O.1
    have R := hR r hr (tr_rf r)
    obtain ⟨s1, hs1, es1⟩ := R.1 1 (by omega)
    obtain ⟨r1, hr1, er1⟩ := R.2.1 1 (by omega)
    have q1 : nI r * 12 + 1 = nI (r * 12 + 1) := (congrArg (fun z => z + (1 : Int32)) (pk_mul r 12)).trans (nI_add _ 1)
    have q2 : (384 : Int32) + nI r * 12 = nI ((32 + r) * 12) := (congrArg (fun z => (384 : Int32) + z) (pk_mul r 12)).trans ((nI_add 384 (r * 12)).trans (congrArg nI (by omega)))
    have q3 : (384 : Int32) + nI r * 12 + 1 = nI ((32 + r) * 12 + 1) := by rw [q2]; exact nI_add _ 1
    have ir : vp_in (nI r) 32 := vp_in_nI (by omega) (by decide)
    have cr : (nI r).toNatClampNeg = r := nI_clamp (by omega)
    refine pk_le 32 32 (fun _ => ?_) (fun h => absurd h (by omega))
    refine xg_inv (a := 12) O (by omega) (by omega) (fun d1 c1 O1' X1 n1 l1 v1 => ⟨by rw [q1]; exact vp_in_nI (by omega) (by decide), ?_⟩)
    have X1' := X1.1
    rw [q1, nI_clamp (show r * 12 + 1 < 2 ^ 31 by omega), es1]
    refine xg_and (a := 12) O1' (by omega) (by omega) (by omega) (fun d2 c2 O2' X2 n2 l2 v2 => ⟨ir, ?_⟩)
    have X2' := X2.1
    rw [cr]
    refine nm_e ⟨by rw [q3]; exact vp_in_nI (by omega) (by decide), ?_⟩
    rw [q3, nI_clamp (show (32 + r) * 12 + 1 < 2 ^ 31 by omega), er1]
    refine xg_and O2' (by omega) (by omega) (by omega) (fun d3 c3 O3' X3 n3 l3 v3 => ⟨ir, nm_e ?_⟩)
    have X3' := X3.1
    refine ⟨r + 2, ?_⟩
    rw [← pk_m1 r]
    have W0 : ∀ f : Nat → Int32, (∀ j, j < 32 → f j = 0) → kp_W c3 f := fun f h j hj => ⟨0, by omega, by rw [h j hj]; rfl⟩
    refine xk_all (c0 := c0) T hio hT hr hur hI hR (B := c0.1 + 387) hB (fun c ks kr fz nx I X _ => K c ks kr fz nx I X) (r + 1) c3 _ _ _ _ (r + 2) (Nat.le_refl _) (by omega) ?_ (ck_Xt X1 (ck_Xt X2 X3)) (by omega)
    refine ⟨O3', kp_Wu (W0 ks (fun j hj => (Z j hj).1)) (by omega), kp_Wu (W0 kr (fun j hj => (Z j hj).2.1)) l3, W0 fz (fun j hj => (Z j hj).2.2.1), W0 nx (fun j hj => (Z j hj).2.2.2), fun m hm mr _ => ?_, fun V v => ⟨⟨?_, ?_, ?_⟩, fun m h1 h2 h3 => ?_⟩⟩
    · have := Z m (by omega)
      exact ⟨by rw [pk_un mr]; exact this.1, by rw [pk_un mr]; exact this.2.1⟩
    · rw [pk_us, kp_c O2' l2, v2 V (ck_XV X3 v), rw_v1 (by omega), es1, kp_c O hs1]
    · rw [pk_us, kp_c O3' l3, v3 V v, v1 V (ck_XV X2 (ck_XV X3 v)), rw_v1 (by omega), er1, kp_c O hr1]
    · rw [(Z r (by omega)).2.2.1]; exact v.1
    · have := tr_ge T h2 h3; omega
  | succ d ih =>
    intro n ks kr fz nx m hn hm Z
    obtain ⟨m, rfl⟩ : ∃ z, m = z + 1 := ⟨m - 1, by omega⟩
    have hi : vp_in (nI n) 32 := vp_in_nI (by omega) (by decide)
    refine pk_le 32 n (fun h => absurd h (by omega)) (fun _ => ⟨hi, ?_⟩)
    rw [nI_clamp (show n < 2 ^ 31 by omega), nI_1 n]
    refine nm_e ⟨hi, nm_e ⟨hi, nm_e ⟨hi, nm_e (nm_e (ih (n + 1) _ _ _ _ m (by omega) (by omega) (fun j hj => ?_)))⟩⟩⟩
    by_cases e : j = n
    · subst e; exact ⟨pk_us, pk_us, pk_us, pk_us⟩
    · rw [pk_un e, pk_un e, pk_un e, pk_un e]; exact Z j (by omega)
theorem xk_next (T : tr_F ni no N κ A P Q U) (hio : ni + no ≤ 10) (hT : ln_T N a_kindOf a_argOf a_firstOf a_secondOf a_parentOf κ A P Q U) (hr : r < N) (hur : ¬ U r < N) (hI : kp_T N U r a_inTree) (O : ck_O c0) (hR : kp_R N U r c0 a_cell a_selWire) (hB : c0.1 + 387 ≤ 4096)
    (K : ∀ c ks kr fz nx, kp_I N κ A P Q U r a_cell a_selWire 0 c ks kr fz nx → ck_X c0 c → post (f_wireFalse, f_wireTrue, f_signalBase, f_bootWire, f_registerBase, f_firstGate, f_wireLimit, f_opAnd, f_opOr, f_opNot, f_codes, f_cells, f_resumeBase, f_rootRow, f_endRow, f_stayRow, f_leftRow, f_rightRow, f_inputSignals, f_outputSignals, f_nodeLimit, f_count, f_phaseNow, f_instantCount, f_rejectedCount, nI c.1, f_logicEnd, a_kindOf, a_argOf, a_firstOf, a_secondOf, a_parentOf, a_activeNode, a_lastStatus, a_inTree, a_trapDepth, a_firstCodes, c.2.1, c.2.2.1, c.2.2.2.1, c.2.2.2.2, a_cell, a_selWire, ks, kr, fz, nx, a_must, a_can)) :
    wpX_buildNextState post (f_wireFalse, f_wireTrue, f_signalBase, f_bootWire, f_registerBase, f_firstGate, f_wireLimit, f_opAnd, f_opOr, f_opNot, f_codes, f_cells, f_resumeBase, f_rootRow, f_endRow, f_stayRow, f_leftRow, f_rightRow, f_inputSignals, f_outputSignals, f_nodeLimit, f_count, f_phaseNow, f_instantCount, f_rejectedCount, nI c0.1, f_logicEnd, a_kindOf, a_argOf, a_firstOf, a_secondOf, a_parentOf, a_activeNode, a_lastStatus, a_inTree, a_trapDepth, a_firstCodes, c0.2.1, c0.2.2.1, c0.2.2.2.1, c0.2.2.2.2, a_cell, a_selWire, a_keepStart, a_keepResume, a_frozen, a_nextWire, a_must, a_can) (nI r) :=
  ⟨33, xk_ini T hio hT hr hur hI O hR hB K 32 0 a_keepStart a_keepResume a_frozen a_nextWire 33 rfl (by omega) (fun j h => absurd h (by omega))⟩
end
end
section
/-! ===== how many gates ===== -/
def ct_n (f : Nat → Bool) : Nat → Nat
  | 0 => 0
  | n + 1 => ct_n f n + (if f n = true then 1 else 0)
theorem ct_le (f : Nat → Bool) : ∀ n, ct_n f n ≤ n := by
  intro n
  induction n with
  | zero => exact Nat.le_refl 0
  | succ n ih => rw [ct_n]; split <;> omega
theorem ct_mo {f g : Nat → Bool} : ∀ n, (∀ m, m < n → f m = true → g m = true) → ct_n f n ≤ ct_n g n := by
  intro n
  induction n with
  | zero => intro _; exact Nat.le_refl 0
  | succ n ih =>
    intro h
    have i := ih (fun m hm => h m (by omega))
    have t := h n (by omega)
    rw [ct_n, ct_n]
    by_cases c : f n = true
    · rw [if_pos c, if_pos (t c)]; omega
    · rw [if_neg c]; split <;> omega
theorem ct_1 {f g : Nat → Bool} {p : Nat} : ∀ n, (∀ m, m < n → f m = true → g m = true) → p < n → f p = false → g p = true → ct_n f n + 1 ≤ ct_n g n := by
  intro n
  induction n with
  | zero => intro _ h; omega
  | succ n ih =>
    intro h hp h1 h2
    rw [ct_n, ct_n]
    by_cases e : p = n
    · subst e
      have := ct_mo p (fun m hm => h m (by omega))
      rw [if_neg (by rw [h1]; exact Bool.false_ne_true), if_pos h2]; omega
    · have i := ih (fun m hm => h m (by omega)) (by omega) h1 h2
      have t := h n (by omega)
      by_cases c : f n = true
      · rw [if_pos c, if_pos (t c)]; omega
      · rw [if_neg c]; split <;> omega
theorem ct_2 {f g : Nat → Bool} {p q n : Nat} (h : ∀ m, m < n → f m = true → g m = true) (hp : p < n) (hq : q < n) (pq : p ≠ q) (f1 : f p = false) (g1 : g p = true) (f2 : f q = false) (g2 : g q = true) : ct_n f n + 2 ≤ ct_n g n := by
  have a : ct_n f n + 1 ≤ ct_n (fun m => if m = p then true else f m) n := by
    refine ct_1 (p := p) n (fun m _ hm => ?_) hp f1 (if_pos rfl)
    show (if m = p then true else f m) = true
    by_cases e : m = p
    · rw [if_pos e]
    · rw [if_neg e]; exact hm
  have b : ct_n (fun m => if m = p then true else f m) n + 1 ≤ ct_n g n := by
    refine ct_1 (p := q) n (fun m hm hf => ?_) hq ?_ g2
    · have hf : (if m = p then true else f m) = true := hf
      by_cases e : m = p
      · rw [e]; exact g1
      · rw [if_neg e] at hf; exact h m hm hf
    · show (if q = p then true else f q) = false
      rw [if_neg (Ne.symm pq)]; exact f2
  omega
def gc_b (κ : Nat → Nat) : Nat → Nat
  | 0 => 0
  | n + 1 => gc_b κ n + (if κ n < 9 then 0 else 1)
def gc_n (κ : Nat → Nat) : Nat → Nat
  | 0 => 45
  | n + 1 => gc_n κ n + (if κ n < 9 then 38 else 148)
theorem gc_e (κ : Nat → Nat) : ∀ n, gc_n κ n = 45 + 38 * n + 110 * gc_b κ n := by
  intro n
  induction n with
  | zero => rfl
  | succ n ih =>
    rw [gc_n, gc_b, ih]
    by_cases c : κ n < 9
    · rw [if_pos c, if_pos c]; omega
    · rw [if_neg c, if_neg c]; omega
theorem gc_2 {ni no N : Nat} {κ A P Q U : Nat → Nat} (T : tr_F ni no N κ A P Q U) : ∀ n, n ≤ N → 2 * gc_b κ n ≤ ct_n (fun m => decide (U m < n ∧ 9 ≤ κ (U m))) N := by
  intro n
  induction n with
  | zero => intro _; exact Nat.zero_le _
  | succ n ih =>
    intro hn
    have i := ih (by omega)
    rw [gc_b]
    have mono : ∀ m, m < N → decide (U m < n ∧ 9 ≤ κ (U m)) = true → decide (U m < n + 1 ∧ 9 ≤ κ (U m)) = true := by
      intro m _ h
      have := of_decide_eq_true h
      exact decide_eq_true (by omega)
    by_cases c : κ n < 9
    · rw [if_pos c]
      have := ct_mo (f := fun m => decide (U m < n ∧ 9 ≤ κ (U m))) (g := fun m => decide (U m < n + 1 ∧ 9 ≤ κ (U m))) N mono
      omega
    · rw [if_neg c]
      have hp := tr_p T (show n < N by omega) (by omega)
      have hq := tr_q T (show n < N by omega) (by omega)
      have := ct_2 (f := fun m => decide (U m < n ∧ 9 ≤ κ (U m))) (g := fun m => decide (U m < n + 1 ∧ 9 ≤ κ (U m))) mono (show P n < N by omega) (show Q n < N by omega) hq.2.2
        (by rw [hp.2]; exact decide_eq_false (by omega)) (by rw [hp.2]; exact decide_eq_true (by omega)) (by rw [hq.2.1]; exact decide_eq_false (by omega)) (by rw [hq.2.1]; exact decide_eq_true (by omega))
      omega
theorem gc_m (κ : Nat → Nat) {n N : Nat} (h : n ≤ N) : gc_n κ n ≤ gc_n κ N := by
  induction N with
  | zero => rw [show n = 0 by omega]; exact Nat.le_refl _
  | succ N ih =>
    by_cases e : n = N + 1
    · rw [e]; exact Nat.le_refl _
    · have := ih (by omega)
      rw [gc_n]; split <;> omega
theorem gc_B {ni no N : Nat} {κ A P Q U : Nat → Nat} (T : tr_F ni no N κ A P Q U) : gc_n κ N ≤ 3021 := by
  have h := gc_2 T N (Nat.le_refl N)
  have l := ct_le (fun m => decide (U m < N ∧ 9 ≤ κ (U m))) N
  have hN := T.1
  rw [gc_e]
  omega
/-! rows depend on the children that there are -/
theorem rc_st_p {κ a ni : Nat} {sg : kv_T} {p p' q q' : Nat → kv_T} (hp : 5 ≤ κ → p = p') (hq : 9 ≤ κ → q = q') : rc_st κ a ni sg p q = rc_st κ a ni sg p' q' := by
  by_cases k9 : 9 ≤ κ
  · rw [hp (by omega), hq k9]
  · by_cases k5 : 5 ≤ κ
    · rw [hp k5]
      unfold rc_st
      rw [if_neg (by omega : ¬ κ = 9), if_neg (by omega : ¬ κ = 9), if_neg (by omega : ¬ κ = 10), if_neg (by omega : ¬ κ = 10), if_neg (by omega : ¬ κ = 11), if_neg (by omega : ¬ κ = 11)]
    · have hh : κ = 0 ∨ κ = 1 ∨ κ = 2 ∨ κ = 3 ∨ κ = 4 := by omega
      rcases hh with k | k | k | k | k <;> subst k <;> rfl
theorem rc_rs_p {κ : Nat} {sg sp sp' sq sq' : kv_T} {p p' q q' rp rp' rq rq' : Nat → kv_T} (hp : 5 ≤ κ → p = p' ∧ rp = rp') (hq : 9 ≤ κ → q = q' ∧ rq = rq' ∧ sp = sp' ∧ sq = sq') : rc_rs κ sg sp sq p q rp rq = rc_rs κ sg sp' sq' p' q' rp' rq' := by
  by_cases k9 : 9 ≤ κ
  · have h1 := hp (by omega)
    have h2 := hq k9
    rw [h1.1, h1.2, h2.1, h2.2.1, h2.2.2.1, h2.2.2.2]
  · by_cases k5 : 5 ≤ κ
    · have h1 := hp k5
      rw [h1.1, h1.2]
      have hh : κ = 5 ∨ κ = 6 ∨ κ = 7 ∨ κ = 8 := by omega
      rcases hh with k | k | k | k <;> subst k <;> rfl
    · have hh : κ = 0 ∨ κ = 1 ∨ κ = 2 ∨ κ = 3 ∨ κ = 4 := by omega
      rcases hh with k | k | k | k | k <;> subst k <;> rfl
theorem rc_sl_p {κ : Nat} {rg sp sp' sq sq' : kv_T} (hp : 5 ≤ κ → sp = sp') (hq : 9 ≤ κ → sq = sq') : rc_sl κ rg sp sq = rc_sl κ rg sp' sq' := by
  unfold rc_sl
  by_cases h : κ = 1 ∨ κ = 4
  · rw [if_pos h, if_pos h]
  · rw [if_neg h, if_neg h]
    by_cases k5 : κ < 5
    · rw [if_pos k5, if_pos k5]
    · rw [if_neg k5, if_neg k5, hp (by omega)]
      by_cases k9 : κ < 9
      · rw [if_pos k9, if_pos k9]
      · rw [if_neg k9, if_neg k9, hq (by omega)]
/-- the equations of a node's rows and selection -/
def bc_q (κ A P Q : Nat → Nat) (ni : Nat) (V : Nat → kv_T) (ce sw : Nat → Int32) (n : Nat) : Prop :=
  rw_v V ce n = rc_st (κ n) (A n) ni (V (2 + A n)) (rw_v V ce (P n)) (rw_v V ce (Q n)) ∧
  rw_v V ce (32 + n) = rc_rs (κ n) (V (2 + A n)) (V (sw (P n)).toNatClampNeg) (V (sw (Q n)).toNatClampNeg) (rw_v V ce (P n)) (rw_v V ce (Q n)) (rw_v V ce (32 + P n)) (rw_v V ce (32 + Q n)) ∧
  V (sw n).toNatClampNeg = rc_sl (κ n) (V (13 + n)) (V (sw (P n)).toNatClampNeg) (V (sw (Q n)).toNatClampNeg)
def bc_I (ni N : Nat) (κ A P Q U : Nat → Nat) (r n : Nat) (c : ck_T) (ce sw : Nat → Int32) : Prop :=
  ck_O c ∧ rw_E c ce ∧ ∀ m, m < n → m < N → tr_B N U m r → (rw_R c ce m ∧ rw_R c ce (32 + m) ∧ ∃ w, w < c.1 ∧ sw m = nI w) ∧ ∀ V, ck_V V c → bc_q κ A P Q ni V ce sw m
section
variable {ni no N : Nat} {κ A P Q U : Nat → Nat} {r n : Nat} {c0 c1 c2 c3 : ck_T} {ce0 ce2 ce3 sw0 sw1 : Nat → Int32}
theorem bc_skip (hb : ¬ (n < N ∧ tr_B N U n r)) (I : bc_I ni N κ A P Q U r n c0 ce0 sw0) : bc_I ni N κ A P Q U r (n + 1) c0 ce0 sw0 :=
  ⟨I.1, I.2.1, fun m h1 h2 h3 => I.2.2 m (by by_cases e : m = n
                                             · subst e; exact absurd ⟨h2, h3⟩ hb
                                             · omega) h2 h3⟩
theorem bc_step (T : tr_F ni no N κ A P Q U) (hn : n < N) (hb : tr_B N U n r) (I : bc_I ni N κ A P Q U r n c0 ce0 sw0) (X1 : ck_X c0 c1) (fs : ∀ m, m ≠ n → sw1 m = sw0 m) (ws : ∃ w, w < c1.1 ∧ sw1 n = nI w)
    (vs : ∀ V, ck_V V c1 → V (sw1 n).toNatClampNeg = rc_sl (κ n) (V (13 + n)) (V (sw0 (P n)).toNatClampNeg) (V (sw0 (Q n)).toNatClampNeg))
    (D : rw_D c1 ce0 n (fun V => rc_st (κ n) (A n) ni (V (2 + A n)) (rw_v V ce0 (P n)) (rw_v V ce0 (Q n))) c2 ce2)
    (M : rw_N c2 ce2 (32 + n) (fun V => rc_rs (κ n) (V (2 + A n)) (V (sw1 (P n)).toNatClampNeg) (V (sw1 (Q n)).toNatClampNeg) (rw_v V ce2 (P n)) (rw_v V ce2 (Q n)) (rw_v V ce2 (32 + P n)) (rw_v V ce2 (32 + Q n))) c3 ce3) :
    bc_I ni N κ A P Q U r (n + 1) c3 ce3 sw1 := by
  have hN := T.1
  obtain ⟨O0, E0, H⟩ := I
  have x1 := X1.1
  have x2 := D.2.1.1
  have x3 := M.2.1.1
  have fr2 : ∀ a, a < 69 → a ≠ n → ∀ k, k < 12 → ce2 (a * 12 + k) = ce0 (a * 12 + k) := fun a _ h k hk => D.2.2.1 _ (rw_nb h hk)
  have fr3 : ∀ a, a < 67 → a ≠ 32 + n → ∀ k, k < 12 → ce3 (a * 12 + k) = ce2 (a * 12 + k) := fun a ha h k hk => M.2.2.1 a (by omega) h (by omega) (by omega) k hk
  have fr : ∀ a, a < 67 → a ≠ n → a ≠ 32 + n → ∀ k, k < 12 → ce3 (a * 12 + k) = ce0 (a * 12 + k) := fun a ha h1 h2 k hk => by rw [fr3 a ha h2 k hk]; exact fr2 a (by omega) h1 k hk
  have X03 : ck_X c0 c3 := ck_Xt X1 (ck_Xt D.2.1 M.2.1)
  refine ⟨M.1, ⟨rw_Rc E0.1 (by omega) (fr 65 (by omega) (by omega) (by omega)), rw_Rc E0.2.1 (by omega) (fr 66 (by omega) (by omega) (by omega)), fun V v => ?_⟩, fun m h1 h2 h3 => ?_⟩
  · rw [rw_vc (fr 65 (by omega) (by omega) (by omega)), rw_vc (fr 66 (by omega) (by omega) (by omega))]
    exact E0.2.2 V (ck_XV X03 v)
  by_cases e : m = n
  · subst e
    obtain ⟨w, hw, ew⟩ := ws
    refine ⟨⟨rw_Rc D.2.2.2.1 (by omega) (fr3 m (by omega) (by omega)), M.2.2.2.1, ⟨w, by omega, ew⟩⟩, fun V v => ?_⟩
    have v2 := ck_XV M.2.1 v
    have v1 := ck_XV D.2.1 v2
    have d : rw_v V ce2 m = rc_st (κ m) (A m) ni (V (2 + A m)) (rw_v V ce0 (P m)) (rw_v V ce0 (Q m)) := D.2.2.2.2 V v2
    have mm : rw_v V ce3 (32 + m) = rc_rs (κ m) (V (2 + A m)) (V (sw1 (P m)).toNatClampNeg) (V (sw1 (Q m)).toNatClampNeg) (rw_v V ce2 (P m)) (rw_v V ce2 (Q m)) (rw_v V ce2 (32 + P m)) (rw_v V ce2 (32 + Q m)) := M.2.2.2.2 V v
    refine ⟨?_, ?_, ?_⟩
    · rw [rw_vc (fr3 m (by omega) (by omega)), d]
      refine rc_st_p (fun k => ?_) (fun k => ?_)
      · have := tr_p T hn k; exact (rw_vc (fr (P m) (by omega) (by omega) (by omega))).symm
      · have := tr_q T hn k; exact (rw_vc (fr (Q m) (by omega) (by omega) (by omega))).symm
    · rw [mm]
      refine rc_rs_p (fun k => ?_) (fun k => ?_)
      · have := tr_p T hn k
        exact ⟨(rw_vc (fr3 (P m) (by omega) (by omega))).symm, (rw_vc (fr3 (32 + P m) (by omega) (by omega))).symm⟩
      · have := tr_q T hn k
        exact ⟨(rw_vc (fr3 (Q m) (by omega) (by omega))).symm, (rw_vc (fr3 (32 + Q m) (by omega) (by omega))).symm, rfl, rfl⟩
    · rw [vs V v1]
      refine rc_sl_p (fun k => ?_) (fun k => ?_)
      · have := tr_p T hn k; rw [fs (P m) (by omega)]
      · have := tr_q T hn k; rw [fs (Q m) (by omega)]
  · obtain ⟨⟨R1, R2, w, hw, ew⟩, q⟩ := H m (by omega) h2 h3
    refine ⟨⟨rw_Rc R1 (by omega) (fr m (by omega) (by omega) (by omega)), rw_Rc R2 (by omega) (fr (32 + m) (by omega) (by omega) (by omega)), w, by omega, by rw [fs m e]; exact ew⟩, fun V v => ?_⟩
    obtain ⟨q1, q2, q3⟩ := q V (ck_XV X03 v)
    have aP : 5 ≤ κ m → rw_v V ce0 (P m) = rw_v V ce3 (P m) ∧ rw_v V ce0 (32 + P m) = rw_v V ce3 (32 + P m) ∧ sw0 (P m) = sw1 (P m) := by
      intro k
      have := tr_p T h2 k
      exact ⟨(rw_vc (fr (P m) (by omega) (by omega) (by omega))).symm, (rw_vc (fr (32 + P m) (by omega) (by omega) (by omega))).symm, (fs (P m) (by omega)).symm⟩
    have aQ : 9 ≤ κ m → rw_v V ce0 (Q m) = rw_v V ce3 (Q m) ∧ rw_v V ce0 (32 + Q m) = rw_v V ce3 (32 + Q m) ∧ sw0 (Q m) = sw1 (Q m) := by
      intro k
      have := tr_q T h2 k
      exact ⟨(rw_vc (fr (Q m) (by omega) (by omega) (by omega))).symm, (rw_vc (fr (32 + Q m) (by omega) (by omega) (by omega))).symm, (fs (Q m) (by omega)).symm⟩
    refine ⟨?_, ?_, ?_⟩
    · rw [rw_vc (fr m (by omega) (by omega) (by omega)), q1]
      exact rc_st_p (fun k => (aP k).1) (fun k => (aQ k).1)
    · rw [rw_vc (fr (32 + m) (by omega) (by omega) (by omega)), q2]
      exact rc_rs_p (fun k => ⟨(aP k).1, (aP k).2.1⟩) (fun k => ⟨(aQ k).1, (aQ k).2.1, by rw [(aP (by omega)).2.2], by rw [(aQ k).2.2]⟩)
    · rw [fs m e, q3]
      exact rc_sl_p (fun k => by rw [(aP k).2.2]) (fun k => by rw [(aQ k).2.2])
end
end
section
/-! ===== X: buildCircuit ===== -/
/-- what the compiled circuit says -/
def cp_F (ni N : Nat) (κ A P Q U : Nat → Nat) (r wc lE : Nat) (go ga gb ce sw nx : Nat → Int32) : Prop :=
  45 ≤ lE ∧ lE ≤ wc ∧ wc ≤ 4096 ∧ ck_A wc ga gb ∧ (∀ k, k < 12 → ∃ w, w < lE ∧ sf_w w ∧ ce (64 * 12 + k) = nI w) ∧ (∀ m, m < 32 → ∃ w, w < wc ∧ nx m = nI w) ∧
  (∀ V, ck_S V lE go ga gb → (∀ m, m < N → tr_B N U m r → bc_q κ A P Q ni V ce sw m) ∧ rw_v V ce 64 = rc_mx (V 12) (rw_v V ce r) (rw_v V ce (32 + r))) ∧
  (∀ V, ck_S V wc go ga gb → ∃ KS KR FZ : Nat → kv_T, KS r = kv_A (V 12) (rw_v V ce r 1) ∧ KR r = kv_A (kv_N (V 12)) (rw_v V ce (32 + r) 1) ∧ FZ r = kv_0 ∧
    ∀ m, m < N → tr_B N U m r → ns_E κ A P Q (fun m => rw_v V ce m) (fun m => rw_v V ce (32 + m)) (fun m => V (sw m).toNatClampNeg) (fun s => V (2 + s)) (fun m => V (13 + m)) KS KR FZ (fun m => V (nx m).toNatClampNeg) m)
section
variable {f_wireFalse f_wireTrue f_signalBase f_bootWire f_registerBase f_firstGate f_wireLimit f_opAnd f_opOr f_opNot f_codes f_cells f_resumeBase f_rootRow f_endRow f_stayRow f_leftRow f_rightRow f_inputSignals f_outputSignals f_nodeLimit f_count f_phaseNow f_instantCount f_rejectedCount f_wireCount f_logicEnd : Int32} {a_kindOf a_argOf a_firstOf a_secondOf a_parentOf a_activeNode a_lastStatus a_inTree a_trapDepth a_firstCodes a_gateOp a_gateA a_gateB a_inverseOf a_cell a_selWire a_keepStart a_keepResume a_frozen a_nextWire : Nat → Int32} {a_must a_can : Nat → Int64}
variable {post : SX → Prop} {ni no N : Nat} {κ A P Q U : Nat → Nat} {r : Nat}
theorem xb_61 (T : tr_F ni no N κ A P Q U) (hni : ni ≤ 4) (hno : no ≤ 6) (hT : ln_T N a_kindOf a_argOf a_firstOf a_secondOf a_parentOf κ A P Q U) (hr : r < N) (hur : ¬ U r < N) (hI : kp_T N U r a_inTree)
    (K : ∀ (c : ck_T) (lE : Nat) (ce sw ks kr fz nx : Nat → Int32), cp_F ni N κ A P Q U r c.1 lE c.2.1 c.2.2.1 c.2.2.2.1 ce sw nx → post (f_wireFalse, f_wireTrue, f_signalBase, f_bootWire, f_registerBase, f_firstGate, f_wireLimit, f_opAnd, f_opOr, f_opNot, f_codes, f_cells, f_resumeBase, f_rootRow, f_endRow, f_stayRow, f_leftRow, f_rightRow, nI ni, f_outputSignals, f_nodeLimit, nI N, f_phaseNow, f_instantCount, f_rejectedCount, nI c.1, nI lE, a_kindOf, a_argOf, a_firstOf, a_secondOf, a_parentOf, a_activeNode, a_lastStatus, a_inTree, a_trapDepth, a_firstCodes, c.2.1, c.2.2.1, c.2.2.2.1, c.2.2.2.2, ce, sw, ks, kr, fz, nx, a_must, a_can)) :
    ∀ d n c ce sw m, n + d = N → d < m → bc_I ni N κ A P Q U r n c ce sw → c.1 ≤ gc_n κ n →
      wX_buildCircuit_61 post (nI r) m (nI n) f_wireFalse f_wireTrue f_signalBase f_bootWire f_registerBase f_firstGate f_wireLimit f_opAnd f_opOr f_opNot f_codes f_cells f_resumeBase f_rootRow f_endRow f_stayRow f_leftRow f_rightRow (nI ni) f_outputSignals f_nodeLimit (nI N) f_phaseNow f_instantCount f_rejectedCount (nI c.1) f_logicEnd a_kindOf a_argOf a_firstOf a_secondOf a_parentOf a_activeNode a_lastStatus a_inTree a_trapDepth a_firstCodes c.2.1 c.2.2.1 c.2.2.2.1 c.2.2.2.2 ce sw a_keepStart a_keepResume a_frozen a_nextWire a_must a_can := by
  have hN := T.1
  have hG := gc_B T
  intro d
  induction d with
  | zero =>
    intro n c ce sw m hn hm I hc
    obtain ⟨m, rfl⟩ : ∃ z, m = z + 1 := ⟨m - 1, by omega⟩
    rw [show n = N by omega] at I hc ⊢
    obtain ⟨O, E, H⟩ := I
    have O1 := O.1
    have Hr := (H r hr hr (tr_rf r)).1
    refine pk_le N N (fun _ => ?_) (fun h => absurd h (by omega))
    refine nm_r (show nI r * 12 = nI (r * 12) from pk_mul r 12) (nm_r (show 384 + nI (r * 12) = nI ((32 + r) * 12) from (nI_add 384 (r * 12)).trans (congrArg nI (by omega))) ?_)
    refine xr_muxS (ρ := 64) (cd := 12) (a := r) (b := 32 + r) rfl rfl rfl rfl (by omega) (by omega) (by omega) (by omega) (by omega) O Hr.1 Hr.2.1 (by omega) (by omega) (by omega) (by omega) (fun c1 ce1 D hc1 SF => ?_)
    have X1 := D.2.1.1
    have fr : ∀ a, a < 64 → ∀ k, k < 12 → ce1 (a * 12 + k) = ce (a * 12 + k) := fun a ha k hk => D.2.2.1 _ (rw_nb (by omega) hk)
    have R1 : kp_R N U r c1 ce1 sw := fun m hm hb => by
      have := (H m hm hm hb).1
      obtain ⟨w, hw, ew⟩ := this.2.2
      exact ⟨rw_Rc this.1 X1 (fr m (by omega)), rw_Rc this.2.1 X1 (fr (32 + m) (by omega)), w, by omega, ew⟩
    refine xk_next T (by omega) hT hr hur hI D.1 R1 (by omega) (fun c2 ks kr fz nx I2 X2 => K c2 c1.1 ce1 sw ks kr fz nx ?_)
    obtain ⟨O2, W1, W2, W3, W4, _, E2⟩ := I2
    refine ⟨D.1.1, X2.1, O2.2.1, O2.2.2.1, fun k hk => ?_, W4, fun V v => ?_, fun V v => ?_⟩
    · obtain ⟨w, hw, e⟩ := D.2.2.2.1 k hk
      obtain ⟨w2, w4, sw2, e2⟩ := SF k hk
      have := D.1.2.1
      refine ⟨w, hw, ?_, e⟩
      have q : nI w2 = nI w := e2.symm.trans e
      have q2 : w2 = w := (nI_eq (by omega) (by omega)).mp q
      rw [← q2]; exact sw2
    · have v1 : ck_V V c1 := ck_Sm (Nat.le_refl _) X2.2 v
      have v0 := ck_XV D.2.1 v1
      refine ⟨fun m hm hb => ?_, ?_⟩
      · obtain ⟨q1, q2, q3⟩ := (H m hm hm hb).2 V v0
        refine ⟨?_, ?_, q3⟩
        · rw [rw_vc (fr m (by omega)), q1]
          exact rc_st_p (fun k => by have := tr_p T hm k; exact (rw_vc (fr (P m) (by omega))).symm) (fun k => by have := tr_q T hm k; exact (rw_vc (fr (Q m) (by omega))).symm)
        · rw [rw_vc (fr (32 + m) (by omega)), q2]
          exact rc_rs_p (fun k => by have := tr_p T hm k; exact ⟨(rw_vc (fr (P m) (by omega))).symm, (rw_vc (fr (32 + P m) (by omega))).symm⟩) (fun k => by have := tr_q T hm k; exact ⟨(rw_vc (fr (Q m) (by omega))).symm, (rw_vc (fr (32 + Q m) (by omega))).symm, rfl, rfl⟩)
      · have d := D.2.2.2.2 V v1
        rw [d, rw_vc (fr r (by omega)), rw_vc (fr (32 + r) (by omega))]
    · obtain ⟨e1, e2⟩ := E2 V v
      exact ⟨fun m => V (ks m).toNatClampNeg, fun m => V (kr m).toNatClampNeg, fun m => V (fz m).toNatClampNeg, e1.1, e1.2.1, e1.2.2, fun m hm hb => e2 m (Nat.zero_le m) hm hb⟩
  | succ d ih =>
    intro n c ce sw m hn hm I hc
    obtain ⟨m, rfl⟩ : ∃ z, m = z + 1 := ⟨m - 1, by omega⟩
    have nN : n < N := by omega
    have hi : vp_in (nI n) 32 := vp_in_nI (by omega) (by decide)
    have gm := gc_m κ (show n + 1 ≤ N by omega)
    rw [gc_n] at gm
    refine pk_le N n (fun h => absurd h (by omega)) (fun _ => ⟨hi, ?_⟩)
    rw [nI_clamp (show n < 2 ^ 31 by omega)]
    by_cases hb : tr_B N U n r
    · rw [(hI n nN).1 hb]
      refine br_f (by decide) ?_
      have I' := I
      obtain ⟨O, E, H⟩ := I'
      have hP : 5 ≤ κ n → (rw_R c ce (P n) ∧ rw_R c ce (32 + P n) ∧ ∃ w, w < c.1 ∧ sw (P n) = nI w) := fun k => by
        have := tr_p T nN k; exact (H (P n) this.1 (by omega) (tr_tr hb (tr_bp T nN k))).1
      have hQ : 9 ≤ κ n → (rw_R c ce (Q n) ∧ rw_R c ce (32 + Q n) ∧ ∃ w, w < c.1 ∧ sw (Q n) = nI w) := fun k => by
        have := tr_q T nN k; exact (H (Q n) this.1 (by omega) (tr_tr hb (tr_bq T nN k))).1
      have b38 : (if κ n < 9 then 38 else 148) ≤ 148 := by split <;> omega
      refine xn_sel T hT nN O (by omega) (fun k => (hP k).2.2) (fun k => (hQ k).2.2) (fun c1 sw1 O1 X1 n1 fs ws vs => ?_)
      have x1 := X1.1
      have bs : c1.1 ≤ c.1 + 1 := by split at n1 <;> omega
      have E1 : rw_E c1 ce := ⟨rw_Rc E.1 x1 (fun _ _ => rfl), rw_Rc E.2.1 x1 (fun _ _ => rfl), fun V v => E.2.2 V (ck_XV X1 v)⟩
      refine xn_start T hni hno hT nN O1 (by omega) E1 (fun k => rw_Rc (hP k).1 x1 (fun _ _ => rfl)) (fun k => rw_Rc (hQ k).1 x1 (fun _ _ => rfl)) (fun c2 ce2 D n2 => ?_)
      have x2 := D.2.1.1
      have bs2 : c2.1 ≤ c1.1 + 37 := by split at n2 <;> omega
      have fr2 : ∀ a, a < 69 → a ≠ n → ∀ k, k < 12 → ce2 (a * 12 + k) = ce (a * 12 + k) := fun a _ h k hk => D.2.2.1 _ (rw_nb h hk)
      have E2 : rw_E c2 ce2 := ⟨rw_Rc E1.1 x2 (fr2 65 (by omega) (by omega)), rw_Rc E1.2.1 x2 (fr2 66 (by omega) (by omega)), fun V v => by
        rw [rw_vc (fr2 65 (by omega) (by omega)), rw_vc (fr2 66 (by omega) (by omega))]; exact E1.2.2 V (ck_XV D.2.1 v)⟩
      have ss : ∀ p, p ≠ n → (∃ w, w < c.1 ∧ sw p = nI w) → ∃ w, w < c2.1 ∧ sw1 p = nI w := fun p hp ⟨w, hw, e⟩ => ⟨w, by omega, by rw [fs p hp]; exact e⟩
      refine xn_res T (by omega) hT nN D.1 (by omega) E2
        (fun k => by have := tr_p T nN k; exact rw_Rc (hP k).1 (by omega) (fr2 (P n) (by omega) (by omega)))
        (fun k => by have := tr_q T nN k; exact rw_Rc (hQ k).1 (by omega) (fr2 (Q n) (by omega) (by omega)))
        (fun k => by have := tr_p T nN k; exact rw_Rc (hP k).2.1 (by omega) (fr2 (32 + P n) (by omega) (by omega)))
        (fun k => by have := tr_q T nN k; exact rw_Rc (hQ k).2.1 (by omega) (fr2 (32 + Q n) (by omega) (by omega)))
        (fun k => by have := tr_p T nN (by omega); exact ss (P n) (by omega) (hP (by omega)).2.2)
        (fun k => by have := tr_q T nN k; exact ss (Q n) (by omega) (hQ k).2.2) (fun c3 ce3 M n3 => ?_)
      refine nm_r (nI_1 n) (ih (n + 1) c3 ce3 sw1 m (by omega) (by omega) (bc_step T nN hb I X1 fs ws vs D M) ?_)
      rw [gc_n]
      by_cases k9 : κ n < 9
      · rw [if_pos k9] at n1 n2 n3 ⊢; omega
      · rw [if_neg k9] at n1 n2 n3 ⊢; omega
    · rw [(hI n nN).2 hb]
      refine br_t rfl (nm_r (nI_1 n) (ih (n + 1) c ce sw m (by omega) (by omega) (bc_skip (fun z => hb z.2) I) ?_))
      rw [gc_n]; omega
theorem xb_8 (T : tr_F ni no N κ A P Q U) (hni : ni ≤ 4) (hno : no ≤ 6) (hT : ln_T N a_kindOf a_argOf a_firstOf a_secondOf a_parentOf κ A P Q U) (hr : r < N) (hur : ¬ U r < N) (hI : kp_T N U r a_inTree)
    (K : ∀ (c : ck_T) (lE : Nat) (ce sw ks kr fz nx : Nat → Int32), cp_F ni N κ A P Q U r c.1 lE c.2.1 c.2.2.1 c.2.2.2.1 ce sw nx → post (f_wireFalse, f_wireTrue, f_signalBase, f_bootWire, f_registerBase, f_firstGate, f_wireLimit, f_opAnd, f_opOr, f_opNot, f_codes, f_cells, f_resumeBase, f_rootRow, f_endRow, f_stayRow, f_leftRow, f_rightRow, nI ni, f_outputSignals, f_nodeLimit, nI N, f_phaseNow, f_instantCount, f_rejectedCount, nI c.1, nI lE, a_kindOf, a_argOf, a_firstOf, a_secondOf, a_parentOf, a_activeNode, a_lastStatus, a_inTree, a_trapDepth, a_firstCodes, c.2.1, c.2.2.1, c.2.2.2.1, c.2.2.2.2, ce, sw, ks, kr, fz, nx, a_must, a_can)) :
    ∀ d n iv m, n + d = 45 → d < m → (∀ j, j < n → iv j = 0) →
      wX_buildCircuit_8 post (nI r) f_wireFalse f_wireTrue f_signalBase f_bootWire f_registerBase f_firstGate f_wireLimit f_opAnd f_opOr f_opNot f_codes f_cells f_resumeBase f_rootRow f_endRow f_stayRow f_leftRow f_rightRow (nI ni) f_outputSignals f_nodeLimit (nI N) f_phaseNow f_instantCount f_rejectedCount 45 f_logicEnd m (nI n) a_kindOf a_argOf a_firstOf a_secondOf a_parentOf a_activeNode a_lastStatus a_inTree a_trapDepth a_firstCodes a_gateOp a_gateA a_gateB iv a_cell a_selWire a_keepStart a_keepResume a_frozen a_nextWire a_must a_can := by
  have hN := T.1
  intro d
  induction d with
  | zero =>
    intro n iv m hn hm Z
    obtain ⟨m, rfl⟩ : ∃ z, m = z + 1 := ⟨m - 1, by omega⟩
    rw [show n = 45 by omega] at Z ⊢
    refine pk_le 45 45 (fun _ => ?_) (fun h => absurd h (by omega))
    have O : ck_O (45, a_gateOp, a_gateA, a_gateB, iv) := ⟨Nat.le_refl _, (by decide : 45 ≤ 4096), fun w h1 h2 => absurd h2 (by show ¬ w < 45; omega), fun w hw => Or.inl (Z w hw)⟩
    refine xr_blank (ρ := 65) rfl (by omega) (fun ce1 B1 => nm_e ?_)
    have D1 := rw_Dset (j := 0) (w := 1) (rw_BkD B1 O) (by omega) (by show 1 < 45; omega)
    refine xr_blank (ρ := 66) rfl (by omega) (fun ce3 B2 => nm_e ?_)
    have D2 := rw_Dset (j := 1) (w := 1) (rw_BkD B2 O) (by omega) (by show 1 < 45; omega)
    refine ⟨N + 1, xb_61 T hni hno hT hr hur hI K N 0 (45, a_gateOp, a_gateA, a_gateB, iv) _ _ (N + 1) (by omega) (by omega) ⟨O, ?_, fun m h => absurd h (by omega)⟩ (Nat.le_refl _)⟩
    have fr : ∀ k, k < 12 → upd ce3 (66 * 12 + 1) (nI 1) (65 * 12 + k) = upd ce1 (65 * 12 + 0) (nI 1) (65 * 12 + k) := fun k hk => D2.2.2.1 _ (by omega)
    refine ⟨rw_Rc D1.2.2.2.1 (Nat.le_refl _) fr, D2.2.2.2.1, fun V v => ⟨?_, ?_⟩⟩
    · have q := D1.2.2.2.2 V v
      refine (rw_vc fr).trans (q.trans ?_)
      funext k
      show (if k = 0 then V 1 else kv_0) = if k = 0 then kv_1 else kv_0
      rw [v.2.1]
    · have q := D2.2.2.2.2 V v
      refine q.trans ?_
      funext k
      show (if k = 1 then V 1 else kv_0) = if k = 1 then kv_1 else kv_0
      rw [v.2.1]
  | succ d ih =>
    intro n iv m hn hm Z
    obtain ⟨m, rfl⟩ : ∃ z, m = z + 1 := ⟨m - 1, by omega⟩
    refine pk_le 45 n (fun h => absurd h (by omega)) (fun _ => ⟨vp_in_nI (by omega) (by decide), ?_⟩)
    rw [nI_clamp (show n < 2 ^ 31 by omega), nI_1 n]
    refine nm_e (nm_e (ih (n + 1) _ m (by omega) (by omega) (fun j hj => ?_)))
    by_cases e : j = n
    · subst e; exact pk_us
    · rw [pk_un e]; exact Z j (by omega)
theorem xb_all (T : tr_F ni no N κ A P Q U) (hni : ni ≤ 4) (hno : no ≤ 6) (hT : ln_T N a_kindOf a_argOf a_firstOf a_secondOf a_parentOf κ A P Q U) (hr : r < N) (hur : ¬ U r < N) (hI : kp_T N U r a_inTree)
    (K : ∀ (c : ck_T) (lE : Nat) (ce sw ks kr fz nx : Nat → Int32), cp_F ni N κ A P Q U r c.1 lE c.2.1 c.2.2.1 c.2.2.2.1 ce sw nx → post (f_wireFalse, f_wireTrue, f_signalBase, f_bootWire, f_registerBase, f_firstGate, f_wireLimit, f_opAnd, f_opOr, f_opNot, f_codes, f_cells, f_resumeBase, f_rootRow, f_endRow, f_stayRow, f_leftRow, f_rightRow, nI ni, f_outputSignals, f_nodeLimit, nI N, f_phaseNow, f_instantCount, f_rejectedCount, nI c.1, nI lE, a_kindOf, a_argOf, a_firstOf, a_secondOf, a_parentOf, a_activeNode, a_lastStatus, a_inTree, a_trapDepth, a_firstCodes, c.2.1, c.2.2.1, c.2.2.2.1, c.2.2.2.2, ce, sw, ks, kr, fz, nx, a_must, a_can)) :
    wpX_buildCircuit post (f_wireFalse, f_wireTrue, f_signalBase, f_bootWire, f_registerBase, f_firstGate, f_wireLimit, f_opAnd, f_opOr, f_opNot, f_codes, f_cells, f_resumeBase, f_rootRow, f_endRow, f_stayRow, f_leftRow, f_rightRow, nI ni, f_outputSignals, f_nodeLimit, nI N, f_phaseNow, f_instantCount, f_rejectedCount, f_wireCount, f_logicEnd, a_kindOf, a_argOf, a_firstOf, a_secondOf, a_parentOf, a_activeNode, a_lastStatus, a_inTree, a_trapDepth, a_firstCodes, a_gateOp, a_gateA, a_gateB, a_inverseOf, a_cell, a_selWire, a_keepStart, a_keepResume, a_frozen, a_nextWire, a_must, a_can) (nI r) :=
  ⟨46, xb_8 T hni hno hT hr hur hI K 45 0 a_inverseOf 46 rfl (by omega) (fun j h => absurd h (by omega))⟩
end
end
section
/-! ===== trap depths; X: markTree, hasLooseExit ===== -/
noncomputable def dp_f (N : Nat) (κ U : Nat → Nat) (m x : Nat) : Bool := decide (κ x = 6) && pb_P (tr_B N U m x ∧ x ≠ m)
/-- the traps above m -/
noncomputable def dp_n (N : Nat) (κ U : Nat → Nat) (m : Nat) : Nat := ct_n (dp_f N κ U m) N
theorem ct_eq {f g : Nat → Bool} : ∀ n, (∀ m, m < n → f m = g m) → ct_n f n = ct_n g n := by
  intro n
  induction n with
  | zero => intro _; rfl
  | succ n ih =>
    intro h
    rw [ct_n, ct_n, ih (fun m hm => h m (by omega)), h n (by omega)]
theorem ct_pt {f g : Nat → Bool} {p : Nat} : ∀ n, (∀ m, m < n → m ≠ p → f m = g m) → p < n → f p = false → ct_n g n = ct_n f n + (if g p = true then 1 else 0) := by
  intro n
  induction n with
  | zero => intro _ h; omega
  | succ n ih =>
    intro h hp h1
    rw [ct_n, ct_n]
    by_cases e : p = n
    · subst e
      rw [ct_eq (f := g) (g := f) p (fun m hm => (h m (by omega) (by omega)).symm), h1, if_neg Bool.false_ne_true]
      omega
    · have i := ih (fun m hm => h m (by omega)) (by omega) h1
      rw [i, h n (by omega) (fun z => e z.symm)]
      omega
theorem ct_z {f : Nat → Bool} : ∀ n, (∀ m, m < n → f m = false) → ct_n f n = 0 := by
  intro n
  induction n with
  | zero => intro _; rfl
  | succ n ih =>
    intro h
    rw [ct_n, ih (fun m hm => h m (by omega)), h n (by omega), if_neg Bool.false_ne_true]
theorem dp_0 {N : Nat} {κ U : Nat → Nat} {m : Nat} (h : ¬ U m < N) : dp_n N κ U m = 0 := by
  refine ct_z N (fun x _ => ?_)
  unfold dp_f
  rw [pb_f, Bool.and_false]
  intro ⟨b, ne⟩
  rcases tr_Bi.mp b with e | ⟨u, _⟩
  · exact ne e.symm
  · exact h u
theorem dp_s {ni no N : Nat} {κ A P Q U : Nat → Nat} (T : tr_F ni no N κ A P Q U) {m : Nat} (hm : m < N) (hu : U m < N) : dp_n N κ U m = dp_n N κ U (U m) + (if κ (U m) = 6 then 1 else 0) := by
  have lt := (tr_u T hm hu).1
  have nb : ∀ x, tr_B N U (U m) x → x ≠ m := fun x b e => by have := tr_ge T hu b; omega
  have := ct_pt (f := dp_f N κ U (U m)) (g := dp_f N κ U m) (p := U m) N (fun x hx ne => ?_) hu ?_
  · unfold dp_n
    rw [this]
    congr 1
    unfold dp_f
    rw [pb_t ⟨tr_up hu (tr_rf _), by omega⟩, Bool.and_true]
    by_cases c : κ (U m) = 6
    · rw [decide_eq_true c, if_pos c, if_pos rfl]
    · rw [decide_eq_false c, if_neg c, if_neg Bool.false_ne_true]
  · unfold dp_f
    congr 1
    refine pb_c ⟨fun ⟨b, _⟩ => ⟨tr_up hu b, nb x b⟩, fun ⟨b, n2⟩ => ?_⟩
    rcases tr_Bi.mp b with e | ⟨_, b'⟩
    · exact absurd e.symm n2
    · exact ⟨b', ne⟩
  · unfold dp_f
    rw [pb_f (fun z => z.2 rfl), Bool.and_false]
theorem dp_le (N : Nat) (κ U : Nat → Nat) (m : Nat) : dp_n N κ U m ≤ N := ct_le _ _
section
variable {f_wireFalse f_wireTrue f_signalBase f_bootWire f_registerBase f_firstGate f_wireLimit f_opAnd f_opOr f_opNot f_codes f_cells f_resumeBase f_rootRow f_endRow f_stayRow f_leftRow f_rightRow f_inputSignals f_outputSignals f_nodeLimit f_count f_phaseNow f_instantCount f_rejectedCount f_wireCount f_logicEnd : Int32} {a_kindOf a_argOf a_firstOf a_secondOf a_parentOf a_activeNode a_lastStatus a_inTree a_trapDepth a_firstCodes a_gateOp a_gateA a_gateB a_inverseOf a_cell a_selWire a_keepStart a_keepResume a_frozen a_nextWire : Nat → Int32} {a_must a_can : Nat → Int64}
variable {post : SX → Prop} {ni no N : Nat} {κ A P Q U : Nat → Nat} {r : Nat}
theorem nr_01 : vp_nar .boolean 0 = 0 ∧ vp_nar .boolean 1 = 1 := ⟨rfl, rfl⟩
/-- nodes from n upwards are marked -/
def mt_I (N : Nat) (κ U : Nat → Nat) (r n : Nat) (it td : Nat → Int32) : Prop := ∀ m, n ≤ m → m < N → ((tr_B N U m r → it m = 1) ∧ (¬ tr_B N U m r → it m = 0)) ∧ td m = nI (dp_n N κ U m)
theorem xc_mark (T : tr_F ni no N κ A P Q U) (hT : ln_T N a_kindOf a_argOf a_firstOf a_secondOf a_parentOf κ A P Q U) (hr : r < N) (hur : ¬ U r < N)
    (K : ∀ it td, kp_T N U r it → (∀ m, m < N → td m = nI (dp_n N κ U m)) → post (f_wireFalse, f_wireTrue, f_signalBase, f_bootWire, f_registerBase, f_firstGate, f_wireLimit, f_opAnd, f_opOr, f_opNot, f_codes, f_cells, f_resumeBase, f_rootRow, f_endRow, f_stayRow, f_leftRow, f_rightRow, f_inputSignals, f_outputSignals, f_nodeLimit, f_count, f_phaseNow, f_instantCount, f_rejectedCount, f_wireCount, f_logicEnd, a_kindOf, a_argOf, a_firstOf, a_secondOf, a_parentOf, a_activeNode, a_lastStatus, it, td, a_firstCodes, a_gateOp, a_gateA, a_gateB, a_inverseOf, a_cell, a_selWire, a_keepStart, a_keepResume, a_frozen, a_nextWire, a_must, a_can)) :
    ∀ n it td m, n ≤ N → n < m → mt_I N κ U r n it td → wX_markTree_7 post (nI r) f_wireFalse f_wireTrue f_signalBase f_bootWire f_registerBase f_firstGate f_wireLimit f_opAnd f_opOr f_opNot f_codes f_cells f_resumeBase f_rootRow f_endRow f_stayRow f_leftRow f_rightRow f_inputSignals f_outputSignals f_nodeLimit f_count f_phaseNow f_instantCount f_rejectedCount f_wireCount f_logicEnd m (nI n + (-1)) a_kindOf a_argOf a_firstOf a_secondOf a_parentOf a_activeNode a_lastStatus it td a_firstCodes a_gateOp a_gateA a_gateB a_inverseOf a_cell a_selWire a_keepStart a_keepResume a_frozen a_nextWire a_must a_can := by
  have hN := T.1
  intro n
  induction n with
  | zero =>
    intro it td m hn hm I
    obtain ⟨m, rfl⟩ : ∃ z, m = z + 1 := ⟨m - 1, by omega⟩
    exact br_t (by decide) (K it td (fun x hx => (I x (Nat.zero_le x) hx).1) (fun x hx => (I x (Nat.zero_le x) hx).2))
  | succ n ih =>
    intro it td m hn hm I
    obtain ⟨m, rfl⟩ : ∃ z, m = z + 1 := ⟨m - 1, by omega⟩
    rw [pk_m1]
    have nN : n < N := by omega
    have hi : vp_in (nI n) 32 := vp_in_nI (by omega) (by decide)
    have cn : (nI n).toNatClampNeg = n := nI_clamp (by omega)
    have nxt : ∀ (x t : Int32) (it' td' : Nat → Int32), (∀ j, it' j = if j = n then x else it j) → (∀ j, td' j = if j = n then t else td j) → (tr_B N U n r → x = 1) → (¬ tr_B N U n r → x = 0) → t = nI (dp_n N κ U n) → mt_I N κ U r n it' td' := by
      intro x t it' td' h1 h2 h3 h4 h5 j hj jN
      by_cases e : j = n
      · subst e
        refine ⟨⟨fun b => ?_, fun b => ?_⟩, ?_⟩
        · rw [h1 j, if_pos rfl]; exact h3 b
        · rw [h1 j, if_pos rfl]; exact h4 b
        · rw [h2 j, if_pos rfl]; exact h5
      · have := I j (by omega) jN
        refine ⟨⟨fun b => ?_, fun b => ?_⟩, ?_⟩
        · rw [h1 j, if_neg e]; exact this.1.1 b
        · rw [h1 j, if_neg e]; exact this.1.2 b
        · rw [h2 j, if_neg e]; exact this.2
    refine br_f (nI_pos (by omega)) ⟨hi, ?_⟩
    rw [cn]
    refine nm_e ⟨hi, nm_e ?_⟩
    refine pk_eq n r (fun e => ⟨hi, nm_e (nm_e (ih _ _ m (by omega) (by omega) (nxt 1 0 _ _ (fun j => rfl) (fun j => rfl) (fun _ => rfl) (fun b => ?_) ?_)))⟩) (fun nr => ?_)
    · rw [e] at b; exact absurd (tr_rf r) b
    · rw [e, dp_0 hur]; rfl
    rcases (hT n nN).2.2.2.2.2.2.2 with ⟨p, q⟩ | ⟨p, q⟩
    · rw [p]
      refine br_t (by decide) ⟨hi, nm_e (nm_e (ih _ _ m (by omega) (by omega) (nxt 0 0 _ _ (fun j => rfl) (fun j => rfl) (fun b => ?_) (fun _ => rfl) ?_)))⟩
      · rcases tr_Bi.mp b with g | ⟨g, _⟩
        · exact absurd g nr
        · omega
      · rw [dp_0 (by omega)]; rfl
    · rw [p]
      have lt := (tr_u T nN q).1
      have iu : vp_in (nI (U n)) 32 := vp_in_nI (by omega) (by decide)
      have cu : (nI (U n)).toNatClampNeg = U n := nI_clamp (by omega)
      have Iu := I (U n) (by omega) q
      have un : U n ≠ n := by omega
      have kU : a_kindOf (U n) = nI (κ (U n)) := (hT (U n) q).1
      have kb := tr_k T q
      have dl := dp_le N κ U (U n)
      refine br_f (nI_pos (by omega)) ⟨iu, hi, ?_⟩
      rw [cu]
      have bit : (tr_B N U n r → vp_nar .boolean (it (U n)) = 1) ∧ (¬ tr_B N U n r → vp_nar .boolean (it (U n)) = 0) := by
        refine ⟨fun b => ?_, fun b => ?_⟩
        · have : tr_B N U (U n) r := by
            rcases tr_Bi.mp b with g | ⟨_, g⟩
            · exact absurd g nr
            · exact g
          rw [Iu.1.1 this]; rfl
        · rw [Iu.1.2 (fun z => b (tr_up q z))]; rfl
      refine nm_e ⟨iu, hi, ?_⟩
      rw [pk_un un, Iu.2]
      refine nm_e ⟨iu, ?_⟩
      rw [kU]
      refine pk_eq (κ (U n)) 6 (fun h => ⟨hi, hi, ?_⟩) (fun h => ?_)
      · rw [pk_us, nI_1 (dp_n N κ U (U n))]
        refine nm_e (nm_e (ih _ _ m (by omega) (by omega) (nxt _ (nI (dp_n N κ U (U n) + 1)) _ _ (fun j => rfl) (fun j => ?_) bit.1 bit.2 ?_)))
        · unfold upd
          by_cases e : j = n
          · rw [if_pos e, if_pos e]
          · rw [if_neg e, if_neg e, if_neg e, if_neg e]
        · rw [dp_s T nN q, if_pos h]
      · refine nm_e (ih _ _ m (by omega) (by omega) (nxt _ (nI (dp_n N κ U (U n))) _ _ (fun j => rfl) (fun j => ?_) bit.1 bit.2 ?_))
        · unfold upd
          by_cases e : j = n
          · rw [if_pos e, if_pos e]
          · rw [if_neg e, if_neg e, if_neg e]
        · rw [dp_s T nN q, if_neg h, Nat.add_zero]
/-- an exit that leaves the tree -/
def lx_B (N : Nat) (κ A U : Nat → Nat) (r n : Nat) : Prop := tr_B N U n r ∧ κ n = 3 ∧ ¬ A n + 1 ≤ dp_n N κ U n
theorem xc_loose {pi : Int32 → Prop} {td : Nat → Int32} (T : tr_F ni no N κ A P Q U) (hT : ln_T N a_kindOf a_argOf a_firstOf a_secondOf a_parentOf κ A P Q U) (hI : kp_T N U r a_inTree) (hD : ∀ m, m < N → td m = nI (dp_n N κ U m))
    (K1 : (∃ n, n < N ∧ lx_B N κ A U r n) → pi 1) (K0 : (∀ n, n < N → ¬ lx_B N κ A U r n) → pi 0) :
    ∀ d n m, n + d = N → d < m → (∀ j, j < n → ¬ lx_B N κ A U r j) → wX_hasLooseExit_2 pi f_wireFalse f_wireTrue f_signalBase f_bootWire f_registerBase f_firstGate f_wireLimit f_opAnd f_opOr f_opNot f_codes f_cells f_resumeBase f_rootRow f_endRow f_stayRow f_leftRow f_rightRow f_inputSignals f_outputSignals f_nodeLimit (nI N) f_phaseNow f_instantCount f_rejectedCount f_wireCount f_logicEnd a_kindOf a_argOf a_firstOf a_secondOf a_parentOf a_activeNode a_lastStatus a_inTree td a_firstCodes a_gateOp a_gateA a_gateB a_inverseOf a_cell a_selWire a_keepStart a_keepResume a_frozen a_nextWire a_must a_can m (nI n) := by
  have hN := T.1
  intro d
  induction d with
  | zero =>
    intro n m hn hm Z
    obtain ⟨m, rfl⟩ : ∃ z, m = z + 1 := ⟨m - 1, by omega⟩
    rw [show n = N by omega] at Z ⊢
    exact pk_le N N (fun _ => K0 Z) (fun h => absurd h (by omega))
  | succ d ih =>
    intro n m hn hm Z
    obtain ⟨m, rfl⟩ : ∃ z, m = z + 1 := ⟨m - 1, by omega⟩
    have nN : n < N := by omega
    have hi : vp_in (nI n) 32 := vp_in_nI (by omega) (by decide)
    have go : ¬ lx_B N κ A U r n → wX_hasLooseExit_2 pi f_wireFalse f_wireTrue f_signalBase f_bootWire f_registerBase f_firstGate f_wireLimit f_opAnd f_opOr f_opNot f_codes f_cells f_resumeBase f_rootRow f_endRow f_stayRow f_leftRow f_rightRow f_inputSignals f_outputSignals f_nodeLimit (nI N) f_phaseNow f_instantCount f_rejectedCount f_wireCount f_logicEnd a_kindOf a_argOf a_firstOf a_secondOf a_parentOf a_activeNode a_lastStatus a_inTree td a_firstCodes a_gateOp a_gateA a_gateB a_inverseOf a_cell a_selWire a_keepStart a_keepResume a_frozen a_nextWire a_must a_can m (nI (n + 1)) := fun h => ih (n + 1) m (by omega) (by omega) (fun j hj => by
      by_cases e : j = n
      · subst e; exact h
      · exact Z j (by omega))
    have hk := tr_k T nN
    have h9 := (T.2 n nN).2.2.2.2
    obtain ⟨t1, t2, t3, t4, t5, t6, t7, t8⟩ := hT n nN
    refine pk_le N n (fun h => absurd h (by omega)) (fun _ => ⟨hi, ?_⟩)
    rw [nI_clamp (show n < 2 ^ 31 by omega), nI_1 n]
    by_cases b : tr_B N U n r
    · rw [(hI n nN).1 b, t1]
      refine br_f (by decide) ⟨hi, pk_eq (κ n) 3 (fun h => ⟨hi, hi, ?_⟩) (fun h => nm_e (go (fun z => h z.2.1)))⟩
      have dl := dp_le N κ U n
      have a3 := h9.2.2 h
      rw [t6 (by omega), hD n nN, nI_1 (A n)]
      exact pk_le (A n + 1) (dp_n N κ U n) (fun z => nm_e (go (fun y => y.2.2 z))) (fun z => K1 ⟨n, nN, b, h, by omega⟩)
    · rw [(hI n nN).2 b]
      exact br_t rfl (nm_e (go (fun z => b z.1)))
end
end
section
/-! ===== first codes: X's firstCodesOf, hasInstantLoop; Y's firstOf ===== -/
def fc_f (κ a : Nat) (p q : Int32) : Int32 :=
  if κ = 0 ∨ κ = 2 then 1 else if κ = 1 ∨ κ = 4 then 2 else if κ = 3 then (4 : Int32) <<< (nI a &&& 31)
  else if κ = 5 then p &&& (-2) else if κ = 6 then rn_dn p else if κ = 7 ∨ κ = 8 then p
  else if κ = 9 then p ||| q else if κ = 10 then (if bt p 0 = true then (p &&& (-2)) ||| q else p) else rn_mx p q
def fc_F (N : Nat) (κ A P Q : Nat → Nat) (f : Nat → Int32) : Prop := ∀ n, n < N → f n = fc_f (κ n) (A n) (f (P n)) (f (Q n))
def fc_6 (x : Int32) : Prop := ∀ i, bt x i = true → i < 6
theorem fc_c {κ a : Nat} {p p' q q' : Int32} (hp : 5 ≤ κ → p = p') (hq : 9 ≤ κ → q = q') : fc_f κ a p q = fc_f κ a p' q' := by
  by_cases k9 : 9 ≤ κ
  · rw [hp (by omega), hq k9]
  · by_cases k5 : 5 ≤ κ
    · rw [hp k5]
      have hh : κ = 5 ∨ κ = 6 ∨ κ = 7 ∨ κ = 8 := by omega
      rcases hh with k | k | k | k <;> subst k <;> rfl
    · have hh : κ = 0 ∨ κ = 1 ∨ κ = 2 ∨ κ = 3 ∨ κ = 4 := by omega
      rcases hh with k | k | k | k | k <;> subst k <;> rfl
theorem fc_r {κ a : Nat} {p q : Int32} (hk : κ ≤ 11) (h3 : κ = 3 → a ≤ 3) (hp : 5 ≤ κ → fc_6 p) (hq : 9 ≤ κ → fc_6 q) : fc_6 (fc_f κ a p q) := by
  intro i h
  have hh : κ = 0 ∨ κ = 1 ∨ κ = 2 ∨ κ = 3 ∨ κ = 4 ∨ κ = 5 ∨ κ = 6 ∨ κ = 7 ∨ κ = 8 ∨ κ = 9 ∨ κ = 10 ∨ κ = 11 := by omega
  rcases hh with k | k | k | k | k | k | k | k | k | k | k | k
  · subst k; have h : bt 1 i = true := h; rw [rc_b1] at h; have := of_decide_eq_true h; omega
  · subst k; have h : bt 2 i = true := h; rw [rc_b2] at h; have := of_decide_eq_true h; omega
  · subst k; have h : bt 1 i = true := h; rw [rc_b1] at h; have := of_decide_eq_true h; omega
  · have := h3 k
    subst k; have h : bt ((4 : Int32) <<< (nI a &&& 31)) i = true := h; rw [rc_4shl a (by omega), rc_1shl (by omega)] at h; have := of_decide_eq_true h; omega
  · subst k; have h : bt 2 i = true := h; rw [rc_b2] at h; have := of_decide_eq_true h; omega
  · have hp' := hp (by omega)
    subst k; have h : bt (p &&& (-2)) i = true := h; rw [b_and, Bool.and_eq_true] at h; exact hp' i h.1
  · subst k; have h : bt (rn_dn p) i = true := h; rw [rn_dnb] at h
    by_cases e0 : i = 0
    · omega
    · rw [if_neg e0] at h
      by_cases e1 : i = 1
      · omega
      · rw [if_neg e1] at h
        by_cases e5 : i < 5
        · omega
        · rw [if_neg e5] at h; cases h
  · have hp' := hp (by omega)
    subst k; exact hp' i h
  · have hp' := hp (by omega)
    subst k; exact hp' i h
  · have hp' := hp (by omega)
    have hq' := hq (by omega)
    subst k; have h : bt (p ||| q) i = true := h; rw [b_or, Bool.or_eq_true] at h; exact h.elim (hp' i) (hq' i)
  · have hp' := hp (by omega)
    have hq' := hq (by omega)
    subst k; have h : bt (if bt p 0 = true then (p &&& (-2)) ||| q else p) i = true := h
    by_cases c : bt p 0 = true
    · rw [if_pos c, b_or, b_and, Bool.or_eq_true, Bool.and_eq_true] at h; exact h.elim (fun z => hp' i z.1) (hq' i)
    · rw [if_neg c] at h; exact hp' i h
  · subst k; have h : bt (rn_mx p q) i = true := h; rw [rn_mxb] at h; exact h.1
theorem pk_and (x : Int32) {m : Int32} (k : Nat) (hm : m.toBitVec.toNat = 2 ^ k - 1) : x &&& m = nI (x.toBitVec.toNat % 2 ^ k) := by
  apply Int32.toBitVec_inj.mp
  apply BitVec.eq_of_toNat_eq
  rw [Int32.toBitVec_and, BitVec.toNat_and, hm, Nat.and_two_pow_sub_one_eq_mod]
  show _ = (BitVec.ofNat 32 _).toNat
  rw [BitVec.toNat_ofNat]
  exact (Nat.mod_eq_of_lt (Nat.lt_of_le_of_lt (Nat.mod_le _ _) x.toBitVec.isLt)).symm
theorem pk_andE (x : Int32) {m : Int32} (k : Nat) (hm : m.toBitVec.toNat = 2 ^ k - 1) : ∃ j : Nat, j < 2 ^ k ∧ x &&& m = nI j := ⟨_, Nat.mod_lt _ (Nat.two_pow_pos k), pk_and x k hm⟩
theorem fc_j {x : Int32} (h : fc_6 x) : ∃ j, j < 64 ∧ x = nI j := by
  obtain ⟨j, hj, e⟩ := pk_andE x (m := 63) 6 (by decide)
  refine ⟨j, hj, ?_⟩
  rw [← e]
  apply rc_bx
  intro i
  rw [b_and, Bool.and_eq_true]
  constructor
  · intro z
    refine ⟨z, ?_⟩
    have := h i z
    exact (by decide +kernel : ∀ i, i < 6 → bt 63 i = true) i this
  · intro z; exact z.1
theorem fc_dn : ∀ j, j < 64 → ((nI j &&& 3) ||| ((nI j >>> ((2 : Int32) &&& 31)) &&& 1)) ||| ((nI j &&& (-8)) >>> ((1 : Int32) &&& 31)) = rn_dn (nI j) := by decide +kernel
def fc_s (x : Int32) : Int32 := x ||| (x <<< ((1 : Int32) &&& 31))
theorem fc_up : ∀ j, j < 64 → fc_s (fc_s (fc_s (fc_s (fc_s (nI j))))) &&& 63 = rc_of (rn_ub (nI j)) 6 := by decide +kernel
theorem fc_mx {x y : Int32} : (x &&& rc_of (rn_ub y) 6) ||| (y &&& rc_of (rn_ub x) 6) = rn_mx x y := by
  apply rc_bx
  intro i
  unfold rn_mx
  rw [b_or, b_and, b_and, rc_of_bt _ 6 (by omega), rc_of_bt _ 6 (by omega), rc_of_bt _ 6 (by omega)]
  cases decide (i < 6) <;> cases bt x i <;> cases bt y i <;> cases rn_ub x i <;> cases rn_ub y i <;> simp
theorem fc_ex {ni no N : Nat} {κ A P Q U : Nat → Nat} (T : tr_F ni no N κ A P Q U) : ∃ f, fc_F N κ A P Q f := by
  have key : ∀ n, n ≤ N → ∃ f : Nat → Int32, ∀ m, m < n → f m = fc_f (κ m) (A m) (f (P m)) (f (Q m)) := by
    intro n
    induction n with
    | zero => intro _; exact ⟨fun _ => 0, fun m h => absurd h (by omega)⟩
    | succ n ih =>
      intro hn
      obtain ⟨f, h⟩ := ih (by omega)
      refine ⟨upd f n (fc_f (κ n) (A n) (f (P n)) (f (Q n))), fun m hm => ?_⟩
      have st : ∀ x, x ≤ n → x < N → fc_f (κ x) (A x) (f (P x)) (f (Q x)) = fc_f (κ x) (A x) (upd f n (fc_f (κ n) (A n) (f (P n)) (f (Q n))) (P x)) (upd f n (fc_f (κ n) (A n) (f (P n)) (f (Q n))) (Q x)) := by
        intro x hx xN
        exact fc_c (fun k => by have := tr_p T xN k; rw [pk_un (by omega)]) (fun k => by have := tr_q T xN k; rw [pk_un (by omega)])
      by_cases e : m = n
      · subst e; rw [pk_us]; exact st m (Nat.le_refl _) (by omega)
      · rw [pk_un e, h m (by omega)]; exact st m (by omega) (by omega)
  exact key N (Nat.le_refl N)
theorem fc_R {ni no N : Nat} {κ A P Q U : Nat → Nat} (T : tr_F ni no N κ A P Q U) {f : Nat → Int32} (F : fc_F N κ A P Q f) : ∀ n, n < N → fc_6 (f n) := by
  intro n
  induction n using Nat.strongRecOn with
  | ind n ih =>
    intro hn
    rw [F n hn]
    exact fc_r (tr_k T hn) (T.2 n hn).2.2.2.2.2.2 (fun k => by have := tr_p T hn k; exact ih _ this.1 (by omega)) (fun k => by have := tr_q T hn k; exact ih _ this.1 (by omega))
section
variable {f_wireFalse f_wireTrue f_signalBase f_bootWire f_registerBase f_firstGate f_wireLimit f_opAnd f_opOr f_opNot f_codes f_cells f_resumeBase f_rootRow f_endRow f_stayRow f_leftRow f_rightRow f_inputSignals f_outputSignals f_nodeLimit f_count f_phaseNow f_instantCount f_rejectedCount f_wireCount f_logicEnd : Int32} {a_kindOf a_argOf a_firstOf a_secondOf a_parentOf a_activeNode a_lastStatus a_inTree a_trapDepth a_firstCodes a_gateOp a_gateA a_gateB a_inverseOf a_cell a_selWire a_keepStart a_keepResume a_frozen a_nextWire : Nat → Int32} {a_must a_can : Nat → Int64}
variable {ni no N : Nat} {κ A P Q U : Nat → Nat} {r : Nat} {pi : Int32 → Prop}
theorem xf_up {x : Int32} (h : fc_6 x) (K : pi (rc_of (rn_ub x) 6)) : wpX_upward pi (f_wireFalse, f_wireTrue, f_signalBase, f_bootWire, f_registerBase, f_firstGate, f_wireLimit, f_opAnd, f_opOr, f_opNot, f_codes, f_cells, f_resumeBase, f_rootRow, f_endRow, f_stayRow, f_leftRow, f_rightRow, f_inputSignals, f_outputSignals, f_nodeLimit, f_count, f_phaseNow, f_instantCount, f_rejectedCount, f_wireCount, f_logicEnd, a_kindOf, a_argOf, a_firstOf, a_secondOf, a_parentOf, a_activeNode, a_lastStatus, a_inTree, a_trapDepth, a_firstCodes, a_gateOp, a_gateA, a_gateB, a_inverseOf, a_cell, a_selWire, a_keepStart, a_keepResume, a_frozen, a_nextWire, a_must, a_can) x := by
  obtain ⟨j, hj, rfl⟩ := fc_j h
  rw [← fc_up j hj] at K
  exact ⟨6, br_f (by decide) (nm_e (nm_e (br_f (by decide) (nm_e (nm_e (br_f (by decide) (nm_e (nm_e (br_f (by decide) (nm_e (nm_e (br_f (by decide) (nm_e (nm_e (br_t (by decide) K)))))))))))))))⟩
theorem xf_of {fc : Nat → Int32} (T : tr_F ni no N κ A P Q U) (hT : ln_T N a_kindOf a_argOf a_firstOf a_secondOf a_parentOf κ A P Q U) {n : Nat} (hn : n < N) (hp : 5 ≤ κ n → fc_6 (fc (P n))) (hq : 9 ≤ κ n → fc_6 (fc (Q n)))
    (K : pi (fc_f (κ n) (A n) (fc (P n)) (fc (Q n)))) : wpX_firstCodesOf pi (f_wireFalse, f_wireTrue, f_signalBase, f_bootWire, f_registerBase, f_firstGate, f_wireLimit, f_opAnd, f_opOr, f_opNot, f_codes, f_cells, f_resumeBase, f_rootRow, f_endRow, f_stayRow, f_leftRow, f_rightRow, f_inputSignals, f_outputSignals, f_nodeLimit, f_count, f_phaseNow, f_instantCount, f_rejectedCount, f_wireCount, f_logicEnd, a_kindOf, a_argOf, a_firstOf, a_secondOf, a_parentOf, a_activeNode, a_lastStatus, a_inTree, a_trapDepth, fc, a_gateOp, a_gateA, a_gateB, a_inverseOf, a_cell, a_selWire, a_keepStart, a_keepResume, a_frozen, a_nextWire, a_must, a_can) (nI n) := by
  have hN := T.1
  have hk := tr_k T hn
  have h9 := (T.2 n hn).2.2.2.2
  obtain ⟨t1, t2, t3, t4, t5, t6, t7, t8⟩ := hT n hn
  have hi : vp_in (nI n) 32 := vp_in_nI (by omega) (by decide)
  refine ⟨hi, ?_⟩
  rw [nI_clamp (show n < 2 ^ 31 by omega)]
  unfold fc_f at K
  refine nm_r t1 (pk_eq (κ n) 0 (fun h => by rw [if_pos (Or.inl h)] at K; exact K) (fun h0 => pk_eq (κ n) 2 (fun h => by rw [if_pos (Or.inr h)] at K; exact K) (fun h2 => ?_)))
  rw [if_neg (by omega)] at K
  refine xn_rk hk (fun h => br_f (by decide) (by rw [if_pos h] at K; exact K)) (fun h14 => br_t rfl ?_)
  rw [if_neg h14] at K
  refine pk_eq (κ n) 3 (fun h => ⟨hi, ?_⟩) (fun h3 => ⟨hi, ?_⟩)
  · have := h9.2.2 h
    rw [if_pos h, rc_4shl _ (by omega), ← rc_12shl _ (by omega)] at K
    rw [t6 (by omega)]; exact K
  rw [if_neg h3] at K
  have k5 : 5 ≤ κ n := by omega
  have p := tr_p T hn k5
  rw [t3 k5]
  refine ⟨vp_in_nI (by omega) (by decide), ?_⟩
  rw [nI_clamp (show P n < 2 ^ 31 by omega)]
  refine nm_e (pk_eq (κ n) 5 (fun h => by rw [if_pos h] at K; exact K) (fun h5 => pk_eq (κ n) 6 (fun h => ?_) (fun h6 => ?_)))
  · rw [if_neg h5, if_pos h] at K
    obtain ⟨j, hj, e⟩ := fc_j (hp k5)
    rw [e, ← fc_dn j hj] at K
    rw [e]; exact K
  rw [if_neg h5, if_neg h6] at K
  refine pk_eq (κ n) 7 (fun h => by rw [if_pos (Or.inl h)] at K; exact K) (fun h7 => pk_eq (κ n) 8 (fun h => by rw [if_pos (Or.inr h)] at K; exact K) (fun h8 => ⟨hi, ?_⟩))
  rw [if_neg (by omega)] at K
  have q := tr_q T hn (by omega)
  rw [t5 (by omega)]
  refine ⟨vp_in_nI (by omega) (by decide), ?_⟩
  rw [nI_clamp (show Q n < 2 ^ 31 by omega)]
  refine nm_e (pk_eq (κ n) 9 (fun h => by rw [if_pos h] at K; exact K) (fun h9' => pk_eq (κ n) 10 (fun h => ?_) (fun h10 => ?_)))
  · rw [if_neg h9', if_pos h] at K
    refine rc_ifb (rc_and1 _) (fun z => ?_) (fun z => ?_)
    · rw [if_neg (by rw [z]; exact Bool.false_ne_true)] at K; exact K
    · rw [if_pos z] at K; exact K
  · rw [if_neg h9', if_neg h10, ← fc_mx] at K
    refine xf_up (hp k5) ?_
    exact xf_up (hq (by omega)) K
/-- an instantaneous loop -/
def il_B (N : Nat) (κ P U : Nat → Nat) (f : Nat → Int32) (r n : Nat) : Prop := tr_B N U n r ∧ κ n = 5 ∧ bt (f (P n)) 0 = true
theorem xf_il {post : Int32 → SX → Prop} {f : Nat → Int32} (T : tr_F ni no N κ A P Q U) (hT : ln_T N a_kindOf a_argOf a_firstOf a_secondOf a_parentOf κ A P Q U) (hI : kp_T N U r a_inTree) (F : fc_F N κ A P Q f)
    (K1 : (∃ n, n < N ∧ il_B N κ P U f r n) → ∀ fc, post 1 (f_wireFalse, f_wireTrue, f_signalBase, f_bootWire, f_registerBase, f_firstGate, f_wireLimit, f_opAnd, f_opOr, f_opNot, f_codes, f_cells, f_resumeBase, f_rootRow, f_endRow, f_stayRow, f_leftRow, f_rightRow, f_inputSignals, f_outputSignals, f_nodeLimit, nI N, f_phaseNow, f_instantCount, f_rejectedCount, f_wireCount, f_logicEnd, a_kindOf, a_argOf, a_firstOf, a_secondOf, a_parentOf, a_activeNode, a_lastStatus, a_inTree, a_trapDepth, fc, a_gateOp, a_gateA, a_gateB, a_inverseOf, a_cell, a_selWire, a_keepStart, a_keepResume, a_frozen, a_nextWire, a_must, a_can)) (K0 : (∀ n, n < N → ¬ il_B N κ P U f r n) → ∀ fc, post 0 (f_wireFalse, f_wireTrue, f_signalBase, f_bootWire, f_registerBase, f_firstGate, f_wireLimit, f_opAnd, f_opOr, f_opNot, f_codes, f_cells, f_resumeBase, f_rootRow, f_endRow, f_stayRow, f_leftRow, f_rightRow, f_inputSignals, f_outputSignals, f_nodeLimit, nI N, f_phaseNow, f_instantCount, f_rejectedCount, f_wireCount, f_logicEnd, a_kindOf, a_argOf, a_firstOf, a_secondOf, a_parentOf, a_activeNode, a_lastStatus, a_inTree, a_trapDepth, fc, a_gateOp, a_gateA, a_gateB, a_inverseOf, a_cell, a_selWire, a_keepStart, a_keepResume, a_frozen, a_nextWire, a_must, a_can)) :
    ∀ d n fc m, n + d = N → d < m → (∀ j, j < n → ¬ il_B N κ P U f r j) → (∀ j, j < n → tr_B N U j r → fc j = f j) → wX_hasInstantLoop_2 post f_wireFalse f_wireTrue f_signalBase f_bootWire f_registerBase f_firstGate f_wireLimit f_opAnd f_opOr f_opNot f_codes f_cells f_resumeBase f_rootRow f_endRow f_stayRow f_leftRow f_rightRow f_inputSignals f_outputSignals f_nodeLimit (nI N) f_phaseNow f_instantCount f_rejectedCount f_wireCount f_logicEnd m (nI n) a_kindOf a_argOf a_firstOf a_secondOf a_parentOf a_activeNode a_lastStatus a_inTree a_trapDepth fc a_gateOp a_gateA a_gateB a_inverseOf a_cell a_selWire a_keepStart a_keepResume a_frozen a_nextWire a_must a_can := by
  have hN := T.1
  intro d
  induction d with
  | zero =>
    intro n fc m hn hm Z G
    obtain ⟨m, rfl⟩ : ∃ z, m = z + 1 := ⟨m - 1, by omega⟩
    rw [show n = N by omega] at Z ⊢
    exact pk_le N N (fun _ => K0 Z fc) (fun h => absurd h (by omega))
  | succ d ih =>
    intro n fc m hn hm Z G
    obtain ⟨m, rfl⟩ : ∃ z, m = z + 1 := ⟨m - 1, by omega⟩
    have nN : n < N := by omega
    have hi : vp_in (nI n) 32 := vp_in_nI (by omega) (by decide)
    have cn : (nI n).toNatClampNeg = n := nI_clamp (by omega)
    have Zs : ¬ il_B N κ P U f r n → ∀ j, j < n + 1 → ¬ il_B N κ P U f r j := fun h j hj => by
      by_cases e : j = n
      · subst e; exact h
      · exact Z j (by omega)
    have hk := tr_k T nN
    obtain ⟨t1, t2, t3, t4, t5, t6, t7, t8⟩ := hT n nN
    refine pk_le N n (fun h => absurd h (by omega)) (fun _ => ⟨hi, ?_⟩)
    rw [cn, nI_1 n]
    by_cases b : tr_B N U n r
    · have gP : 5 ≤ κ n → fc (P n) = f (P n) := fun k => by have := tr_p T nN k; exact G _ this.1 (tr_tr b (tr_bp T nN k))
      have gQ : 9 ≤ κ n → fc (Q n) = f (Q n) := fun k => by have := tr_q T nN k; exact G _ this.1 (tr_tr b (tr_bq T nN k))
      have go : ¬ il_B N κ P U f r n → wX_hasInstantLoop_47 post (wX_hasInstantLoop_2 post f_wireFalse f_wireTrue f_signalBase f_bootWire f_registerBase f_firstGate f_wireLimit f_opAnd f_opOr f_opNot f_codes f_cells f_resumeBase f_rootRow f_endRow f_stayRow f_leftRow f_rightRow f_inputSignals f_outputSignals f_nodeLimit (nI N) f_phaseNow f_instantCount f_rejectedCount f_wireCount f_logicEnd m) (nI n) f_wireFalse f_wireTrue f_signalBase f_bootWire f_registerBase f_firstGate f_wireLimit f_opAnd f_opOr f_opNot f_codes f_cells f_resumeBase f_rootRow f_endRow f_stayRow f_leftRow f_rightRow f_inputSignals f_outputSignals f_nodeLimit (nI N) f_phaseNow f_instantCount f_rejectedCount f_wireCount f_logicEnd a_kindOf a_argOf a_firstOf a_secondOf a_parentOf a_activeNode a_lastStatus a_inTree a_trapDepth fc a_gateOp a_gateA a_gateB a_inverseOf a_cell a_selWire a_keepStart a_keepResume a_frozen a_nextWire a_must a_can := by
        intro h
        unfold wX_hasInstantLoop_47
        refine xf_of T hT nN (fun k => by rw [gP k]; have := tr_p T nN k; exact fc_R T F _ (by omega)) (fun k => by rw [gQ k]; have := tr_q T nN k; exact fc_R T F _ (by omega)) ⟨hi, ?_⟩
        rw [cn, nI_1 n]
        refine nm_e (nm_e (ih (n + 1) _ m (by omega) (by omega) (Zs h) (fun j hj bj => ?_)))
        by_cases e : j = n
        · subst e; rw [pk_us, F j nN]; exact fc_c gP gQ
        · rw [pk_un e]; exact G j (by omega) bj
      rw [(hI n nN).1 b, t1]
      refine br_f (by decide) ⟨hi, pk_eq (κ n) 5 (fun h => ⟨hi, ?_⟩) (fun h => go (fun z => h z.2.1))⟩
      have p := tr_p T nN (by omega)
      rw [t3 (by omega)]
      refine ⟨vp_in_nI (by omega) (by decide), ?_⟩
      rw [nI_clamp (show P n < 2 ^ 31 by omega), gP (by omega)]
      exact rc_ifb (rc_and1 _) (fun z => go (fun y => by rw [y.2.2] at z; cases z)) (fun z => K1 ⟨n, nN, b, h, z⟩ fc)
    · rw [(hI n nN).2 b]
      exact br_t rfl (nm_e (ih (n + 1) fc m (by omega) (by omega) (Zs (fun z => b z.1)) (fun j hj bj => by
        by_cases e : j = n
        · subst e; exact absurd bj b
        · exact G j (by omega) bj)))
end
section
variable {f_inputs f_outputs f_cap f_count f_phase f_root f_instants f_rejected f_activeLeaves : Int32} {a_kind a_arg a_first a_second a_parent a_shown a_e a_fst a_ms a_cs a_mk a_ck a_left : Nat → Int32}
variable {ni no N : Nat} {κ A P Q U : Nat → Nat} {r : Nat} {pi : Int32 → Prop}
theorem yf_of {fs : Nat → Int32} (T : tr_F ni no N κ A P Q U) (hT : ln_T N a_kind a_arg a_first a_second a_parent κ A P Q U) {n : Nat} (hn : n < N)
    (K : pi (fc_f (κ n) (A n) (fs (P n)) (fs (Q n)))) : wpY_firstOf pi (f_inputs, f_outputs, f_cap, f_count, f_phase, f_root, f_instants, f_rejected, f_activeLeaves, a_kind, a_arg, a_first, a_second, a_parent, a_shown, a_e, fs, a_ms, a_cs, a_mk, a_ck, a_left) (nI n) := by
  have hN := T.1
  have hk := tr_k T hn
  have h9 := (T.2 n hn).2.2.2.2
  obtain ⟨t1, t2, t3, t4, t5, t6, t7, t8⟩ := hT n hn
  have hi : vp_in (nI n) 32 := vp_in_nI (by omega) (by decide)
  refine ⟨hi, ?_⟩
  rw [nI_clamp (show n < 2 ^ 31 by omega)]
  unfold fc_f at K
  refine nm_r t1 (pk_eq (κ n) 0 (fun h => by rw [if_pos (Or.inl h)] at K; exact K) (fun h0 => pk_eq (κ n) 2 (fun h => by rw [if_pos (Or.inr h)] at K; exact K) (fun h2 => ?_)))
  rw [if_neg (by omega)] at K
  refine pk_eq (κ n) 1 (fun h => by rw [if_pos (Or.inl h)] at K; exact K) (fun h1 => pk_eq (κ n) 4 (fun h => by rw [if_pos (Or.inr h)] at K; exact K) (fun h4 => ?_))
  rw [if_neg (by omega)] at K
  refine pk_eq (κ n) 3 (fun h => ⟨hi, ?_⟩) (fun h3 => ⟨hi, ?_⟩)
  · rw [if_pos h] at K
    rw [t6 (by omega)]; exact K
  rw [if_neg h3] at K
  have k5 : 5 ≤ κ n := by omega
  have p := tr_p T hn k5
  rw [t3 k5]
  refine ⟨vp_in_nI (by omega) (by decide), ?_⟩
  rw [nI_clamp (show P n < 2 ^ 31 by omega)]
  refine nm_e (pk_eq (κ n) 5 (fun h => by rw [if_pos h] at K; exact K) (fun h5 => pk_eq (κ n) 6 (fun h => ?_) (fun h6 => ?_)))
  · rw [if_neg h5, if_pos h] at K
    exact yb_down K
  rw [if_neg h5, if_neg h6] at K
  refine pk_eq (κ n) 7 (fun h => by rw [if_pos (Or.inl h)] at K; exact K) (fun h7 => pk_eq (κ n) 8 (fun h => by rw [if_pos (Or.inr h)] at K; exact K) (fun h8 => ⟨hi, ?_⟩))
  rw [if_neg (by omega)] at K
  have q := tr_q T hn (by omega)
  rw [t5 (by omega)]
  refine ⟨vp_in_nI (by omega) (by decide), ?_⟩
  rw [nI_clamp (show Q n < 2 ^ 31 by omega)]
  refine nm_e (pk_eq (κ n) 9 (fun h => by rw [if_pos h] at K; exact K) (fun h9' => pk_eq (κ n) 11 (fun h => ?_) (fun h11 => ?_)))
  · rw [if_neg h9', if_neg (by omega)] at K
    exact yb_max K
  · rw [if_neg h9', if_pos (by omega)] at K
    refine rc_ifb (rc_and1 _) (fun z => ?_) (fun z => ?_)
    · rw [if_neg (by rw [z]; exact Bool.false_ne_true)] at K; exact K
    · rw [if_pos z] at K; exact K
end
end
section
/-! ===== restart, isFree, isSignal; compile on both sides ===== -/
def rs_s (f : Nat → Int32) : Nat → Int32 := fun j => if j < 10 then 2 else f j
section
variable {f_wireFalse f_wireTrue f_signalBase f_bootWire f_registerBase f_firstGate f_wireLimit f_opAnd f_opOr f_opNot f_codes f_cells f_resumeBase f_rootRow f_endRow f_stayRow f_leftRow f_rightRow f_inputSignals f_outputSignals f_nodeLimit f_count f_phaseNow f_instantCount f_rejectedCount f_wireCount f_logicEnd : Int32} {a_kindOf a_argOf a_firstOf a_secondOf a_parentOf a_activeNode a_lastStatus a_inTree a_trapDepth a_firstCodes a_gateOp a_gateA a_gateB a_inverseOf a_cell a_selWire a_keepStart a_keepResume a_frozen a_nextWire : Nat → Int32} {a_must a_can : Nat → Int64}
variable {post : SX → Prop} {pi : Int32 → Prop} {ni no N : Nat} {κ A P Q U : Nat → Nat} {r : Nat}
theorem xs_23 {ls : Nat → Int32} (K : post (f_wireFalse, f_wireTrue, f_signalBase, f_bootWire, f_registerBase, f_firstGate, f_wireLimit, f_opAnd, f_opOr, f_opNot, f_codes, f_cells, f_resumeBase, f_rootRow, f_endRow, f_stayRow, f_leftRow, f_rightRow, f_inputSignals, f_outputSignals, f_nodeLimit, f_count, f_phaseNow, 0, 0, f_wireCount, f_logicEnd, a_kindOf, a_argOf, a_firstOf, a_secondOf, a_parentOf, a_activeNode, rs_s ls, a_inTree, a_trapDepth, a_firstCodes, a_gateOp, a_gateA, a_gateB, a_inverseOf, a_cell, a_selWire, a_keepStart, a_keepResume, a_frozen, a_nextWire, a_must, a_can)) : ∀ d s cur n, s + d = 10 → d < n → (∀ j, cur j = if j < s then 2 else ls j) → wX_restart_23 post f_wireFalse f_wireTrue f_signalBase f_bootWire f_registerBase f_firstGate f_wireLimit f_opAnd f_opOr f_opNot f_codes f_cells f_resumeBase f_rootRow f_endRow f_stayRow f_leftRow f_rightRow f_inputSignals f_outputSignals f_nodeLimit f_count f_phaseNow f_instantCount f_rejectedCount f_wireCount f_logicEnd n (nI s) a_kindOf a_argOf a_firstOf a_secondOf a_parentOf a_activeNode cur a_inTree a_trapDepth a_firstCodes a_gateOp a_gateA a_gateB a_inverseOf a_cell a_selWire a_keepStart a_keepResume a_frozen a_nextWire a_must a_can := by
  intro d
  induction d with
  | zero =>
    intro s cur n hs hn h
    obtain ⟨n, rfl⟩ : ∃ z, n = z + 1 := ⟨n - 1, by omega⟩
    rw [show s = 10 by omega] at h ⊢
    have : cur = rs_s ls := funext h
    rw [this]
    exact pk_le 10 10 (fun _ => K) (fun h => absurd h (by omega))
  | succ d ih =>
    intro s cur n hs hn h
    obtain ⟨n, rfl⟩ : ∃ z, n = z + 1 := ⟨n - 1, by omega⟩
    refine pk_le 10 s (fun h => absurd h (by omega)) (fun _ => ⟨vp_in_nI (by omega) (by decide), ?_⟩)
    rw [nI_clamp (show s < 2 ^ 31 by omega), nI_1 s]
    refine nm_e (nm_e (ih (s + 1) _ n (by omega) (by omega) (fun j => ?_)))
    unfold upd
    by_cases e : j = s
    · rw [if_pos e, if_pos (by omega)]
    · rw [if_neg e, h j]
      by_cases l : j < s
      · rw [if_pos l, if_pos (by omega)]
      · rw [if_neg l, if_neg (by omega)]
theorem xs_2 {ls : Nat → Int32} (K : ∀ an, (∀ j, j < 32 → an j = 0) → post (f_wireFalse, f_wireTrue, f_signalBase, f_bootWire, f_registerBase, f_firstGate, f_wireLimit, f_opAnd, f_opOr, f_opNot, f_codes, f_cells, f_resumeBase, f_rootRow, f_endRow, f_stayRow, f_leftRow, f_rightRow, f_inputSignals, f_outputSignals, f_nodeLimit, f_count, f_phaseNow, 0, 0, f_wireCount, f_logicEnd, a_kindOf, a_argOf, a_firstOf, a_secondOf, a_parentOf, an, rs_s ls, a_inTree, a_trapDepth, a_firstCodes, a_gateOp, a_gateA, a_gateB, a_inverseOf, a_cell, a_selWire, a_keepStart, a_keepResume, a_frozen, a_nextWire, a_must, a_can)) : ∀ d s cur n, s + d = 32 → d < n → (∀ j, j < s → cur j = 0) → wX_restart_2 post f_wireFalse f_wireTrue f_signalBase f_bootWire f_registerBase f_firstGate f_wireLimit f_opAnd f_opOr f_opNot f_codes f_cells f_resumeBase f_rootRow f_endRow f_stayRow f_leftRow f_rightRow f_inputSignals f_outputSignals f_nodeLimit f_count f_phaseNow f_instantCount f_rejectedCount f_wireCount f_logicEnd n (nI s) a_kindOf a_argOf a_firstOf a_secondOf a_parentOf cur ls a_inTree a_trapDepth a_firstCodes a_gateOp a_gateA a_gateB a_inverseOf a_cell a_selWire a_keepStart a_keepResume a_frozen a_nextWire a_must a_can := by
  intro d
  induction d with
  | zero =>
    intro s cur n hs hn h
    obtain ⟨n, rfl⟩ : ∃ z, n = z + 1 := ⟨n - 1, by omega⟩
    rw [show s = 32 by omega] at h ⊢
    exact pk_le 32 32 (fun _ => ⟨11, xs_23 (K cur h) 10 0 ls 11 rfl (by omega) (fun j => (if_neg (by omega)).symm)⟩) (fun h => absurd h (by omega))
  | succ d ih =>
    intro s cur n hs hn h
    obtain ⟨n, rfl⟩ : ∃ z, n = z + 1 := ⟨n - 1, by omega⟩
    refine pk_le 32 s (fun h => absurd h (by omega)) (fun _ => ⟨vp_in_nI (by omega) (by decide), ?_⟩)
    rw [nI_clamp (show s < 2 ^ 31 by omega), nI_1 s]
    refine nm_e (nm_e (ih (s + 1) _ n (by omega) (by omega) (fun j hj => ?_)))
    by_cases e : j = s
    · subst e; exact pk_us
    · rw [pk_un e]; exact h j (by omega)
theorem xs_restart (K : ∀ an, (∀ j, j < 32 → an j = 0) → post (f_wireFalse, f_wireTrue, f_signalBase, f_bootWire, f_registerBase, f_firstGate, f_wireLimit, f_opAnd, f_opOr, f_opNot, f_codes, f_cells, f_resumeBase, f_rootRow, f_endRow, f_stayRow, f_leftRow, f_rightRow, f_inputSignals, f_outputSignals, f_nodeLimit, f_count, f_phaseNow, 0, 0, f_wireCount, f_logicEnd, a_kindOf, a_argOf, a_firstOf, a_secondOf, a_parentOf, an, rs_s a_lastStatus, a_inTree, a_trapDepth, a_firstCodes, a_gateOp, a_gateA, a_gateB, a_inverseOf, a_cell, a_selWire, a_keepStart, a_keepResume, a_frozen, a_nextWire, a_must, a_can)) : wpX_restart post (f_wireFalse, f_wireTrue, f_signalBase, f_bootWire, f_registerBase, f_firstGate, f_wireLimit, f_opAnd, f_opOr, f_opNot, f_codes, f_cells, f_resumeBase, f_rootRow, f_endRow, f_stayRow, f_leftRow, f_rightRow, f_inputSignals, f_outputSignals, f_nodeLimit, f_count, f_phaseNow, f_instantCount, f_rejectedCount, f_wireCount, f_logicEnd, a_kindOf, a_argOf, a_firstOf, a_secondOf, a_parentOf, a_activeNode, a_lastStatus, a_inTree, a_trapDepth, a_firstCodes, a_gateOp, a_gateA, a_gateB, a_inverseOf, a_cell, a_selWire, a_keepStart, a_keepResume, a_frozen, a_nextWire, a_must, a_can) :=
  ⟨33, xs_2 K 32 0 a_activeNode 33 rfl (by omega) (fun j h => absurd h (by omega))⟩
theorem xs_ex {x : Int32} (hN : N ≤ 32) (K1 : ∀ j, j < N → x = nI j → pi 1) (K0 : (¬ ∃ j, j < N ∧ x = nI j) → pi 0) : wpX_exists pi (f_wireFalse, f_wireTrue, f_signalBase, f_bootWire, f_registerBase, f_firstGate, f_wireLimit, f_opAnd, f_opOr, f_opNot, f_codes, f_cells, f_resumeBase, f_rootRow, f_endRow, f_stayRow, f_leftRow, f_rightRow, f_inputSignals, f_outputSignals, f_nodeLimit, nI N, f_phaseNow, f_instantCount, f_rejectedCount, f_wireCount, f_logicEnd, a_kindOf, a_argOf, a_firstOf, a_secondOf, a_parentOf, a_activeNode, a_lastStatus, a_inTree, a_trapDepth, a_firstCodes, a_gateOp, a_gateA, a_gateB, a_inverseOf, a_cell, a_selWire, a_keepStart, a_keepResume, a_frozen, a_nextWire, a_must, a_can) x := by
  rcases pk_ix x (n := N) (by omega) with h | h | ⟨j, hj, rfl⟩
  · refine br_t h (K0 ?_)
    intro ⟨j, hj, e⟩
    rw [e] at h; exact nI_pos (by omega) h
  · refine br_c (fun z => K0 ?_) (fun z => br_t h (K0 ?_))
    · intro ⟨j, hj, e⟩; rw [e] at z; exact nI_pos (by omega) z
    · intro ⟨j, hj, e⟩; rw [e] at h; exact nI_ge hj (by omega) h
  · exact br_f (nI_pos (by omega)) (br_f (nI_ge hj (by omega)) (K1 j hj rfl))
theorem xs_free {x : Int32} (hN : N ≤ 32) (K1 : ∀ j, j < N → x = nI j → a_parentOf j = -5 → pi 1) (K0 : (¬ ∃ j, j < N ∧ x = nI j ∧ a_parentOf j = -5) → pi 0) : wpX_isFree pi (f_wireFalse, f_wireTrue, f_signalBase, f_bootWire, f_registerBase, f_firstGate, f_wireLimit, f_opAnd, f_opOr, f_opNot, f_codes, f_cells, f_resumeBase, f_rootRow, f_endRow, f_stayRow, f_leftRow, f_rightRow, f_inputSignals, f_outputSignals, f_nodeLimit, nI N, f_phaseNow, f_instantCount, f_rejectedCount, f_wireCount, f_logicEnd, a_kindOf, a_argOf, a_firstOf, a_secondOf, a_parentOf, a_activeNode, a_lastStatus, a_inTree, a_trapDepth, a_firstCodes, a_gateOp, a_gateA, a_gateB, a_inverseOf, a_cell, a_selWire, a_keepStart, a_keepResume, a_frozen, a_nextWire, a_must, a_can) x := by
  unfold wpX_isFree
  refine xs_ex hN (fun j hj e => br_f (by decide) ?_) (fun h => br_t rfl (K0 (fun ⟨j, hj, e, _⟩ => h ⟨j, hj, e⟩)))
  subst e
  refine ⟨vp_in_nI (by omega) (by decide), ?_⟩
  rw [nI_clamp (show j < 2 ^ 31 by omega)]
  refine br_c (fun z => K1 j hj rfl z) (fun z => K0 (fun ⟨i, hi, e, q⟩ => z ?_))
  rw [(nI_eq (by omega) (by omega)).mp e]; exact q
theorem xs_sig {x : Int32} (hni : ni ≤ 4) (hno : no ≤ 6) (K1 : ∀ s, s < ni + no → x = nI s → pi 1) (K0 : (¬ ∃ s, s < ni + no ∧ x = nI s) → pi 0) : wpX_isSignal pi (f_wireFalse, f_wireTrue, f_signalBase, f_bootWire, f_registerBase, f_firstGate, f_wireLimit, f_opAnd, f_opOr, f_opNot, f_codes, f_cells, f_resumeBase, f_rootRow, f_endRow, f_stayRow, f_leftRow, f_rightRow, nI ni, nI no, f_nodeLimit, f_count, f_phaseNow, f_instantCount, f_rejectedCount, f_wireCount, f_logicEnd, a_kindOf, a_argOf, a_firstOf, a_secondOf, a_parentOf, a_activeNode, a_lastStatus, a_inTree, a_trapDepth, a_firstCodes, a_gateOp, a_gateA, a_gateB, a_inverseOf, a_cell, a_selWire, a_keepStart, a_keepResume, a_frozen, a_nextWire, a_must, a_can) x := by
  rcases pk_ix x (n := ni + no) (by omega) with h | h | ⟨j, hj, rfl⟩
  · refine br_t h (K0 ?_)
    intro ⟨j, hj, e⟩
    rw [e] at h; exact nI_pos (by omega) h
  · refine br_c (fun z => K0 ?_) (fun z => br_t (by rw [nI_add]; exact h) (K0 ?_))
    · intro ⟨j, hj, e⟩; rw [e] at z; exact nI_pos (by omega) z
    · intro ⟨j, hj, e⟩; rw [e] at h; exact nI_ge hj (by omega) h
  · exact br_f (nI_pos (by omega)) (br_f (by rw [nI_add]; exact nI_ge hj (by omega)) (K1 j hj rfl))
end
section
variable {f_wireFalse f_wireTrue f_signalBase f_bootWire f_registerBase f_firstGate f_wireLimit f_opAnd f_opOr f_opNot f_codes f_cells f_resumeBase f_rootRow f_endRow f_stayRow f_leftRow f_rightRow f_inputSignals f_outputSignals f_nodeLimit f_count f_phaseNow f_instantCount f_rejectedCount f_wireCount f_logicEnd : Int32} {a_kindOf a_argOf a_firstOf a_secondOf a_parentOf a_activeNode a_lastStatus a_inTree a_trapDepth a_firstCodes a_gateOp a_gateA a_gateB a_inverseOf a_cell a_selWire a_keepStart a_keepResume a_frozen a_nextWire : Nat → Int32} {a_must a_can : Nat → Int64}
variable {post : Int32 → SX → Prop} {ni no N : Nat} {κ A P Q U : Nat → Nat}
theorem xs_compile (T : tr_F ni no N κ A P Q U) (hni : ni ≤ 4) (hno : no ≤ 6) (hT : ln_T N a_kindOf a_argOf a_firstOf a_secondOf a_parentOf κ A P Q U) {r : Nat} (hr : r < N) (hpa : a_parentOf r = -5) {f : Nat → Int32} (F : fc_F N κ A P Q f)
    (K1 : (∃ n, n < N ∧ lx_B N κ A U r n) → ∀ it td, post (-2) (f_wireFalse, f_wireTrue, f_signalBase, f_bootWire, f_registerBase, f_firstGate, f_wireLimit, f_opAnd, f_opOr, f_opNot, f_codes, f_cells, f_resumeBase, f_rootRow, f_endRow, f_stayRow, f_leftRow, f_rightRow, nI ni, f_outputSignals, f_nodeLimit, nI N, 0, f_instantCount, f_rejectedCount, f_wireCount, f_logicEnd, a_kindOf, a_argOf, a_firstOf, a_secondOf, a_parentOf, a_activeNode, a_lastStatus, it, td, a_firstCodes, a_gateOp, a_gateA, a_gateB, a_inverseOf, a_cell, a_selWire, a_keepStart, a_keepResume, a_frozen, a_nextWire, a_must, a_can))
    (K2 : (∀ n, n < N → ¬ lx_B N κ A U r n) → (∃ n, n < N ∧ il_B N κ P U f r n) → ∀ it td fc, post (-3) (f_wireFalse, f_wireTrue, f_signalBase, f_bootWire, f_registerBase, f_firstGate, f_wireLimit, f_opAnd, f_opOr, f_opNot, f_codes, f_cells, f_resumeBase, f_rootRow, f_endRow, f_stayRow, f_leftRow, f_rightRow, nI ni, f_outputSignals, f_nodeLimit, nI N, 0, f_instantCount, f_rejectedCount, f_wireCount, f_logicEnd, a_kindOf, a_argOf, a_firstOf, a_secondOf, a_parentOf, a_activeNode, a_lastStatus, it, td, fc, a_gateOp, a_gateA, a_gateB, a_inverseOf, a_cell, a_selWire, a_keepStart, a_keepResume, a_frozen, a_nextWire, a_must, a_can))
    (K3 : (∀ n, n < N → ¬ lx_B N κ A U r n) → (∀ n, n < N → ¬ il_B N κ P U f r n) → ∀ (it td fc : Nat → Int32) (c : ck_T) (lE : Nat) (ce sw ks kr fz nx an : Nat → Int32), kp_T N U r it → cp_F ni N κ A P Q U r c.1 lE c.2.1 c.2.2.1 c.2.2.2.1 ce sw nx → (∀ j, j < 32 → an j = 0) →
      post 0 (f_wireFalse, f_wireTrue, f_signalBase, f_bootWire, f_registerBase, f_firstGate, f_wireLimit, f_opAnd, f_opOr, f_opNot, f_codes, f_cells, f_resumeBase, f_rootRow, f_endRow, f_stayRow, f_leftRow, f_rightRow, nI ni, f_outputSignals, f_nodeLimit, nI N, 1, 0, 0, nI c.1, nI lE, a_kindOf, a_argOf, a_firstOf, a_secondOf, a_parentOf, an, rs_s a_lastStatus, it, td, fc, c.2.1, c.2.2.1, c.2.2.2.1, c.2.2.2.2, ce, sw, ks, kr, fz, nx, a_must, a_can)) :
    wpX_compile post (f_wireFalse, f_wireTrue, f_signalBase, f_bootWire, f_registerBase, f_firstGate, f_wireLimit, f_opAnd, f_opOr, f_opNot, f_codes, f_cells, f_resumeBase, f_rootRow, f_endRow, f_stayRow, f_leftRow, f_rightRow, nI ni, f_outputSignals, f_nodeLimit, nI N, 0, f_instantCount, f_rejectedCount, f_wireCount, f_logicEnd, a_kindOf, a_argOf, a_firstOf, a_secondOf, a_parentOf, a_activeNode, a_lastStatus, a_inTree, a_trapDepth, a_firstCodes, a_gateOp, a_gateA, a_gateB, a_inverseOf, a_cell, a_selWire, a_keepStart, a_keepResume, a_frozen, a_nextWire, a_must, a_can) (nI r) := by
  have hN := T.1
  have hur : ¬ U r < N := by
    rcases (hT r hr).2.2.2.2.2.2.2 with ⟨_, q⟩ | ⟨q, _⟩
    · omega
    · rw [hpa] at q
      intro h
      exact absurd q.symm (rc_m5 (by omega))
  refine br_t rfl ?_
  refine xs_free hN (fun _ _ _ _ => br_f (by decide) ?_) (fun h => absurd ⟨r, hr, rfl, hpa⟩ h)
  refine nm_r (show nI N - 1 = nI N + (-1) from by rw [show N = (N - 1) + 1 by omega, nI_pred, pk_m1]) ⟨N + 1, ?_⟩
  refine xc_mark T hT hr hur (fun it td hI hD => ?_) N _ _ (N + 1) (Nat.le_refl _) (by omega) (fun m h1 h2 => absurd h2 (by omega))
  refine ⟨N + 1, xc_loose (r := r) T hT hI hD (fun lx => br_f (by decide) (K1 lx it td)) (fun nl => br_t rfl ?_) N 0 (N + 1) (by omega) (by omega) (fun j h => absurd h (by omega))⟩
  refine ⟨N + 1, xf_il (r := r) T hT hI F (fun il fc => br_f (by decide) (K2 nl il it td fc)) (fun ni' fc => br_t rfl ?_) N 0 _ (N + 1) (by omega) (by omega) (fun j h => absurd h (by omega)) (fun j h => absurd h (by omega))⟩
  refine xb_all T hni hno hT hr hur hI (fun c lE ce sw ks kr fz nx C => ?_)
  exact xs_restart (fun an ha => K3 nl ni' it td fc c lE ce sw ks kr fz nx an hI C ha)
end
section
variable {f_inputs f_outputs f_cap f_count f_phase f_root f_instants f_rejected f_activeLeaves : Int32} {a_kind a_arg a_first a_second a_parent a_shown a_e a_fst a_ms a_cs a_mk a_ck a_left : Nat → Int32}
variable {post : SY → Prop} {pi : Int32 → Prop} {ni no N : Nat} {κ A P Q U : Nat → Nat} {r : Nat}
theorem ys_22 {sh : Nat → Int32} (K : post (f_inputs, f_outputs, f_cap, f_count, f_phase, f_root, f_instants, f_rejected, f_activeLeaves, a_kind, a_arg, a_first, a_second, a_parent, rs_s sh, a_e, a_fst, a_ms, a_cs, a_mk, a_ck, a_left)) : ∀ d s cur n, s + d = 10 → d < n → (∀ j, cur j = if j < s then 2 else sh j) → wY_restart_22 post f_inputs f_outputs f_cap f_count f_phase f_root f_instants f_rejected f_activeLeaves n (nI s) a_kind a_arg a_first a_second a_parent cur a_e a_fst a_ms a_cs a_mk a_ck a_left := by
  intro d
  induction d with
  | zero =>
    intro s cur n hs hn h
    obtain ⟨n, rfl⟩ : ∃ z, n = z + 1 := ⟨n - 1, by omega⟩
    rw [show s = 10 by omega] at h ⊢
    have : cur = rs_s sh := funext h
    rw [this]
    exact pk_le 10 10 (fun _ => K) (fun h => absurd h (by omega))
  | succ d ih =>
    intro s cur n hs hn h
    obtain ⟨n, rfl⟩ : ∃ z, n = z + 1 := ⟨n - 1, by omega⟩
    refine pk_le 10 s (fun h => absurd h (by omega)) (fun _ => ⟨vp_in_nI (by omega) (by decide), ?_⟩)
    rw [nI_clamp (show s < 2 ^ 31 by omega), nI_1 s]
    refine nm_e (nm_e (ih (s + 1) _ n (by omega) (by omega) (fun j => ?_)))
    unfold upd
    by_cases e : j = s
    · rw [if_pos e, if_pos (by omega)]
    · rw [if_neg e, h j]
      by_cases l : j < s
      · rw [if_pos l, if_pos (by omega)]
      · rw [if_neg l, if_neg (by omega)]
theorem ys_restart {p : Int32} (K : post (f_inputs, f_outputs, f_cap, f_count, p, f_root, 0, 0, 0, a_kind, a_arg, a_first, a_second, a_parent, rs_s a_shown, a_e, a_fst, a_ms, a_cs, a_mk, a_ck, a_left)) : wpY_restart post (f_inputs, f_outputs, f_cap, f_count, f_phase, f_root, f_instants, f_rejected, f_activeLeaves, a_kind, a_arg, a_first, a_second, a_parent, a_shown, a_e, a_fst, a_ms, a_cs, a_mk, a_ck, a_left) p :=
  ⟨11, ys_22 K 10 0 a_shown 11 rfl (by omega) (fun j => (if_neg (by omega)).symm)⟩
theorem ys_nd {x : Int32} (hN : N ≤ 32) (K1 : ∀ j, j < N → x = nI j → pi 1) (K0 : (¬ ∃ j, j < N ∧ x = nI j) → pi 0) : wpY_isNode pi (f_inputs, f_outputs, f_cap, nI N, f_phase, f_root, f_instants, f_rejected, f_activeLeaves, a_kind, a_arg, a_first, a_second, a_parent, a_shown, a_e, a_fst, a_ms, a_cs, a_mk, a_ck, a_left) x := by
  rcases pk_ix x (n := N) (by omega) with h | h | ⟨j, hj, rfl⟩
  · refine br_t h (K0 ?_)
    intro ⟨j, hj, e⟩
    rw [e] at h; exact nI_pos (by omega) h
  · refine br_c (fun z => K0 ?_) (fun z => br_t h (K0 ?_))
    · intro ⟨j, hj, e⟩; rw [e] at z; exact nI_pos (by omega) z
    · intro ⟨j, hj, e⟩; rw [e] at h; exact nI_ge hj (by omega) h
  · exact br_f (nI_pos (by omega)) (br_f (nI_ge hj (by omega)) (K1 j hj rfl))
theorem ys_free {x : Int32} (hN : N ≤ 32) (K1 : ∀ j, j < N → x = nI j → a_parent j = -5 → pi 1) (K0 : (¬ ∃ j, j < N ∧ x = nI j ∧ a_parent j = -5) → pi 0) : wpY_isFree pi (f_inputs, f_outputs, f_cap, nI N, f_phase, f_root, f_instants, f_rejected, f_activeLeaves, a_kind, a_arg, a_first, a_second, a_parent, a_shown, a_e, a_fst, a_ms, a_cs, a_mk, a_ck, a_left) x := by
  unfold wpY_isFree
  refine ys_nd hN (fun j hj e => br_f (by decide) ?_) (fun h => br_t rfl (K0 (fun ⟨j, hj, e, _⟩ => h ⟨j, hj, e⟩)))
  subst e
  refine ⟨vp_in_nI (by omega) (by decide), ?_⟩
  rw [nI_clamp (show j < 2 ^ 31 by omega)]
  refine br_c (fun z => K1 j hj rfl z) (fun z => K0 (fun ⟨i, hi, e, q⟩ => z ?_))
  rw [(nI_eq (by omega) (by omega)).mp e]; exact q
theorem ys_sig {x : Int32} (hni : ni ≤ 4) (hno : no ≤ 6) (K1 : ∀ s, s < ni + no → x = nI s → pi 1) (K0 : (¬ ∃ s, s < ni + no ∧ x = nI s) → pi 0) : wpY_isSignal pi (nI ni, nI no, f_cap, f_count, f_phase, f_root, f_instants, f_rejected, f_activeLeaves, a_kind, a_arg, a_first, a_second, a_parent, a_shown, a_e, a_fst, a_ms, a_cs, a_mk, a_ck, a_left) x := by
  rcases pk_ix x (n := ni + no) (by omega) with h | h | ⟨j, hj, rfl⟩
  · refine br_t h (K0 ?_)
    intro ⟨j, hj, e⟩
    rw [e] at h; exact nI_pos (by omega) h
  · refine br_c (fun z => K0 ?_) (fun z => br_t (by rw [nI_add]; exact h) (K0 ?_))
    · intro ⟨j, hj, e⟩; rw [e] at z; exact nI_pos (by omega) z
    · intro ⟨j, hj, e⟩; rw [e] at h; exact nI_ge hj (by omega) h
  · exact br_f (nI_pos (by omega)) (br_f (by rw [nI_add]; exact nI_ge hj (by omega)) (K1 j hj rfl))
end
noncomputable def dp_g (N : Nat) (κ U : Nat → Nat) (m x : Nat) : Bool := decide (κ x = 6) && pb_P (tr_B N U m x)
theorem dp_eq {N : Nat} {κ U : Nat → Nat} {n : Nat} (h : κ n ≠ 6) : ct_n (dp_g N κ U n) N = dp_n N κ U n := by
  refine ct_eq N (fun x _ => ?_)
  unfold dp_g dp_f
  by_cases e : x = n
  · subst e; rw [decide_eq_false h, Bool.false_and, Bool.false_and]
  · rw [pb_c (p := tr_B N U n x) (q := tr_B N U n x ∧ x ≠ n) ⟨fun b => ⟨b, e⟩, fun b => b.1⟩]
section
variable {f_inputs f_outputs f_cap f_count f_phase f_root f_instants f_rejected f_activeLeaves : Int32} {a_kind a_arg a_first a_second a_parent a_shown a_e a_fst a_ms a_cs a_mk a_ck a_left : Nat → Int32}
variable {post : Int32 → SY → Prop} {ni no N : Nat} {κ A P Q U : Nat → Nat} {r : Nat}
theorem yc_32 {J : Int32 → Prop} (T : tr_F ni no N κ A P Q U) (hT : ln_T N a_kind a_arg a_first a_second a_parent κ A P Q U) (hr : r < N) {n : Nat} (hn : n < N)
    (K1 : lx_B N κ A U r n → post (-2) (f_inputs, f_outputs, f_cap, nI N, f_phase, f_root, f_instants, f_rejected, f_activeLeaves, a_kind, a_arg, a_first, a_second, a_parent, a_shown, a_e, a_fst, a_ms, a_cs, a_mk, a_ck, a_left)) (K0 : ¬ lx_B N κ A U r n → J (nI (n + 1))) :
    ∀ d m k, m + d = N → d < k → wY_compile_32 post J (nI r) (nI n) f_inputs f_outputs f_cap (nI N) f_phase f_root f_instants f_rejected f_activeLeaves a_kind a_arg a_first a_second a_parent a_shown a_e a_fst a_ms a_cs a_mk a_ck a_left k (nI (ct_n (dp_g N κ U n) m)) (nI m) := by
  have hN := T.1
  have hM : ∀ m, m < N → U m < N → m < U m := fun m hm hu => (tr_u T hm hu).1
  intro d
  induction d with
  | zero =>
    intro m k hm hk
    obtain ⟨k, rfl⟩ : ∃ z, k = z + 1 := ⟨k - 1, by omega⟩
    rw [show m = N by omega]
    have hi : vp_in (nI n) 32 := vp_in_nI (by omega) (by decide)
    have h9 := (T.2 n hn).2.2.2.2
    have kk := tr_k T hn
    obtain ⟨t1, t2, t3, t4, t5, t6, t7, t8⟩ := hT n hn
    refine pk_le N N (fun _ => ⟨hi, ?_⟩) (fun h => absurd h (by omega))
    rw [nI_clamp (show n < 2 ^ 31 by omega), nI_1 n, t1]
    refine pk_eq (κ n) 3 (fun h => ?_) (fun h => nm_e (K0 (fun z => h z.2.1)))
    have dl := dp_le N κ U n
    have a3 := h9.2.2 h
    rw [dp_eq (by omega)]
    refine yb_bel hN hM hT (by omega) hn (fun b => br_f (by decide) ⟨hi, ?_⟩) (fun b => br_t rfl (nm_e (K0 (fun z => b z.1))))
    rw [t6 (by omega), nI_1 (A n)]
    exact pk_le (A n + 1) (dp_n N κ U n) (fun z => nm_e (K0 (fun y => y.2.2 z))) (fun z => K1 ⟨b, h, by omega⟩)
  | succ d ih =>
    intro m k hm hk
    obtain ⟨k, rfl⟩ : ∃ z, k = z + 1 := ⟨k - 1, by omega⟩
    have I := ih (m + 1) k (by omega) (by omega)
    rw [ct_n] at I
    have kk := tr_k T (show m < N by omega)
    refine pk_le N m (fun h => absurd h (by omega)) (fun _ => ⟨vp_in_nI (by omega) (by decide), ?_⟩)
    rw [nI_clamp (show m < 2 ^ 31 by omega), nI_1 m, (hT m (by omega)).1]
    refine pk_eq (κ m) 6 (fun h => ?_) (fun h => nm_e ?_)
    · refine yb_bel hN hM hT (by omega) hn (fun b => br_f (by decide) ?_) (fun b => br_t rfl (nm_e ?_))
      · have e : dp_g N κ U n m = true := by unfold dp_g; rw [decide_eq_true h, pb_t b]; rfl
        rw [if_pos e] at I
        exact nm_r (nI_1 _) (nm_e I)
      · have e : dp_g N κ U n m = false := by unfold dp_g; rw [pb_f b, Bool.and_false]
        rw [if_neg (by rw [e]; exact Bool.false_ne_true), Nat.add_zero] at I
        exact I
    · have e : dp_g N κ U n m = false := by unfold dp_g; rw [decide_eq_false h, Bool.false_and]
      rw [if_neg (by rw [e]; exact Bool.false_ne_true), Nat.add_zero] at I
      exact I
theorem yc_114 {f : Nat → Int32} (T : tr_F ni no N κ A P Q U) (hT : ln_T N a_kind a_arg a_first a_second a_parent κ A P Q U) (hr : r < N) (F : fc_F N κ A P Q f)
    (K2 : (∃ n, n < N ∧ il_B N κ P U f r n) → ∀ fs, post (-3) (f_inputs, f_outputs, f_cap, nI N, f_phase, f_root, f_instants, f_rejected, f_activeLeaves, a_kind, a_arg, a_first, a_second, a_parent, a_shown, a_e, fs, a_ms, a_cs, a_mk, a_ck, a_left))
    (K3 : (∀ n, n < N → ¬ il_B N κ P U f r n) → ∀ fs, post 0 (f_inputs, f_outputs, f_cap, nI N, 1, nI r, 0, 0, 0, a_kind, a_arg, a_first, a_second, a_parent, rs_s a_shown, a_e, fs, a_ms, a_cs, a_mk, a_ck, a_left)) :
    ∀ d n fs k, n + d = N → d < k → (∀ j, j < n → ¬ il_B N κ P U f r j) → (∀ j, j < n → fs j = f j) → wY_compile_114 post (nI r) f_inputs f_outputs f_cap (nI N) f_phase f_root f_instants f_rejected f_activeLeaves k (nI n) a_kind a_arg a_first a_second a_parent a_shown a_e fs a_ms a_cs a_mk a_ck a_left := by
  have hN := T.1
  have hM : ∀ m, m < N → U m < N → m < U m := fun m hm hu => (tr_u T hm hu).1
  intro d
  induction d with
  | zero =>
    intro n fs k hn hk Z G
    obtain ⟨k, rfl⟩ : ∃ z, k = z + 1 := ⟨k - 1, by omega⟩
    rw [show n = N by omega] at Z ⊢
    exact pk_le N N (fun _ => ys_restart (K3 Z fs)) (fun h => absurd h (by omega))
  | succ d ih =>
    intro n fs k hn hk Z G
    obtain ⟨k, rfl⟩ : ∃ z, k = z + 1 := ⟨k - 1, by omega⟩
    have nN : n < N := by omega
    have hi : vp_in (nI n) 32 := vp_in_nI (by omega) (by decide)
    have cn : (nI n).toNatClampNeg = n := nI_clamp (by omega)
    have kk := tr_k T nN
    obtain ⟨t1, t2, t3, t4, t5, t6, t7, t8⟩ := hT n nN
    have G1 : ∀ j, j < n + 1 → upd fs n (fc_f (κ n) (A n) (fs (P n)) (fs (Q n))) j = f j := by
      intro j hj
      by_cases e : j = n
      · subst e
        rw [pk_us, F j nN]
        exact fc_c (fun k => by have := tr_p T nN k; exact G _ this.1) (fun k => by have := tr_q T nN k; exact G _ this.1)
      · rw [pk_un e]; exact G j (by omega)
    have go : ¬ il_B N κ P U f r n → wY_compile_114 post (nI r) f_inputs f_outputs f_cap (nI N) f_phase f_root f_instants f_rejected f_activeLeaves k (nI (n + 1)) a_kind a_arg a_first a_second a_parent a_shown a_e (upd fs n (fc_f (κ n) (A n) (fs (P n)) (fs (Q n)))) a_ms a_cs a_mk a_ck a_left := fun h => ih (n + 1) _ k (by omega) (by omega) (fun j hj => by
      by_cases e : j = n
      · subst e; exact h
      · exact Z j (by omega)) G1
    refine pk_le N n (fun h => absurd h (by omega)) (fun _ => yf_of T hT nN ⟨hi, ?_⟩)
    rw [cn]
    refine nm_e ⟨hi, ?_⟩
    rw [t1, nI_1 n]
    refine pk_eq (κ n) 5 (fun h => ?_) (fun h => nm_e (go (fun z => h z.2.1)))
    have p := tr_p T nN (by omega)
    refine yb_bel hN hM hT (by omega) nN (fun b => br_f (by decide) ⟨hi, ?_⟩) (fun b => br_t rfl (nm_e (go (fun z => b z.1))))
    rw [t3 (by omega)]
    refine ⟨vp_in_nI (by omega) (by decide), ?_⟩
    rw [nI_clamp (show P n < 2 ^ 31 by omega), G1 (P n) (by omega)]
    exact rc_ifb (rc_and1 _) (fun z => nm_e (go (fun y => by rw [y.2.2] at z; cases z))) (fun z => K2 ⟨n, nN, b, h, z⟩ _)
theorem yc_19 {f : Nat → Int32} (T : tr_F ni no N κ A P Q U) (hT : ln_T N a_kind a_arg a_first a_second a_parent κ A P Q U) (hr : r < N) (F : fc_F N κ A P Q f)
    (K1 : (∃ n, n < N ∧ lx_B N κ A U r n) → post (-2) (f_inputs, f_outputs, f_cap, nI N, f_phase, f_root, f_instants, f_rejected, f_activeLeaves, a_kind, a_arg, a_first, a_second, a_parent, a_shown, a_e, a_fst, a_ms, a_cs, a_mk, a_ck, a_left))
    (K2 : (∀ n, n < N → ¬ lx_B N κ A U r n) → (∃ n, n < N ∧ il_B N κ P U f r n) → ∀ fs, post (-3) (f_inputs, f_outputs, f_cap, nI N, f_phase, f_root, f_instants, f_rejected, f_activeLeaves, a_kind, a_arg, a_first, a_second, a_parent, a_shown, a_e, fs, a_ms, a_cs, a_mk, a_ck, a_left))
    (K3 : (∀ n, n < N → ¬ lx_B N κ A U r n) → (∀ n, n < N → ¬ il_B N κ P U f r n) → ∀ fs, post 0 (f_inputs, f_outputs, f_cap, nI N, 1, nI r, 0, 0, 0, a_kind, a_arg, a_first, a_second, a_parent, rs_s a_shown, a_e, fs, a_ms, a_cs, a_mk, a_ck, a_left)) :
    ∀ d n k, n + d = N → d < k → (∀ j, j < n → ¬ lx_B N κ A U r j) → wY_compile_19 post (nI r) f_inputs f_outputs f_cap (nI N) f_phase f_root f_instants f_rejected f_activeLeaves a_kind a_arg a_first a_second a_parent a_shown a_e a_fst a_ms a_cs a_mk a_ck a_left k (nI n) := by
  have hN := T.1
  intro d
  induction d with
  | zero =>
    intro n k hn hk Z
    obtain ⟨k, rfl⟩ : ∃ z, k = z + 1 := ⟨k - 1, by omega⟩
    rw [show n = N by omega] at Z ⊢
    exact pk_le N N (fun _ => ⟨N + 1, yc_114 T hT hr F (K2 Z) (K3 Z) N 0 a_fst (N + 1) (by omega) (by omega) (fun j h => absurd h (by omega)) (fun j h => absurd h (by omega))⟩) (fun h => absurd h (by omega))
  | succ d ih =>
    intro n k hn hk Z
    obtain ⟨k, rfl⟩ : ∃ z, k = z + 1 := ⟨k - 1, by omega⟩
    refine pk_le N n (fun h => absurd h (by omega)) (fun _ => ⟨N + 1, ?_⟩)
    refine yc_32 T hT hr (show n < N by omega) (fun h => K1 ⟨n, by omega, h⟩) (fun h => ih (n + 1) k (by omega) (by omega) (fun j hj => ?_)) N 0 (N + 1) (by omega) (by omega)
    by_cases e : j = n
    · subst e; exact h
    · exact Z j (by omega)
theorem yc_compile {f : Nat → Int32} (T : tr_F ni no N κ A P Q U) (hT : ln_T N a_kind a_arg a_first a_second a_parent κ A P Q U) (hr : r < N) (hpa : a_parent r = -5) (F : fc_F N κ A P Q f)
    (K1 : (∃ n, n < N ∧ lx_B N κ A U r n) → post (-2) (f_inputs, f_outputs, f_cap, nI N, 0, f_root, f_instants, f_rejected, f_activeLeaves, a_kind, a_arg, a_first, a_second, a_parent, a_shown, a_e, a_fst, a_ms, a_cs, a_mk, a_ck, a_left))
    (K2 : (∀ n, n < N → ¬ lx_B N κ A U r n) → (∃ n, n < N ∧ il_B N κ P U f r n) → ∀ fs, post (-3) (f_inputs, f_outputs, f_cap, nI N, 0, f_root, f_instants, f_rejected, f_activeLeaves, a_kind, a_arg, a_first, a_second, a_parent, a_shown, a_e, fs, a_ms, a_cs, a_mk, a_ck, a_left))
    (K3 : (∀ n, n < N → ¬ lx_B N κ A U r n) → (∀ n, n < N → ¬ il_B N κ P U f r n) → ∀ fs, post 0 (f_inputs, f_outputs, f_cap, nI N, 1, nI r, 0, 0, 0, a_kind, a_arg, a_first, a_second, a_parent, rs_s a_shown, a_e, fs, a_ms, a_cs, a_mk, a_ck, a_left)) :
    wpY_compile post (f_inputs, f_outputs, f_cap, nI N, 0, f_root, f_instants, f_rejected, f_activeLeaves, a_kind, a_arg, a_first, a_second, a_parent, a_shown, a_e, a_fst, a_ms, a_cs, a_mk, a_ck, a_left) (nI r) := by
  have hN := T.1
  refine br_t rfl ?_
  refine ys_free hN (fun _ _ _ _ => br_f (by decide) ?_) (fun h => absurd ⟨r, hr, rfl, hpa⟩ h)
  exact ⟨N + 1, yc_19 T hT hr F K1 K2 K3 N 0 (N + 1) (by omega) (by omega) (fun j h => absurd h (by omega))⟩
end
end
section
/-! ===== X: lanes; loading; sweep ===== -/
def ln_V (mu ca : Nat → Int64) (l w : Nat) : kv_T := (ln_b (mu w) l, ln_b (ca w) l)
theorem ln_Ve {mu ca mu' ca' : Nat → Int64} {l w : Nat} (h1 : mu' w = mu w) (h2 : ca' w = ca w) : ln_V mu' ca' l w = ln_V mu ca l w := by unfold ln_V; rw [h1, h2]
section
variable {f_wireFalse f_wireTrue f_signalBase f_bootWire f_registerBase f_firstGate f_wireLimit f_opAnd f_opOr f_opNot f_codes f_cells f_resumeBase f_rootRow f_endRow f_stayRow f_leftRow f_rightRow f_inputSignals f_outputSignals f_nodeLimit f_count f_phaseNow f_instantCount f_rejectedCount f_wireCount f_logicEnd : Int32} {a_kindOf a_argOf a_firstOf a_secondOf a_parentOf a_activeNode a_lastStatus a_inTree a_trapDepth a_firstCodes a_gateOp a_gateA a_gateB a_inverseOf a_cell a_selWire a_keepStart a_keepResume a_frozen a_nextWire : Nat → Int32} {a_must a_can : Nat → Int64}
variable {post : SX → Prop} {mu ca : Nat → Int64} {ni no N : Nat}
/-- gates from..to-1 hold in every lane -/
def sw_G (lo hi : Nat) (go ga gb : Nat → Int32) (mu ca : Nat → Int64) : Prop := ∀ w, lo ≤ w → w < hi → ∀ l, l < 64 → ln_V mu ca l w = ck_g (go w) (ln_V mu ca l (ga w).toNatClampNeg) (ln_V mu ca l (gb w).toNatClampNeg)
theorem xw_l {lo hi H : Nat} (hA : ck_A H a_gateA a_gateB) (h45 : 45 ≤ lo) (hH : hi ≤ H) (H4 : H ≤ 4096)
    (K : ∀ mu' ca', (∀ w, w < lo → mu' w = mu w ∧ ca' w = ca w) → sw_G lo hi a_gateOp a_gateA a_gateB mu' ca' → post (f_wireFalse, f_wireTrue, f_signalBase, f_bootWire, f_registerBase, f_firstGate, f_wireLimit, f_opAnd, f_opOr, f_opNot, f_codes, f_cells, f_resumeBase, f_rootRow, f_endRow, f_stayRow, f_leftRow, f_rightRow, f_inputSignals, f_outputSignals, f_nodeLimit, f_count, f_phaseNow, f_instantCount, f_rejectedCount, f_wireCount, f_logicEnd, a_kindOf, a_argOf, a_firstOf, a_secondOf, a_parentOf, a_activeNode, a_lastStatus, a_inTree, a_trapDepth, a_firstCodes, a_gateOp, a_gateA, a_gateB, a_inverseOf, a_cell, a_selWire, a_keepStart, a_keepResume, a_frozen, a_nextWire, mu', ca')) :
    ∀ d w mu' ca' n, w + d = hi → d < n → lo ≤ w → (∀ x, x < lo → mu' x = mu x ∧ ca' x = ca x) → sw_G lo w a_gateOp a_gateA a_gateB mu' ca' →
      wX_sweep_2 post (nI hi) f_wireFalse f_wireTrue f_signalBase f_bootWire f_registerBase f_firstGate f_wireLimit f_opAnd f_opOr f_opNot f_codes f_cells f_resumeBase f_rootRow f_endRow f_stayRow f_leftRow f_rightRow f_inputSignals f_outputSignals f_nodeLimit f_count f_phaseNow f_instantCount f_rejectedCount f_wireCount f_logicEnd n (nI w) a_kindOf a_argOf a_firstOf a_secondOf a_parentOf a_activeNode a_lastStatus a_inTree a_trapDepth a_firstCodes a_gateOp a_gateA a_gateB a_inverseOf a_cell a_selWire a_keepStart a_keepResume a_frozen a_nextWire mu' ca' := by
  intro d
  induction d with
  | zero =>
    intro w mu' ca' n hw hn hl fr G
    obtain ⟨n, rfl⟩ : ∃ z, n = z + 1 := ⟨n - 1, by omega⟩
    rw [show w = hi by omega] at G ⊢
    exact pk_le hi hi (fun _ => K mu' ca' fr G) (fun h => absurd h (by omega))
  | succ d ih =>
    intro w mu' ca' n hw hn hl fr G
    obtain ⟨n, rfl⟩ : ∃ z, n = z + 1 := ⟨n - 1, by omega⟩
    have iw : vp_in (nI w) 4096 := vp_in_nI (by omega) (by decide)
    obtain ⟨⟨a, ha, ea⟩, b, hb, eb⟩ := hA w (by omega) (by omega)
    have ia : vp_in (nI a) 4096 := vp_in_nI (by omega) (by decide)
    have ib : vp_in (nI b) 4096 := vp_in_nI (by omega) (by decide)
    have cA : (nI a).toNatClampNeg = a := nI_clamp (by omega)
    have cB : (nI b).toNatClampNeg = b := nI_clamp (by omega)
    -- a step that writes the gate's value
    have step : ∀ m c : Int64, (∀ l, l < 64 → (ln_b m l, ln_b c l) = ck_g (a_gateOp w) (ln_V mu' ca' l a) (ln_V mu' ca' l b)) →
        wX_sweep_2 post (nI hi) f_wireFalse f_wireTrue f_signalBase f_bootWire f_registerBase f_firstGate f_wireLimit f_opAnd f_opOr f_opNot f_codes f_cells f_resumeBase f_rootRow f_endRow f_stayRow f_leftRow f_rightRow f_inputSignals f_outputSignals f_nodeLimit f_count f_phaseNow f_instantCount f_rejectedCount f_wireCount f_logicEnd n (nI (w + 1)) a_kindOf a_argOf a_firstOf a_secondOf a_parentOf a_activeNode a_lastStatus a_inTree a_trapDepth a_firstCodes a_gateOp a_gateA a_gateB a_inverseOf a_cell a_selWire a_keepStart a_keepResume a_frozen a_nextWire (vp_updL mu' w m) (vp_updL ca' w c) := by
      intro m c h
      refine ih (w + 1) _ _ n (by omega) (by omega) (by omega) (fun x hx => ?_) (fun x h1 h2 l l64 => ?_)
      · rw [pk_uLn (by omega), pk_uLn (by omega)]; exact fr x hx
      · obtain ⟨⟨a', ha', ea'⟩, b', hb', eb'⟩ := hA x (by omega) (by omega)
        rw [ea', eb', nI_clamp (show a' < 2 ^ 31 by omega), nI_clamp (show b' < 2 ^ 31 by omega)]
        rw [ln_Ve (mu := mu') (ca := ca') (w := a') (pk_uLn (by omega)) (pk_uLn (by omega)), ln_Ve (mu := mu') (ca := ca') (w := b') (pk_uLn (by omega)) (pk_uLn (by omega))]
        by_cases e : x = w
        · subst e
          have p1 : a' = a := (nI_eq (by omega) (by omega)).mp (ea'.symm.trans ea)
          have p2 : b' = b := (nI_eq (by omega) (by omega)).mp (eb'.symm.trans eb)
          rw [p1, p2, ← h l l64]
          unfold ln_V; rw [pk_uLs, pk_uLs]
        · have := G x h1 (by omega) l l64
          rw [ea', eb', nI_clamp (show a' < 2 ^ 31 by omega), nI_clamp (show b' < 2 ^ 31 by omega)] at this
          rw [ln_Ve (mu := mu') (ca := ca') (w := x) (pk_uLn e) (pk_uLn e)]
          exact this
    refine pk_le hi w (fun h => absurd h (by omega)) (fun _ => ⟨iw, ?_⟩)
    rw [nI_clamp (show w < 2 ^ 31 by omega), nI_1 w]
    refine nm_r ea ⟨iw, nm_r eb ⟨iw, nm_e ?_⟩⟩
    rw [cA, cB]
    refine br_c (fun o0 => ⟨ia, ib, iw, nm_e ⟨ia, ib, iw, nm_e (nm_e (step _ _ (fun l hl => ?_)))⟩⟩) (fun o0 => br_c (fun o1 => ⟨ia, ib, iw, nm_e ⟨ia, ib, iw, nm_e (nm_e (step _ _ (fun l hl => ?_)))⟩⟩) (fun o1 => ⟨ia, iw, nm_e ⟨ia, iw, ?_⟩⟩))
    · unfold ck_g; rw [if_pos o0, ln_and, ln_and]; rfl
    · unfold ck_g; rw [if_neg o0, if_pos o1, ln_or, ln_or]; rfl
    · rw [pk_uLn (show a ≠ w by omega)]
      refine nm_e (nm_e (step _ _ (fun l hl => ?_)))
      unfold ck_g; rw [if_neg o0, if_neg o1, ln_not _ hl, ln_not _ hl]; rfl
theorem xw_sweep {lo hi H : Nat} {x1 x2 : Int32} (e1 : x1 = nI lo) (e2 : x2 = nI hi) (hlh : lo ≤ hi) (hA : ck_A H a_gateA a_gateB) (h45 : 45 ≤ lo) (hH : hi ≤ H) (H4 : H ≤ 4096)
    (K : ∀ mu' ca', (∀ w, w < lo → mu' w = mu w ∧ ca' w = ca w) → sw_G lo hi a_gateOp a_gateA a_gateB mu' ca' → post (f_wireFalse, f_wireTrue, f_signalBase, f_bootWire, f_registerBase, f_firstGate, f_wireLimit, f_opAnd, f_opOr, f_opNot, f_codes, f_cells, f_resumeBase, f_rootRow, f_endRow, f_stayRow, f_leftRow, f_rightRow, f_inputSignals, f_outputSignals, f_nodeLimit, f_count, f_phaseNow, f_instantCount, f_rejectedCount, f_wireCount, f_logicEnd, a_kindOf, a_argOf, a_firstOf, a_secondOf, a_parentOf, a_activeNode, a_lastStatus, a_inTree, a_trapDepth, a_firstCodes, a_gateOp, a_gateA, a_gateB, a_inverseOf, a_cell, a_selWire, a_keepStart, a_keepResume, a_frozen, a_nextWire, mu', ca')) : wpX_sweep post (f_wireFalse, f_wireTrue, f_signalBase, f_bootWire, f_registerBase, f_firstGate, f_wireLimit, f_opAnd, f_opOr, f_opNot, f_codes, f_cells, f_resumeBase, f_rootRow, f_endRow, f_stayRow, f_leftRow, f_rightRow, f_inputSignals, f_outputSignals, f_nodeLimit, f_count, f_phaseNow, f_instantCount, f_rejectedCount, f_wireCount, f_logicEnd, a_kindOf, a_argOf, a_firstOf, a_secondOf, a_parentOf, a_activeNode, a_lastStatus, a_inTree, a_trapDepth, a_firstCodes, a_gateOp, a_gateA, a_gateB, a_inverseOf, a_cell, a_selWire, a_keepStart, a_keepResume, a_frozen, a_nextWire, mu, ca) x1 x2 := by
  subst e1 e2
  exact ⟨hi - lo + 1, xw_l hA h45 hH H4 K (hi - lo) lo mu ca (hi - lo + 1) (by omega) (by omega) (Nat.le_refl _) (fun _ _ => ⟨rfl, rfl⟩) (fun w h1 h2 => absurd h2 (by omega))⟩
/-- constants, boot and registers are loaded -/
def ld_S (N : Nat) (z : Int64) (an : Nat → Int32) (mu ca : Nat → Int64) : Prop := mu 0 = 0 ∧ ca 0 = 0 ∧ mu 1 = -1 ∧ ca 1 = -1 ∧ mu 12 = z ∧ ca 12 = z ∧ ∀ n, n < N → mu (13 + n) = (if an n = 0 then 0 else -1) ∧ ca (13 + n) = (if an n = 0 then 0 else -1)
theorem ld_Sm {z : Int64} {an : Nat → Int32} {mu ca mu' ca' : Nat → Int64} (h : ld_S N z an mu ca) (k : ∀ w, sf_w w → mu' w = mu w ∧ ca' w = ca w) : ld_S N z an mu' ca' := by
  obtain ⟨a1, a2, a3, a4, a5, a6, a7⟩ := h
  have k0 := k 0 (Or.inl (by omega))
  have k1 := k 1 (Or.inl (by omega))
  have k12 := k 12 (Or.inr (by omega))
  refine ⟨k0.1.trans a1, k0.2.trans a2, k1.1.trans a3, k1.2.trans a4, k12.1.trans a5, k12.2.trans a6, fun n hn => ?_⟩
  have := k (13 + n) (Or.inr (by omega))
  exact ⟨this.1.trans (a7 n hn).1, this.2.trans (a7 n hn).2⟩
theorem xl_66 {z : Int64} (hN : N ≤ 32) (K : ∀ mu' ca', ld_S N z a_activeNode mu' ca' → post (f_wireFalse, f_wireTrue, f_signalBase, f_bootWire, f_registerBase, f_firstGate, f_wireLimit, f_opAnd, f_opOr, f_opNot, f_codes, f_cells, f_resumeBase, f_rootRow, f_endRow, f_stayRow, f_leftRow, f_rightRow, f_inputSignals, f_outputSignals, f_nodeLimit, nI N, f_phaseNow, f_instantCount, f_rejectedCount, f_wireCount, f_logicEnd, a_kindOf, a_argOf, a_firstOf, a_secondOf, a_parentOf, a_activeNode, a_lastStatus, a_inTree, a_trapDepth, a_firstCodes, a_gateOp, a_gateA, a_gateB, a_inverseOf, a_cell, a_selWire, a_keepStart, a_keepResume, a_frozen, a_nextWire, mu', ca')) :
    ∀ d n mu ca m, n + d = N → d < m → ld_S n z a_activeNode mu ca → wX_loadState_66 post f_wireFalse f_wireTrue f_signalBase f_bootWire f_registerBase f_firstGate f_wireLimit f_opAnd f_opOr f_opNot f_codes f_cells f_resumeBase f_rootRow f_endRow f_stayRow f_leftRow f_rightRow f_inputSignals f_outputSignals f_nodeLimit (nI N) f_phaseNow f_instantCount f_rejectedCount f_wireCount f_logicEnd m (nI n) a_kindOf a_argOf a_firstOf a_secondOf a_parentOf a_activeNode a_lastStatus a_inTree a_trapDepth a_firstCodes a_gateOp a_gateA a_gateB a_inverseOf a_cell a_selWire a_keepStart a_keepResume a_frozen a_nextWire mu ca := by
  intro d
  induction d with
  | zero =>
    intro n mu ca m hn hm L
    obtain ⟨m, rfl⟩ : ∃ y, m = y + 1 := ⟨m - 1, by omega⟩
    rw [show n = N by omega] at L ⊢
    exact pk_le N N (fun _ => K mu ca L) (fun h => absurd h (by omega))
  | succ d ih =>
    intro n mu ca m hn hm L
    obtain ⟨m, rfl⟩ : ∃ y, m = y + 1 := ⟨m - 1, by omega⟩
    have i13 : vp_in (13 + nI n) 4096 := pk_in (13 + n) 4096 (by omega) (nI_add 13 n)
    have nxt : ∀ v, v = (if a_activeNode n = 0 then 0 else -1) → wX_loadState_90 post (wX_loadState_66 post f_wireFalse f_wireTrue f_signalBase f_bootWire f_registerBase f_firstGate f_wireLimit f_opAnd f_opOr f_opNot f_codes f_cells f_resumeBase f_rootRow f_endRow f_stayRow f_leftRow f_rightRow f_inputSignals f_outputSignals f_nodeLimit (nI N) f_phaseNow f_instantCount f_rejectedCount f_wireCount f_logicEnd m) (nI n) v f_wireFalse f_wireTrue f_signalBase f_bootWire f_registerBase f_firstGate f_wireLimit f_opAnd f_opOr f_opNot f_codes f_cells f_resumeBase f_rootRow f_endRow f_stayRow f_leftRow f_rightRow f_inputSignals f_outputSignals f_nodeLimit (nI N) f_phaseNow f_instantCount f_rejectedCount f_wireCount f_logicEnd a_kindOf a_argOf a_firstOf a_secondOf a_parentOf a_activeNode a_lastStatus a_inTree a_trapDepth a_firstCodes a_gateOp a_gateA a_gateB a_inverseOf a_cell a_selWire a_keepStart a_keepResume a_frozen a_nextWire mu ca := by
      intro v hv
      refine ⟨i13, ?_⟩
      rw [show 13 + nI n = nI (13 + n) from nI_add 13 n, nI_clamp (show 13 + n < 2 ^ 31 by omega), nI_1 n]
      refine nm_e ⟨by rw [← nI_add 13 n]; exact i13, nm_e (nm_e (ih (n + 1) _ _ m (by omega) (by omega) ?_))⟩
      obtain ⟨a1, a2, a3, a4, a5, a6, a7⟩ := L
      refine ⟨by rw [pk_uLn (by omega)]; exact a1, by rw [pk_uLn (by omega)]; exact a2, by rw [pk_uLn (by omega)]; exact a3, by rw [pk_uLn (by omega)]; exact a4, by rw [pk_uLn (by omega)]; exact a5, by rw [pk_uLn (by omega)]; exact a6, fun j hj => ?_⟩
      by_cases e : j = n
      · subst e; rw [pk_uLs, pk_uLs]; exact ⟨hv, hv⟩
      · rw [pk_uLn (by omega), pk_uLn (by omega)]; exact a7 j (by omega)
    refine pk_le N n (fun h => absurd h (by omega)) (fun _ => ⟨vp_in_nI (by omega) (by decide), ?_⟩)
    rw [nI_clamp (show n < 2 ^ 31 by omega)]
    exact br_c (fun h => nxt _ (by rw [if_pos h])) (fun h => nxt _ (by rw [if_neg h]))
theorem xl_state (hN : N ≤ 32) (K : ∀ mu' ca', ld_S N (if f_phaseNow = 1 then -1 else 0) a_activeNode mu' ca' → post (f_wireFalse, f_wireTrue, f_signalBase, f_bootWire, f_registerBase, f_firstGate, f_wireLimit, f_opAnd, f_opOr, f_opNot, f_codes, f_cells, f_resumeBase, f_rootRow, f_endRow, f_stayRow, f_leftRow, f_rightRow, f_inputSignals, f_outputSignals, f_nodeLimit, nI N, f_phaseNow, f_instantCount, f_rejectedCount, f_wireCount, f_logicEnd, a_kindOf, a_argOf, a_firstOf, a_secondOf, a_parentOf, a_activeNode, a_lastStatus, a_inTree, a_trapDepth, a_firstCodes, a_gateOp, a_gateA, a_gateB, a_inverseOf, a_cell, a_selWire, a_keepStart, a_keepResume, a_frozen, a_nextWire, mu', ca')) : wpX_loadState post (f_wireFalse, f_wireTrue, f_signalBase, f_bootWire, f_registerBase, f_firstGate, f_wireLimit, f_opAnd, f_opOr, f_opNot, f_codes, f_cells, f_resumeBase, f_rootRow, f_endRow, f_stayRow, f_leftRow, f_rightRow, f_inputSignals, f_outputSignals, f_nodeLimit, nI N, f_phaseNow, f_instantCount, f_rejectedCount, f_wireCount, f_logicEnd, a_kindOf, a_argOf, a_firstOf, a_secondOf, a_parentOf, a_activeNode, a_lastStatus, a_inTree, a_trapDepth, a_firstCodes, a_gateOp, a_gateA, a_gateB, a_inverseOf, a_cell, a_selWire, a_keepStart, a_keepResume, a_frozen, a_nextWire, mu, ca) := by
  have fin : ∀ z, z = (if f_phaseNow = 1 then (-1 : Int64) else 0) → wX_loadState_47 post z f_wireFalse f_wireTrue f_signalBase f_bootWire f_registerBase f_firstGate f_wireLimit f_opAnd f_opOr f_opNot f_codes f_cells f_resumeBase f_rootRow f_endRow f_stayRow f_leftRow f_rightRow f_inputSignals f_outputSignals f_nodeLimit (nI N) f_phaseNow f_instantCount f_rejectedCount f_wireCount f_logicEnd a_kindOf a_argOf a_firstOf a_secondOf a_parentOf a_activeNode a_lastStatus a_inTree a_trapDepth a_firstCodes a_gateOp a_gateA a_gateB a_inverseOf a_cell a_selWire a_keepStart a_keepResume a_frozen a_nextWire (vp_updL (vp_updL mu 0 0) 1 (-1)) (vp_updL (vp_updL ca 0 0) 1 (-1)) := by
    intro z hz
    rw [← hz] at K
    exact nm_e (nm_e ⟨N + 1, xl_66 hN K N 0 _ _ (N + 1) (by omega) (by omega) ⟨rfl, rfl, rfl, rfl, rfl, rfl, fun n h => absurd h (by omega)⟩⟩)
  exact nm_e (nm_e (nm_e (nm_e (br_c (fun h => fin _ (by rw [if_pos h])) (fun h => fin _ (by rw [if_neg h]))))))
theorem xl_set {s : Nat} {x : Int32} {a b : Int64} (e : x = nI s) (hs : s < 10) (K : post (f_wireFalse, f_wireTrue, f_signalBase, f_bootWire, f_registerBase, f_firstGate, f_wireLimit, f_opAnd, f_opOr, f_opNot, f_codes, f_cells, f_resumeBase, f_rootRow, f_endRow, f_stayRow, f_leftRow, f_rightRow, f_inputSignals, f_outputSignals, f_nodeLimit, f_count, f_phaseNow, f_instantCount, f_rejectedCount, f_wireCount, f_logicEnd, a_kindOf, a_argOf, a_firstOf, a_secondOf, a_parentOf, a_activeNode, a_lastStatus, a_inTree, a_trapDepth, a_firstCodes, a_gateOp, a_gateA, a_gateB, a_inverseOf, a_cell, a_selWire, a_keepStart, a_keepResume, a_frozen, a_nextWire, vp_updL mu (2 + s) a, vp_updL ca (2 + s) b)) : wpX_setSignal post (f_wireFalse, f_wireTrue, f_signalBase, f_bootWire, f_registerBase, f_firstGate, f_wireLimit, f_opAnd, f_opOr, f_opNot, f_codes, f_cells, f_resumeBase, f_rootRow, f_endRow, f_stayRow, f_leftRow, f_rightRow, f_inputSignals, f_outputSignals, f_nodeLimit, f_count, f_phaseNow, f_instantCount, f_rejectedCount, f_wireCount, f_logicEnd, a_kindOf, a_argOf, a_firstOf, a_secondOf, a_parentOf, a_activeNode, a_lastStatus, a_inTree, a_trapDepth, a_firstCodes, a_gateOp, a_gateA, a_gateB, a_inverseOf, a_cell, a_selWire, a_keepStart, a_keepResume, a_frozen, a_nextWire, mu, ca) x a b := by
  subst e
  have hi : vp_in (2 + nI s) 4096 := pk_in (2 + s) 4096 (by omega) (nI_add 2 s)
  refine ⟨hi, ?_⟩
  rw [show 2 + nI s = nI (2 + s) from nI_add 2 s, nI_clamp (show 2 + s < 2 ^ 31 by omega)]
  exact nm_e ⟨by rw [← nI_add 2 s]; exact hi, nm_e K⟩
/-- signals lo..hi-1 have been set to v -/
def ld_I (lo hi : Nat) (vm vc : Nat → Int64) (mu ca mu' ca' : Nat → Int64) : Prop := (∀ w, w < 2 + lo ∨ 2 + hi ≤ w → mu' w = mu w ∧ ca' w = ca w) ∧ ∀ s, lo ≤ s → s < hi → mu' (2 + s) = vm s ∧ ca' (2 + s) = vc s
theorem ld_I0 {lo : Nat} {vm vc : Nat → Int64} : ld_I lo lo vm vc mu ca mu ca := ⟨fun _ _ => ⟨rfl, rfl⟩, fun s h1 h2 => absurd h2 (by omega)⟩
theorem ld_Is {lo s : Nat} {vm vc : Nat → Int64} {mu' ca' : Nat → Int64} (hs : lo ≤ s) (h : ld_I lo s vm vc mu ca mu' ca') : ld_I lo (s + 1) vm vc mu ca (vp_updL mu' (2 + s) (vm s)) (vp_updL ca' (2 + s) (vc s)) := by
  refine ⟨fun w hw => ?_, fun j h1 h2 => ?_⟩
  · rw [pk_uLn (by omega), pk_uLn (by omega)]; exact h.1 w (by omega)
  · by_cases e : j = s
    · subst e; rw [pk_uLs, pk_uLs]; exact ⟨rfl, rfl⟩
    · rw [pk_uLn (by omega), pk_uLn (by omega)]; exact h.2 j h1 (by omega)
def mk_v (x : Int32) (s : Nat) : Int64 := if bt x s = true then -1 else 0
theorem xl_in {x : Int32} (hni : ni ≤ 4) (K : ∀ mu' ca', ld_I 0 ni (mk_v x) (mk_v x) mu ca mu' ca' → post (f_wireFalse, f_wireTrue, f_signalBase, f_bootWire, f_registerBase, f_firstGate, f_wireLimit, f_opAnd, f_opOr, f_opNot, f_codes, f_cells, f_resumeBase, f_rootRow, f_endRow, f_stayRow, f_leftRow, f_rightRow, nI ni, f_outputSignals, f_nodeLimit, f_count, f_phaseNow, f_instantCount, f_rejectedCount, f_wireCount, f_logicEnd, a_kindOf, a_argOf, a_firstOf, a_secondOf, a_parentOf, a_activeNode, a_lastStatus, a_inTree, a_trapDepth, a_firstCodes, a_gateOp, a_gateA, a_gateB, a_inverseOf, a_cell, a_selWire, a_keepStart, a_keepResume, a_frozen, a_nextWire, mu', ca')) :
    ∀ d s mu' ca' n, s + d = ni → d < n → ld_I 0 s (mk_v x) (mk_v x) mu ca mu' ca' → wX_loadInputs_2 post x n (nI s) f_wireFalse f_wireTrue f_signalBase f_bootWire f_registerBase f_firstGate f_wireLimit f_opAnd f_opOr f_opNot f_codes f_cells f_resumeBase f_rootRow f_endRow f_stayRow f_leftRow f_rightRow (nI ni) f_outputSignals f_nodeLimit f_count f_phaseNow f_instantCount f_rejectedCount f_wireCount f_logicEnd a_kindOf a_argOf a_firstOf a_secondOf a_parentOf a_activeNode a_lastStatus a_inTree a_trapDepth a_firstCodes a_gateOp a_gateA a_gateB a_inverseOf a_cell a_selWire a_keepStart a_keepResume a_frozen a_nextWire mu' ca' := by
  intro d
  induction d with
  | zero =>
    intro s mu' ca' n hs hn I
    obtain ⟨n, rfl⟩ : ∃ y, n = y + 1 := ⟨n - 1, by omega⟩
    rw [show s = ni by omega] at I ⊢
    exact pk_le ni ni (fun _ => K mu' ca' I) (fun h => absurd h (by omega))
  | succ d ih =>
    intro s mu' ca' n hs hn I
    obtain ⟨n, rfl⟩ : ∃ y, n = y + 1 := ⟨n - 1, by omega⟩
    have nxt : ∀ v, v = mk_v x s → wX_loadInputs_25 post (wX_loadInputs_2 post x n) x (nI s) v f_wireFalse f_wireTrue f_signalBase f_bootWire f_registerBase f_firstGate f_wireLimit f_opAnd f_opOr f_opNot f_codes f_cells f_resumeBase f_rootRow f_endRow f_stayRow f_leftRow f_rightRow (nI ni) f_outputSignals f_nodeLimit f_count f_phaseNow f_instantCount f_rejectedCount f_wireCount f_logicEnd a_kindOf a_argOf a_firstOf a_secondOf a_parentOf a_activeNode a_lastStatus a_inTree a_trapDepth a_firstCodes a_gateOp a_gateA a_gateB a_inverseOf a_cell a_selWire a_keepStart a_keepResume a_frozen a_nextWire mu' ca' := by
      intro v hv
      subst hv
      unfold wX_loadInputs_25
      exact xl_set rfl (by omega) (nm_r (nI_1 s) (ih (s + 1) _ _ n (by omega) (by omega) (ld_Is (by omega) I)))
    refine pk_le ni s (fun h => absurd h (by omega)) (fun _ => rc_ifb (rc_shr1 (show s < 32 by omega) x) (fun h => nxt _ ?_) (fun h => nxt _ ?_))
    · unfold mk_v; rw [h, if_neg Bool.false_ne_true]
    · unfold mk_v; rw [if_pos h]
theorem xl_inputs {x : Int32} (hni : ni ≤ 4) (K : ∀ mu' ca', ld_I 0 ni (mk_v x) (mk_v x) mu ca mu' ca' → post (f_wireFalse, f_wireTrue, f_signalBase, f_bootWire, f_registerBase, f_firstGate, f_wireLimit, f_opAnd, f_opOr, f_opNot, f_codes, f_cells, f_resumeBase, f_rootRow, f_endRow, f_stayRow, f_leftRow, f_rightRow, nI ni, f_outputSignals, f_nodeLimit, f_count, f_phaseNow, f_instantCount, f_rejectedCount, f_wireCount, f_logicEnd, a_kindOf, a_argOf, a_firstOf, a_secondOf, a_parentOf, a_activeNode, a_lastStatus, a_inTree, a_trapDepth, a_firstCodes, a_gateOp, a_gateA, a_gateB, a_inverseOf, a_cell, a_selWire, a_keepStart, a_keepResume, a_frozen, a_nextWire, mu', ca')) : wpX_loadInputs post (f_wireFalse, f_wireTrue, f_signalBase, f_bootWire, f_registerBase, f_firstGate, f_wireLimit, f_opAnd, f_opOr, f_opNot, f_codes, f_cells, f_resumeBase, f_rootRow, f_endRow, f_stayRow, f_leftRow, f_rightRow, nI ni, f_outputSignals, f_nodeLimit, f_count, f_phaseNow, f_instantCount, f_rejectedCount, f_wireCount, f_logicEnd, a_kindOf, a_argOf, a_firstOf, a_secondOf, a_parentOf, a_activeNode, a_lastStatus, a_inTree, a_trapDepth, a_firstCodes, a_gateOp, a_gateA, a_gateB, a_inverseOf, a_cell, a_selWire, a_keepStart, a_keepResume, a_frozen, a_nextWire, mu, ca) x :=
  ⟨ni + 1, xl_in hni K ni 0 mu ca (ni + 1) (by omega) (by omega) ld_I0⟩
theorem xl_un_l (hni : ni ≤ 4) (hno : no ≤ 6) (K : ∀ mu' ca', ld_I ni (ni + no) (fun _ => 0) (fun _ => -1) mu ca mu' ca' → post (f_wireFalse, f_wireTrue, f_signalBase, f_bootWire, f_registerBase, f_firstGate, f_wireLimit, f_opAnd, f_opOr, f_opNot, f_codes, f_cells, f_resumeBase, f_rootRow, f_endRow, f_stayRow, f_leftRow, f_rightRow, nI ni, nI no, f_nodeLimit, f_count, f_phaseNow, f_instantCount, f_rejectedCount, f_wireCount, f_logicEnd, a_kindOf, a_argOf, a_firstOf, a_secondOf, a_parentOf, a_activeNode, a_lastStatus, a_inTree, a_trapDepth, a_firstCodes, a_gateOp, a_gateA, a_gateB, a_inverseOf, a_cell, a_selWire, a_keepStart, a_keepResume, a_frozen, a_nextWire, mu', ca')) :
    ∀ d s mu' ca' n, s + d = no → d < n → ld_I ni (ni + s) (fun _ => 0) (fun _ => -1) mu ca mu' ca' → wX_loadUnknownOutputs_2 post n (nI s) f_wireFalse f_wireTrue f_signalBase f_bootWire f_registerBase f_firstGate f_wireLimit f_opAnd f_opOr f_opNot f_codes f_cells f_resumeBase f_rootRow f_endRow f_stayRow f_leftRow f_rightRow (nI ni) (nI no) f_nodeLimit f_count f_phaseNow f_instantCount f_rejectedCount f_wireCount f_logicEnd a_kindOf a_argOf a_firstOf a_secondOf a_parentOf a_activeNode a_lastStatus a_inTree a_trapDepth a_firstCodes a_gateOp a_gateA a_gateB a_inverseOf a_cell a_selWire a_keepStart a_keepResume a_frozen a_nextWire mu' ca' := by
  intro d
  induction d with
  | zero =>
    intro s mu' ca' n hs hn I
    obtain ⟨n, rfl⟩ : ∃ y, n = y + 1 := ⟨n - 1, by omega⟩
    rw [show s = no by omega] at I ⊢
    exact pk_le no no (fun _ => K mu' ca' I) (fun h => absurd h (by omega))
  | succ d ih =>
    intro s mu' ca' n hs hn I
    obtain ⟨n, rfl⟩ : ∃ y, n = y + 1 := ⟨n - 1, by omega⟩
    refine pk_le no s (fun h => absurd h (by omega)) (fun _ => ?_)
    exact xl_set (nI_add ni s) (by omega) (nm_r (nI_1 s) (ih (s + 1) _ _ n (by omega) (by omega) (ld_Is (Nat.le_add_right ni s) I)))
theorem xl_unknown (hni : ni ≤ 4) (hno : no ≤ 6) (K : ∀ mu' ca', ld_I ni (ni + no) (fun _ => 0) (fun _ => -1) mu ca mu' ca' → post (f_wireFalse, f_wireTrue, f_signalBase, f_bootWire, f_registerBase, f_firstGate, f_wireLimit, f_opAnd, f_opOr, f_opNot, f_codes, f_cells, f_resumeBase, f_rootRow, f_endRow, f_stayRow, f_leftRow, f_rightRow, nI ni, nI no, f_nodeLimit, f_count, f_phaseNow, f_instantCount, f_rejectedCount, f_wireCount, f_logicEnd, a_kindOf, a_argOf, a_firstOf, a_secondOf, a_parentOf, a_activeNode, a_lastStatus, a_inTree, a_trapDepth, a_firstCodes, a_gateOp, a_gateA, a_gateB, a_inverseOf, a_cell, a_selWire, a_keepStart, a_keepResume, a_frozen, a_nextWire, mu', ca')) : wpX_loadUnknownOutputs post (f_wireFalse, f_wireTrue, f_signalBase, f_bootWire, f_registerBase, f_firstGate, f_wireLimit, f_opAnd, f_opOr, f_opNot, f_codes, f_cells, f_resumeBase, f_rootRow, f_endRow, f_stayRow, f_leftRow, f_rightRow, nI ni, nI no, f_nodeLimit, f_count, f_phaseNow, f_instantCount, f_rejectedCount, f_wireCount, f_logicEnd, a_kindOf, a_argOf, a_firstOf, a_secondOf, a_parentOf, a_activeNode, a_lastStatus, a_inTree, a_trapDepth, a_firstCodes, a_gateOp, a_gateA, a_gateB, a_inverseOf, a_cell, a_selWire, a_keepStart, a_keepResume, a_frozen, a_nextWire, mu, ca) :=
  ⟨no + 1, xl_un_l hni hno K no 0 mu ca (no + 1) (by omega) (by omega) ld_I0⟩
end
end
section
/-! ===== one lane: its circuit against the reference's runs ===== -/
/-- what stands fast while a compiled tree runs -/
def cx_T (ni no N : Nat) (κ A P Q U : Nat → Nat) (r : Nat) (L : Int32) (rt : Nat) (td : Nat → Nat) : Prop :=
  tr_F ni no N κ A P Q U ∧ ni ≤ 4 ∧ no ≤ 6 ∧ ac_L N κ L ∧ td_F N κ A U r td ∧ st_r N U L r rt
section
variable {ni no N : Nat} {κ A P Q U : Nat → Nat} {r : Nat} {L : Int32} {rt : Nat} {td : Nat → Nat} {wc lE : Nat} {go ga gb ce sw nx : Nat → Int32} {V : Nat → kv_T} {e : Nat → Int32} {R : Nat → rn_T}
theorem cx_sl (C : cx_T ni no N κ A P Q U r L rt td) (q : ∀ m, m < N → tr_B N U m r → bc_q κ A P Q ni V ce sw m) (hrg : ∀ n, n < N → V (13 + n) = (ac_b N U L n, ac_b N U L n)) :
    ∀ n, n < N → tr_B N U n r → V (sw n).toNatClampNeg = (ac_b N U L n, ac_b N U L n) := by
  obtain ⟨T, hni, hno, hL, D, hr⟩ := C
  intro n
  induction n using Nat.strongRecOn with
  | ind n ih =>
    intro hn hb
    rw [(q n hn hb).2.2]
    have hk := tr_k T hn
    unfold rc_sl
    by_cases h14 : κ n = 1 ∨ κ n = 4
    · rw [if_pos h14]; exact hrg n hn
    rw [if_neg h14]
    by_cases k5 : κ n < 5
    · rw [if_pos k5]
      have : ac_b N U L n = false := pb_f (fun a => h14 (lc_lf T hL hn a k5))
      rw [this]; rfl
    rw [if_neg k5]
    have hp := tr_p T hn (by omega)
    have iP := ih (P n) hp.1 (by omega) (tr_tr hb (tr_bp T hn (by omega)))
    by_cases k9 : κ n < 9
    · rw [if_pos k9, iP]
      have : ac_b N U L n = ac_b N U L (P n) := pb_c (ac_1 T hL hn (by omega) k9)
      rw [this]
    · rw [if_neg k9, iP]
      have hq := tr_q T hn (by omega)
      have iQ := ih (Q n) hq.1 (by omega) (tr_tr hb (tr_bq T hn (by omega)))
      have : ac_b N U L n = (ac_b N U L (P n) || ac_b N U L (Q n)) := (pb_c (ac_2 T hL hn (by omega))).trans pb_o
      rw [iQ, this]; rfl
theorem cx_M (C : cx_T ni no N κ A P Q U r L rt td) (F : cp_F ni N κ A P Q U r wc lE go ga gb ce sw nx) (v : ck_S V lE go ga gb) (hsg : ∀ s, s < ni + no → V (2 + s) = rn_en (e s))
    (hrg : ∀ n, n < N → V (13 + n) = (ac_b N U L n, ac_b N U L n)) (hbt : V 12 = (decide (rt = r), decide (rt = r))) (hR : lc_R N κ A P Q U L e R) :
    (∀ n, n < N → tr_B N U n r → rw_v V ce n = rn_ro ni (R n) ∧ (ac_B N U L n → rw_v V ce (32 + n) = rn_ro ni (R (32 + n))) ∧ V (sw n).toNatClampNeg = (ac_b N U L n, ac_b N U L n)) ∧ rw_v V ce 64 = rn_ro ni (R rt) := by
  obtain ⟨q, q64⟩ := F.2.2.2.2.2.2.1 V v
  have sl := cx_sl C q hrg
  obtain ⟨T, hni, hno, hL, D, hr⟩ := C
  have M := lc_M T hni hno hL D hR (fun n => rw_v V ce n) (fun n => rw_v V ce (32 + n)) (fun n => V (sw n).toNatClampNeg) (fun s => V (2 + s)) (fun n hn hb => (q n hn hb).1) (fun n hn hb => (q n hn hb).2.1) sl hsg
  refine ⟨fun n hn hb => ⟨(M n hn hb).1, (M n hn hb).2, sl n hn hb⟩, ?_⟩
  rw [q64, hbt]
  have hrr := hr.1
  have Mr := M r hr.1 (tr_rf r)
  have hN := T.1
  rcases hr.2 with g | ⟨g, a⟩
  · rw [decide_eq_true g, show ((true, true) : kv_T) = kv_1 from rfl, rc_mx_1, g]; exact Mr.1
  · rw [decide_eq_false (by omega), show ((false, false) : kv_T) = kv_0 from rfl, rc_mx_0, g]; exact Mr.2 a
theorem cx_G (C : cx_T ni no N κ A P Q U r L rt td) (hR : lc_R N κ A P Q U L e R) : rn_G ni no 0 (sv_S N κ U r) (R rt) := by
  obtain ⟨T, hni, hno, hL, D, hr⟩ := C
  have := lc_G T (by omega) hL D hR r hr.1 (tr_rf r)
  rw [D.1] at this
  rcases hr.2 with g | ⟨g, a⟩
  · rw [g]; exact this.1
  · rw [g]; exact this.2 a
end
/-- how a signal's wire settles under the emission em -/
def se_k (o em : kv_T) : kv_T := (o.1 || ((o.2 && !o.1) && em.1), o.2 && !((o.2 && !o.1) && !em.2))
theorem se_en {v : Int32} (hv : v = 0 ∨ v = 1 ∨ v = 2) {m c : Bool} (h : m = true → c = true) : se_k (rn_en v) (m, c) = rn_en (if v = 2 then (if m = true then 1 else if c = true then 2 else 0) else v) := by
  rcases hv with e | e | e
  · subst e; cases m <;> cases c <;> rfl
  · subst e; cases m <;> cases c <;> rfl
  · subst e
    cases m with
    | true => rw [h rfl]; rfl
    | false => cases c <;> rfl
theorem rn_en_i {v w : Int32} (hv : v = 0 ∨ v = 1 ∨ v = 2) (hw : w = 0 ∨ w = 1 ∨ w = 2) (h : rn_en v = rn_en w) : v = w := by
  rcases hv with e | e | e <;> rcases hw with f | f | f <;> subst e <;> subst f <;> first | rfl | (exact absurd h (by decide))
section
variable {ni no : Nat}
theorem st_v3 {x : rn_T} {e : Nat → Int32} {s : Nat} (h : e s = 0 ∨ e s = 1 ∨ e s = 2) : st_v ni no x e s = 0 ∨ st_v ni no x e s = 1 ∨ st_v ni no x e s = 2 := by
  unfold st_v
  by_cases c : ni ≤ s ∧ s < ni + no ∧ e s = 2
  · rw [if_pos c]
    by_cases m : bt x.1 s = true
    · rw [if_pos m]; exact Or.inr (Or.inl rfl)
    · rw [if_neg m]
      by_cases n : bt x.2.1 s = true
      · rw [if_pos n]; exact Or.inr (Or.inr rfl)
      · rw [if_neg n]; exact Or.inl rfl
  · rw [if_neg c]; exact h
end
end
section
/-! ===== X: settleOutputs, solve ===== -/
section
variable {f_wireFalse f_wireTrue f_signalBase f_bootWire f_registerBase f_firstGate f_wireLimit f_opAnd f_opOr f_opNot f_codes f_cells f_resumeBase f_rootRow f_endRow f_stayRow f_leftRow f_rightRow f_inputSignals f_outputSignals f_nodeLimit f_count f_phaseNow f_instantCount f_rejectedCount f_wireCount f_logicEnd : Int32} {a_kindOf a_argOf a_firstOf a_secondOf a_parentOf a_activeNode a_lastStatus a_inTree a_trapDepth a_firstCodes a_gateOp a_gateA a_gateB a_inverseOf a_cell a_selWire a_keepStart a_keepResume a_frozen a_nextWire : Nat → Int32} {a_must a_can : Nat → Int64}
variable {ni no N : Nat} {κ A P Q U : Nat → Nat} {r : Nat} {L : Int32} {rt : Nat} {td : Nat → Nat} {wc lE : Nat} {mu ca : Nat → Int64}
theorem xv_se {post : Int32 → SX → Prop} {em : Nat → Nat} (hni : ni ≤ 4) (hno : no ≤ 6) (hem : ∀ j, j < no → em j < 4096 ∧ sf_w (em j) ∧ a_cell (774 + j) = nI (em j))
    (K0 : ∀ mu' ca', (∀ l w, l < 64 → ln_V mu' ca' l w = ln_V mu ca l w) → (∀ w, sf_w w → mu' w = mu w ∧ ca' w = ca w) → (∀ j, j < no → ∀ l, l < 64 → se_k (ln_V mu ca l (2 + ni + j)) (ln_V mu ca l (em j)) = ln_V mu ca l (2 + ni + j)) → post 0 (f_wireFalse, f_wireTrue, f_signalBase, f_bootWire, f_registerBase, f_firstGate, f_wireLimit, f_opAnd, f_opOr, f_opNot, f_codes, f_cells, f_resumeBase, f_rootRow, f_endRow, f_stayRow, f_leftRow, f_rightRow, nI ni, nI no, f_nodeLimit, f_count, f_phaseNow, f_instantCount, f_rejectedCount, f_wireCount, f_logicEnd, a_kindOf, a_argOf, a_firstOf, a_secondOf, a_parentOf, a_activeNode, a_lastStatus, a_inTree, a_trapDepth, a_firstCodes, a_gateOp, a_gateA, a_gateB, a_inverseOf, a_cell, a_selWire, a_keepStart, a_keepResume, a_frozen, a_nextWire, mu', ca'))
    (K1 : ∀ mu' ca', (∀ w, w < 2 + ni ∨ 2 + ni + no ≤ w → mu' w = mu w ∧ ca' w = ca w) → (∀ j, j < no → ∀ l, l < 64 → ln_V mu' ca' l (2 + ni + j) = se_k (ln_V mu ca l (2 + ni + j)) (ln_V mu ca l (em j))) →
      (∃ j, j < no ∧ ∃ l, l < 64 ∧ se_k (ln_V mu ca l (2 + ni + j)) (ln_V mu ca l (em j)) ≠ ln_V mu ca l (2 + ni + j)) → post 1 (f_wireFalse, f_wireTrue, f_signalBase, f_bootWire, f_registerBase, f_firstGate, f_wireLimit, f_opAnd, f_opOr, f_opNot, f_codes, f_cells, f_resumeBase, f_rootRow, f_endRow, f_stayRow, f_leftRow, f_rightRow, nI ni, nI no, f_nodeLimit, f_count, f_phaseNow, f_instantCount, f_rejectedCount, f_wireCount, f_logicEnd, a_kindOf, a_argOf, a_firstOf, a_secondOf, a_parentOf, a_activeNode, a_lastStatus, a_inTree, a_trapDepth, a_firstCodes, a_gateOp, a_gateA, a_gateB, a_inverseOf, a_cell, a_selWire, a_keepStart, a_keepResume, a_frozen, a_nextWire, mu', ca')) :
    ∀ d j mu' ca' n x1, j + d = no → d < n → (∀ w, w < 2 + ni ∨ 2 + ni + j ≤ w → mu' w = mu w ∧ ca' w = ca w) → (∀ i, i < j → ∀ l, l < 64 → ln_V mu' ca' l (2 + ni + i) = se_k (ln_V mu ca l (2 + ni + i)) (ln_V mu ca l (em i))) →
      ((x1 = 0 ∧ ∀ i, i < j → ∀ l, l < 64 → se_k (ln_V mu ca l (2 + ni + i)) (ln_V mu ca l (em i)) = ln_V mu ca l (2 + ni + i)) ∨ (x1 = 1 ∧ ∃ i, i < j ∧ ∃ l, l < 64 ∧ se_k (ln_V mu ca l (2 + ni + i)) (ln_V mu ca l (em i)) ≠ ln_V mu ca l (2 + ni + i))) →
      wX_settleOutputs_4 post f_wireFalse f_wireTrue f_signalBase f_bootWire f_registerBase f_firstGate f_wireLimit f_opAnd f_opOr f_opNot f_codes f_cells f_resumeBase f_rootRow f_endRow f_stayRow f_leftRow f_rightRow (nI ni) (nI no) f_nodeLimit f_count f_phaseNow f_instantCount f_rejectedCount f_wireCount f_logicEnd n x1 (nI j) a_kindOf a_argOf a_firstOf a_secondOf a_parentOf a_activeNode a_lastStatus a_inTree a_trapDepth a_firstCodes a_gateOp a_gateA a_gateB a_inverseOf a_cell a_selWire a_keepStart a_keepResume a_frozen a_nextWire mu' ca' := by
  intro d
  induction d with
  | zero =>
    intro j mu' ca' n x1 hj hn fr hv hx
    obtain ⟨n, rfl⟩ : ∃ z, n = z + 1 := ⟨n - 1, by omega⟩
    rw [show j = no by omega] at fr hv hx ⊢
    refine pk_le no no (fun _ => ?_) (fun h => absurd h (by omega))
    rcases hx with ⟨e, h⟩ | ⟨e, h⟩
    · subst e
      refine ⟨rfl, K0 mu' ca' (fun l w hl => ?_) (fun w hw => fr w ?_) h⟩
      · by_cases c : w < 2 + ni ∨ 2 + ni + no ≤ w
        · exact ln_Ve (fr w c).1 (fr w c).2
        · have q := hv (w - (2 + ni)) (by omega) l hl
          have q2 := h (w - (2 + ni)) (by omega) l hl
          rw [show 2 + ni + (w - (2 + ni)) = w by omega] at q q2
          rw [q, q2]
      · rcases hw with c | c <;> omega
    · subst e
      exact ⟨rfl, K1 mu' ca' fr hv h⟩
  | succ d ih =>
    intro j mu' ca' n x1 hj hn fr hv hx
    obtain ⟨n, rfl⟩ : ∃ z, n = z + 1 := ⟨n - 1, by omega⟩
    obtain ⟨e4, esf, ece⟩ := hem j (by omega)
    have is : vp_in (nI (2 + ni + j)) 4096 := vp_in_nI (by omega) (by decide)
    have ie : vp_in (nI (em j)) 4096 := vp_in_nI e4 (by decide)
    have cs : (nI (2 + ni + j)).toNatClampNeg = 2 + ni + j := nI_clamp (by omega)
    have ce' : (nI (em j)).toNatClampNeg = em j := nI_clamp (by omega)
    have f1 := fr (2 + ni + j) (Or.inr (Nat.le_refl _))
    have f2 : mu' (em j) = mu (em j) ∧ ca' (em j) = ca (em j) := fr (em j) (by rcases esf with c | c <;> omega)
    have bits : ∀ l, l < 64 → se_k (ln_V mu ca l (2 + ni + j)) (ln_V mu ca l (em j)) =
        (ln_b (mu (2 + ni + j)) l || ln_b ((ca (2 + ni + j) &&& (mu (2 + ni + j) ^^^ (-1))) &&& mu (em j)) l, ln_b (ca (2 + ni + j)) l && !ln_b ((ca (2 + ni + j) &&& (mu (2 + ni + j) ^^^ (-1))) &&& (ca (em j) ^^^ (-1))) l) := by
      intro l hl
      rw [ln_and, ln_and, ln_not _ hl, ln_and, ln_and, ln_not _ hl, ln_not _ hl]; rfl
    refine pk_le no j (fun h => absurd h (by omega)) (fun _ => ?_)
    refine nm_r (show 2 + nI ni + nI j = nI (2 + ni + j) from (congrArg (fun z => z + nI j) (nI_add 2 ni)).trans (nI_add _ _)) ⟨pk_in (774 + j) 828 (by omega) (nI_add 774 j), ?_⟩
    rw [show 774 + nI j = nI (774 + j) from nI_add 774 j, nI_clamp (show 774 + j < 2 ^ 31 by omega)]
    refine nm_r ece ⟨is, is, ?_⟩
    rw [cs, f1.1, f1.2, ce', f2.1, f2.2, nI_1 j]
    refine nm_e ⟨ie, nm_e ⟨ie, nm_e ?_⟩⟩
    refine br_c (fun z => nm_e (ih (j + 1) mu' ca' n x1 (by omega) (by omega) (fun w hw => fr w (by omega)) (fun i hi l hl => ?_) ?_)) (fun z => ⟨is, is, nm_e ⟨is, is, nm_e (nm_e (ih (j + 1) _ _ n 1 (by omega) (by omega) (fun w hw => ?_) (fun i hi l hl => ?_) ?_))⟩⟩)
    · by_cases c : i = j
      · subst c
        rw [bits l hl, ln_Ve f1.1 f1.2]
        have y := (ln_eq0.mp z) l hl
        rw [ln_or, Bool.or_eq_false_iff] at y
        rw [y.1, y.2, Bool.or_false, Bool.not_false, Bool.and_true]; rfl
      · exact hv i (by omega) l hl
    · have same : ∀ l, l < 64 → se_k (ln_V mu ca l (2 + ni + j)) (ln_V mu ca l (em j)) = ln_V mu ca l (2 + ni + j) := by
        intro l hl
        have y := (ln_eq0.mp z) l hl
        rw [ln_or, Bool.or_eq_false_iff] at y
        rw [bits l hl, y.1, y.2, Bool.or_false, Bool.not_false, Bool.and_true]; rfl
      rcases hx with ⟨a, b⟩ | ⟨a, i, hi, b⟩
      · refine Or.inl ⟨a, fun i hi l hl => ?_⟩
        by_cases c : i = j
        · subst c; exact same l hl
        · exact b i (by omega) l hl
      · exact Or.inr ⟨a, i, by omega, b⟩
    · rw [pk_uLn (by omega), pk_uLn (by omega)]; exact fr w (by omega)
    · by_cases c : i = j
      · subst c
        rw [bits l hl]
        unfold ln_V
        rw [pk_uLs, pk_uLs]
        refine Prod.ext (ln_or _ _ _) ?_
        show ln_b (_ &&& (_ ^^^ (-1))) l = _
        rw [ln_and (ca (2 + ni + i)), ln_not _ hl]
      · rw [ln_Ve (mu := mu') (ca := ca') (pk_uLn (by omega)) (pk_uLn (by omega))]; exact hv i (by omega) l hl
    · refine Or.inr ⟨rfl, j, by omega, ?_⟩
      apply Classical.byContradiction
      intro q
      apply z
      apply ln_eq0.mpr
      intro l hl
      have y : se_k (ln_V mu ca l (2 + ni + j)) (ln_V mu ca l (em j)) = ln_V mu ca l (2 + ni + j) := by
        apply Classical.byContradiction
        intro y; exact q ⟨l, hl, y⟩
      rw [bits l hl] at y
      have y1 : (ln_b (mu (2 + ni + j)) l || ln_b ((ca (2 + ni + j) &&& (mu (2 + ni + j) ^^^ (-1))) &&& mu (em j)) l) = ln_b (mu (2 + ni + j)) l := congrArg Prod.fst y
      have y2 : (ln_b (ca (2 + ni + j)) l && !ln_b ((ca (2 + ni + j) &&& (mu (2 + ni + j) ^^^ (-1))) &&& (ca (em j) ^^^ (-1))) l) = ln_b (ca (2 + ni + j)) l := congrArg Prod.snd y
      rw [ln_and, ln_and, ln_not _ hl] at y1
      rw [ln_and, ln_and, ln_not _ hl, ln_not _ hl] at y2
      rw [ln_or, ln_and, ln_and, ln_and, ln_and, ln_not _ hl, ln_not _ hl]
      cases a1 : ln_b (mu (2 + ni + j)) l <;> cases a2 : ln_b (ca (2 + ni + j)) l <;> cases a3 : ln_b (mu (em j)) l <;> cases a4 : ln_b (ca (em j)) l <;> rw [a1, a2] at y1 y2 <;> rw [a3] at y1 <;> rw [a4] at y2 <;> simp at y1 y2 ⊢
/-- the lanes hold the signals E -/
def sv_E (ni no : Nat) (mu ca : Nat → Int64) (E : Nat → Nat → Int32) : Prop := ∀ l, l < 64 → ∀ s, s < ni + no → ln_V mu ca l (2 + s) = rn_en (E l s) ∧ (E l s = 0 ∨ E l s = 1 ∨ E l s = 2)
theorem sv_base {z : Int64} {an : Nat → Int32} {l : Nat} (hl : l < 64) (S : ld_S N z an mu ca) (hz : z = if rt = r then -1 else 0) (ha : ∀ n, n < N → an n = if ac_b N U L n = true then 1 else 0) :
    ln_V mu ca l 0 = kv_0 ∧ ln_V mu ca l 1 = kv_1 ∧ ln_V mu ca l 12 = (decide (rt = r), decide (rt = r)) ∧ ∀ n, n < N → ln_V mu ca l (13 + n) = (ac_b N U L n, ac_b N U L n) := by
  obtain ⟨a1, a2, a3, a4, a5, a6, a7⟩ := S
  refine ⟨?_, ?_, ?_, fun n hn => ?_⟩
  · unfold ln_V; rw [a1, a2, ln_0]; rfl
  · unfold ln_V; rw [a3, a4, ln_m1 l hl]; rfl
  · unfold ln_V; rw [a5, a6, hz]
    by_cases c : rt = r
    · rw [if_pos c, ln_m1 l hl, decide_eq_true c]
    · rw [if_neg c, ln_0, decide_eq_false c]
  · unfold ln_V; rw [(a7 n hn).1, (a7 n hn).2, ha n hn]
    cases c : ac_b N U L n with
    | true => rw [if_pos rfl, if_neg (by decide), ln_m1 l hl]
    | false => rw [if_neg Bool.false_ne_true, if_pos rfl, ln_0]
theorem xv_solve_l {post : SX → Prop} {sw nx : Nat → Int32} {z : Int64} (C : cx_T ni no N κ A P Q U r L rt td) (F : cp_F ni N κ A P Q U r wc lE a_gateOp a_gateA a_gateB a_cell sw nx) (hz : z = if rt = r then -1 else 0) (ha : ∀ n, n < N → a_activeNode n = if ac_b N U L n = true then 1 else 0)
    {E0 : Nat → Nat → Int32} (K : ∀ mu' ca' E, ld_S N z a_activeNode mu' ca' → sv_E ni no mu' ca' E → (∀ l, l < 64 → st_L ni no N κ A P Q U L rt (E0 l) (E l)) → (∀ l, l < 64 → ck_S (ln_V mu' ca' l) lE a_gateOp a_gateA a_gateB) → post (f_wireFalse, f_wireTrue, f_signalBase, f_bootWire, f_registerBase, f_firstGate, f_wireLimit, f_opAnd, f_opOr, f_opNot, f_codes, f_cells, f_resumeBase, f_rootRow, f_endRow, f_stayRow, f_leftRow, f_rightRow, nI ni, nI no, f_nodeLimit, f_count, f_phaseNow, f_instantCount, f_rejectedCount, f_wireCount, nI lE, a_kindOf, a_argOf, a_firstOf, a_secondOf, a_parentOf, a_activeNode, a_lastStatus, a_inTree, a_trapDepth, a_firstCodes, a_gateOp, a_gateA, a_gateB, a_inverseOf, a_cell, a_selWire, a_keepStart, a_keepResume, a_frozen, a_nextWire, mu', ca')) :
    ∀ d i mu ca E n, i + d = no → d + 1 < n → ld_S N z a_activeNode mu ca → sv_E ni no mu ca E → (∀ l, l < 64 → st_q ni no (E l) (st_i ni no N κ A P Q U L rt (E0 l) i)) →
      wX_solve_2 post n (nI i) f_wireFalse f_wireTrue f_signalBase f_bootWire f_registerBase f_firstGate f_wireLimit f_opAnd f_opOr f_opNot f_codes f_cells f_resumeBase f_rootRow f_endRow f_stayRow f_leftRow f_rightRow (nI ni) (nI no) f_nodeLimit f_count f_phaseNow f_instantCount f_rejectedCount f_wireCount (nI lE) a_kindOf a_argOf a_firstOf a_secondOf a_parentOf a_activeNode a_lastStatus a_inTree a_trapDepth a_firstCodes a_gateOp a_gateA a_gateB a_inverseOf a_cell a_selWire a_keepStart a_keepResume a_frozen a_nextWire mu ca := by
  have C' := C
  obtain ⟨T, hni, hno, hL, D, hr⟩ := C'
  obtain ⟨F1, F2, F3, F4, F5, F6, F7, F8⟩ := F
  have F' : cp_F ni N κ A P Q U r wc lE a_gateOp a_gateA a_gateB a_cell sw nx := ⟨F1, F2, F3, F4, F5, F6, F7, F8⟩
  -- the wires of the root's emissions
  have hem : ∃ em : Nat → Nat, ∀ j, j < no → em j < 4096 ∧ sf_w (em j) ∧ a_cell (774 + j) = nI (em j) := by
    refine ⟨fun j => (a_cell (774 + j)).toNatClampNeg, fun j hj => ?_⟩
    obtain ⟨w, hw, sw', ew⟩ := F5 (6 + j) (by omega)
    have e : a_cell (774 + j) = nI w := by rw [← ew]; congr 1; omega
    have c : (a_cell (774 + j)).toNatClampNeg = w := by rw [e, nI_clamp (by omega)]
    dsimp only
    rw [c]
    exact ⟨by omega, sw', e⟩
  obtain ⟨em, hem⟩ := hem
  intro d
  induction d with
  | zero =>
    intro i mu ca E n hi hn S0 E1 hq
    obtain ⟨n, rfl⟩ : ∃ y, n = y + 1 := ⟨n - 1, by omega⟩
    refine pk_lt no i (fun h => absurd h (by omega)) (fun _ => ?_)
    refine xw_sweep (lo := 45) (hi := lE) rfl rfl F1 F4 (Nat.le_refl _) F2 F3 (fun mu1 ca1 fr G => ?_)
    have S1 : ld_S N z a_activeNode mu1 ca1 := by
      have hN := T.1
      obtain ⟨a1, a2, a3, a4, a5, a6, a7⟩ := S0
      refine ⟨(fr 0 (by omega)).1.trans a1, (fr 0 (by omega)).2.trans a2, (fr 1 (by omega)).1.trans a3, (fr 1 (by omega)).2.trans a4, (fr 12 (by omega)).1.trans a5, (fr 12 (by omega)).2.trans a6, fun m hm => ⟨(fr (13 + m) (by omega)).1.trans (a7 m hm).1, (fr (13 + m) (by omega)).2.trans (a7 m hm).2⟩⟩
    have E2 : sv_E ni no mu1 ca1 E := fun l hl s hs => by
      have f := fr (2 + s) (by omega)
      rw [ln_Ve f.1 f.2]; exact E1 l hl s hs
    have V1 : ∀ l, l < 64 → ck_S (ln_V mu1 ca1 l) lE a_gateOp a_gateA a_gateB := fun l hl => by
      have b := sv_base (r := r) (rt := rt) (L := L) (U := U) hl S1 hz ha
      exact ⟨b.1, b.2.1, fun w h1 h2 => G w h1 h2 l hl⟩
    -- what the settling makes of each lane
    have key : ∀ l, l < 64 → ∀ j, j < no → se_k (ln_V mu1 ca1 l (2 + ni + j)) (ln_V mu1 ca1 l (em j)) = rn_en (st_F ni no N κ A P Q U L rt (E l) (ni + j)) := by
      intro l hl j hj
      have b := sv_base (r := r) (rt := rt) (L := L) (U := U) hl S1 hz ha
      have hR := st_Rl T hL (E l)
      have M := (cx_M C F' (V1 l hl) (fun s hs => (E2 l hl s hs).1) b.2.2.2 b.2.2.1 hR).2
      have g := cx_G C hR
      have m6 := congrFun M (6 + j)
      rw [rw_v1 (by omega), rn_ro2 (by omega) (by omega), show 64 * 12 + (6 + j) = 774 + j by omega, (hem j hj).2.2, nI_clamp (by have := (hem j hj).1; omega), show 6 + j - 6 = j by omega] at m6
      have o := E2 l hl (ni + j) (by omega)
      rw [show 2 + (ni + j) = 2 + ni + j by omega] at o
      rw [m6, o.1, se_en o.2 (g.2.1 (ni + j))]
      unfold st_F st_v
      by_cases c : E l (ni + j) = 2
      · rw [if_pos c, if_pos (show ni ≤ ni + j ∧ ni + j < ni + no ∧ E l (ni + j) = 2 from ⟨by omega, by omega, c⟩)]
      · rw [if_neg c, if_neg (fun z => c z.2.2)]
    have f3 : ∀ l, l < 64 → ∀ s, s < ni + no → st_F ni no N κ A P Q U L rt (E l) s = 0 ∨ st_F ni no N κ A P Q U L rt (E l) s = 1 ∨ st_F ni no N κ A P Q U L rt (E l) s = 2 := fun l hl s hs => st_v3 (E2 l hl s hs).2
    have low : ∀ l s, s < ni → st_F ni no N κ A P Q U L rt (E l) s = E l s := fun l s hs => by unfold st_F st_v; rw [if_neg (by omega)]
    -- no lane changes: all lanes stand still
    have still : (∀ j, j < no → ∀ l, l < 64 → se_k (ln_V mu1 ca1 l (2 + ni + j)) (ln_V mu1 ca1 l (em j)) = ln_V mu1 ca1 l (2 + ni + j)) → ∀ l, l < 64 → st_q ni no (st_F ni no N κ A P Q U L rt (E l)) (E l) := by
      intro h l hl s hs
      by_cases c : s < ni
      · exact low l s c
      · have q := h (s - ni) (by omega) l hl
        rw [key l hl (s - ni) (by omega)] at q
        have o := E2 l hl s hs
        rw [show 2 + ni + (s - ni) = 2 + s by omega, o.1, show ni + (s - ni) = s by omega] at q
        exact rn_en_i (f3 l hl s hs) o.2 q
    refine ⟨no + 1, xv_se hni hno hem (fun mu2 ca2 h1 h2 h3 => br_t rfl ?_) (fun mu2 ca2 h1 h2 h3 => ?_) no 0 mu1 ca1 (no + 1) 0 (by omega) (by omega) (fun _ _ => ⟨rfl, rfl⟩) (fun i h => absurd h (by omega)) (Or.inl ⟨rfl, fun i h => absurd h (by omega)⟩)⟩
    · refine K mu2 ca2 E (ld_Sm S1 h2) (fun l hl s hs => ?_) (fun l hl => ⟨i, hq l hl, still h3 l hl⟩) (fun l hl => ?_)
      · rw [h1 l _ hl]; exact E2 l hl s hs
      · have : ln_V mu2 ca2 l = ln_V mu1 ca1 l := funext (fun w => h1 l w hl)
        rw [this]; exact V1 l hl
    · obtain ⟨j, hj, l, hl, ne⟩ := h3
      exfalso
      apply ne
      have fx := st_end T hL hr (E0 l) (k := i) (by omega)
      have q := st_qt (st_Fe T hL hr (hq l hl)) (st_qt fx (st_qs (hq l hl)))
      have o := E2 l hl (ni + j) (by omega)
      rw [key l hl j hj, q (ni + j) (by omega), show 2 + ni + j = 2 + (ni + j) by omega, o.1]
  | succ d ih =>
    intro i mu ca E n hi hn S0 E1 hq
    obtain ⟨n, rfl⟩ : ∃ y, n = y + 1 := ⟨n - 1, by omega⟩
    refine pk_lt no i (fun h => absurd h (by omega)) (fun _ => ?_)
    refine xw_sweep (lo := 45) (hi := lE) rfl rfl F1 F4 (Nat.le_refl _) F2 F3 (fun mu1 ca1 fr G => ?_)
    have S1 : ld_S N z a_activeNode mu1 ca1 := by
      have hN := T.1
      obtain ⟨a1, a2, a3, a4, a5, a6, a7⟩ := S0
      refine ⟨(fr 0 (by omega)).1.trans a1, (fr 0 (by omega)).2.trans a2, (fr 1 (by omega)).1.trans a3, (fr 1 (by omega)).2.trans a4, (fr 12 (by omega)).1.trans a5, (fr 12 (by omega)).2.trans a6, fun m hm => ⟨(fr (13 + m) (by omega)).1.trans (a7 m hm).1, (fr (13 + m) (by omega)).2.trans (a7 m hm).2⟩⟩
    have E2 : sv_E ni no mu1 ca1 E := fun l hl s hs => by
      have f := fr (2 + s) (by omega)
      rw [ln_Ve f.1 f.2]; exact E1 l hl s hs
    have V1 : ∀ l, l < 64 → ck_S (ln_V mu1 ca1 l) lE a_gateOp a_gateA a_gateB := fun l hl => by
      have b := sv_base (r := r) (rt := rt) (L := L) (U := U) hl S1 hz ha
      exact ⟨b.1, b.2.1, fun w h1 h2 => G w h1 h2 l hl⟩
    have key : ∀ l, l < 64 → ∀ j, j < no → se_k (ln_V mu1 ca1 l (2 + ni + j)) (ln_V mu1 ca1 l (em j)) = rn_en (st_F ni no N κ A P Q U L rt (E l) (ni + j)) := by
      intro l hl j hj
      have b := sv_base (r := r) (rt := rt) (L := L) (U := U) hl S1 hz ha
      have hR := st_Rl T hL (E l)
      have M := (cx_M C F' (V1 l hl) (fun s hs => (E2 l hl s hs).1) b.2.2.2 b.2.2.1 hR).2
      have g := cx_G C hR
      have m6 := congrFun M (6 + j)
      rw [rw_v1 (by omega), rn_ro2 (by omega) (by omega), show 64 * 12 + (6 + j) = 774 + j by omega, (hem j hj).2.2, nI_clamp (by have := (hem j hj).1; omega), show 6 + j - 6 = j by omega] at m6
      have o := E2 l hl (ni + j) (by omega)
      rw [show 2 + (ni + j) = 2 + ni + j by omega] at o
      rw [m6, o.1, se_en o.2 (g.2.1 (ni + j))]
      unfold st_F st_v
      by_cases c : E l (ni + j) = 2
      · rw [if_pos c, if_pos (show ni ≤ ni + j ∧ ni + j < ni + no ∧ E l (ni + j) = 2 from ⟨by omega, by omega, c⟩)]
      · rw [if_neg c, if_neg (fun z => c z.2.2)]
    have f3 : ∀ l, l < 64 → ∀ s, s < ni + no → st_F ni no N κ A P Q U L rt (E l) s = 0 ∨ st_F ni no N κ A P Q U L rt (E l) s = 1 ∨ st_F ni no N κ A P Q U L rt (E l) s = 2 := fun l hl s hs => st_v3 (E2 l hl s hs).2
    have low : ∀ l s, s < ni → st_F ni no N κ A P Q U L rt (E l) s = E l s := fun l s hs => by unfold st_F st_v; rw [if_neg (by omega)]
    have still : (∀ j, j < no → ∀ l, l < 64 → se_k (ln_V mu1 ca1 l (2 + ni + j)) (ln_V mu1 ca1 l (em j)) = ln_V mu1 ca1 l (2 + ni + j)) → ∀ l, l < 64 → st_q ni no (st_F ni no N κ A P Q U L rt (E l)) (E l) := by
      intro h l hl s hs
      by_cases c : s < ni
      · exact low l s c
      · have q := h (s - ni) (by omega) l hl
        rw [key l hl (s - ni) (by omega)] at q
        have o := E2 l hl s hs
        rw [show 2 + ni + (s - ni) = 2 + s by omega, o.1, show ni + (s - ni) = s by omega] at q
        exact rn_en_i (f3 l hl s hs) o.2 q
    refine ⟨no + 1, xv_se hni hno hem (fun mu2 ca2 h1 h2 h3 => br_t rfl ?_) (fun mu2 ca2 h1 h2 h3 => br_f (by decide) (nm_r (nI_1 i) ?_)) no 0 mu1 ca1 (no + 1) 0 (by omega) (by omega) (fun _ _ => ⟨rfl, rfl⟩) (fun i h => absurd h (by omega)) (Or.inl ⟨rfl, fun i h => absurd h (by omega)⟩)⟩
    · refine K mu2 ca2 E (ld_Sm S1 h2) (fun l hl s hs => ?_) (fun l hl => ⟨i, hq l hl, still h3 l hl⟩) (fun l hl => ?_)
      · rw [h1 l _ hl]; exact E2 l hl s hs
      · have : ln_V mu2 ca2 l = ln_V mu1 ca1 l := funext (fun w => h1 l w hl)
        rw [this]; exact V1 l hl
    · refine ih (i + 1) mu2 ca2 (fun l => st_F ni no N κ A P Q U L rt (E l)) n (by omega) (by omega) (ld_Sm S1 (fun w hw => h1 w (by rcases hw with c | c <;> omega))) (fun l hl s hs => ⟨?_, f3 l hl s hs⟩) (fun l hl => st_Fe T hL hr (hq l hl))
      by_cases c : s < ni
      · have f := h1 (2 + s) (by omega)
        rw [ln_Ve f.1 f.2, (E2 l hl s hs).1]
        dsimp only
        rw [low l s c]
      · have q := h2 (s - ni) (by omega) l hl
        rw [key l hl (s - ni) (by omega), show 2 + ni + (s - ni) = 2 + s by omega, show ni + (s - ni) = s by omega] at q
        exact q
theorem xv_solve {post : SX → Prop} {sw nx : Nat → Int32} {z : Int64} (C : cx_T ni no N κ A P Q U r L rt td) (F : cp_F ni N κ A P Q U r wc lE a_gateOp a_gateA a_gateB a_cell sw nx) (hz : z = if rt = r then -1 else 0) (ha : ∀ n, n < N → a_activeNode n = if ac_b N U L n = true then 1 else 0)
    {E0 : Nat → Nat → Int32} (S0 : ld_S N z a_activeNode mu ca) (E1 : sv_E ni no mu ca E0)
    (K : ∀ mu' ca' E, ld_S N z a_activeNode mu' ca' → sv_E ni no mu' ca' E → (∀ l, l < 64 → st_L ni no N κ A P Q U L rt (E0 l) (E l)) → (∀ l, l < 64 → ck_S (ln_V mu' ca' l) lE a_gateOp a_gateA a_gateB) → post (f_wireFalse, f_wireTrue, f_signalBase, f_bootWire, f_registerBase, f_firstGate, f_wireLimit, f_opAnd, f_opOr, f_opNot, f_codes, f_cells, f_resumeBase, f_rootRow, f_endRow, f_stayRow, f_leftRow, f_rightRow, nI ni, nI no, f_nodeLimit, f_count, f_phaseNow, f_instantCount, f_rejectedCount, f_wireCount, nI lE, a_kindOf, a_argOf, a_firstOf, a_secondOf, a_parentOf, a_activeNode, a_lastStatus, a_inTree, a_trapDepth, a_firstCodes, a_gateOp, a_gateA, a_gateB, a_inverseOf, a_cell, a_selWire, a_keepStart, a_keepResume, a_frozen, a_nextWire, mu', ca')) :
    wpX_solve post (f_wireFalse, f_wireTrue, f_signalBase, f_bootWire, f_registerBase, f_firstGate, f_wireLimit, f_opAnd, f_opOr, f_opNot, f_codes, f_cells, f_resumeBase, f_rootRow, f_endRow, f_stayRow, f_leftRow, f_rightRow, nI ni, nI no, f_nodeLimit, f_count, f_phaseNow, f_instantCount, f_rejectedCount, f_wireCount, nI lE, a_kindOf, a_argOf, a_firstOf, a_secondOf, a_parentOf, a_activeNode, a_lastStatus, a_inTree, a_trapDepth, a_firstCodes, a_gateOp, a_gateA, a_gateB, a_inverseOf, a_cell, a_selWire, a_keepStart, a_keepResume, a_frozen, a_nextWire, mu, ca) :=
  ⟨no + 2, xv_solve_l C F hz ha K no 0 mu ca E0 (no + 2) (by omega) (by omega) S0 E1 (fun l _ => st_qr _)⟩
end
end
section
/-! ===== X: solveFor, openLanes, outcome, laneStatus, lanePattern, coherentLanes ===== -/
theorem sg_3 {ni : Nat} {m : Nat → Bool} (s : Nat) : sg_0 ni m s = 0 ∨ sg_0 ni m s = 1 ∨ sg_0 ni m s = 2 := by
  unfold sg_0
  by_cases c : s < ni
  · rw [if_pos c]
    by_cases d : m s = true
    · rw [if_pos d]; exact Or.inr (Or.inl rfl)
    · rw [if_neg d]; exact Or.inl rfl
  · rw [if_neg c]; exact Or.inr (Or.inr rfl)
section
variable {f_wireFalse f_wireTrue f_signalBase f_bootWire f_registerBase f_firstGate f_wireLimit f_opAnd f_opOr f_opNot f_codes f_cells f_resumeBase f_rootRow f_endRow f_stayRow f_leftRow f_rightRow f_inputSignals f_outputSignals f_nodeLimit f_count f_phaseNow f_instantCount f_rejectedCount f_wireCount f_logicEnd : Int32} {a_kindOf a_argOf a_firstOf a_secondOf a_parentOf a_activeNode a_lastStatus a_inTree a_trapDepth a_firstCodes a_gateOp a_gateA a_gateB a_inverseOf a_cell a_selWire a_keepStart a_keepResume a_frozen a_nextWire : Nat → Int32} {a_must a_can : Nat → Int64}
variable {ni no N : Nat} {κ A P Q U : Nat → Nat} {r : Nat} {L : Int32} {rt : Nat} {td : Nat → Nat} {wc lE : Nat} {mu ca : Nat → Int64} {sw nx : Nat → Int32}
theorem xo_hz (hph : (f_phaseNow = 1 ∧ rt = r) ∨ (f_phaseNow = 2 ∧ rt = 32 + r)) : (if f_phaseNow = 1 then (-1 : Int64) else 0) = if rt = r then -1 else 0 := by
  rcases hph with ⟨a, b⟩ | ⟨a, b⟩
  · rw [if_pos a, if_pos b]
  · rw [if_neg (by rw [a]; decide), if_neg (by omega)]
theorem xo_sf {post : SX → Prop} {x : Int32} (C : cx_T ni no N κ A P Q U r L rt td) (F : cp_F ni N κ A P Q U r wc lE a_gateOp a_gateA a_gateB a_cell sw nx) (hph : (f_phaseNow = 1 ∧ rt = r) ∨ (f_phaseNow = 2 ∧ rt = 32 + r)) (ha : ∀ n, n < N → a_activeNode n = if ac_b N U L n = true then 1 else 0)
    (K : ∀ mu' ca' E, ld_S N (if rt = r then -1 else 0) a_activeNode mu' ca' → sv_E ni no mu' ca' E → (∀ l, l < 64 → st_L ni no N κ A P Q U L rt (sg_0 ni (bt x)) (E l)) → (∀ l, l < 64 → ck_S (ln_V mu' ca' l) lE a_gateOp a_gateA a_gateB) → post (f_wireFalse, f_wireTrue, f_signalBase, f_bootWire, f_registerBase, f_firstGate, f_wireLimit, f_opAnd, f_opOr, f_opNot, f_codes, f_cells, f_resumeBase, f_rootRow, f_endRow, f_stayRow, f_leftRow, f_rightRow, nI ni, nI no, f_nodeLimit, nI N, f_phaseNow, f_instantCount, f_rejectedCount, f_wireCount, nI lE, a_kindOf, a_argOf, a_firstOf, a_secondOf, a_parentOf, a_activeNode, a_lastStatus, a_inTree, a_trapDepth, a_firstCodes, a_gateOp, a_gateA, a_gateB, a_inverseOf, a_cell, a_selWire, a_keepStart, a_keepResume, a_frozen, a_nextWire, mu', ca')) :
    wpX_solveFor post (f_wireFalse, f_wireTrue, f_signalBase, f_bootWire, f_registerBase, f_firstGate, f_wireLimit, f_opAnd, f_opOr, f_opNot, f_codes, f_cells, f_resumeBase, f_rootRow, f_endRow, f_stayRow, f_leftRow, f_rightRow, nI ni, nI no, f_nodeLimit, nI N, f_phaseNow, f_instantCount, f_rejectedCount, f_wireCount, nI lE, a_kindOf, a_argOf, a_firstOf, a_secondOf, a_parentOf, a_activeNode, a_lastStatus, a_inTree, a_trapDepth, a_firstCodes, a_gateOp, a_gateA, a_gateB, a_inverseOf, a_cell, a_selWire, a_keepStart, a_keepResume, a_frozen, a_nextWire, mu, ca) x := by
  have C' := C
  obtain ⟨T, hni, hno, hL, D, hr⟩ := C'
  unfold wpX_solveFor
  refine xl_state T.1 (fun mu1 ca1 S1 => ?_)
  rw [xo_hz (r := r) (rt := rt) hph] at S1
  refine xl_inputs hni (fun mu2 ca2 I2 => ?_)
  refine xl_unknown hni hno (fun mu3 ca3 I3 => ?_)
  have S3 : ld_S N (if rt = r then -1 else 0) a_activeNode mu3 ca3 := ld_Sm S1 (fun w hw => by
    have a := I3.1 w (by rcases hw with c | c <;> omega)
    have b := I2.1 w (by rcases hw with c | c <;> omega)
    exact ⟨a.1.trans b.1, a.2.trans b.2⟩)
  refine xv_solve (E0 := fun _ => sg_0 ni (bt x)) C F rfl ha S3 (fun l hl s hs => ⟨?_, sg_3 s⟩) (fun mu' ca' E a b c d => K mu' ca' E a b c d)
  show ln_V mu3 ca3 l (2 + s) = rn_en (sg_0 ni (bt x) s)
  by_cases c : s < ni
  · have a := I3.1 (2 + s) (by omega)
    have b := I2.2 s (Nat.zero_le s) c
    unfold ln_V
    rw [a.1, a.2, b.1, b.2]
    unfold sg_0 mk_v
    rw [if_pos c]
    cases z : bt x s with
    | true => rw [if_pos rfl, if_pos rfl, ln_m1 l hl]; rfl
    | false => rw [if_neg Bool.false_ne_true, if_neg Bool.false_ne_true, ln_0]; rfl
  · have b := I3.2 s (by omega) hs
    unfold ln_V
    rw [b.1, b.2, ln_0, ln_m1 l hl]
    unfold sg_0
    rw [if_neg c]; rfl
theorem xo_ol {pi : Int64 → Prop} {E : Nat → Nat → Int32} (hni : ni ≤ 4) (hno : no ≤ 6) (hE : sv_E ni no mu ca E) (K : ∀ o, (∀ l, l < 64 → (ln_b o l = true ↔ ∃ s, ni ≤ s ∧ s < ni + no ∧ E l s = 2)) → pi o) :
    ∀ d j x n, j + d = no → d < n → (∀ l, l < 64 → (ln_b x l = true ↔ ∃ s, ni ≤ s ∧ s < ni + j ∧ E l s = 2)) → wX_openLanes_4 pi f_wireFalse f_wireTrue f_signalBase f_bootWire f_registerBase f_firstGate f_wireLimit f_opAnd f_opOr f_opNot f_codes f_cells f_resumeBase f_rootRow f_endRow f_stayRow f_leftRow f_rightRow (nI ni) (nI no) f_nodeLimit f_count f_phaseNow f_instantCount f_rejectedCount f_wireCount f_logicEnd a_kindOf a_argOf a_firstOf a_secondOf a_parentOf a_activeNode a_lastStatus a_inTree a_trapDepth a_firstCodes a_gateOp a_gateA a_gateB a_inverseOf a_cell a_selWire a_keepStart a_keepResume a_frozen a_nextWire mu ca n x (nI j) := by
  intro d
  induction d with
  | zero =>
    intro j x n hj hn h
    obtain ⟨n, rfl⟩ : ∃ y, n = y + 1 := ⟨n - 1, by omega⟩
    rw [show j = no by omega] at h ⊢
    exact pk_le no no (fun _ => K x h) (fun h => absurd h (by omega))
  | succ d ih =>
    intro j x n hj hn h
    obtain ⟨n, rfl⟩ : ∃ y, n = y + 1 := ⟨n - 1, by omega⟩
    have is : vp_in (nI (2 + ni + j)) 4096 := vp_in_nI (by omega) (by decide)
    refine pk_le no j (fun h => absurd h (by omega)) (fun _ => ?_)
    refine nm_r (show 2 + nI ni + nI j = nI (2 + ni + j) from (congrArg (fun z => z + nI j) (nI_add 2 ni)).trans (nI_add _ _)) ⟨is, is, ?_⟩
    rw [nI_clamp (show 2 + ni + j < 2 ^ 31 by omega), nI_1 j]
    refine nm_e (nm_e (ih (j + 1) _ n (by omega) (by omega) (fun l hl => ?_)))
    rw [ln_or, ln_and, ln_not _ hl, Bool.or_eq_true, h l hl]
    have o := hE l hl (ni + j) (by omega)
    rw [show 2 + (ni + j) = 2 + ni + j by omega] at o
    have o1 : ln_b (mu (2 + ni + j)) l = (rn_en (E l (ni + j))).1 := congrArg Prod.fst o.1
    have o2 : ln_b (ca (2 + ni + j)) l = (rn_en (E l (ni + j))).2 := congrArg Prod.snd o.1
    have q : (ln_b (ca (2 + ni + j)) l && !ln_b (mu (2 + ni + j)) l) = true ↔ E l (ni + j) = 2 := by
      rw [o1, o2]
      rcases o.2 with e | e | e <;> rw [e] <;> decide
    rw [q]
    constructor
    · intro g
      rcases g with ⟨s, a, b, c⟩ | g
      · exact ⟨s, a, by omega, c⟩
      · exact ⟨ni + j, by omega, by omega, g⟩
    · intro ⟨s, a, b, c⟩
      by_cases e : s = ni + j
      · subst e; exact Or.inr c
      · exact Or.inl ⟨s, a, by omega, c⟩
theorem xo_open {pi : Int64 → Prop} {E : Nat → Nat → Int32} (hni : ni ≤ 4) (hno : no ≤ 6) (hE : sv_E ni no mu ca E) (K : ∀ o, (∀ l, l < 64 → (ln_b o l = true ↔ ∃ s, ni ≤ s ∧ s < ni + no ∧ E l s = 2)) → pi o) :
    wpX_openLanes pi (f_wireFalse, f_wireTrue, f_signalBase, f_bootWire, f_registerBase, f_firstGate, f_wireLimit, f_opAnd, f_opOr, f_opNot, f_codes, f_cells, f_resumeBase, f_rootRow, f_endRow, f_stayRow, f_leftRow, f_rightRow, nI ni, nI no, f_nodeLimit, f_count, f_phaseNow, f_instantCount, f_rejectedCount, f_wireCount, f_logicEnd, a_kindOf, a_argOf, a_firstOf, a_secondOf, a_parentOf, a_activeNode, a_lastStatus, a_inTree, a_trapDepth, a_firstCodes, a_gateOp, a_gateA, a_gateB, a_inverseOf, a_cell, a_selWire, a_keepStart, a_keepResume, a_frozen, a_nextWire, mu, ca) :=
  ⟨no + 1, xo_ol hni hno hE K no 0 0 (no + 1) (by omega) (by omega) (fun l hl => by
    rw [ln_0]
    exact ⟨fun h => absurd h Bool.false_ne_true, fun ⟨s, a, b, _⟩ => absurd b (by omega)⟩)⟩
theorem xo_out {pi : Int32 → Prop} {E : Nat → Nat → Int32} {R : Nat → rn_T} (C : cx_T ni no N κ A P Q U r L rt td) (F : cp_F ni N κ A P Q U r wc lE a_gateOp a_gateA a_gateB a_cell sw nx) (hE : sv_E ni no mu ca E)
    (hM : rw_v (ln_V mu ca 0) a_cell 64 = rn_ro ni (R rt)) (K : pi (sg_a ni no (E 0) (R rt))) : wpX_outcome pi (f_wireFalse, f_wireTrue, f_signalBase, f_bootWire, f_registerBase, f_firstGate, f_wireLimit, f_opAnd, f_opOr, f_opNot, f_codes, f_cells, f_resumeBase, f_rootRow, f_endRow, f_stayRow, f_leftRow, f_rightRow, nI ni, nI no, f_nodeLimit, f_count, f_phaseNow, f_instantCount, f_rejectedCount, f_wireCount, f_logicEnd, a_kindOf, a_argOf, a_firstOf, a_secondOf, a_parentOf, a_activeNode, a_lastStatus, a_inTree, a_trapDepth, a_firstCodes, a_gateOp, a_gateA, a_gateB, a_inverseOf, a_cell, a_selWire, a_keepStart, a_keepResume, a_frozen, a_nextWire, mu, ca) := by
  obtain ⟨T, hni, hno, hL, D, hr⟩ := C
  unfold wpX_outcome
  refine xo_open hni hno hE (fun o ho => ?_)
  have h0 := ho 0 (by omega)
  refine rc_ifb (ln_and1 o) (fun z => ?_) (fun z => ?_)
  · have nx' : ¬ ∃ s, ni ≤ s ∧ s < ni + no ∧ E 0 s = 2 := fun q => by rw [h0.mpr q] at z; cases z
    unfold sg_a at K
    rw [pb_f nx', if_neg Bool.false_ne_true] at K
    obtain ⟨w, hw, _, ew⟩ := F.2.2.2.2.1 0 (by omega)
    have w4 : w < 4096 := by have := F.2.1; have := F.2.2.1; omega
    have e : a_cell 768 = nI w := ew
    rw [e]
    refine ⟨vp_in_nI w4 (by decide), ?_⟩
    rw [nI_clamp (show w < 2 ^ 31 by omega)]
    have m := congrFun hM 0
    rw [rw_v1 (by omega), rn_ro1 (by omega), show a_cell (64 * 12 + 0) = nI w from ew, nI_clamp (show w < 2 ^ 31 by omega)] at m
    have m1 : ln_b (mu w) 0 = bt (R rt).2.2.1 0 := congrArg Prod.fst m
    refine rc_ifb (ln_and1 _) (fun y => ?_) (fun y => ?_)
    · rw [← m1, y, if_neg Bool.false_ne_true] at K; exact K
    · rw [← m1, y, if_pos rfl] at K; exact K
  · unfold sg_a at K
    rw [pb_t (h0.mp z), if_pos rfl] at K
    exact K
theorem xo_st {pi : Int32 → Prop} {E : Nat → Nat → Int32} {s : Nat} {x : Int32} (e : x = nI s) (hni : ni ≤ 4) (hno : no ≤ 6) (hs : s < ni + no) (hE : sv_E ni no mu ca E) (K : pi (E 0 s)) : wpX_laneStatus pi (f_wireFalse, f_wireTrue, f_signalBase, f_bootWire, f_registerBase, f_firstGate, f_wireLimit, f_opAnd, f_opOr, f_opNot, f_codes, f_cells, f_resumeBase, f_rootRow, f_endRow, f_stayRow, f_leftRow, f_rightRow, f_inputSignals, f_outputSignals, f_nodeLimit, f_count, f_phaseNow, f_instantCount, f_rejectedCount, f_wireCount, f_logicEnd, a_kindOf, a_argOf, a_firstOf, a_secondOf, a_parentOf, a_activeNode, a_lastStatus, a_inTree, a_trapDepth, a_firstCodes, a_gateOp, a_gateA, a_gateB, a_inverseOf, a_cell, a_selWire, a_keepStart, a_keepResume, a_frozen, a_nextWire, mu, ca) x := by
  subst e
  have hi : vp_in (2 + nI s) 4096 := pk_in (2 + s) 4096 (by omega) (nI_add 2 s)
  refine ⟨hi, ?_⟩
  rw [show 2 + nI s = nI (2 + s) from nI_add 2 s, nI_clamp (show 2 + s < 2 ^ 31 by omega)]
  have o := hE 0 (by omega) s hs
  have o1 : ln_b (mu (2 + s)) 0 = (rn_en (E 0 s)).1 := congrArg Prod.fst o.1
  have o2 : ln_b (ca (2 + s)) 0 = (rn_en (E 0 s)).2 := congrArg Prod.snd o.1
  refine rc_ifb (ln_and1 _) (fun z => ⟨by rw [← nI_add 2 s]; exact hi, rc_ifb (ln_and1 _) (fun y => ?_) (fun y => ?_)⟩) (fun z => ?_)
  · rw [o1] at z
    rw [o2] at y
    rcases o.2 with e | e | e
    · rw [e] at K; exact K
    · rw [e] at z; exact absurd z (by decide)
    · rw [e] at y; exact absurd y (by decide)
  · rw [o1] at z
    rw [o2] at y
    rcases o.2 with e | e | e
    · rw [e] at y; exact absurd y (by decide)
    · rw [e] at z; exact absurd z (by decide)
    · rw [e] at K; exact K
  · rw [o1] at z
    rcases o.2 with e | e | e
    · rw [e] at z; exact absurd z (by decide)
    · rw [e] at K; exact K
    · rw [e] at z; exact absurd z (by decide)
theorem xo_lp_l {pi : Int64 → Prop} {b : Nat} (hb : b < 32) (K : ∀ o, (∀ l, l < 64 → ln_b o l = bt (nI l) b) → pi o) : ∀ d l x n, l + d = 64 → d < n → (∀ i, i < 64 → ln_b x i = (decide (i < l) && bt (nI i) b)) → wX_lanePattern_5 pi (nI b) f_wireFalse f_wireTrue f_signalBase f_bootWire f_registerBase f_firstGate f_wireLimit f_opAnd f_opOr f_opNot f_codes f_cells f_resumeBase f_rootRow f_endRow f_stayRow f_leftRow f_rightRow f_inputSignals f_outputSignals f_nodeLimit f_count f_phaseNow f_instantCount f_rejectedCount f_wireCount f_logicEnd a_kindOf a_argOf a_firstOf a_secondOf a_parentOf a_activeNode a_lastStatus a_inTree a_trapDepth a_firstCodes a_gateOp a_gateA a_gateB a_inverseOf a_cell a_selWire a_keepStart a_keepResume a_frozen a_nextWire a_must a_can n x (nI l) := by
  intro d
  induction d with
  | zero =>
    intro l x n hl hn h
    obtain ⟨n, rfl⟩ : ∃ y, n = y + 1 := ⟨n - 1, by omega⟩
    rw [show l = 64 by omega] at h ⊢
    exact pk_le 64 64 (fun _ => K x (fun i hi => by rw [h i hi, decide_eq_true hi, Bool.true_and])) (fun h => absurd h (by omega))
  | succ d ih =>
    intro l x n hl hn h
    obtain ⟨n, rfl⟩ : ∃ y, n = y + 1 := ⟨n - 1, by omega⟩
    refine pk_le 64 l (fun h => absurd h (by omega)) (fun _ => rc_ifb (rc_shr1 hb (nI l)) (fun z => nm_r (nI_1 l) (ih (l + 1) x n (by omega) (by omega) (fun i hi => ?_))) (fun z => nm_e (nm_r (nI_1 l) (ih (l + 1) _ n (by omega) (by omega) (fun i hi => ?_)))))
    · rw [h i hi]
      by_cases e : i = l
      · subst e; rw [z, Bool.and_false, Bool.and_false]
      · by_cases g : i < l
        · rw [decide_eq_true g, decide_eq_true (show i < l + 1 by omega)]
        · rw [decide_eq_false g, decide_eq_false (show ¬ i < l + 1 by omega)]
    · rw [ln_or, h i hi, ln_1shl l (by omega) i hi]
      by_cases e : i = l
      · subst e; rw [z, decide_eq_true rfl, Bool.or_true, decide_eq_true (show i < i + 1 by omega)]; rfl
      · rw [decide_eq_false e, Bool.or_false]
        by_cases g : i < l
        · rw [decide_eq_true g, decide_eq_true (show i < l + 1 by omega)]
        · rw [decide_eq_false g, decide_eq_false (show ¬ i < l + 1 by omega)]
theorem xo_lp {pi : Int64 → Prop} {b : Nat} (hb : b < 32) (K : ∀ o, (∀ l, l < 64 → ln_b o l = bt (nI l) b) → pi o) : wpX_lanePattern pi (f_wireFalse, f_wireTrue, f_signalBase, f_bootWire, f_registerBase, f_firstGate, f_wireLimit, f_opAnd, f_opOr, f_opNot, f_codes, f_cells, f_resumeBase, f_rootRow, f_endRow, f_stayRow, f_leftRow, f_rightRow, f_inputSignals, f_outputSignals, f_nodeLimit, f_count, f_phaseNow, f_instantCount, f_rejectedCount, f_wireCount, f_logicEnd, a_kindOf, a_argOf, a_firstOf, a_secondOf, a_parentOf, a_activeNode, a_lastStatus, a_inTree, a_trapDepth, a_firstCodes, a_gateOp, a_gateA, a_gateB, a_inverseOf, a_cell, a_selWire, a_keepStart, a_keepResume, a_frozen, a_nextWire, a_must, a_can) (nI b) :=
  ⟨65, xo_lp_l hb K 64 0 0 65 rfl (by omega) (fun i _ => by rw [ln_0, decide_eq_false (by omega), Bool.false_and])⟩
theorem xo_cl_l {post : Int64 → SX → Prop} {em : Nat → Nat} (hni : ni ≤ 4) (hno : no ≤ 6) (hem : ∀ j, j < no → em j < 4096 ∧ a_cell (774 + j) = nI (em j))
    (K : ∀ o, (∀ l, l < 64 → (ln_b o l = true ↔ ∀ j, j < no → ln_b (ca (em j)) l = ln_b (ca (2 + ni + j)) l)) → post o (f_wireFalse, f_wireTrue, f_signalBase, f_bootWire, f_registerBase, f_firstGate, f_wireLimit, f_opAnd, f_opOr, f_opNot, f_codes, f_cells, f_resumeBase, f_rootRow, f_endRow, f_stayRow, f_leftRow, f_rightRow, nI ni, nI no, f_nodeLimit, f_count, f_phaseNow, f_instantCount, f_rejectedCount, f_wireCount, f_logicEnd, a_kindOf, a_argOf, a_firstOf, a_secondOf, a_parentOf, a_activeNode, a_lastStatus, a_inTree, a_trapDepth, a_firstCodes, a_gateOp, a_gateA, a_gateB, a_inverseOf, a_cell, a_selWire, a_keepStart, a_keepResume, a_frozen, a_nextWire, mu, ca)) :
    ∀ d j x n, j + d = no → d < n → (∀ l, l < 64 → (ln_b x l = false ↔ ∀ i, i < j → ln_b (ca (em i)) l = ln_b (ca (2 + ni + i)) l)) → wX_coherentLanes_14 post f_wireFalse f_wireTrue f_signalBase f_bootWire f_registerBase f_firstGate f_wireLimit f_opAnd f_opOr f_opNot f_codes f_cells f_resumeBase f_rootRow f_endRow f_stayRow f_leftRow f_rightRow (nI ni) (nI no) f_nodeLimit f_count f_phaseNow f_instantCount f_rejectedCount f_wireCount f_logicEnd a_kindOf a_argOf a_firstOf a_secondOf a_parentOf a_activeNode a_lastStatus a_inTree a_trapDepth a_firstCodes a_gateOp a_gateA a_gateB a_inverseOf a_cell a_selWire a_keepStart a_keepResume a_frozen a_nextWire mu ca n x (nI j) := by
  intro d
  induction d with
  | zero =>
    intro j x n hj hn h
    obtain ⟨n, rfl⟩ : ∃ y, n = y + 1 := ⟨n - 1, by omega⟩
    rw [show j = no by omega] at h ⊢
    refine pk_le no no (fun _ => K _ (fun l hl => ?_)) (fun h => absurd h (by omega))
    rw [ln_not _ hl, ← h l hl]
    cases ln_b x l <;> decide
  | succ d ih =>
    intro j x n hj hn h
    obtain ⟨n, rfl⟩ : ∃ y, n = y + 1 := ⟨n - 1, by omega⟩
    obtain ⟨e4, ee⟩ := hem j (by omega)
    refine pk_le no j (fun h => absurd h (by omega)) (fun _ => ?_)
    refine nm_r (show 2 + nI ni + nI j = nI (2 + ni + j) from (congrArg (fun z => z + nI j) (nI_add 2 ni)).trans (nI_add _ _)) ⟨pk_in (774 + j) 828 (by omega) (nI_add 774 j), ?_⟩
    rw [show 774 + nI j = nI (774 + j) from nI_add 774 j, nI_clamp (show 774 + j < 2 ^ 31 by omega)]
    refine nm_r ee ⟨vp_in_nI e4 (by decide), vp_in_nI (by omega) (by decide), ?_⟩
    rw [nI_clamp (show em j < 2 ^ 31 by omega), nI_clamp (show 2 + ni + j < 2 ^ 31 by omega), nI_1 j]
    refine nm_e (nm_e (ih (j + 1) _ n (by omega) (by omega) (fun l hl => ?_)))
    rw [ln_or, ln_xor, Bool.or_eq_false_iff, h l hl]
    constructor
    · intro ⟨a, b⟩ i hi
      by_cases e : i = j
      · subst e
        cases p : ln_b (ca (em i)) l <;> cases q : ln_b (ca (2 + ni + i)) l <;> rw [p, q] at b <;> first | rfl | (exact absurd b (by decide))
      · exact a i (by omega)
    · intro a
      refine ⟨fun i hi => a i (by omega), ?_⟩
      rw [a j (by omega)]
      cases ln_b (ca (2 + ni + j)) l <;> rfl
theorem xo_cl {post : Int64 → SX → Prop} {em : Nat → Nat} (hni : ni ≤ 4) (hno : no ≤ 6) (hem : ∀ j, j < no → em j < 4096 ∧ a_cell (774 + j) = nI (em j)) (F : cp_F ni N κ A P Q U r wc lE a_gateOp a_gateA a_gateB a_cell sw nx)
    (K : ∀ mu' ca' o, (∀ w, w < 45 → mu' w = mu w ∧ ca' w = ca w) → sw_G 45 lE a_gateOp a_gateA a_gateB mu' ca' → (∀ l, l < 64 → (ln_b o l = true ↔ ∀ j, j < no → ln_b (ca' (em j)) l = ln_b (ca' (2 + ni + j)) l)) → post o (f_wireFalse, f_wireTrue, f_signalBase, f_bootWire, f_registerBase, f_firstGate, f_wireLimit, f_opAnd, f_opOr, f_opNot, f_codes, f_cells, f_resumeBase, f_rootRow, f_endRow, f_stayRow, f_leftRow, f_rightRow, nI ni, nI no, f_nodeLimit, f_count, f_phaseNow, f_instantCount, f_rejectedCount, f_wireCount, nI lE, a_kindOf, a_argOf, a_firstOf, a_secondOf, a_parentOf, a_activeNode, a_lastStatus, a_inTree, a_trapDepth, a_firstCodes, a_gateOp, a_gateA, a_gateB, a_inverseOf, a_cell, a_selWire, a_keepStart, a_keepResume, a_frozen, a_nextWire, mu', ca')) :
    wpX_coherentLanes post (f_wireFalse, f_wireTrue, f_signalBase, f_bootWire, f_registerBase, f_firstGate, f_wireLimit, f_opAnd, f_opOr, f_opNot, f_codes, f_cells, f_resumeBase, f_rootRow, f_endRow, f_stayRow, f_leftRow, f_rightRow, nI ni, nI no, f_nodeLimit, f_count, f_phaseNow, f_instantCount, f_rejectedCount, f_wireCount, nI lE, a_kindOf, a_argOf, a_firstOf, a_secondOf, a_parentOf, a_activeNode, a_lastStatus, a_inTree, a_trapDepth, a_firstCodes, a_gateOp, a_gateA, a_gateB, a_inverseOf, a_cell, a_selWire, a_keepStart, a_keepResume, a_frozen, a_nextWire, mu, ca) := by
  obtain ⟨F1, F2, F3, F4, F5, F6, F7, F8⟩ := F
  unfold wpX_coherentLanes
  refine xw_sweep (lo := 45) (hi := lE) rfl rfl F1 F4 (Nat.le_refl _) F2 F3 (fun mu1 ca1 fr G => ?_)
  exact ⟨no + 1, xo_cl_l hni hno hem (fun o ho => K mu1 ca1 o fr G ho) no 0 0 (no + 1) (by omega) (by omega) (fun l hl => ⟨fun _ i hi => absurd hi (by omega), fun _ => ln_0 l⟩)⟩
end
end
section
/-! ===== the next state: one lane; X: latchRegisters ===== -/
section
variable {ni no N : Nat} {κ A P Q U : Nat → Nat} {r : Nat} {L : Int32} {rt : Nat} {td : Nat → Nat} {wc lE : Nat} {go ga gb ce sw nx : Nat → Int32} {V : Nat → kv_T} {e : Nat → Int32} {R : Nat → rn_T}
/-- what holds of the active leaves -/
def cx_A (N : Nat) (κ P Q U : Nat → Nat) (r : Nat) (L : Int32) : Prop := ac_L N κ L ∧ (∀ m, bt L m = true → tr_B N U m r) ∧ ∀ n, n < N → tr_B N U n r → κ n = 9 → ¬ (ac_B N U L (P n) ∧ ac_B N U L (Q n))
theorem cx_0 (N : Nat) (κ P Q U : Nat → Nat) (r : Nat) : cx_A N κ P Q U r 0 :=
  ⟨fun m h => (rn_f1 h).elim, fun m h => (rn_f1 h).elim, fun n _ _ _ ⟨⟨m, _, h, _⟩, _⟩ => (rn_f1 h).elim⟩
theorem cx_N (C : cx_T ni no N κ A P Q U r L rt td) (hX : cx_A N κ P Q U r L) (F : cp_F ni N κ A P Q U r wc lE go ga gb ce sw nx) (v : ck_S V wc go ga gb) (hv : ∀ s, s < ni + no → e s = 0 ∨ e s = 1) (hsg : ∀ s, s < ni + no → V (2 + s) = rn_en (e s))
    (hrg : ∀ n, n < N → V (13 + n) = (ac_b N U L n, ac_b N U L n)) (hbt : V 12 = (decide (rt = r), decide (rt = r))) (hR : lc_R N κ A P Q U L e R) :
    (∀ n, n < N → tr_B N U n r → (κ n = 1 ∨ κ n = 4) → (V (nx n).toNatClampNeg).1 = bt (R rt).2.2.2.2 n) ∧ cx_A N κ P Q U r (R rt).2.2.2.2 ∧ (bt (R rt).2.2.1 0 = false → ac_B N U (R rt).2.2.2.2 r) := by
  have v1 : ck_S V lE go ga gb := ck_Sm F.2.1 (fun _ _ => ⟨rfl, rfl, rfl⟩) v
  have M := (cx_M C F v1 hsg hrg hbt hR).1
  have G := cx_G C hR
  obtain ⟨KS, KR, FZ, k1, k2, k3, kE⟩ := F.2.2.2.2.2.2.2 V v
  obtain ⟨T, hni, hno, hL, D, hr⟩ := C
  have hio : ni + no < 32 := by omega
  have hN := T.1
  have LG := lc_G T hio hL D hR
  have hH : ∀ n, n < N → tr_B N U n r → ns_H ni no N κ U L R (fun m => rw_v V ce m) (fun m => rw_v V ce (32 + m)) (fun m => V (sw m).toNatClampNeg) (td n) n :=
    fun n hn hb => ⟨(LG n hn hb).1, (LG n hn hb).2, (M n hn hb).1, (M n hn hb).2.1, (M n hn hb).2.2⟩
  have hrr := hr.1
  have Mr := M r hr.1 (tr_rf r)
  have c0 : ns_C N U L (R rt).2.2.2.2 R KS KR FZ r := by
    rcases hr.2 with g | ⟨g, a⟩
    · subst g
      rw [decide_eq_true rfl] at hbt
      have q1 : (KS rt).1 = bt (R rt).2.2.1 1 := by rw [k1, hbt, Mr.1]; rfl
      have q2 : (KR rt).1 = false := by rw [k2, hbt]; rfl
      have q3 : (FZ rt).1 = false := by rw [k3]; rfl
      cases z : bt (R rt).2.2.1 1 with
      | true => exact Or.inr (Or.inl ⟨by rw [q1, z], q2, q3, z, fun m _ _ => rfl⟩)
      | false => exact Or.inl ⟨by rw [q1, z], q2, q3, fun m _ _ => by rw [G.2.2.2.2.2.2.1 z, b_0]⟩
    · rw [decide_eq_false (by omega)] at hbt
      have q1 : (KS r).1 = false := by rw [k1, hbt]; rfl
      have q2 : (KR r).1 = bt (R rt).2.2.1 1 := by rw [k2, hbt, Mr.2.1 a, g]; rfl
      have q3 : (FZ r).1 = false := by rw [k3]; rfl
      cases z : bt (R rt).2.2.1 1 with
      | true => exact Or.inr (Or.inr (Or.inl ⟨q1, by rw [q2, z], q3, a, by rw [← g]; exact z, fun m _ _ => by rw [g]⟩))
      | false => exact Or.inl ⟨q1, by rw [q2, z], q3, fun m _ _ => by rw [G.2.2.2.2.2.2.1 z, b_0]⟩
  have all := ns_all (td := td) T hL hR D hv hsg hX.2.2 kE hH c0
  have al : ∀ n, n < N → tr_B N U n r → ns_C N U L (R rt).2.2.2.2 R KS KR FZ n := fun n hn hb => all r n (by omega) hn hb
  refine ⟨fun n hn hb k => ?_, ⟨fun m h => ?_, fun m h => ?_, fun n hn hb k => ?_⟩, fun z => ?_⟩
  · refine ns_leaf T hR hv hn k (kE n hn hb) ?_ (al n hn hb)
    have : ac_b N U L n = bt L n := by
      have i := ac_lf T (L := L) hn (show κ n < 5 by omega)
      cases y : bt L n with
      | true => exact pb_t (i.mpr y)
      | false => exact pb_f (fun q => by rw [i.mp q] at y; cases y)
    show V (13 + n) = (bt L n, bt L n)
    rw [hrg n hn, this]
  · have := G.2.2.2.2.2.2.2 m h
    exact ⟨this.1, this.2.2⟩
  · exact (G.2.2.2.2.2.2.2 m h).2.1
  · have hp := tr_p T hn (by omega)
    have hq := tr_q T hn (by omega)
    have HP := hH (P n) (by omega) (tr_tr hb (tr_bp T hn (by omega)))
    have HQ := hH (Q n) (by omega) (tr_tr hb (tr_bq T hn (by omega)))
    rw [td_p T D hn hb (by omega), if_neg (by omega)] at HP
    rw [td_q T D hn hb (by omega)] at HQ
    exact ns_ex (td := td) T hL hR hv hn k (hX.2.2 n hn hb k) HP HQ (al n hn hb)
  · have K : rn_K (R rt) := by
      have := lc_K T hio hL D hR hv r hr.1 (tr_rf r)
      rcases hr.2 with g | ⟨g, a⟩
      · rw [g]; exact this.1
      · rw [g]; exact this.2 a
    obtain ⟨i, hi⟩ := K
    have i2 := (G.2.2.2.1 i (G.1 i hi)).2
    have : i = 1 := by
      by_cases c : i = 0
      · rw [c, z] at hi; cases hi
      · omega
    subst this
    obtain ⟨m, _, hm⟩ := rc_ne0.mp (G.2.2.2.2.2.1 hi)
    have s := G.2.2.2.2.2.2.2 m hm
    exact ⟨m, s.1, hm, s.2.1⟩
theorem cx_out (T : tr_F ni no N κ A P Q U) (hur : ¬ U r < N) {F : Int32} (hF : ∀ m, bt F m = true → tr_B N U m r) {n : Nat} (h : ac_B N U F n) : tr_B N U n r := by
  obtain ⟨m, hm, hb, b⟩ := h
  rcases tr_tot b (hF m hb) with c | c
  · exact c
  · rcases tr_Bi.mp c with d | ⟨d, _⟩
    · rw [d]; exact tr_rf n
    · exact absurd d hur
end
section
variable {f_wireFalse f_wireTrue f_signalBase f_bootWire f_registerBase f_firstGate f_wireLimit f_opAnd f_opOr f_opNot f_codes f_cells f_resumeBase f_rootRow f_endRow f_stayRow f_leftRow f_rightRow f_inputSignals f_outputSignals f_nodeLimit f_count f_phaseNow f_instantCount f_rejectedCount f_wireCount f_logicEnd : Int32} {a_kindOf a_argOf a_firstOf a_secondOf a_parentOf a_activeNode a_lastStatus a_inTree a_trapDepth a_firstCodes a_gateOp a_gateA a_gateB a_inverseOf a_cell a_selWire a_keepStart a_keepResume a_frozen a_nextWire : Nat → Int32} {a_must a_can : Nat → Int64}
variable {post : SX → Prop} {ni no N : Nat} {κ A P Q U : Nat → Nat} {r : Nat} {F : Int32} {mu ca : Nat → Int64}
theorem xh_l (T : tr_F ni no N κ A P Q U) (hT : ln_T N a_kindOf a_argOf a_firstOf a_secondOf a_parentOf κ A P Q U) (hur : ¬ U r < N) (hI : kp_T N U r a_inTree) (hF : ac_L N κ F) (hB : ∀ m, bt F m = true → tr_B N U m r)
    (hw : ∀ n, n < N → tr_B N U n r → (κ n = 1 ∨ κ n = 4) → ∃ w, w < 4096 ∧ a_nextWire n = nI w ∧ ln_b (mu w) 0 = bt F n)
    (K : ∀ an, (∀ n, n < N → an n = if ac_b N U F n = true then 1 else 0) → post (f_wireFalse, f_wireTrue, f_signalBase, f_bootWire, f_registerBase, f_firstGate, f_wireLimit, f_opAnd, f_opOr, f_opNot, f_codes, f_cells, f_resumeBase, f_rootRow, f_endRow, f_stayRow, f_leftRow, f_rightRow, f_inputSignals, f_outputSignals, f_nodeLimit, nI N, f_phaseNow, f_instantCount, f_rejectedCount, f_wireCount, f_logicEnd, a_kindOf, a_argOf, a_firstOf, a_secondOf, a_parentOf, an, a_lastStatus, a_inTree, a_trapDepth, a_firstCodes, a_gateOp, a_gateA, a_gateB, a_inverseOf, a_cell, a_selWire, a_keepStart, a_keepResume, a_frozen, a_nextWire, mu, ca)) :
    ∀ d n an m, n + d = N → d < m → (∀ j, j < n → an j = if ac_b N U F j = true then 1 else 0) → wX_latchRegisters_2 post f_wireFalse f_wireTrue f_signalBase f_bootWire f_registerBase f_firstGate f_wireLimit f_opAnd f_opOr f_opNot f_codes f_cells f_resumeBase f_rootRow f_endRow f_stayRow f_leftRow f_rightRow f_inputSignals f_outputSignals f_nodeLimit (nI N) f_phaseNow f_instantCount f_rejectedCount f_wireCount f_logicEnd m (nI n) a_kindOf a_argOf a_firstOf a_secondOf a_parentOf an a_lastStatus a_inTree a_trapDepth a_firstCodes a_gateOp a_gateA a_gateB a_inverseOf a_cell a_selWire a_keepStart a_keepResume a_frozen a_nextWire mu ca := by
  have hN := T.1
  intro d
  induction d with
  | zero =>
    intro n an m hn hm h
    obtain ⟨m, rfl⟩ : ∃ y, m = y + 1 := ⟨m - 1, by omega⟩
    rw [show n = N by omega] at h ⊢
    exact pk_le N N (fun _ => K an h) (fun h => absurd h (by omega))
  | succ d ih =>
    intro n an m hn hm h
    obtain ⟨m, rfl⟩ : ∃ y, m = y + 1 := ⟨m - 1, by omega⟩
    have nN : n < N := by omega
    have hi : vp_in (nI n) 32 := vp_in_nI (by omega) (by decide)
    have cn : (nI n).toNatClampNeg = n := nI_clamp (by omega)
    have hk := tr_k T nN
    obtain ⟨t1, t2, t3, t4, t5, t6, t7, t8⟩ := hT n nN
    have nxt : ∀ (v : Int32) (an' : Nat → Int32), (∀ j, an' j = if j = n then v else an j) → v = (if ac_b N U F n = true then 1 else 0) → wX_latchRegisters_2 post f_wireFalse f_wireTrue f_signalBase f_bootWire f_registerBase f_firstGate f_wireLimit f_opAnd f_opOr f_opNot f_codes f_cells f_resumeBase f_rootRow f_endRow f_stayRow f_leftRow f_rightRow f_inputSignals f_outputSignals f_nodeLimit (nI N) f_phaseNow f_instantCount f_rejectedCount f_wireCount f_logicEnd m (nI (n + 1)) a_kindOf a_argOf a_firstOf a_secondOf a_parentOf an' a_lastStatus a_inTree a_trapDepth a_firstCodes a_gateOp a_gateA a_gateB a_inverseOf a_cell a_selWire a_keepStart a_keepResume a_frozen a_nextWire mu ca := by
      intro v an' ha hv
      refine ih (n + 1) an' m (by omega) (by omega) (fun j hj => ?_)
      rw [ha j]
      by_cases e : j = n
      · subst e; rw [if_pos rfl]; exact hv
      · rw [if_neg e]; exact h j (by omega)
    have val0 : ¬ ac_B N U F n → vp_nar .boolean 0 = (if ac_b N U F n = true then 1 else 0) := fun q => by
      rw [show ac_b N U F n = false from pb_f q, if_neg Bool.false_ne_true]; rfl
    have val1 : ac_B N U F n → vp_nar .boolean 1 = (if ac_b N U F n = true then 1 else 0) := fun q => by
      rw [show ac_b N U F n = true from pb_t q, if_pos rfl]; rfl
    refine pk_le N n (fun h => absurd h (by omega)) (fun _ => ⟨hi, ?_⟩)
    rw [cn, nI_1 n]
    by_cases b : tr_B N U n r
    · rw [(hI n nN).1 b]
      refine br_f (by decide) ⟨hi, nm_r t1 (xn_rk hk (fun k14 => br_f (by decide) ⟨hi, ?_⟩) (fun k14 => br_t rfl ?_))⟩
      · obtain ⟨w, w4, ew, vw⟩ := hw n nN b k14
        have i := ac_lf T (L := F) nN (show κ n < 5 by omega)
        rw [ew]
        refine ⟨vp_in_nI w4 (by decide), ?_⟩
        rw [nI_clamp (show w < 2 ^ 31 by omega)]
        refine rc_ifb (ln_and1 _) (fun z => ⟨hi, ?_⟩) (fun z => ⟨hi, ?_⟩)
        · rw [cn, nI_1 n]
          exact nm_e (nm_e (nxt _ _ (fun j => rfl) (val0 (fun q => by rw [← vw, z] at i; exact absurd (i.mp q) Bool.false_ne_true))))
        · rw [cn, nI_1 n]
          exact nm_e (nm_e (nxt _ _ (fun j => rfl) (val1 (i.mpr (vw.symm.trans z)))))
      · refine pk_lt (κ n) 9 (fun k9 => pk_lt (κ n) 5 (fun k5 => ⟨hi, ?_⟩) (fun k5 => ?_)) (fun k9 => ?_)
        · exact nm_e (nm_e (nxt _ _ (fun j => rfl) (val0 (fun q => k14 (hF n ((ac_lf T nN k5).mp q)).2))))
        · have p := tr_p T nN k5
          have i := ac_1 T hF nN k5 k9
          rw [t3 k5]
          refine ⟨hi, vp_in_nI (by omega) (by decide), ?_⟩
          rw [nI_clamp (show P n < 2 ^ 31 by omega)]
          refine nm_r (h (P n) p.1) ⟨hi, ?_⟩
          by_cases q : ac_B N U F (P n)
          · rw [show ac_b N U F (P n) = true from pb_t q, if_pos rfl]
            exact nm_e (nm_e (nxt _ _ (fun j => rfl) (val1 (i.mpr q))))
          · rw [show ac_b N U F (P n) = false from pb_f q, if_neg Bool.false_ne_true]
            exact nm_e (nm_e (nxt _ _ (fun j => rfl) (val0 (fun y => q (i.mp y)))))
        · have p := tr_p T nN (by omega)
          have p2 := tr_q T nN k9
          have i := ac_2 T hF nN k9
          rw [t3 (by omega)]
          refine ⟨hi, vp_in_nI (by omega) (by decide), ?_⟩
          rw [nI_clamp (show P n < 2 ^ 31 by omega), h (P n) p.1]
          have one : ac_B N U F n → wX_latchRegisters_97 post (wX_latchRegisters_2 post f_wireFalse f_wireTrue f_signalBase f_bootWire f_registerBase f_firstGate f_wireLimit f_opAnd f_opOr f_opNot f_codes f_cells f_resumeBase f_rootRow f_endRow f_stayRow f_leftRow f_rightRow f_inputSignals f_outputSignals f_nodeLimit (nI N) f_phaseNow f_instantCount f_rejectedCount f_wireCount f_logicEnd m) (nI n) f_wireFalse f_wireTrue f_signalBase f_bootWire f_registerBase f_firstGate f_wireLimit f_opAnd f_opOr f_opNot f_codes f_cells f_resumeBase f_rootRow f_endRow f_stayRow f_leftRow f_rightRow f_inputSignals f_outputSignals f_nodeLimit (nI N) f_phaseNow f_instantCount f_rejectedCount f_wireCount f_logicEnd a_kindOf a_argOf a_firstOf a_secondOf a_parentOf an a_lastStatus a_inTree a_trapDepth a_firstCodes a_gateOp a_gateA a_gateB a_inverseOf a_cell a_selWire a_keepStart a_keepResume a_frozen a_nextWire mu ca := by
            intro q
            refine ⟨hi, ?_⟩
            rw [cn, nI_1 n]
            exact nm_e (nm_e (nxt _ _ (fun j => rfl) (val1 q)))
          by_cases q : ac_B N U F (P n)
          · rw [show ac_b N U F (P n) = true from pb_t q, if_pos rfl]
            exact br_f (by decide) (one (i.mpr (Or.inl q)))
          · rw [show ac_b N U F (P n) = false from pb_f q, if_neg Bool.false_ne_true, t5 k9]
            refine br_t rfl ⟨hi, vp_in_nI (by omega) (by decide), ?_⟩
            rw [nI_clamp (show Q n < 2 ^ 31 by omega), h (Q n) p2.1]
            by_cases q2 : ac_B N U F (Q n)
            · rw [show ac_b N U F (Q n) = true from pb_t q2, if_pos rfl]
              exact br_f (by decide) (one (i.mpr (Or.inr q2)))
            · rw [show ac_b N U F (Q n) = false from pb_f q2, if_neg Bool.false_ne_true]
              refine br_t rfl ⟨hi, ?_⟩
              rw [cn, nI_1 n]
              exact nm_e (nm_e (nxt _ _ (fun j => rfl) (val0 (fun y => (i.mp y).elim q q2))))
    · rw [(hI n nN).2 b]
      refine br_t rfl ⟨hi, ?_⟩
      exact nm_e (nm_e (nxt _ _ (fun j => rfl) (val0 (fun q => b (cx_out T hur hB q)))))
theorem xh_latch (T : tr_F ni no N κ A P Q U) (hT : ln_T N a_kindOf a_argOf a_firstOf a_secondOf a_parentOf κ A P Q U) (hur : ¬ U r < N) (hI : kp_T N U r a_inTree) (hF : ac_L N κ F) (hB : ∀ m, bt F m = true → tr_B N U m r)
    (hw : ∀ n, n < N → tr_B N U n r → (κ n = 1 ∨ κ n = 4) → ∃ w, w < 4096 ∧ a_nextWire n = nI w ∧ ln_b (mu w) 0 = bt F n)
    (K : ∀ an, (∀ n, n < N → an n = if ac_b N U F n = true then 1 else 0) → post (f_wireFalse, f_wireTrue, f_signalBase, f_bootWire, f_registerBase, f_firstGate, f_wireLimit, f_opAnd, f_opOr, f_opNot, f_codes, f_cells, f_resumeBase, f_rootRow, f_endRow, f_stayRow, f_leftRow, f_rightRow, f_inputSignals, f_outputSignals, f_nodeLimit, nI N, f_phaseNow, f_instantCount, f_rejectedCount, f_wireCount, f_logicEnd, a_kindOf, a_argOf, a_firstOf, a_secondOf, a_parentOf, an, a_lastStatus, a_inTree, a_trapDepth, a_firstCodes, a_gateOp, a_gateA, a_gateB, a_inverseOf, a_cell, a_selWire, a_keepStart, a_keepResume, a_frozen, a_nextWire, mu, ca)) : wpX_latchRegisters post (f_wireFalse, f_wireTrue, f_signalBase, f_bootWire, f_registerBase, f_firstGate, f_wireLimit, f_opAnd, f_opOr, f_opNot, f_codes, f_cells, f_resumeBase, f_rootRow, f_endRow, f_stayRow, f_leftRow, f_rightRow, f_inputSignals, f_outputSignals, f_nodeLimit, nI N, f_phaseNow, f_instantCount, f_rejectedCount, f_wireCount, f_logicEnd, a_kindOf, a_argOf, a_firstOf, a_secondOf, a_parentOf, a_activeNode, a_lastStatus, a_inTree, a_trapDepth, a_firstCodes, a_gateOp, a_gateA, a_gateB, a_inverseOf, a_cell, a_selWire, a_keepStart, a_keepResume, a_frozen, a_nextWire, mu, ca) :=
  ⟨N + 1, xh_l T hT hur hI hF hB hw K N 0 a_activeNode (N + 1) (by omega) (by omega) (fun j h => absurd h (by omega))⟩
end
end
section
/-! ===== the relation ===== -/
def ir_G (ni no cap N : Nat) (ph : Int32) (kd ar fi se pa an it : Nat → Int32) (wcI lEI : Int32) (go ga gb ce sw nx : Nat → Int32) (rI L : Int32) : Prop :=
  ni ≤ 4 ∧ no ≤ 6 ∧ cap ≤ 32 ∧ N ≤ cap ∧ (ph = 0 ∨ ph = 1 ∨ ph = 2 ∨ ph = 3) ∧
  ∃ κ A P Q U : Nat → Nat, tr_F ni no N κ A P Q U ∧ ln_T N kd ar fi se pa κ A P Q U ∧ (ph = 0 → L = 0 ∧ ∀ j, j < 32 → an j = 0) ∧
    (ph ≠ 0 → ∃ (r wc lE : Nat) (td : Nat → Nat), rI = nI r ∧ wcI = nI wc ∧ lEI = nI lE ∧ r < N ∧ ¬ U r < N ∧ kp_T N U r it ∧ td_F N κ A U r td ∧ cp_F ni N κ A P Q U r wc lE go ga gb ce sw nx ∧
      cx_A N κ P Q U r L ∧ (∀ n, n < N → an n = if ac_b N U L n = true then 1 else 0) ∧ (ph = 2 → ac_B N U L r))
/-- both states: the same node tables, statuses and counts -/
def i_Rel (_ : Nat) (u : SX) (v : SY) : Prop := match u with
  | (f_wireFalse, f_wireTrue, f_signalBase, f_bootWire, f_registerBase, f_firstGate, f_wireLimit, f_opAnd, f_opOr, f_opNot, f_codes, f_cells, f_resumeBase, f_rootRow, f_endRow, f_stayRow, f_leftRow, f_rightRow, f_inputSignals, f_outputSignals, f_nodeLimit, f_count, f_phaseNow, f_instantCount, f_rejectedCount, f_wireCount, f_logicEnd, a_kindOf, a_argOf, a_firstOf, a_secondOf, a_parentOf, a_activeNode, a_lastStatus, a_inTree, a_trapDepth, a_firstCodes, a_gateOp, a_gateA, a_gateB, a_inverseOf, a_cell, a_selWire, a_keepStart, a_keepResume, a_frozen, a_nextWire, a_must, a_can) => match v with
    | (f_inputs, f_outputs, f_cap, g_count, f_phase, f_root, f_instants, f_rejected, f_activeLeaves, a_kind, a_arg, a_first, a_second, a_parent, a_shown, a_e, a_fst, a_ms, a_cs, a_mk, a_ck, a_left) => ∃ ni no cap N : Nat, f_inputSignals = nI ni ∧ f_inputs = nI ni ∧ f_outputSignals = nI no ∧ f_outputs = nI no ∧ f_nodeLimit = nI cap ∧ f_cap = nI cap ∧ f_count = nI N ∧ g_count = nI N ∧
      f_phase = f_phaseNow ∧ f_instants = f_instantCount ∧ f_rejected = f_rejectedCount ∧ a_kind = a_kindOf ∧ a_arg = a_argOf ∧ a_first = a_firstOf ∧ a_second = a_secondOf ∧ a_parent = a_parentOf ∧ a_shown = a_lastStatus ∧ ir_G ni no cap N f_phaseNow a_kindOf a_argOf a_firstOf a_secondOf a_parentOf a_activeNode a_inTree f_wireCount f_logicEnd a_gateOp a_gateA a_gateB a_cell a_selWire a_nextWire f_root f_activeLeaves
theorem i_up {k : Nat} {u : SX} {v : SY} (h : i_Rel k u v) : i_Rel (k + 5) u v := h
theorem i_in {k ni no cap N : Nat} {f_wireFalse f_wireTrue f_signalBase f_bootWire f_registerBase f_firstGate f_wireLimit f_opAnd f_opOr f_opNot f_codes f_cells f_resumeBase f_rootRow f_endRow f_stayRow f_leftRow f_rightRow f_phaseNow f_instantCount f_rejectedCount f_wireCount f_logicEnd : Int32} {a_kindOf a_argOf a_firstOf a_secondOf a_parentOf a_activeNode a_lastStatus a_inTree a_trapDepth a_firstCodes a_gateOp a_gateA a_gateB a_inverseOf a_cell a_selWire a_keepStart a_keepResume a_frozen a_nextWire : Nat → Int32} {a_must a_can : Nat → Int64} {f_root f_activeLeaves : Int32} {a_e a_fst a_ms a_cs a_mk a_ck a_left : Nat → Int32} (G : ir_G ni no cap N f_phaseNow a_kindOf a_argOf a_firstOf a_secondOf a_parentOf a_activeNode a_inTree f_wireCount f_logicEnd a_gateOp a_gateA a_gateB a_cell a_selWire a_nextWire f_root f_activeLeaves) : i_Rel k (f_wireFalse, f_wireTrue, f_signalBase, f_bootWire, f_registerBase, f_firstGate, f_wireLimit, f_opAnd, f_opOr, f_opNot, f_codes, f_cells, f_resumeBase, f_rootRow, f_endRow, f_stayRow, f_leftRow, f_rightRow, nI ni, nI no, nI cap, nI N, f_phaseNow, f_instantCount, f_rejectedCount, f_wireCount, f_logicEnd, a_kindOf, a_argOf, a_firstOf, a_secondOf, a_parentOf, a_activeNode, a_lastStatus, a_inTree, a_trapDepth, a_firstCodes, a_gateOp, a_gateA, a_gateB, a_inverseOf, a_cell, a_selWire, a_keepStart, a_keepResume, a_frozen, a_nextWire, a_must, a_can) (nI ni, nI no, nI cap, nI N, f_phaseNow, f_root, f_instantCount, f_rejectedCount, f_activeLeaves, a_kindOf, a_argOf, a_firstOf, a_secondOf, a_parentOf, a_lastStatus, a_e, a_fst, a_ms, a_cs, a_mk, a_ck, a_left) :=
  ⟨ni, no, cap, N, rfl, rfl, rfl, rfl, rfl, rfl, rfl, rfl, rfl, rfl, rfl, rfl, rfl, rfl, rfl, rfl, rfl, G⟩
theorem i_el {Z : SX → SY → Prop} (h : ∀ (ni no cap N : Nat) (f_wireFalse f_wireTrue f_signalBase f_bootWire f_registerBase f_firstGate f_wireLimit f_opAnd f_opOr f_opNot f_codes f_cells f_resumeBase f_rootRow f_endRow f_stayRow f_leftRow f_rightRow f_phaseNow f_instantCount f_rejectedCount f_wireCount f_logicEnd : Int32) (a_kindOf a_argOf a_firstOf a_secondOf a_parentOf a_activeNode a_lastStatus a_inTree a_trapDepth a_firstCodes a_gateOp a_gateA a_gateB a_inverseOf a_cell a_selWire a_keepStart a_keepResume a_frozen a_nextWire : Nat → Int32) (a_must a_can : Nat → Int64) (f_root f_activeLeaves : Int32) (a_e a_fst a_ms a_cs a_mk a_ck a_left : Nat → Int32), ir_G ni no cap N f_phaseNow a_kindOf a_argOf a_firstOf a_secondOf a_parentOf a_activeNode a_inTree f_wireCount f_logicEnd a_gateOp a_gateA a_gateB a_cell a_selWire a_nextWire f_root f_activeLeaves → Z (f_wireFalse, f_wireTrue, f_signalBase, f_bootWire, f_registerBase, f_firstGate, f_wireLimit, f_opAnd, f_opOr, f_opNot, f_codes, f_cells, f_resumeBase, f_rootRow, f_endRow, f_stayRow, f_leftRow, f_rightRow, nI ni, nI no, nI cap, nI N, f_phaseNow, f_instantCount, f_rejectedCount, f_wireCount, f_logicEnd, a_kindOf, a_argOf, a_firstOf, a_secondOf, a_parentOf, a_activeNode, a_lastStatus, a_inTree, a_trapDepth, a_firstCodes, a_gateOp, a_gateA, a_gateB, a_inverseOf, a_cell, a_selWire, a_keepStart, a_keepResume, a_frozen, a_nextWire, a_must, a_can) (nI ni, nI no, nI cap, nI N, f_phaseNow, f_root, f_instantCount, f_rejectedCount, f_activeLeaves, a_kindOf, a_argOf, a_firstOf, a_secondOf, a_parentOf, a_lastStatus, a_e, a_fst, a_ms, a_cs, a_mk, a_ck, a_left)) {k : Nat} {u : SX} {v : SY} (I : i_Rel k u v) : Z u v := by
  obtain ⟨f_wireFalse, f_wireTrue, f_signalBase, f_bootWire, f_registerBase, f_firstGate, f_wireLimit, f_opAnd, f_opOr, f_opNot, f_codes, f_cells, f_resumeBase, f_rootRow, f_endRow, f_stayRow, f_leftRow, f_rightRow, f_inputSignals, f_outputSignals, f_nodeLimit, f_count, f_phaseNow, f_instantCount, f_rejectedCount, f_wireCount, f_logicEnd, a_kindOf, a_argOf, a_firstOf, a_secondOf, a_parentOf, a_activeNode, a_lastStatus, a_inTree, a_trapDepth, a_firstCodes, a_gateOp, a_gateA, a_gateB, a_inverseOf, a_cell, a_selWire, a_keepStart, a_keepResume, a_frozen, a_nextWire, a_must, a_can⟩ := u
  obtain ⟨f_inputs, f_outputs, f_cap, g_count, f_phase, f_root, f_instants, f_rejected, f_activeLeaves, a_kind, a_arg, a_first, a_second, a_parent, a_shown, a_e, a_fst, a_ms, a_cs, a_mk, a_ck, a_left⟩ := v
  obtain ⟨ni, no, cap, N, h1, h2, h3, h4, h5, h6, h7, h8, h9, h10, h11, h12, h13, h14, h15, h16, h17, G⟩ := I
  subst h1 h2 h3 h4 h5 h6 h7 h8 h9 h10 h11 h12 h13 h14 h15 h16 h17
  exact h ni no cap N f_wireFalse f_wireTrue f_signalBase f_bootWire f_registerBase f_firstGate f_wireLimit f_opAnd f_opOr f_opNot f_codes f_cells f_resumeBase f_rootRow f_endRow f_stayRow f_leftRow f_rightRow _ _ _ f_wireCount f_logicEnd _ _ _ _ _ a_activeNode _ a_inTree a_trapDepth a_firstCodes a_gateOp a_gateA a_gateB a_inverseOf a_cell a_selWire a_keepStart a_keepResume a_frozen a_nextWire a_must a_can f_root f_activeLeaves a_e a_fst a_ms a_cs a_mk a_ck a_left G
theorem i_vc_inputCount {k : Nat} {u : SX} {v : SY} (I : i_Rel k u v) (hk : k + 5 ≤ 2563) : wpX_inputCount (fun r => wpY_inputCount (fun r' => r' = r ∧ i_Rel (k + 5) u v) v) u := by
  refine i_el (Z := fun u v => wpX_inputCount (fun r => wpY_inputCount (fun r' => r' = r ∧ i_Rel (k + 5) u v) v) u) ?_ I
  intro ni no cap N f_wireFalse f_wireTrue f_signalBase f_bootWire f_registerBase f_firstGate f_wireLimit f_opAnd f_opOr f_opNot f_codes f_cells f_resumeBase f_rootRow f_endRow f_stayRow f_leftRow f_rightRow f_phaseNow f_instantCount f_rejectedCount f_wireCount f_logicEnd a_kindOf a_argOf a_firstOf a_secondOf a_parentOf a_activeNode a_lastStatus a_inTree a_trapDepth a_firstCodes a_gateOp a_gateA a_gateB a_inverseOf a_cell a_selWire a_keepStart a_keepResume a_frozen a_nextWire a_must a_can f_root f_activeLeaves a_e a_fst a_ms a_cs a_mk a_ck a_left G
  exact ⟨rfl, i_in G⟩
theorem i_vc_outputCount {k : Nat} {u : SX} {v : SY} (I : i_Rel k u v) (hk : k + 5 ≤ 2563) : wpX_outputCount (fun r => wpY_outputCount (fun r' => r' = r ∧ i_Rel (k + 5) u v) v) u := by
  refine i_el (Z := fun u v => wpX_outputCount (fun r => wpY_outputCount (fun r' => r' = r ∧ i_Rel (k + 5) u v) v) u) ?_ I
  intro ni no cap N f_wireFalse f_wireTrue f_signalBase f_bootWire f_registerBase f_firstGate f_wireLimit f_opAnd f_opOr f_opNot f_codes f_cells f_resumeBase f_rootRow f_endRow f_stayRow f_leftRow f_rightRow f_phaseNow f_instantCount f_rejectedCount f_wireCount f_logicEnd a_kindOf a_argOf a_firstOf a_secondOf a_parentOf a_activeNode a_lastStatus a_inTree a_trapDepth a_firstCodes a_gateOp a_gateA a_gateB a_inverseOf a_cell a_selWire a_keepStart a_keepResume a_frozen a_nextWire a_must a_can f_root f_activeLeaves a_e a_fst a_ms a_cs a_mk a_ck a_left G
  exact ⟨rfl, i_in G⟩
theorem i_vc_capacity {k : Nat} {u : SX} {v : SY} (I : i_Rel k u v) (hk : k + 5 ≤ 2563) : wpX_capacity (fun r => wpY_capacity (fun r' => r' = r ∧ i_Rel (k + 5) u v) v) u := by
  refine i_el (Z := fun u v => wpX_capacity (fun r => wpY_capacity (fun r' => r' = r ∧ i_Rel (k + 5) u v) v) u) ?_ I
  intro ni no cap N f_wireFalse f_wireTrue f_signalBase f_bootWire f_registerBase f_firstGate f_wireLimit f_opAnd f_opOr f_opNot f_codes f_cells f_resumeBase f_rootRow f_endRow f_stayRow f_leftRow f_rightRow f_phaseNow f_instantCount f_rejectedCount f_wireCount f_logicEnd a_kindOf a_argOf a_firstOf a_secondOf a_parentOf a_activeNode a_lastStatus a_inTree a_trapDepth a_firstCodes a_gateOp a_gateA a_gateB a_inverseOf a_cell a_selWire a_keepStart a_keepResume a_frozen a_nextWire a_must a_can f_root f_activeLeaves a_e a_fst a_ms a_cs a_mk a_ck a_left G
  exact ⟨rfl, i_in G⟩
theorem i_vc_nodeCount {k : Nat} {u : SX} {v : SY} (I : i_Rel k u v) (hk : k + 5 ≤ 2563) : wpX_nodeCount (fun r => wpY_nodeCount (fun r' => r' = r ∧ i_Rel (k + 5) u v) v) u := by
  refine i_el (Z := fun u v => wpX_nodeCount (fun r => wpY_nodeCount (fun r' => r' = r ∧ i_Rel (k + 5) u v) v) u) ?_ I
  intro ni no cap N f_wireFalse f_wireTrue f_signalBase f_bootWire f_registerBase f_firstGate f_wireLimit f_opAnd f_opOr f_opNot f_codes f_cells f_resumeBase f_rootRow f_endRow f_stayRow f_leftRow f_rightRow f_phaseNow f_instantCount f_rejectedCount f_wireCount f_logicEnd a_kindOf a_argOf a_firstOf a_secondOf a_parentOf a_activeNode a_lastStatus a_inTree a_trapDepth a_firstCodes a_gateOp a_gateA a_gateB a_inverseOf a_cell a_selWire a_keepStart a_keepResume a_frozen a_nextWire a_must a_can f_root f_activeLeaves a_e a_fst a_ms a_cs a_mk a_ck a_left G
  exact ⟨rfl, i_in G⟩
theorem i_vc_phase {k : Nat} {u : SX} {v : SY} (I : i_Rel k u v) (hk : k + 5 ≤ 2563) : wpX_phase (fun r => wpY_phase (fun r' => r' = r ∧ i_Rel (k + 5) u v) v) u := by
  refine i_el (Z := fun u v => wpX_phase (fun r => wpY_phase (fun r' => r' = r ∧ i_Rel (k + 5) u v) v) u) ?_ I
  intro ni no cap N f_wireFalse f_wireTrue f_signalBase f_bootWire f_registerBase f_firstGate f_wireLimit f_opAnd f_opOr f_opNot f_codes f_cells f_resumeBase f_rootRow f_endRow f_stayRow f_leftRow f_rightRow f_phaseNow f_instantCount f_rejectedCount f_wireCount f_logicEnd a_kindOf a_argOf a_firstOf a_secondOf a_parentOf a_activeNode a_lastStatus a_inTree a_trapDepth a_firstCodes a_gateOp a_gateA a_gateB a_inverseOf a_cell a_selWire a_keepStart a_keepResume a_frozen a_nextWire a_must a_can f_root f_activeLeaves a_e a_fst a_ms a_cs a_mk a_ck a_left G
  exact ⟨rfl, i_in G⟩
theorem i_vc_instants {k : Nat} {u : SX} {v : SY} (I : i_Rel k u v) (hk : k + 5 ≤ 2563) : wpX_instants (fun r => wpY_instants (fun r' => r' = r ∧ i_Rel (k + 5) u v) v) u := by
  refine i_el (Z := fun u v => wpX_instants (fun r => wpY_instants (fun r' => r' = r ∧ i_Rel (k + 5) u v) v) u) ?_ I
  intro ni no cap N f_wireFalse f_wireTrue f_signalBase f_bootWire f_registerBase f_firstGate f_wireLimit f_opAnd f_opOr f_opNot f_codes f_cells f_resumeBase f_rootRow f_endRow f_stayRow f_leftRow f_rightRow f_phaseNow f_instantCount f_rejectedCount f_wireCount f_logicEnd a_kindOf a_argOf a_firstOf a_secondOf a_parentOf a_activeNode a_lastStatus a_inTree a_trapDepth a_firstCodes a_gateOp a_gateA a_gateB a_inverseOf a_cell a_selWire a_keepStart a_keepResume a_frozen a_nextWire a_must a_can f_root f_activeLeaves a_e a_fst a_ms a_cs a_mk a_ck a_left G
  exact ⟨rfl, i_in G⟩
theorem i_vc_rejected {k : Nat} {u : SX} {v : SY} (I : i_Rel k u v) (hk : k + 5 ≤ 2563) : wpX_rejected (fun r => wpY_rejected (fun r' => r' = r ∧ i_Rel (k + 5) u v) v) u := by
  refine i_el (Z := fun u v => wpX_rejected (fun r => wpY_rejected (fun r' => r' = r ∧ i_Rel (k + 5) u v) v) u) ?_ I
  intro ni no cap N f_wireFalse f_wireTrue f_signalBase f_bootWire f_registerBase f_firstGate f_wireLimit f_opAnd f_opOr f_opNot f_codes f_cells f_resumeBase f_rootRow f_endRow f_stayRow f_leftRow f_rightRow f_phaseNow f_instantCount f_rejectedCount f_wireCount f_logicEnd a_kindOf a_argOf a_firstOf a_secondOf a_parentOf a_activeNode a_lastStatus a_inTree a_trapDepth a_firstCodes a_gateOp a_gateA a_gateB a_inverseOf a_cell a_selWire a_keepStart a_keepResume a_frozen a_nextWire a_must a_can f_root f_activeLeaves a_e a_fst a_ms a_cs a_mk a_ck a_left G
  exact ⟨rfl, i_in G⟩
end
section
/-! ===== the small methods ===== -/
theorem ir_io {ni no cap N : Nat} {ph : Int32} {kd ar fi se pa an it : Nat → Int32} {wcI lEI : Int32} {go ga gb ce sw nx : Nat → Int32} {rI L : Int32} (G : ir_G ni no cap N ph kd ar fi se pa an it wcI lEI go ga gb ce sw nx rI L) : ni ≤ 4 ∧ no ≤ 6 ∧ N ≤ 32 := by
  obtain ⟨a, b, c, d, _⟩ := G
  omega
theorem ir_ac {ni no cap N : Nat} {ph : Int32} {kd ar fi se pa an it : Nat → Int32} {wcI lEI : Int32} {go ga gb ce sw nx : Nat → Int32} {rI L : Int32} (G : ir_G ni no cap N ph kd ar fi se pa an it wcI lEI go ga gb ce sw nx rI L) :
    ∃ κ A P Q U : Nat → Nat, tr_F ni no N κ A P Q U ∧ ln_T N kd ar fi se pa κ A P Q U ∧ ∀ n, n < N → an n = if ac_b N U L n = true then 1 else 0 := by
  obtain ⟨a, b, c, d, p, κ, A, P, Q, U, T, hT, h0, h1⟩ := G
  refine ⟨κ, A, P, Q, U, T, hT, fun n hn => ?_⟩
  by_cases z : ph = 0
  · have := h0 z
    rw [this.1, this.2 n (by omega), show ac_b N U 0 n = false from pb_f (fun ⟨m, _, h, _⟩ => rn_f1 h), if_neg Bool.false_ne_true]
  · obtain ⟨r, wc, lE, td, _, _, _, _, _, _, _, _, _, h, _⟩ := h1 z
    exact h n hn
theorem i_vc_status {k : Nat} {u : SX} {v : SY} (I : i_Rel k u v) (hk : k + 5 ≤ 2563) (v1 : Int32) : wpX_status (fun r => wpY_status (fun r' => r' = r ∧ i_Rel (k + 5) u v) v v1) u v1 := by
  refine i_el (Z := fun u v => wpX_status (fun r => wpY_status (fun r' => r' = r ∧ i_Rel (k + 5) u v) v v1) u v1) ?_ I
  intro ni no cap N f_wireFalse f_wireTrue f_signalBase f_bootWire f_registerBase f_firstGate f_wireLimit f_opAnd f_opOr f_opNot f_codes f_cells f_resumeBase f_rootRow f_endRow f_stayRow f_leftRow f_rightRow f_phaseNow f_instantCount f_rejectedCount f_wireCount f_logicEnd a_kindOf a_argOf a_firstOf a_secondOf a_parentOf a_activeNode a_lastStatus a_inTree a_trapDepth a_firstCodes a_gateOp a_gateA a_gateB a_inverseOf a_cell a_selWire a_keepStart a_keepResume a_frozen a_nextWire a_must a_can f_root f_activeLeaves a_e a_fst a_ms a_cs a_mk a_ck a_left G
  obtain ⟨hni, hno, hN⟩ := ir_io G
  unfold wpX_status wpY_status
  refine xs_sig hni hno (fun s hs e => br_f (by decide) ?_) (fun h => br_t rfl ?_)
  · subst e
    refine ⟨vp_in_nI (by omega) (by decide), ?_⟩
    refine ys_sig hni hno (fun s' hs' e' => br_f (by decide) ?_) (fun h => absurd ⟨s, hs, rfl⟩ h)
    exact ⟨vp_in_nI (by omega) (by decide), rfl, i_in G⟩
  · exact ys_sig hni hno (fun s' hs' e' => absurd ⟨s', hs', e'⟩ h) (fun _ => br_t rfl ⟨rfl, i_in G⟩)
theorem i_vc_active {k : Nat} {u : SX} {v : SY} (I : i_Rel k u v) (hk : k + 5 ≤ 2563) (v1 : Int32) : wpX_active (fun r => wpY_active (fun r' => r' = r ∧ i_Rel (k + 5) u v) v v1) u v1 := by
  refine i_el (Z := fun u v => wpX_active (fun r => wpY_active (fun r' => r' = r ∧ i_Rel (k + 5) u v) v v1) u v1) ?_ I
  intro ni no cap N f_wireFalse f_wireTrue f_signalBase f_bootWire f_registerBase f_firstGate f_wireLimit f_opAnd f_opOr f_opNot f_codes f_cells f_resumeBase f_rootRow f_endRow f_stayRow f_leftRow f_rightRow f_phaseNow f_instantCount f_rejectedCount f_wireCount f_logicEnd a_kindOf a_argOf a_firstOf a_secondOf a_parentOf a_activeNode a_lastStatus a_inTree a_trapDepth a_firstCodes a_gateOp a_gateA a_gateB a_inverseOf a_cell a_selWire a_keepStart a_keepResume a_frozen a_nextWire a_must a_can f_root f_activeLeaves a_e a_fst a_ms a_cs a_mk a_ck a_left G
  obtain ⟨hni, hno, hN⟩ := ir_io G
  obtain ⟨κ, A, P, Q, U, T, hT, ha⟩ := ir_ac G
  unfold wpX_active
  refine xs_ex hN (fun j hj e => br_f (by decide) ?_) (fun h => br_t rfl ?_)
  · subst e
    refine ⟨vp_in_nI (by omega) (by decide), ?_⟩
    rw [nI_clamp (show j < 2 ^ 31 by omega), ha j hj]
    by_cases q : ac_B N U f_activeLeaves j
    · rw [show ac_b N U f_activeLeaves j = true from pb_t q, if_pos rfl]
      exact br_f (by decide) (yb_ac T hT hj (fun _ => ⟨rfl, i_in G⟩) (fun z => absurd q z))
    · rw [show ac_b N U f_activeLeaves j = false from pb_f q, if_neg Bool.false_ne_true]
      exact br_t rfl (yb_ac T hT hj (fun z => absurd z q) (fun _ => ⟨rfl, i_in G⟩))
  · unfold wpY_active
    exact ys_nd hN (fun j hj e => absurd ⟨j, hj, e⟩ h) (fun _ => br_t rfl ⟨rfl, i_in G⟩)
theorem i_vc_field {k : Nat} {u : SX} {v : SY} (I : i_Rel k u v) (hk : k + 5 ≤ 2563) (v1 : Int32) (v2 : Int32) : wpX_field (fun r => wpY_field (fun r' => r' = r ∧ i_Rel (k + 5) u v) v v1 v2) u v1 v2 := by
  refine i_el (Z := fun u v => wpX_field (fun r => wpY_field (fun r' => r' = r ∧ i_Rel (k + 5) u v) v v1 v2) u v1 v2) ?_ I
  intro ni no cap N f_wireFalse f_wireTrue f_signalBase f_bootWire f_registerBase f_firstGate f_wireLimit f_opAnd f_opOr f_opNot f_codes f_cells f_resumeBase f_rootRow f_endRow f_stayRow f_leftRow f_rightRow f_phaseNow f_instantCount f_rejectedCount f_wireCount f_logicEnd a_kindOf a_argOf a_firstOf a_secondOf a_parentOf a_activeNode a_lastStatus a_inTree a_trapDepth a_firstCodes a_gateOp a_gateA a_gateB a_inverseOf a_cell a_selWire a_keepStart a_keepResume a_frozen a_nextWire a_must a_can f_root f_activeLeaves a_e a_fst a_ms a_cs a_mk a_ck a_left G
  obtain ⟨hni, hno, hN⟩ := ir_io G
  have R := i_in (k := k + 5) (f_wireFalse := f_wireFalse) (f_wireTrue := f_wireTrue) (f_signalBase := f_signalBase) (f_bootWire := f_bootWire) (f_registerBase := f_registerBase) (f_firstGate := f_firstGate) (f_wireLimit := f_wireLimit) (f_opAnd := f_opAnd) (f_opOr := f_opOr) (f_opNot := f_opNot) (f_codes := f_codes) (f_cells := f_cells) (f_resumeBase := f_resumeBase) (f_rootRow := f_rootRow) (f_endRow := f_endRow) (f_stayRow := f_stayRow) (f_leftRow := f_leftRow) (f_rightRow := f_rightRow) (f_instantCount := f_instantCount) (f_rejectedCount := f_rejectedCount) (a_lastStatus := a_lastStatus) (a_trapDepth := a_trapDepth) (a_firstCodes := a_firstCodes) (a_inverseOf := a_inverseOf) (a_keepStart := a_keepStart) (a_keepResume := a_keepResume) (a_frozen := a_frozen) (a_must := a_must) (a_can := a_can) (a_e := a_e) (a_fst := a_fst) (a_ms := a_ms) (a_cs := a_cs) (a_mk := a_mk) (a_ck := a_ck) (a_left := a_left) G
  unfold wpX_field wpY_field
  refine xs_ex hN (fun j hj e => br_f (by decide) ?_) (fun h => br_t rfl (ys_nd hN (fun j hj e => absurd ⟨j, hj, e⟩ h) (fun _ => br_t rfl ⟨rfl, R⟩)))
  subst e
  have hi : vp_in (nI j) 32 := vp_in_nI (by omega) (by decide)
  have fin : ∀ {q : Int32 → Prop}, q 1 → wpY_isNode q (nI ni, nI no, nI cap, nI N, f_phaseNow, f_root, f_instantCount, f_rejectedCount, f_activeLeaves, a_kindOf, a_argOf, a_firstOf, a_secondOf, a_parentOf, a_lastStatus, a_e, a_fst, a_ms, a_cs, a_mk, a_ck, a_left) (nI j) := fun h => ys_nd hN (fun _ _ _ => h) (fun z => absurd ⟨j, hj, rfl⟩ z)
  rcases pk_ix v2 (n := 5) (by omega) with h | h | ⟨w, hw, rfl⟩
  · have n0 : ∀ w, w < 5 → ¬ v2 = nI w := fun w hw e => by rw [e] at h; exact nI_pos (by omega) h
    exact br_f (n0 0 (by omega)) (br_f (n0 1 (by omega)) (br_f (n0 2 (by omega)) (br_f (n0 3 (by omega)) (br_f (n0 4 (by omega)) (fin (br_f (by decide) (br_t h ⟨rfl, R⟩)))))))
  · have n0 : ∀ w, w < 5 → ¬ v2 = nI w := fun w hw e => by rw [e] at h; exact nI_ge hw (by omega) h
    have p0 : ¬ v2 < 0 := fun z => by
      have := Int32.lt_of_le_of_lt h z
      exact absurd this (by decide)
    have p4 : ¬ v2 ≤ 4 := fun z => by
      have := Int32.le_trans h z
      exact absurd this (by decide)
    exact br_f (n0 0 (by omega)) (br_f (n0 1 (by omega)) (br_f (n0 2 (by omega)) (br_f (n0 3 (by omega)) (br_f (n0 4 (by omega)) (fin (br_f (by decide) (br_f p0 (br_f p4 ⟨rfl, R⟩))))))))
  · have hh : w = 0 ∨ w = 1 ∨ w = 2 ∨ w = 3 ∨ w = 4 := by omega
    rcases hh with e | e | e | e | e <;> subst e
    · exact br_t rfl ⟨hi, fin (br_f (by decide) (br_f (by decide) (br_t (by decide) (br_t rfl ⟨hi, rfl, R⟩))))⟩
    · exact br_f (by decide) (br_t rfl ⟨hi, fin (br_f (by decide) (br_f (by decide) (br_t (by decide) (br_f (by decide) (br_t rfl ⟨hi, rfl, R⟩)))))⟩)
    · exact br_f (by decide) (br_f (by decide) (br_t rfl ⟨hi, fin (br_f (by decide) (br_f (by decide) (br_t (by decide) (br_f (by decide) (br_f (by decide) (br_t rfl ⟨hi, rfl, R⟩))))))⟩))
    · exact br_f (by decide) (br_f (by decide) (br_f (by decide) (br_t rfl ⟨hi, fin (br_f (by decide) (br_f (by decide) (br_t (by decide) (br_f (by decide) (br_f (by decide) (br_f (by decide) (br_t rfl ⟨hi, rfl, R⟩)))))))⟩)))
    · exact br_f (by decide) (br_f (by decide) (br_f (by decide) (br_f (by decide) (br_t rfl ⟨hi, fin (br_f (by decide) (br_f (by decide) (br_t (by decide) (br_f (by decide) (br_f (by decide) (br_f (by decide) (br_f (by decide) ⟨hi, rfl, R⟩)))))))⟩))))
theorem ir_reset {ni no cap N : Nat} {ph : Int32} {kd ar fi se pa an it an' : Nat → Int32} {wcI lEI : Int32} {go ga gb ce sw nx : Nat → Int32} {rI L : Int32} (G : ir_G ni no cap N ph kd ar fi se pa an it wcI lEI go ga gb ce sw nx rI L) (hph : ph ≠ 0) (ha : ∀ j, j < 32 → an' j = 0) :
    ir_G ni no cap N 1 kd ar fi se pa an' it wcI lEI go ga gb ce sw nx rI 0 := by
  obtain ⟨a, b, c, d, p, κ, A, P, Q, U, T, hT, h0, h1⟩ := G
  obtain ⟨r, wc, lE, td, e1, e2, e3, hr, hur, hI, D, F, X, h, _⟩ := h1 hph
  refine ⟨a, b, c, d, Or.inr (Or.inl rfl), κ, A, P, Q, U, T, hT, fun z => absurd z (by decide), fun _ => ⟨r, wc, lE, td, e1, e2, e3, hr, hur, hI, D, F, cx_0 N κ P Q U r, fun n hn => ?_, fun z => absurd z (by decide)⟩⟩
  rw [ha n (by omega), show ac_b N U 0 n = false from pb_f (fun ⟨m, _, h, _⟩ => rn_f1 h), if_neg Bool.false_ne_true]
theorem i_vc_reset {k : Nat} {u : SX} {v : SY} (I : i_Rel k u v) (hk : k + 5 ≤ 2563) : wpX_reset (fun r u' => wpY_reset (fun r' v' => r' = r ∧ i_Rel (k + 5) u' v') v) u := by
  refine i_el (Z := fun u v => wpX_reset (fun r u' => wpY_reset (fun r' v' => r' = r ∧ i_Rel (k + 5) u' v') v) u) ?_ I
  intro ni no cap N f_wireFalse f_wireTrue f_signalBase f_bootWire f_registerBase f_firstGate f_wireLimit f_opAnd f_opOr f_opNot f_codes f_cells f_resumeBase f_rootRow f_endRow f_stayRow f_leftRow f_rightRow f_phaseNow f_instantCount f_rejectedCount f_wireCount f_logicEnd a_kindOf a_argOf a_firstOf a_secondOf a_parentOf a_activeNode a_lastStatus a_inTree a_trapDepth a_firstCodes a_gateOp a_gateA a_gateB a_inverseOf a_cell a_selWire a_keepStart a_keepResume a_frozen a_nextWire a_must a_can f_root f_activeLeaves a_e a_fst a_ms a_cs a_mk a_ck a_left G
  refine br_c (fun z => br_t z ⟨rfl, i_in G⟩) (fun z => ?_)
  refine xs_restart (fun an ha => br_f z ?_)
  refine ys_restart ?_
  exact ⟨rfl, i_in (ir_reset G z ha)⟩
theorem ir_clear {ni no cap : Nat} {kd ar fi se pa an it : Nat → Int32} {wcI lEI : Int32} {go ga gb ce sw nx : Nat → Int32} {rI : Int32} (hni : ni ≤ 4) (hno : no ≤ 6) (hcap : cap ≤ 32) (ha : ∀ j, j < 32 → an j = 0) :
    ir_G ni no cap 0 0 kd ar fi se pa an it wcI lEI go ga gb ce sw nx rI 0 :=
  ⟨hni, hno, hcap, Nat.zero_le _, Or.inl rfl, fun _ => 0, fun _ => 0, fun _ => 0, fun _ => 0, fun _ => 0, ⟨Nat.zero_le _, fun n h => absurd h (by omega)⟩, fun n h => absurd h (by omega), fun _ => ⟨rfl, ha⟩, fun h => absurd rfl h⟩
theorem i_vc_clear {k : Nat} {u : SX} {v : SY} (I : i_Rel k u v) (hk : k + 5 ≤ 2563) : wpX_clear (fun u' => wpY_clear (fun v' => i_Rel (k + 5) u' v') v) u := by
  refine i_el (Z := fun u v => wpX_clear (fun u' => wpY_clear (fun v' => i_Rel (k + 5) u' v') v) u) ?_ I
  intro ni no cap N f_wireFalse f_wireTrue f_signalBase f_bootWire f_registerBase f_firstGate f_wireLimit f_opAnd f_opOr f_opNot f_codes f_cells f_resumeBase f_rootRow f_endRow f_stayRow f_leftRow f_rightRow f_phaseNow f_instantCount f_rejectedCount f_wireCount f_logicEnd a_kindOf a_argOf a_firstOf a_secondOf a_parentOf a_activeNode a_lastStatus a_inTree a_trapDepth a_firstCodes a_gateOp a_gateA a_gateB a_inverseOf a_cell a_selWire a_keepStart a_keepResume a_frozen a_nextWire a_must a_can f_root f_activeLeaves a_e a_fst a_ms a_cs a_mk a_ck a_left G
  unfold wpX_clear wpY_clear
  refine xs_restart (fun an ha => ?_)
  refine ys_restart ?_
  exact i_in (N := 0) (ir_clear G.1 G.2.1 G.2.2.1 ha)
def cl_n (x : Int32) (a b : Nat) : Nat := if nI a ≤ x then (if x ≤ nI b then x.toNatClampNeg else b) else a
theorem cl_b {x : Int32} {a b : Nat} (hab : a ≤ b) (hb : b < 2 ^ 31) : a ≤ cl_n x a b ∧ cl_n x a b ≤ b ∧ (nI a ≤ x → x ≤ nI b → x = nI (cl_n x a b)) := by
  unfold cl_n
  by_cases h1 : nI a ≤ x
  · rw [if_pos h1]
    by_cases h2 : x ≤ nI b
    · rw [if_pos h2]
      have p0 : ¬ x < 0 := fun z => by
        have := Int32.lt_of_le_of_lt h1 z
        exact nI_pos (by omega) this
      obtain ⟨j, hj, rfl⟩ := nI_of p0
      rw [nI_leI (by omega) hj] at h1
      rw [nI_leI hj hb] at h2
      rw [nI_clamp hj]
      exact ⟨h1, h2, fun _ _ => rfl⟩
    · rw [if_neg h2]
      exact ⟨hab, Nat.le_refl _, fun _ z => absurd z h2⟩
  · rw [if_neg h1]
    exact ⟨Nat.le_refl _, hab, fun z => absurd z h1⟩
theorem cl_e {x : Int32} {a b : Nat} (h1 : nI a ≤ x) (h2 : ¬ x ≤ nI b) : cl_n x a b = b := by unfold cl_n; rw [if_pos h1, if_neg h2]
theorem cl_a {x : Int32} {a b : Nat} (h1 : ¬ nI a ≤ x) : cl_n x a b = a := by unfold cl_n; rw [if_neg h1]
section
variable {f_wireFalse f_wireTrue f_signalBase f_bootWire f_registerBase f_firstGate f_wireLimit f_opAnd f_opOr f_opNot f_codes f_cells f_resumeBase f_rootRow f_endRow f_stayRow f_leftRow f_rightRow f_inputSignals f_outputSignals f_nodeLimit f_count f_phaseNow f_instantCount f_rejectedCount f_wireCount f_logicEnd : Int32} {a_kindOf a_argOf a_firstOf a_secondOf a_parentOf a_activeNode a_lastStatus a_inTree a_trapDepth a_firstCodes a_gateOp a_gateA a_gateB a_inverseOf a_cell a_selWire a_keepStart a_keepResume a_frozen a_nextWire : Nat → Int32} {a_must a_can : Nat → Int64}
theorem xs_clamp {post : Int32 → Prop} {x p q : Int32} {a b : Nat} (hab : a ≤ b) (hb : b < 2 ^ 31) (e1 : p = nI a) (e2 : q = nI b) (K : post (nI (cl_n x a b))) : wpX_clamp post (f_wireFalse, f_wireTrue, f_signalBase, f_bootWire, f_registerBase, f_firstGate, f_wireLimit, f_opAnd, f_opOr, f_opNot, f_codes, f_cells, f_resumeBase, f_rootRow, f_endRow, f_stayRow, f_leftRow, f_rightRow, f_inputSignals, f_outputSignals, f_nodeLimit, f_count, f_phaseNow, f_instantCount, f_rejectedCount, f_wireCount, f_logicEnd, a_kindOf, a_argOf, a_firstOf, a_secondOf, a_parentOf, a_activeNode, a_lastStatus, a_inTree, a_trapDepth, a_firstCodes, a_gateOp, a_gateA, a_gateB, a_inverseOf, a_cell, a_selWire, a_keepStart, a_keepResume, a_frozen, a_nextWire, a_must, a_can) x p q := by
  subst e1 e2
  refine br_c (fun h1 => br_c (fun h2 => ?_) (fun h2 => ?_)) (fun h1 => ?_)
  · rw [← (cl_b hab hb).2.2 h1 h2] at K; exact K
  · rw [cl_e h1 h2] at K; exact K
  · rw [cl_a h1] at K; exact K
end
section
variable {f_inputs f_outputs f_cap f_count f_phase f_root f_instants f_rejected f_activeLeaves : Int32} {a_kind a_arg a_first a_second a_parent a_shown a_e a_fst a_ms a_cs a_mk a_ck a_left : Nat → Int32}
theorem ys_clamp {post : Int32 → Prop} {x p q : Int32} {a b : Nat} (hab : a ≤ b) (hb : b < 2 ^ 31) (e1 : p = nI a) (e2 : q = nI b) (K : post (nI (cl_n x a b))) : wpY_clamp post (f_inputs, f_outputs, f_cap, f_count, f_phase, f_root, f_instants, f_rejected, f_activeLeaves, a_kind, a_arg, a_first, a_second, a_parent, a_shown, a_e, a_fst, a_ms, a_cs, a_mk, a_ck, a_left) x p q := by
  subst e1 e2
  refine br_c (fun h1 => br_c (fun h2 => ?_) (fun h2 => ?_)) (fun h1 => ?_)
  · rw [← (cl_b hab hb).2.2 h1 h2] at K; exact K
  · rw [cl_e h1 h2] at K; exact K
  · rw [cl_a h1] at K; exact K
end
theorem i_vc0 (k0 : Int32) (k1 : Int32) (k2 : Int32) : wpX_init (fun u => wpY_init (fun v => i_Rel 3 u v) k0 k1 k2) k0 k1 k2 := by
  have c0 := cl_b (x := k0) (show 0 ≤ 4 by omega) (by omega)
  have c1 := cl_b (x := k1) (show 1 ≤ 6 by omega) (by omega)
  have c2 := cl_b (x := k2) (show 8 ≤ 32 by omega) (by omega)
  unfold wpX_init
  refine xs_clamp (a := 0) (b := 4) (by omega) (by omega) rfl rfl ?_
  refine xs_clamp (a := 1) (b := 6) (by omega) (by omega) rfl rfl ?_
  refine xs_clamp (a := 8) (b := 32) (by omega) (by omega) rfl rfl ?_
  unfold wpX_clear
  refine xs_restart (fun an ha => ?_)
  unfold wpY_init
  refine ys_clamp (a := 0) (b := 4) (by omega) (by omega) rfl rfl ?_
  refine ys_clamp (a := 1) (b := 6) (by omega) (by omega) rfl rfl ?_
  refine ys_clamp (a := 8) (b := 32) (by omega) (by omega) rfl rfl ?_
  unfold wpY_clear
  refine ys_restart ?_
  exact i_in (N := 0) (ir_clear (ni := cl_n k0 0 4) (no := cl_n k1 1 6) (cap := cl_n k2 8 32) c0.2.1 c1.2.1 c2.2.1 ha)
end
section
/-! ===== new nodes ===== -/
def ad_1 (pa : Nat → Int32) (N : Nat) (p : Int32) : Nat → Int32 := if p = -5 then pa else upd pa p.toNatClampNeg (nI N)
theorem ad_15 {pa : Nat → Int32} {N : Nat} : ad_1 pa N (-5) = pa := if_pos rfl
theorem ad_1n {pa : Nat → Int32} {N j : Nat} (h : j < 2 ^ 31) : ad_1 pa N (nI j) = upd pa j (nI N) := by
  unfold ad_1
  rw [if_neg (rc_m5 h), nI_clamp h]
/-- the tables with one node more -/
theorem ad_T {ni no N kk aa pp qq : Nat} {κ A P Q U : Nat → Nat} {kd ar fi se pa pa' : Nat → Int32} {a p q : Int32} (T : tr_F ni no N κ A P Q U) (hT : ln_T N kd ar fi se pa κ A P Q U) (hN : N < 32) (hk : kk ≤ 11)
    (hp : 5 ≤ kk → pp < N ∧ pa pp = -5) (hq : 9 ≤ kk → qq < N ∧ pa qq = -5 ∧ pp ≠ qq) (h2 : kk = 2 → ni ≤ aa) (hs : (kk = 2 ∨ kk = 4 ∨ kk = 7 ∨ kk = 8 ∨ kk = 9) → aa < ni + no) (h3 : kk = 3 → aa ≤ 3)
    (ea : (kk = 2 ∨ kk = 3 ∨ kk = 4 ∨ kk = 7 ∨ kk = 8 ∨ kk = 9) → a = nI aa) (ea' : (kk = 0 ∨ kk = 1 ∨ kk = 5 ∨ kk = 6 ∨ kk = 10 ∨ kk = 11) → a = -5)
    (ep : kk < 5 → p = -5) (ep' : 5 ≤ kk → p = nI pp) (eq : kk < 9 → q = -5) (eq' : 9 ≤ kk → q = nI qq)
    (hpa : ∀ m, m < N + 1 → pa' m = if (5 ≤ kk ∧ m = pp) ∨ (9 ≤ kk ∧ m = qq) then nI N else if m = N then -5 else pa m) :
    ∃ κ' A' P' Q' U' : Nat → Nat, tr_F ni no (N + 1) κ' A' P' Q' U' ∧ ln_T (N + 1) (upd kd N (nI kk)) (upd ar N a) (upd fi N p) (upd se N q) pa' κ' A' P' Q' U' := by
  have free : ∀ x, x < N → pa x = -5 → N ≤ U x := fun x hx h => by
    rcases (hT x hx).2.2.2.2.2.2.2 with ⟨_, b⟩ | ⟨b, c⟩
    · exact b
    · rw [h] at b; exact absurd b.symm (rc_m5 (by omega))
  refine ⟨fun m => if m = N then kk else κ m, fun m => if m = N then aa else A m, fun m => if m = N then pp else P m, fun m => if m = N then qq else Q m, fun m => if (5 ≤ kk ∧ m = pp) ∨ (9 ≤ kk ∧ m = qq) then N else if m = N then 99 else if U m < N then U m else 99, ⟨by omega, fun n hn => ?_⟩, fun n hn => ?_⟩
  · dsimp only
    by_cases e : n = N
    · subst e
      simp only [if_true]
      refine ⟨hk, fun k => ⟨(hp k).1, if_pos (Or.inl ⟨k, trivial⟩)⟩, fun k => ⟨(hq k).1, if_pos (Or.inr ⟨k, trivial⟩), (hq k).2.2⟩, fun h => ?_, h2, hs, h3⟩
      rw [if_neg (by intro z; rcases z with ⟨a, b⟩ | ⟨a, b⟩; · have := hp a; omega
                     · have := hq a; omega)] at h
      omega
    · have nN : n < N := by omega
      rw [if_neg e, if_neg e, if_neg e, if_neg e, if_neg e]
      obtain ⟨c1, c2, c3, c4, c5, c6, c7⟩ := T.2 n nN
      refine ⟨c1, fun k => ⟨(c2 k).1, ?_⟩, fun k => ⟨(c3 k).1, ?_, (c3 k).2.2⟩, fun h => ?_, c5, c6, c7⟩
      · have c := c2 k
        rw [if_neg (by intro z; rcases z with ⟨a, b⟩ | ⟨a, b⟩; · have := free pp (hp a).1 (hp a).2; rw [← b, c.2] at this; omega
                       · have := free qq (hq a).1 (hq a).2.1; rw [← b, c.2] at this; omega), if_neg (by omega), if_pos (by omega)]
        exact c.2
      · have c := c3 k
        rw [if_neg (by intro z; rcases z with ⟨a, b⟩ | ⟨a, b⟩; · have := free pp (hp a).1 (hp a).2; rw [← b, c.2.1] at this; omega
                       · have := free qq (hq a).1 (hq a).2.1; rw [← b, c.2.1] at this; omega), if_neg (by omega), if_pos (by omega)]
        exact c.2.1
      · by_cases z : (5 ≤ kk ∧ n = pp) ∨ (9 ≤ kk ∧ n = qq)
        · rw [if_pos z, if_pos rfl, if_pos rfl, if_pos rfl]
          rcases z with ⟨a, b⟩ | ⟨a, b⟩
          · exact ⟨nN, a, Or.inl b.symm⟩
          · exact ⟨nN, by omega, Or.inr ⟨a, b.symm⟩⟩
        · rw [if_neg z] at h ⊢
          by_cases u : U n < N
          · rw [if_pos u, if_neg (by omega), if_neg (by omega), if_neg (by omega)]
            exact c4 u
          · rw [if_neg u] at h; omega
  · dsimp only
    by_cases e : n = N
    · subst e
      rw [pk_us, pk_us, pk_us, pk_us, hpa n (by omega)]
      simp only [if_true]
      refine ⟨trivial, ep, ep', eq, eq', ea, ea', Or.inl ?_⟩
      have nz : ¬ ((5 ≤ kk ∧ n = pp) ∨ (9 ≤ kk ∧ n = qq)) := by
        intro z; rcases z with ⟨a, b⟩ | ⟨a, b⟩
        · have := hp a; omega
        · have := hq a; omega
      rw [if_neg nz, if_neg nz]
      exact ⟨rfl, by omega⟩
    · have nN : n < N := by omega
      obtain ⟨c1, c2, c3, c4, c5, c6, c7, c8⟩ := hT n nN
      rw [pk_un e, pk_un e, pk_un e, pk_un e, hpa n (by omega), if_neg e, if_neg e, if_neg e, if_neg e]
      refine ⟨c1, c2, c3, c4, c5, c6, c7, ?_⟩
      by_cases z : (5 ≤ kk ∧ n = pp) ∨ (9 ≤ kk ∧ n = qq)
      · rw [if_pos z, if_pos z]; exact Or.inr ⟨rfl, by omega⟩
      · rw [if_neg z, if_neg z, if_neg e, if_neg e]
        rcases c8 with ⟨x, y⟩ | ⟨x, y⟩
        · rw [if_neg (by omega)]; exact Or.inl ⟨x, by omega⟩
        · rw [if_pos y]; exact Or.inr ⟨x, by omega⟩
theorem ad_pa {pa : Nat → Int32} {N kk pp qq : Nat} {p q : Int32} (hN : N < 32) (hp : 5 ≤ kk → pp < N) (hq : 9 ≤ kk → qq < N) (ep : kk < 5 → p = -5) (ep' : 5 ≤ kk → p = nI pp) (eq : kk < 9 → q = -5) (eq' : 9 ≤ kk → q = nI qq) :
    ∀ m, m < N + 1 → ad_1 (ad_1 (upd pa N (-5)) N p) N q m = if (5 ≤ kk ∧ m = pp) ∨ (9 ≤ kk ∧ m = qq) then nI N else if m = N then -5 else pa m := by
  intro m hm
  by_cases k5 : 5 ≤ kk
  · rw [ep' k5, ad_1n (by have := hp k5; omega)]
    by_cases k9 : 9 ≤ kk
    · rw [eq' k9, ad_1n (by have := hq k9; omega)]
      unfold upd
      by_cases a : m = qq
      · rw [if_pos a, if_pos (Or.inr ⟨k9, a⟩)]
      · rw [if_neg a]
        by_cases b : m = pp
        · rw [if_pos b, if_pos (Or.inl ⟨k5, b⟩)]
        · have nz : ¬ ((5 ≤ kk ∧ m = pp) ∨ (9 ≤ kk ∧ m = qq)) := fun z => z.elim (fun y => b y.2) (fun y => a y.2)
          rw [if_neg b, if_neg nz]
    · rw [eq (by omega), ad_15]
      unfold upd
      by_cases b : m = pp
      · rw [if_pos b, if_pos (Or.inl ⟨k5, b⟩)]
      · have nz : ¬ ((5 ≤ kk ∧ m = pp) ∨ (9 ≤ kk ∧ m = qq)) := fun z => z.elim (fun y => b y.2) (fun y => k9 y.1)
        rw [if_neg b, if_neg nz]
  · rw [ep (by omega), eq (by omega), ad_15, ad_15]
    unfold upd
    have nz : ¬ ((5 ≤ kk ∧ m = pp) ∨ (9 ≤ kk ∧ m = qq)) := fun z => z.elim (fun y => k5 y.1) (fun y => by omega)
    rw [if_neg nz]
section
variable {f_wireFalse f_wireTrue f_signalBase f_bootWire f_registerBase f_firstGate f_wireLimit f_opAnd f_opOr f_opNot f_codes f_cells f_resumeBase f_rootRow f_endRow f_stayRow f_leftRow f_rightRow f_inputSignals f_outputSignals f_nodeLimit f_count f_phaseNow f_instantCount f_rejectedCount f_wireCount f_logicEnd : Int32} {a_kindOf a_argOf a_firstOf a_secondOf a_parentOf a_activeNode a_lastStatus a_inTree a_trapDepth a_firstCodes a_gateOp a_gateA a_gateB a_inverseOf a_cell a_selWire a_keepStart a_keepResume a_frozen a_nextWire : Nat → Int32} {a_must a_can : Nat → Int64}
variable {post : Int32 → SX → Prop} {N : Nat}
theorem xa_add {x y p q : Int32} (hN : N < 32) (hp : p = -5 ∨ ∃ j, j < 32 ∧ p = nI j) (hq : q = -5 ∨ ∃ j, j < 32 ∧ q = nI j)
    (K : post (nI N) (f_wireFalse, f_wireTrue, f_signalBase, f_bootWire, f_registerBase, f_firstGate, f_wireLimit, f_opAnd, f_opOr, f_opNot, f_codes, f_cells, f_resumeBase, f_rootRow, f_endRow, f_stayRow, f_leftRow, f_rightRow, f_inputSignals, f_outputSignals, f_nodeLimit, nI (N + 1), f_phaseNow, f_instantCount, f_rejectedCount, f_wireCount, f_logicEnd, upd a_kindOf N x, upd a_argOf N y, upd a_firstOf N p, upd a_secondOf N q, ad_1 (ad_1 (upd a_parentOf N (-5)) N p) N q, a_activeNode, a_lastStatus, a_inTree, a_trapDepth, a_firstCodes, a_gateOp, a_gateA, a_gateB, a_inverseOf, a_cell, a_selWire, a_keepStart, a_keepResume, a_frozen, a_nextWire, a_must, a_can)) : wpX_addNode post (f_wireFalse, f_wireTrue, f_signalBase, f_bootWire, f_registerBase, f_firstGate, f_wireLimit, f_opAnd, f_opOr, f_opNot, f_codes, f_cells, f_resumeBase, f_rootRow, f_endRow, f_stayRow, f_leftRow, f_rightRow, f_inputSignals, f_outputSignals, f_nodeLimit, nI N, f_phaseNow, f_instantCount, f_rejectedCount, f_wireCount, f_logicEnd, a_kindOf, a_argOf, a_firstOf, a_secondOf, a_parentOf, a_activeNode, a_lastStatus, a_inTree, a_trapDepth, a_firstCodes, a_gateOp, a_gateA, a_gateB, a_inverseOf, a_cell, a_selWire, a_keepStart, a_keepResume, a_frozen, a_nextWire, a_must, a_can) x y p q := by
  have hi : vp_in (nI N) 32 := vp_in_nI hN (by decide)
  have m5 : (-5 : Int32) < 0 := by decide
  have tail : ∀ pa : Nat → Int32, post (nI N) (f_wireFalse, f_wireTrue, f_signalBase, f_bootWire, f_registerBase, f_firstGate, f_wireLimit, f_opAnd, f_opOr, f_opNot, f_codes, f_cells, f_resumeBase, f_rootRow, f_endRow, f_stayRow, f_leftRow, f_rightRow, f_inputSignals, f_outputSignals, f_nodeLimit, nI (N + 1), f_phaseNow, f_instantCount, f_rejectedCount, f_wireCount, f_logicEnd, upd a_kindOf N x, upd a_argOf N y, upd a_firstOf N p, upd a_secondOf N q, ad_1 pa N q, a_activeNode, a_lastStatus, a_inTree, a_trapDepth, a_firstCodes, a_gateOp, a_gateA, a_gateB, a_inverseOf, a_cell, a_selWire, a_keepStart, a_keepResume, a_frozen, a_nextWire, a_must, a_can) →
      wX_addNode_60 post q (nI N) f_wireFalse f_wireTrue f_signalBase f_bootWire f_registerBase f_firstGate f_wireLimit f_opAnd f_opOr f_opNot f_codes f_cells f_resumeBase f_rootRow f_endRow f_stayRow f_leftRow f_rightRow f_inputSignals f_outputSignals f_nodeLimit (nI N) f_phaseNow f_instantCount f_rejectedCount f_wireCount f_logicEnd (upd a_kindOf N x) (upd a_argOf N y) (upd a_firstOf N p) (upd a_secondOf N q) pa a_activeNode a_lastStatus a_inTree a_trapDepth a_firstCodes a_gateOp a_gateA a_gateB a_inverseOf a_cell a_selWire a_keepStart a_keepResume a_frozen a_nextWire a_must a_can := by
    intro pa k
    rcases hq with rfl | ⟨j, hj, rfl⟩
    · rw [ad_15] at k
      exact br_t m5 (nm_r (nI_1 N) k)
    · rw [ad_1n (by omega)] at k
      refine br_f (nI_pos (by omega)) ⟨vp_in_nI hj (by decide), ?_⟩
      rw [nI_clamp (show j < 2 ^ 31 by omega)]
      exact nm_e (nm_r (nI_1 N) k)
  refine ⟨hi, ?_⟩
  rw [nI_clamp (show N < 2 ^ 31 by omega)]
  refine nm_e ⟨hi, nm_e ⟨hi, nm_e ⟨hi, nm_e ⟨hi, nm_e ?_⟩⟩⟩⟩
  rcases hp with rfl | ⟨j, hj, rfl⟩
  · rw [ad_15] at K
    exact br_t m5 (tail _ K)
  · rw [ad_1n (pa := upd a_parentOf N (-5)) (by omega)] at K
    refine br_f (nI_pos (by omega)) ⟨vp_in_nI hj (by decide), ?_⟩
    rw [nI_clamp (show j < 2 ^ 31 by omega)]
    exact nm_e (tail _ K)
end
section
variable {f_inputs f_outputs f_cap f_count f_phase f_root f_instants f_rejected f_activeLeaves : Int32} {a_kind a_arg a_first a_second a_parent a_shown a_e a_fst a_ms a_cs a_mk a_ck a_left : Nat → Int32}
variable {post : Int32 → SY → Prop} {N cap : Nat}
theorem ya_add {x y p q : Int32} (hcap : cap ≤ 32) (hNc : N ≤ cap) (hp : p = -5 ∨ ∃ j, j < 32 ∧ p = nI j) (hq : q = -5 ∨ ∃ j, j < 32 ∧ q = nI j)
    (K : N < cap → post (nI N) (f_inputs, f_outputs, nI cap, nI (N + 1), f_phase, f_root, f_instants, f_rejected, f_activeLeaves, upd a_kind N x, upd a_arg N y, upd a_first N p, upd a_second N q, ad_1 (ad_1 (upd a_parent N (-5)) N p) N q, a_shown, a_e, a_fst, a_ms, a_cs, a_mk, a_ck, a_left)) (K0 : ¬ N < cap → post (-4) (f_inputs, f_outputs, nI cap, nI N, f_phase, f_root, f_instants, f_rejected, f_activeLeaves, a_kind, a_arg, a_first, a_second, a_parent, a_shown, a_e, a_fst, a_ms, a_cs, a_mk, a_ck, a_left)) : wpY_add post (f_inputs, f_outputs, nI cap, nI N, f_phase, f_root, f_instants, f_rejected, f_activeLeaves, a_kind, a_arg, a_first, a_second, a_parent, a_shown, a_e, a_fst, a_ms, a_cs, a_mk, a_ck, a_left) x y p q := by
  refine pk_lt N cap (fun h => ?_) (fun h => K0 (by omega))
  have K := K h
  have hi : vp_in (nI N) 32 := vp_in_nI (by omega) (by decide)
  have tail : ∀ pa : Nat → Int32, post (nI N) (f_inputs, f_outputs, nI cap, nI (N + 1), f_phase, f_root, f_instants, f_rejected, f_activeLeaves, upd a_kind N x, upd a_arg N y, upd a_first N p, upd a_second N q, ad_1 pa N q, a_shown, a_e, a_fst, a_ms, a_cs, a_mk, a_ck, a_left) →
      wY_add_82 post q f_inputs f_outputs (nI cap) (nI N) f_phase f_root f_instants f_rejected f_activeLeaves (upd a_kind N x) (upd a_arg N y) (upd a_first N p) (upd a_second N q) pa a_shown a_e a_fst a_ms a_cs a_mk a_ck a_left := by
    intro pa k
    have fin : ∀ pa', post (nI N) (f_inputs, f_outputs, nI cap, nI (N + 1), f_phase, f_root, f_instants, f_rejected, f_activeLeaves, upd a_kind N x, upd a_arg N y, upd a_first N p, upd a_second N q, pa', a_shown, a_e, a_fst, a_ms, a_cs, a_mk, a_ck, a_left) → wY_add_100 post f_inputs f_outputs (nI cap) (nI N) f_phase f_root f_instants f_rejected f_activeLeaves (upd a_kind N x) (upd a_arg N y) (upd a_first N p) (upd a_second N q) pa' a_shown a_e a_fst a_ms a_cs a_mk a_ck a_left := by
      intro pa' k'
      refine nm_r (nI_1 N) ?_
      rw [nI_pred]; exact k'
    rcases hq with rfl | ⟨j, hj, rfl⟩
    · rw [ad_15] at k
      exact br_t rfl (fin _ k)
    · rw [ad_1n (by omega)] at k
      refine br_f (rc_m5 (by omega)) ⟨vp_in_nI hj (by decide), ?_⟩
      rw [nI_clamp (show j < 2 ^ 31 by omega)]
      exact nm_e (fin _ k)
  refine ⟨hi, ?_⟩
  rw [nI_clamp (show N < 2 ^ 31 by omega)]
  refine nm_e ⟨hi, nm_e ⟨hi, nm_e ⟨hi, nm_e ⟨hi, nm_e ?_⟩⟩⟩⟩
  rcases hp with rfl | ⟨j, hj, rfl⟩
  · rw [ad_15] at K
    exact br_t rfl (tail _ K)
  · rw [ad_1n (pa := upd a_parent N (-5)) (by omega)] at K
    refine br_f (rc_m5 (by omega)) ⟨vp_in_nI hj (by decide), ?_⟩
    rw [nI_clamp (show j < 2 ^ 31 by omega)]
    exact nm_e (tail _ K)
end
/-- the relation with one node more -/
theorem ir_add {ni no cap N kk aa pp qq : Nat} {kd ar fi se pa an it : Nat → Int32} {wcI lEI : Int32} {go ga gb ce sw nx : Nat → Int32} {rI L a p q : Int32} (G : ir_G ni no cap N 0 kd ar fi se pa an it wcI lEI go ga gb ce sw nx rI L) (hN : N < cap) (hk : kk ≤ 11)
    (hp : 5 ≤ kk → pp < N ∧ pa pp = -5) (hq : 9 ≤ kk → qq < N ∧ pa qq = -5 ∧ pp ≠ qq) (h2 : kk = 2 → ni ≤ aa) (hs : (kk = 2 ∨ kk = 4 ∨ kk = 7 ∨ kk = 8 ∨ kk = 9) → aa < ni + no) (h3 : kk = 3 → aa ≤ 3)
    (ea : (kk = 2 ∨ kk = 3 ∨ kk = 4 ∨ kk = 7 ∨ kk = 8 ∨ kk = 9) → a = nI aa) (ea' : (kk = 0 ∨ kk = 1 ∨ kk = 5 ∨ kk = 6 ∨ kk = 10 ∨ kk = 11) → a = -5)
    (ep : kk < 5 → p = -5) (ep' : 5 ≤ kk → p = nI pp) (eq : kk < 9 → q = -5) (eq' : 9 ≤ kk → q = nI qq) :
    ir_G ni no cap (N + 1) 0 (upd kd N (nI kk)) (upd ar N a) (upd fi N p) (upd se N q) (ad_1 (ad_1 (upd pa N (-5)) N p) N q) an it wcI lEI go ga gb ce sw nx rI L := by
  obtain ⟨g1, g2, g3, g4, g5, κ, A, P, Q, U, T, hT, h0, h1⟩ := G
  obtain ⟨κ', A', P', Q', U', T', hT'⟩ := ad_T (pa' := ad_1 (ad_1 (upd pa N (-5)) N p) N q) T hT (by omega) hk hp hq h2 hs h3 ea ea' ep ep' eq eq' (ad_pa (by omega) (fun k => (hp k).1) (fun k => (hq k).1) ep ep' eq eq')
  exact ⟨g1, g2, g3, hN, Or.inl rfl, κ', A', P', Q', U', T', hT', h0, fun h => absurd rfl h⟩
end
section
/-! ===== leaf, unary, binary ===== -/
section
variable {f_wireFalse f_wireTrue f_signalBase f_bootWire f_registerBase f_firstGate f_wireLimit f_opAnd f_opOr f_opNot f_codes f_cells f_resumeBase f_rootRow f_endRow f_stayRow f_leftRow f_rightRow f_inputSignals f_outputSignals f_nodeLimit f_count f_phaseNow f_instantCount f_rejectedCount f_wireCount f_logicEnd : Int32} {a_kindOf a_argOf a_firstOf a_secondOf a_parentOf a_activeNode a_lastStatus a_inTree a_trapDepth a_firstCodes a_gateOp a_gateA a_gateB a_inverseOf a_cell a_selWire a_keepStart a_keepResume a_frozen a_nextWire : Nat → Int32} {a_must a_can : Nat → Int64}
variable {post : Int32 → SX → Prop} {N cap : Nat}
theorem xa_77 {x y : Int32} (hcap : cap ≤ 32) (hNc : N ≤ cap) (K : N < cap → post (nI N) (f_wireFalse, f_wireTrue, f_signalBase, f_bootWire, f_registerBase, f_firstGate, f_wireLimit, f_opAnd, f_opOr, f_opNot, f_codes, f_cells, f_resumeBase, f_rootRow, f_endRow, f_stayRow, f_leftRow, f_rightRow, f_inputSignals, f_outputSignals, nI cap, nI (N + 1), f_phaseNow, f_instantCount, f_rejectedCount, f_wireCount, f_logicEnd, upd a_kindOf N x, upd a_argOf N y, upd a_firstOf N (-5), upd a_secondOf N (-5), ad_1 (ad_1 (upd a_parentOf N (-5)) N (-5)) N (-5), a_activeNode, a_lastStatus, a_inTree, a_trapDepth, a_firstCodes, a_gateOp, a_gateA, a_gateB, a_inverseOf, a_cell, a_selWire, a_keepStart, a_keepResume, a_frozen, a_nextWire, a_must, a_can))
    (K0 : ¬ N < cap → post (-4) (f_wireFalse, f_wireTrue, f_signalBase, f_bootWire, f_registerBase, f_firstGate, f_wireLimit, f_opAnd, f_opOr, f_opNot, f_codes, f_cells, f_resumeBase, f_rootRow, f_endRow, f_stayRow, f_leftRow, f_rightRow, f_inputSignals, f_outputSignals, nI cap, nI N, f_phaseNow, f_instantCount, f_rejectedCount, f_wireCount, f_logicEnd, a_kindOf, a_argOf, a_firstOf, a_secondOf, a_parentOf, a_activeNode, a_lastStatus, a_inTree, a_trapDepth, a_firstCodes, a_gateOp, a_gateA, a_gateB, a_inverseOf, a_cell, a_selWire, a_keepStart, a_keepResume, a_frozen, a_nextWire, a_must, a_can)) : wX_leaf_77 post x y f_wireFalse f_wireTrue f_signalBase f_bootWire f_registerBase f_firstGate f_wireLimit f_opAnd f_opOr f_opNot f_codes f_cells f_resumeBase f_rootRow f_endRow f_stayRow f_leftRow f_rightRow f_inputSignals f_outputSignals (nI cap) (nI N) f_phaseNow f_instantCount f_rejectedCount f_wireCount f_logicEnd a_kindOf a_argOf a_firstOf a_secondOf a_parentOf a_activeNode a_lastStatus a_inTree a_trapDepth a_firstCodes a_gateOp a_gateA a_gateB a_inverseOf a_cell a_selWire a_keepStart a_keepResume a_frozen a_nextWire a_must a_can := by
  refine pk_lt N cap (fun h => ?_) (fun h => K0 (by omega))
  exact xa_add (by omega) (Or.inl rfl) (Or.inl rfl) (K h)
theorem xa_49 {x y : Int32} {j : Nat} (hcap : cap ≤ 32) (hNc : N ≤ cap) (hj : j < N) (hf : a_parentOf j = -5) (K : N < cap → post (nI N) (f_wireFalse, f_wireTrue, f_signalBase, f_bootWire, f_registerBase, f_firstGate, f_wireLimit, f_opAnd, f_opOr, f_opNot, f_codes, f_cells, f_resumeBase, f_rootRow, f_endRow, f_stayRow, f_leftRow, f_rightRow, f_inputSignals, f_outputSignals, nI cap, nI (N + 1), f_phaseNow, f_instantCount, f_rejectedCount, f_wireCount, f_logicEnd, upd a_kindOf N x, upd a_argOf N y, upd a_firstOf N (nI j), upd a_secondOf N (-5), ad_1 (ad_1 (upd a_parentOf N (-5)) N (nI j)) N (-5), a_activeNode, a_lastStatus, a_inTree, a_trapDepth, a_firstCodes, a_gateOp, a_gateA, a_gateB, a_inverseOf, a_cell, a_selWire, a_keepStart, a_keepResume, a_frozen, a_nextWire, a_must, a_can))
    (K0 : ¬ N < cap → post (-4) (f_wireFalse, f_wireTrue, f_signalBase, f_bootWire, f_registerBase, f_firstGate, f_wireLimit, f_opAnd, f_opOr, f_opNot, f_codes, f_cells, f_resumeBase, f_rootRow, f_endRow, f_stayRow, f_leftRow, f_rightRow, f_inputSignals, f_outputSignals, nI cap, nI N, f_phaseNow, f_instantCount, f_rejectedCount, f_wireCount, f_logicEnd, a_kindOf, a_argOf, a_firstOf, a_secondOf, a_parentOf, a_activeNode, a_lastStatus, a_inTree, a_trapDepth, a_firstCodes, a_gateOp, a_gateA, a_gateB, a_inverseOf, a_cell, a_selWire, a_keepStart, a_keepResume, a_frozen, a_nextWire, a_must, a_can)) : wX_unary_49 post x (nI j) y f_wireFalse f_wireTrue f_signalBase f_bootWire f_registerBase f_firstGate f_wireLimit f_opAnd f_opOr f_opNot f_codes f_cells f_resumeBase f_rootRow f_endRow f_stayRow f_leftRow f_rightRow f_inputSignals f_outputSignals (nI cap) (nI N) f_phaseNow f_instantCount f_rejectedCount f_wireCount f_logicEnd a_kindOf a_argOf a_firstOf a_secondOf a_parentOf a_activeNode a_lastStatus a_inTree a_trapDepth a_firstCodes a_gateOp a_gateA a_gateB a_inverseOf a_cell a_selWire a_keepStart a_keepResume a_frozen a_nextWire a_must a_can := by
  unfold wX_unary_49
  refine xs_free (by omega) (fun _ _ _ _ => br_f (by decide) (pk_lt N cap (fun h => ?_) (fun h => K0 (by omega)))) (fun h => absurd ⟨j, hj, rfl, hf⟩ h)
  exact xa_add (by omega) (Or.inr ⟨j, by omega, rfl⟩) (Or.inl rfl) (K h)
theorem xa_44 {x y : Int32} {i j : Nat} (hcap : cap ≤ 32) (hNc : N ≤ cap) (hi : i < N) (hj : j < N) (fi : a_parentOf i = -5) (fj : a_parentOf j = -5) (hij : i ≠ j)
    (K : N < cap → post (nI N) (f_wireFalse, f_wireTrue, f_signalBase, f_bootWire, f_registerBase, f_firstGate, f_wireLimit, f_opAnd, f_opOr, f_opNot, f_codes, f_cells, f_resumeBase, f_rootRow, f_endRow, f_stayRow, f_leftRow, f_rightRow, f_inputSignals, f_outputSignals, nI cap, nI (N + 1), f_phaseNow, f_instantCount, f_rejectedCount, f_wireCount, f_logicEnd, upd a_kindOf N x, upd a_argOf N y, upd a_firstOf N (nI i), upd a_secondOf N (nI j), ad_1 (ad_1 (upd a_parentOf N (-5)) N (nI i)) N (nI j), a_activeNode, a_lastStatus, a_inTree, a_trapDepth, a_firstCodes, a_gateOp, a_gateA, a_gateB, a_inverseOf, a_cell, a_selWire, a_keepStart, a_keepResume, a_frozen, a_nextWire, a_must, a_can))
    (K0 : ¬ N < cap → post (-4) (f_wireFalse, f_wireTrue, f_signalBase, f_bootWire, f_registerBase, f_firstGate, f_wireLimit, f_opAnd, f_opOr, f_opNot, f_codes, f_cells, f_resumeBase, f_rootRow, f_endRow, f_stayRow, f_leftRow, f_rightRow, f_inputSignals, f_outputSignals, nI cap, nI N, f_phaseNow, f_instantCount, f_rejectedCount, f_wireCount, f_logicEnd, a_kindOf, a_argOf, a_firstOf, a_secondOf, a_parentOf, a_activeNode, a_lastStatus, a_inTree, a_trapDepth, a_firstCodes, a_gateOp, a_gateA, a_gateB, a_inverseOf, a_cell, a_selWire, a_keepStart, a_keepResume, a_frozen, a_nextWire, a_must, a_can)) : wX_binary_44 post x (nI i) (nI j) y f_wireFalse f_wireTrue f_signalBase f_bootWire f_registerBase f_firstGate f_wireLimit f_opAnd f_opOr f_opNot f_codes f_cells f_resumeBase f_rootRow f_endRow f_stayRow f_leftRow f_rightRow f_inputSignals f_outputSignals (nI cap) (nI N) f_phaseNow f_instantCount f_rejectedCount f_wireCount f_logicEnd a_kindOf a_argOf a_firstOf a_secondOf a_parentOf a_activeNode a_lastStatus a_inTree a_trapDepth a_firstCodes a_gateOp a_gateA a_gateB a_inverseOf a_cell a_selWire a_keepStart a_keepResume a_frozen a_nextWire a_must a_can := by
  unfold wX_binary_44
  refine xs_free (by omega) (fun _ _ _ _ => br_f (by decide) ?_) (fun h => absurd ⟨i, hi, rfl, fi⟩ h)
  refine xs_free (by omega) (fun _ _ _ _ => br_f (by decide) (pk_eq i j (fun h => absurd h hij) (fun _ => pk_lt N cap (fun h => ?_) (fun h => K0 (by omega))))) (fun h => absurd ⟨j, hj, rfl, fj⟩ h)
  exact xa_add (by omega) (Or.inr ⟨i, by omega, rfl⟩) (Or.inr ⟨j, by omega, rfl⟩) (K h)
end
theorem i_vc_leaf {k : Nat} {u : SX} {v : SY} (I : i_Rel k u v) (hk : k + 5 ≤ 2563) (v1 : Int32) (v2 : Int32) : wpX_leaf (fun r u' => wpY_leaf (fun r' v' => r' = r ∧ i_Rel (k + 5) u' v') v v1 v2) u v1 v2 := by
  refine i_el (Z := fun u v => wpX_leaf (fun r u' => wpY_leaf (fun r' v' => r' = r ∧ i_Rel (k + 5) u' v') v v1 v2) u v1 v2) ?_ I
  intro ni no cap N f_wireFalse f_wireTrue f_signalBase f_bootWire f_registerBase f_firstGate f_wireLimit f_opAnd f_opOr f_opNot f_codes f_cells f_resumeBase f_rootRow f_endRow f_stayRow f_leftRow f_rightRow f_phaseNow f_instantCount f_rejectedCount f_wireCount f_logicEnd a_kindOf a_argOf a_firstOf a_secondOf a_parentOf a_activeNode a_lastStatus a_inTree a_trapDepth a_firstCodes a_gateOp a_gateA a_gateB a_inverseOf a_cell a_selWire a_keepStart a_keepResume a_frozen a_nextWire a_must a_can f_root f_activeLeaves a_e a_fst a_ms a_cs a_mk a_ck a_left G
  obtain ⟨hni, hno, hN⟩ := ir_io G
  have hcap := G.2.2.1
  have hNc := G.2.2.2.1
  by_cases ph : f_phaseNow = 0
  rotate_left
  · exact br_f ph (br_f ph ⟨rfl, i_in G⟩)
  subst ph
  by_cases h0 : v1 < 0
  · exact br_t rfl (br_t h0 (br_t rfl (br_t h0 ⟨rfl, i_in G⟩)))
  by_cases h4 : v1 ≤ 4
  rotate_left
  · exact br_t rfl (br_f h0 (br_f h4 (br_t rfl (br_f h0 (br_f h4 ⟨rfl, i_in G⟩)))))
  obtain ⟨kk, hkk, rfl⟩ := nI_of2 (M := 4) (n := 4) (by decide) h0 h4
  have hh : kk = 0 ∨ kk = 1 ∨ kk = 2 ∨ kk = 3 ∨ kk = 4 := by omega
  rcases hh with e | e | e | e | e <;> subst e
  · refine br_t rfl (br_f h0 (br_t h4 (br_f (by decide) (br_f (by decide) (br_f (by decide) ?_)))))
    refine xa_77 hcap hNc (fun hc => ?_) (fun hc => ?_)
    · refine br_t rfl (br_f h0 (br_t h4 (br_f (by decide) (br_f (by decide) (br_f (by decide) (br_t rfl ?_))))))
      refine ya_add hcap hNc (Or.inl rfl) (Or.inl rfl) (fun _ => ⟨rfl, i_in ?_⟩) (fun z => absurd hc z)
      exact ir_add (kk := 0) (aa := 0) (pp := 0) (qq := 0) G hc (by omega) (fun z => absurd z (by omega)) (fun z => absurd z (by omega)) (fun z => absurd z (by omega)) (fun z => absurd z (by omega)) (fun z => absurd z (by omega)) (fun z => absurd z (by omega)) (fun _ => rfl) (fun _ => rfl) (fun z => absurd z (by omega)) (fun _ => rfl) (fun z => absurd z (by omega))
    · refine br_t rfl (br_f h0 (br_t h4 (br_f (by decide) (br_f (by decide) (br_f (by decide) (br_t rfl ?_))))))
      exact ya_add hcap hNc (Or.inl rfl) (Or.inl rfl) (fun z => absurd z hc) (fun _ => ⟨rfl, i_in G⟩)
  · refine br_t rfl (br_f h0 (br_t h4 (br_f (by decide) (br_f (by decide) (br_f (by decide) ?_)))))
    refine xa_77 hcap hNc (fun hc => ?_) (fun hc => ?_)
    · refine br_t rfl (br_f h0 (br_t h4 (br_f (by decide) (br_f (by decide) (br_f (by decide) (br_f (by decide) (br_t rfl ?_)))))))
      refine ya_add hcap hNc (Or.inl rfl) (Or.inl rfl) (fun _ => ⟨rfl, i_in ?_⟩) (fun z => absurd hc z)
      exact ir_add (kk := 1) (aa := 0) (pp := 0) (qq := 0) G hc (by omega) (fun z => absurd z (by omega)) (fun z => absurd z (by omega)) (fun z => absurd z (by omega)) (fun z => absurd z (by omega)) (fun z => absurd z (by omega)) (fun z => absurd z (by omega)) (fun _ => rfl) (fun _ => rfl) (fun z => absurd z (by omega)) (fun _ => rfl) (fun z => absurd z (by omega))
    · refine br_t rfl (br_f h0 (br_t h4 (br_f (by decide) (br_f (by decide) (br_f (by decide) (br_f (by decide) (br_t rfl ?_)))))))
      exact ya_add hcap hNc (Or.inl rfl) (Or.inl rfl) (fun z => absurd z hc) (fun _ => ⟨rfl, i_in G⟩)
  · refine br_t rfl (br_f h0 (br_t h4 (br_t rfl ?_)))
    refine xs_sig hni hno (fun s hs e => br_f (by decide) ?_) (fun ns => br_t rfl ?_)
    · subst e
      refine pk_le ni s (fun hi => ?_) (fun hi => ?_)
      · refine xa_77 hcap hNc (fun hc => ?_) (fun hc => ?_)
        · refine br_t rfl (br_f h0 (br_t h4 (br_t rfl ?_)))
          refine ys_sig hni hno (fun _ _ _ => br_f (by decide) (pk_le ni s (fun _ => ?_) (fun z => absurd z (by omega)))) (fun z => absurd ⟨s, hs, rfl⟩ z)
          refine br_f (by decide) (br_f (by decide) (br_f (by decide) (br_f (by decide) ?_)))
          refine ya_add hcap hNc (Or.inl rfl) (Or.inl rfl) (fun _ => ⟨rfl, i_in ?_⟩) (fun z => absurd hc z)
          exact ir_add (kk := 2) (aa := s) (pp := 0) (qq := 0) G hc (by omega) (fun z => absurd z (by omega)) (fun z => absurd z (by omega)) (fun _ => hi) (fun _ => hs) (fun z => absurd z (by omega)) (fun _ => rfl) (fun z => absurd z (by omega)) (fun _ => rfl) (fun z => absurd z (by omega)) (fun _ => rfl) (fun z => absurd z (by omega))
        · refine br_t rfl (br_f h0 (br_t h4 (br_t rfl ?_)))
          refine ys_sig hni hno (fun _ _ _ => br_f (by decide) (pk_le ni s (fun _ => ?_) (fun z => absurd z (by omega)))) (fun z => absurd ⟨s, hs, rfl⟩ z)
          refine br_f (by decide) (br_f (by decide) (br_f (by decide) (br_f (by decide) ?_)))
          exact ya_add hcap hNc (Or.inl rfl) (Or.inl rfl) (fun z => absurd z hc) (fun _ => ⟨rfl, i_in G⟩)
      · refine br_t rfl (br_f h0 (br_t h4 (br_t rfl ?_)))
        exact ys_sig hni hno (fun _ _ _ => br_f (by decide) (pk_le ni s (fun z => absurd z (by omega)) (fun _ => ⟨rfl, i_in G⟩))) (fun z => absurd ⟨s, hs, rfl⟩ z)
    · refine br_t rfl (br_f h0 (br_t h4 (br_t rfl ?_)))
      exact ys_sig hni hno (fun s hs e => absurd ⟨s, hs, e⟩ ns) (fun _ => br_t rfl ⟨rfl, i_in G⟩)
  · refine br_t rfl (br_f h0 (br_t h4 (br_f (by decide) (br_t rfl ?_))))
    by_cases w0 : v2 < 0
    · exact br_t w0 (br_t rfl (br_f h0 (br_t h4 (br_f (by decide) (br_t rfl (br_t w0 ⟨rfl, i_in G⟩))))))
    by_cases w3 : v2 ≤ 3
    rotate_left
    · exact br_f w0 (br_f w3 (br_t rfl (br_f h0 (br_t h4 (br_f (by decide) (br_t rfl (br_f w0 (br_f w3 ⟨rfl, i_in G⟩))))))))
    obtain ⟨s, hs, rfl⟩ := nI_of2 (M := 3) (n := 3) (by decide) w0 w3
    refine br_f w0 (br_t w3 ?_)
    refine xa_77 hcap hNc (fun hc => ?_) (fun hc => ?_)
    · refine br_t rfl (br_f h0 (br_t h4 (br_f (by decide) (br_t rfl (br_f w0 (br_t w3 (br_f (by decide) (br_f (by decide) (br_f (by decide) ?_)))))))))
      refine ya_add hcap hNc (Or.inl rfl) (Or.inl rfl) (fun _ => ⟨rfl, i_in ?_⟩) (fun z => absurd hc z)
      exact ir_add (kk := 3) (aa := s) (pp := 0) (qq := 0) G hc (by omega) (fun z => absurd z (by omega)) (fun z => absurd z (by omega)) (fun z => absurd z (by omega)) (fun z => absurd z (by omega)) (fun _ => hs) (fun _ => rfl) (fun z => absurd z (by omega)) (fun _ => rfl) (fun z => absurd z (by omega)) (fun _ => rfl) (fun z => absurd z (by omega))
    · refine br_t rfl (br_f h0 (br_t h4 (br_f (by decide) (br_t rfl (br_f w0 (br_t w3 (br_f (by decide) (br_f (by decide) (br_f (by decide) ?_)))))))))
      exact ya_add hcap hNc (Or.inl rfl) (Or.inl rfl) (fun z => absurd z hc) (fun _ => ⟨rfl, i_in G⟩)
  · refine br_t rfl (br_f h0 (br_t h4 (br_f (by decide) (br_f (by decide) (br_t rfl ?_)))))
    refine xs_sig hni hno (fun s hs e => br_f (by decide) ?_) (fun ns => br_t rfl ?_)
    · subst e
      refine xa_77 hcap hNc (fun hc => ?_) (fun hc => ?_)
      · refine br_t rfl (br_f h0 (br_t h4 (br_f (by decide) (br_f (by decide) (br_t rfl ?_)))))
        refine ys_sig hni hno (fun _ _ _ => br_f (by decide) (br_f (by decide) (br_f (by decide) ?_))) (fun z => absurd ⟨s, hs, rfl⟩ z)
        refine ya_add hcap hNc (Or.inl rfl) (Or.inl rfl) (fun _ => ⟨rfl, i_in ?_⟩) (fun z => absurd hc z)
        exact ir_add (kk := 4) (aa := s) (pp := 0) (qq := 0) G hc (by omega) (fun z => absurd z (by omega)) (fun z => absurd z (by omega)) (fun z => absurd z (by omega)) (fun _ => hs) (fun z => absurd z (by omega)) (fun _ => rfl) (fun z => absurd z (by omega)) (fun _ => rfl) (fun z => absurd z (by omega)) (fun _ => rfl) (fun z => absurd z (by omega))
      · refine br_t rfl (br_f h0 (br_t h4 (br_f (by decide) (br_f (by decide) (br_t rfl ?_)))))
        refine ys_sig hni hno (fun _ _ _ => br_f (by decide) (br_f (by decide) (br_f (by decide) ?_))) (fun z => absurd ⟨s, hs, rfl⟩ z)
        exact ya_add hcap hNc (Or.inl rfl) (Or.inl rfl) (fun z => absurd z hc) (fun _ => ⟨rfl, i_in G⟩)
    · refine br_t rfl (br_f h0 (br_t h4 (br_f (by decide) (br_f (by decide) (br_t rfl ?_)))))
      exact ys_sig hni hno (fun s hs e => absurd ⟨s, hs, e⟩ ns) (fun _ => br_t rfl ⟨rfl, i_in G⟩)
end
section
/-! ===== unary, binary ===== -/
section
variable {f_wireFalse f_wireTrue f_signalBase f_bootWire f_registerBase f_firstGate f_wireLimit f_opAnd f_opOr f_opNot f_codes f_cells f_resumeBase f_rootRow f_endRow f_stayRow f_leftRow f_rightRow f_inputSignals f_outputSignals f_nodeLimit f_count f_phaseNow f_instantCount f_rejectedCount f_wireCount f_logicEnd : Int32} {a_kindOf a_argOf a_firstOf a_secondOf a_parentOf a_activeNode a_lastStatus a_inTree a_trapDepth a_firstCodes a_gateOp a_gateA a_gateB a_inverseOf a_cell a_selWire a_keepStart a_keepResume a_frozen a_nextWire : Nat → Int32} {a_must a_can : Nat → Int64}
variable {post : Int32 → SX → Prop} {N cap : Nat}
theorem xa_49n {x y z : Int32} (hN : N ≤ 32) (nf : ¬ ∃ j, j < N ∧ z = nI j ∧ a_parentOf j = -5) (K : post (-1) (f_wireFalse, f_wireTrue, f_signalBase, f_bootWire, f_registerBase, f_firstGate, f_wireLimit, f_opAnd, f_opOr, f_opNot, f_codes, f_cells, f_resumeBase, f_rootRow, f_endRow, f_stayRow, f_leftRow, f_rightRow, f_inputSignals, f_outputSignals, nI cap, nI N, f_phaseNow, f_instantCount, f_rejectedCount, f_wireCount, f_logicEnd, a_kindOf, a_argOf, a_firstOf, a_secondOf, a_parentOf, a_activeNode, a_lastStatus, a_inTree, a_trapDepth, a_firstCodes, a_gateOp, a_gateA, a_gateB, a_inverseOf, a_cell, a_selWire, a_keepStart, a_keepResume, a_frozen, a_nextWire, a_must, a_can)) : wX_unary_49 post x z y f_wireFalse f_wireTrue f_signalBase f_bootWire f_registerBase f_firstGate f_wireLimit f_opAnd f_opOr f_opNot f_codes f_cells f_resumeBase f_rootRow f_endRow f_stayRow f_leftRow f_rightRow f_inputSignals f_outputSignals (nI cap) (nI N) f_phaseNow f_instantCount f_rejectedCount f_wireCount f_logicEnd a_kindOf a_argOf a_firstOf a_secondOf a_parentOf a_activeNode a_lastStatus a_inTree a_trapDepth a_firstCodes a_gateOp a_gateA a_gateB a_inverseOf a_cell a_selWire a_keepStart a_keepResume a_frozen a_nextWire a_must a_can := by
  unfold wX_unary_49
  exact xs_free hN (fun j hj e f => absurd ⟨j, hj, e, f⟩ nf) (fun _ => br_t rfl K)
theorem xa_44n {x y z w : Int32} (hN : N ≤ 32) (nf : (¬ ∃ j, j < N ∧ z = nI j ∧ a_parentOf j = -5) ∨ (¬ ∃ j, j < N ∧ w = nI j ∧ a_parentOf j = -5) ∨ z = w) (K : post (-1) (f_wireFalse, f_wireTrue, f_signalBase, f_bootWire, f_registerBase, f_firstGate, f_wireLimit, f_opAnd, f_opOr, f_opNot, f_codes, f_cells, f_resumeBase, f_rootRow, f_endRow, f_stayRow, f_leftRow, f_rightRow, f_inputSignals, f_outputSignals, nI cap, nI N, f_phaseNow, f_instantCount, f_rejectedCount, f_wireCount, f_logicEnd, a_kindOf, a_argOf, a_firstOf, a_secondOf, a_parentOf, a_activeNode, a_lastStatus, a_inTree, a_trapDepth, a_firstCodes, a_gateOp, a_gateA, a_gateB, a_inverseOf, a_cell, a_selWire, a_keepStart, a_keepResume, a_frozen, a_nextWire, a_must, a_can)) : wX_binary_44 post x z w y f_wireFalse f_wireTrue f_signalBase f_bootWire f_registerBase f_firstGate f_wireLimit f_opAnd f_opOr f_opNot f_codes f_cells f_resumeBase f_rootRow f_endRow f_stayRow f_leftRow f_rightRow f_inputSignals f_outputSignals (nI cap) (nI N) f_phaseNow f_instantCount f_rejectedCount f_wireCount f_logicEnd a_kindOf a_argOf a_firstOf a_secondOf a_parentOf a_activeNode a_lastStatus a_inTree a_trapDepth a_firstCodes a_gateOp a_gateA a_gateB a_inverseOf a_cell a_selWire a_keepStart a_keepResume a_frozen a_nextWire a_must a_can := by
  unfold wX_binary_44
  refine xs_free hN (fun j hj e f => br_f (by decide) ?_) (fun _ => br_t rfl K)
  refine xs_free hN (fun i hi e' f' => br_f (by decide) ?_) (fun _ => br_t rfl K)
  rcases nf with q | q | q
  · exact absurd ⟨j, hj, e, f⟩ q
  · exact absurd ⟨i, hi, e', f'⟩ q
  · exact br_t q K
end
section
variable {f_inputs f_outputs f_cap f_count f_phase f_root f_instants f_rejected f_activeLeaves : Int32} {a_kind a_arg a_first a_second a_parent a_shown a_e a_fst a_ms a_cs a_mk a_ck a_left : Nat → Int32}
variable {post : Int32 → SY → Prop} {N cap : Nat}
theorem ya_42 {kk j : Nat} {y a : Int32} (hcap : cap ≤ 32) (hNc : N ≤ cap) (k5 : 5 ≤ kk) (k8 : kk ≤ 8) (hj : j < N) (hf : a_parent j = -5) (ea : kk < 7 → a = -5) (ea' : 7 ≤ kk → a = y)
    (K : N < cap → post (nI N) (f_inputs, f_outputs, nI cap, nI (N + 1), f_phase, f_root, f_instants, f_rejected, f_activeLeaves, upd a_kind N (nI kk), upd a_arg N a, upd a_first N (nI j), upd a_second N (-5), ad_1 (ad_1 (upd a_parent N (-5)) N (nI j)) N (-5), a_shown, a_e, a_fst, a_ms, a_cs, a_mk, a_ck, a_left))
    (K0 : ¬ N < cap → post (-4) (f_inputs, f_outputs, nI cap, nI N, f_phase, f_root, f_instants, f_rejected, f_activeLeaves, a_kind, a_arg, a_first, a_second, a_parent, a_shown, a_e, a_fst, a_ms, a_cs, a_mk, a_ck, a_left)) : wY_unary_42 post (nI kk) y (nI j) f_inputs f_outputs (nI cap) (nI N) f_phase f_root f_instants f_rejected f_activeLeaves a_kind a_arg a_first a_second a_parent a_shown a_e a_fst a_ms a_cs a_mk a_ck a_left := by
  unfold wY_unary_42
  refine ys_free (by omega) (fun _ _ _ _ => br_f (by decide) ?_) (fun h => absurd ⟨j, hj, rfl, hf⟩ h)
  refine pk_eq kk 5 (fun h => ?_) (fun h5 => pk_eq kk 6 (fun h => ?_) (fun h6 => ?_))
  · have e := ea (by omega)
    subst e
    exact ya_add hcap hNc (Or.inr ⟨j, by omega, rfl⟩) (Or.inl rfl) K K0
  · have e := ea (by omega)
    subst e
    exact ya_add hcap hNc (Or.inr ⟨j, by omega, rfl⟩) (Or.inl rfl) K K0
  · have e := ea' (by omega)
    subst e
    exact ya_add hcap hNc (Or.inr ⟨j, by omega, rfl⟩) (Or.inl rfl) K K0
theorem ya_42n {x y z : Int32} (hN : N ≤ 32) (nf : ¬ ∃ j, j < N ∧ z = nI j ∧ a_parent j = -5) (K : post (-1) (f_inputs, f_outputs, nI cap, nI N, f_phase, f_root, f_instants, f_rejected, f_activeLeaves, a_kind, a_arg, a_first, a_second, a_parent, a_shown, a_e, a_fst, a_ms, a_cs, a_mk, a_ck, a_left)) : wY_unary_42 post x y z f_inputs f_outputs (nI cap) (nI N) f_phase f_root f_instants f_rejected f_activeLeaves a_kind a_arg a_first a_second a_parent a_shown a_e a_fst a_ms a_cs a_mk a_ck a_left := by
  unfold wY_unary_42
  exact ys_free hN (fun j hj e f => absurd ⟨j, hj, e, f⟩ nf) (fun _ => br_t rfl K)
theorem ya_37 {kk i j : Nat} {y a : Int32} (hcap : cap ≤ 32) (hNc : N ≤ cap) (k9 : 9 ≤ kk) (k11 : kk ≤ 11) (hi : i < N) (fi : a_parent i = -5) (hj : j < N) (fj : a_parent j = -5) (hij : i ≠ j) (ea : kk = 9 → a = y) (ea' : 10 ≤ kk → a = -5)
    (K : N < cap → post (nI N) (f_inputs, f_outputs, nI cap, nI (N + 1), f_phase, f_root, f_instants, f_rejected, f_activeLeaves, upd a_kind N (nI kk), upd a_arg N a, upd a_first N (nI i), upd a_second N (nI j), ad_1 (ad_1 (upd a_parent N (-5)) N (nI i)) N (nI j), a_shown, a_e, a_fst, a_ms, a_cs, a_mk, a_ck, a_left))
    (K0 : ¬ N < cap → post (-4) (f_inputs, f_outputs, nI cap, nI N, f_phase, f_root, f_instants, f_rejected, f_activeLeaves, a_kind, a_arg, a_first, a_second, a_parent, a_shown, a_e, a_fst, a_ms, a_cs, a_mk, a_ck, a_left)) : wY_binary_37 post (nI kk) y (nI i) (nI j) f_inputs f_outputs (nI cap) (nI N) f_phase f_root f_instants f_rejected f_activeLeaves a_kind a_arg a_first a_second a_parent a_shown a_e a_fst a_ms a_cs a_mk a_ck a_left := by
  unfold wY_binary_37
  refine ys_free (by omega) (fun _ _ _ _ => br_f (by decide) ?_) (fun h => absurd ⟨i, hi, rfl, fi⟩ h)
  refine ys_free (by omega) (fun _ _ _ _ => br_f (by decide) ?_) (fun h => absurd ⟨j, hj, rfl, fj⟩ h)
  refine pk_eq i j (fun h => absurd h hij) (fun _ => pk_eq kk 9 (fun h => ?_) (fun h => ?_))
  · have e := ea h
    subst e
    exact ya_add hcap hNc (Or.inr ⟨i, by omega, rfl⟩) (Or.inr ⟨j, by omega, rfl⟩) K K0
  · have e := ea' (by omega)
    subst e
    exact ya_add hcap hNc (Or.inr ⟨i, by omega, rfl⟩) (Or.inr ⟨j, by omega, rfl⟩) K K0
theorem ya_37n {x y z w : Int32} (hN : N ≤ 32) (nf : (¬ ∃ j, j < N ∧ z = nI j ∧ a_parent j = -5) ∨ (¬ ∃ j, j < N ∧ w = nI j ∧ a_parent j = -5) ∨ z = w) (K : post (-1) (f_inputs, f_outputs, nI cap, nI N, f_phase, f_root, f_instants, f_rejected, f_activeLeaves, a_kind, a_arg, a_first, a_second, a_parent, a_shown, a_e, a_fst, a_ms, a_cs, a_mk, a_ck, a_left)) : wY_binary_37 post x y z w f_inputs f_outputs (nI cap) (nI N) f_phase f_root f_instants f_rejected f_activeLeaves a_kind a_arg a_first a_second a_parent a_shown a_e a_fst a_ms a_cs a_mk a_ck a_left := by
  unfold wY_binary_37
  refine ys_free hN (fun j hj e f => br_f (by decide) ?_) (fun _ => br_t rfl K)
  refine ys_free hN (fun i hi e' f' => br_f (by decide) ?_) (fun _ => br_t rfl K)
  rcases nf with q | q | q
  · exact absurd ⟨j, hj, e, f⟩ q
  · exact absurd ⟨i, hi, e', f'⟩ q
  · exact br_t q K
end
theorem rc_lt0 {x c : Int32} (h : ¬ x < c) (hc : ¬ c < 0) : ¬ x < 0 := fun z => h (Int32.lt_of_lt_of_le z (Int32.not_lt.mp hc))
theorem i_vc_unary {k : Nat} {u : SX} {v : SY} (I : i_Rel k u v) (hk : k + 5 ≤ 2563) (v1 : Int32) (v2 : Int32) (v3 : Int32) : wpX_unary (fun r u' => wpY_unary (fun r' v' => r' = r ∧ i_Rel (k + 5) u' v') v v1 v2 v3) u v1 v2 v3 := by
  refine i_el (Z := fun u v => wpX_unary (fun r u' => wpY_unary (fun r' v' => r' = r ∧ i_Rel (k + 5) u' v') v v1 v2 v3) u v1 v2 v3) ?_ I
  intro ni no cap N f_wireFalse f_wireTrue f_signalBase f_bootWire f_registerBase f_firstGate f_wireLimit f_opAnd f_opOr f_opNot f_codes f_cells f_resumeBase f_rootRow f_endRow f_stayRow f_leftRow f_rightRow f_phaseNow f_instantCount f_rejectedCount f_wireCount f_logicEnd a_kindOf a_argOf a_firstOf a_secondOf a_parentOf a_activeNode a_lastStatus a_inTree a_trapDepth a_firstCodes a_gateOp a_gateA a_gateB a_inverseOf a_cell a_selWire a_keepStart a_keepResume a_frozen a_nextWire a_must a_can f_root f_activeLeaves a_e a_fst a_ms a_cs a_mk a_ck a_left G
  obtain ⟨hni, hno, hN⟩ := ir_io G
  have hcap := G.2.2.1
  have hNc := G.2.2.2.1
  by_cases ph : f_phaseNow = 0
  rotate_left
  · exact br_f ph (br_f ph ⟨rfl, i_in G⟩)
  subst ph
  by_cases h0 : v1 < 5
  · exact br_t rfl (br_t h0 (br_t rfl (br_t h0 ⟨rfl, i_in G⟩)))
  by_cases h4 : v1 ≤ 8
  rotate_left
  · exact br_t rfl (br_f h0 (br_f h4 (br_t rfl (br_f h0 (br_f h4 ⟨rfl, i_in G⟩)))))
  obtain ⟨kk, hkk, rfl⟩ := nI_of2 (M := 8) (n := 8) (by decide) (rc_lt0 h0 (by decide)) h4
  have k5 : 5 ≤ kk := by
    rcases Nat.lt_or_ge kk 5 with l | l
    · exact absurd (nI_lt (b := 5) l (by decide)) h0
    · exact l
  by_cases nf : ∃ j, j < N ∧ v3 = nI j ∧ a_parentOf j = -5
  · obtain ⟨j, hj, rfl, hf⟩ := nf
    have hh : kk = 5 ∨ kk = 6 ∨ kk = 7 ∨ kk = 8 := by omega
    rcases hh with e | e | e | e <;> subst e
    · refine br_t rfl (br_f h0 (br_t h4 (br_f (by decide) (br_f (by decide) ?_))))
      refine xa_49 hcap hNc hj hf (fun hc => ?_) (fun hc => ?_)
      · refine br_t rfl (br_f h0 (br_t h4 (br_f (by decide) (br_f (by decide) ?_))))
        refine ya_42 (a := -5) hcap hNc (by omega) (by omega) hj hf (fun _ => rfl) (fun z => absurd z (by omega)) (fun _ => ⟨rfl, i_in ?_⟩) (fun z => absurd hc z)
        exact ir_add (kk := 5) (aa := 0) (pp := j) (qq := 0) G hc (by omega) (fun _ => ⟨hj, hf⟩) (fun z => absurd z (by omega)) (fun z => absurd z (by omega)) (fun z => absurd z (by omega)) (fun z => absurd z (by omega)) (fun z => absurd z (by omega)) (fun _ => rfl) (fun z => absurd z (by omega)) (fun _ => rfl) (fun _ => rfl) (fun z => absurd z (by omega))
      · refine br_t rfl (br_f h0 (br_t h4 (br_f (by decide) (br_f (by decide) ?_))))
        exact ya_42 (a := -5) hcap hNc (by omega) (by omega) hj hf (fun _ => rfl) (fun z => absurd z (by omega)) (fun z => absurd z hc) (fun _ => ⟨rfl, i_in G⟩)
    · refine br_t rfl (br_f h0 (br_t h4 (br_f (by decide) (br_f (by decide) ?_))))
      refine xa_49 hcap hNc hj hf (fun hc => ?_) (fun hc => ?_)
      · refine br_t rfl (br_f h0 (br_t h4 (br_f (by decide) (br_f (by decide) ?_))))
        refine ya_42 (a := -5) hcap hNc (by omega) (by omega) hj hf (fun _ => rfl) (fun z => absurd z (by omega)) (fun _ => ⟨rfl, i_in ?_⟩) (fun z => absurd hc z)
        exact ir_add (kk := 6) (aa := 0) (pp := j) (qq := 0) G hc (by omega) (fun _ => ⟨hj, hf⟩) (fun z => absurd z (by omega)) (fun z => absurd z (by omega)) (fun z => absurd z (by omega)) (fun z => absurd z (by omega)) (fun z => absurd z (by omega)) (fun _ => rfl) (fun z => absurd z (by omega)) (fun _ => rfl) (fun _ => rfl) (fun z => absurd z (by omega))
      · refine br_t rfl (br_f h0 (br_t h4 (br_f (by decide) (br_f (by decide) ?_))))
        exact ya_42 (a := -5) hcap hNc (by omega) (by omega) hj hf (fun _ => rfl) (fun z => absurd z (by omega)) (fun z => absurd z hc) (fun _ => ⟨rfl, i_in G⟩)
    · refine br_t rfl (br_f h0 (br_t h4 (br_t rfl ?_)))
      unfold wX_unary_36
      refine xs_sig hni hno (fun s hs e => br_f (by decide) ?_) (fun ns => br_t rfl ?_)
      · subst e
        refine xa_49 hcap hNc hj hf (fun hc => ?_) (fun hc => ?_)
        · refine br_t rfl (br_f h0 (br_t h4 (br_t rfl ?_)))
          unfold wY_unary_32
          refine ys_sig hni hno (fun _ _ _ => br_f (by decide) ?_) (fun z => absurd ⟨s, hs, rfl⟩ z)
          refine ya_42 (a := nI s) hcap hNc (by omega) (by omega) hj hf (fun z => absurd z (by omega)) (fun _ => rfl) (fun _ => ⟨rfl, i_in ?_⟩) (fun z => absurd hc z)
          exact ir_add (kk := 7) (aa := s) (pp := j) (qq := 0) G hc (by omega) (fun _ => ⟨hj, hf⟩) (fun z => absurd z (by omega)) (fun z => absurd z (by omega)) (fun _ => hs) (fun z => absurd z (by omega)) (fun _ => rfl) (fun z => absurd z (by omega)) (fun z => absurd z (by omega)) (fun _ => rfl) (fun _ => rfl) (fun z => absurd z (by omega))
        · refine br_t rfl (br_f h0 (br_t h4 (br_t rfl ?_)))
          unfold wY_unary_32
          refine ys_sig hni hno (fun _ _ _ => br_f (by decide) ?_) (fun z => absurd ⟨s, hs, rfl⟩ z)
          exact ya_42 (a := nI s) hcap hNc (by omega) (by omega) hj hf (fun z => absurd z (by omega)) (fun _ => rfl) (fun z => absurd z hc) (fun _ => ⟨rfl, i_in G⟩)
      · refine br_t rfl (br_f h0 (br_t h4 (br_t rfl ?_)))
        unfold wY_unary_32
        exact ys_sig hni hno (fun s hs e => absurd ⟨s, hs, e⟩ ns) (fun _ => br_t rfl ⟨rfl, i_in G⟩)
    · refine br_t rfl (br_f h0 (br_t h4 (br_f (by decide) (br_t rfl ?_))))
      unfold wX_unary_36
      refine xs_sig hni hno (fun s hs e => br_f (by decide) ?_) (fun ns => br_t rfl ?_)
      · subst e
        refine xa_49 hcap hNc hj hf (fun hc => ?_) (fun hc => ?_)
        · refine br_t rfl (br_f h0 (br_t h4 (br_f (by decide) (br_t rfl ?_))))
          unfold wY_unary_32
          refine ys_sig hni hno (fun _ _ _ => br_f (by decide) ?_) (fun z => absurd ⟨s, hs, rfl⟩ z)
          refine ya_42 (a := nI s) hcap hNc (by omega) (by omega) hj hf (fun z => absurd z (by omega)) (fun _ => rfl) (fun _ => ⟨rfl, i_in ?_⟩) (fun z => absurd hc z)
          exact ir_add (kk := 8) (aa := s) (pp := j) (qq := 0) G hc (by omega) (fun _ => ⟨hj, hf⟩) (fun z => absurd z (by omega)) (fun z => absurd z (by omega)) (fun _ => hs) (fun z => absurd z (by omega)) (fun _ => rfl) (fun z => absurd z (by omega)) (fun z => absurd z (by omega)) (fun _ => rfl) (fun _ => rfl) (fun z => absurd z (by omega))
        · refine br_t rfl (br_f h0 (br_t h4 (br_f (by decide) (br_t rfl ?_))))
          unfold wY_unary_32
          refine ys_sig hni hno (fun _ _ _ => br_f (by decide) ?_) (fun z => absurd ⟨s, hs, rfl⟩ z)
          exact ya_42 (a := nI s) hcap hNc (by omega) (by omega) hj hf (fun z => absurd z (by omega)) (fun _ => rfl) (fun z => absurd z hc) (fun _ => ⟨rfl, i_in G⟩)
      · refine br_t rfl (br_f h0 (br_t h4 (br_f (by decide) (br_t rfl ?_))))
        unfold wY_unary_32
        exact ys_sig hni hno (fun s hs e => absurd ⟨s, hs, e⟩ ns) (fun _ => br_t rfl ⟨rfl, i_in G⟩)
  · have hh : kk = 5 ∨ kk = 6 ∨ kk = 7 ∨ kk = 8 := by omega
    rcases hh with e | e | e | e <;> subst e
    · refine br_t rfl (br_f h0 (br_t h4 (br_f (by decide) (br_f (by decide) (xa_49n hN nf ?_)))))
      exact br_t rfl (br_f h0 (br_t h4 (br_f (by decide) (br_f (by decide) (ya_42n hN nf ⟨rfl, i_in G⟩)))))
    · refine br_t rfl (br_f h0 (br_t h4 (br_f (by decide) (br_f (by decide) (xa_49n hN nf ?_)))))
      exact br_t rfl (br_f h0 (br_t h4 (br_f (by decide) (br_f (by decide) (ya_42n hN nf ⟨rfl, i_in G⟩)))))
    · refine br_t rfl (br_f h0 (br_t h4 (br_t rfl ?_)))
      unfold wX_unary_36
      refine xs_sig hni hno (fun s hs e => br_f (by decide) (xa_49n hN nf ?_)) (fun ns => br_t rfl ?_)
      · subst e
        refine br_t rfl (br_f h0 (br_t h4 (br_t rfl ?_)))
        unfold wY_unary_32
        exact ys_sig hni hno (fun _ _ _ => br_f (by decide) (ya_42n hN nf ⟨rfl, i_in G⟩)) (fun z => absurd ⟨s, hs, rfl⟩ z)
      · refine br_t rfl (br_f h0 (br_t h4 (br_t rfl ?_)))
        unfold wY_unary_32
        exact ys_sig hni hno (fun s hs e => absurd ⟨s, hs, e⟩ ns) (fun _ => br_t rfl ⟨rfl, i_in G⟩)
    · refine br_t rfl (br_f h0 (br_t h4 (br_f (by decide) (br_t rfl ?_))))
      unfold wX_unary_36
      refine xs_sig hni hno (fun s hs e => br_f (by decide) (xa_49n hN nf ?_)) (fun ns => br_t rfl ?_)
      · subst e
        refine br_t rfl (br_f h0 (br_t h4 (br_f (by decide) (br_t rfl ?_))))
        unfold wY_unary_32
        exact ys_sig hni hno (fun _ _ _ => br_f (by decide) (ya_42n hN nf ⟨rfl, i_in G⟩)) (fun z => absurd ⟨s, hs, rfl⟩ z)
      · refine br_t rfl (br_f h0 (br_t h4 (br_f (by decide) (br_t rfl ?_))))
        unfold wY_unary_32
        exact ys_sig hni hno (fun s hs e => absurd ⟨s, hs, e⟩ ns) (fun _ => br_t rfl ⟨rfl, i_in G⟩)
theorem i_vc_binary {k : Nat} {u : SX} {v : SY} (I : i_Rel k u v) (hk : k + 5 ≤ 2563) (v1 : Int32) (v2 : Int32) (v3 : Int32) (v4 : Int32) : wpX_binary (fun r u' => wpY_binary (fun r' v' => r' = r ∧ i_Rel (k + 5) u' v') v v1 v2 v3 v4) u v1 v2 v3 v4 := by
  refine i_el (Z := fun u v => wpX_binary (fun r u' => wpY_binary (fun r' v' => r' = r ∧ i_Rel (k + 5) u' v') v v1 v2 v3 v4) u v1 v2 v3 v4) ?_ I
  intro ni no cap N f_wireFalse f_wireTrue f_signalBase f_bootWire f_registerBase f_firstGate f_wireLimit f_opAnd f_opOr f_opNot f_codes f_cells f_resumeBase f_rootRow f_endRow f_stayRow f_leftRow f_rightRow f_phaseNow f_instantCount f_rejectedCount f_wireCount f_logicEnd a_kindOf a_argOf a_firstOf a_secondOf a_parentOf a_activeNode a_lastStatus a_inTree a_trapDepth a_firstCodes a_gateOp a_gateA a_gateB a_inverseOf a_cell a_selWire a_keepStart a_keepResume a_frozen a_nextWire a_must a_can f_root f_activeLeaves a_e a_fst a_ms a_cs a_mk a_ck a_left G
  obtain ⟨hni, hno, hN⟩ := ir_io G
  have hcap := G.2.2.1
  have hNc := G.2.2.2.1
  by_cases ph : f_phaseNow = 0
  rotate_left
  · exact br_f ph (br_f ph ⟨rfl, i_in G⟩)
  subst ph
  by_cases h0 : v1 < 9
  · exact br_t rfl (br_t h0 (br_t rfl (br_t h0 ⟨rfl, i_in G⟩)))
  by_cases h4 : v1 ≤ 11
  rotate_left
  · exact br_t rfl (br_f h0 (br_f h4 (br_t rfl (br_f h0 (br_f h4 ⟨rfl, i_in G⟩)))))
  obtain ⟨kk, hkk, rfl⟩ := nI_of2 (M := 11) (n := 11) (by decide) (rc_lt0 h0 (by decide)) h4
  have k9 : 9 ≤ kk := by
    rcases Nat.lt_or_ge kk 9 with l | l
    · exact absurd (nI_lt (b := 9) l (by decide)) h0
    · exact l
  by_cases nf : (¬ ∃ j, j < N ∧ v3 = nI j ∧ a_parentOf j = -5) ∨ (¬ ∃ j, j < N ∧ v4 = nI j ∧ a_parentOf j = -5) ∨ v3 = v4
  · have hh : kk = 9 ∨ kk = 10 ∨ kk = 11 := by omega
    rcases hh with e | e | e <;> subst e
    · refine br_t rfl (br_f h0 (br_t h4 (br_t rfl ?_)))
      refine xs_sig hni hno (fun s hs e => br_f (by decide) (xa_44n hN nf ?_)) (fun ns => br_t rfl ?_)
      · subst e
        refine br_t rfl (br_f h0 (br_t h4 (br_t rfl ?_)))
        exact ys_sig hni hno (fun _ _ _ => br_f (by decide) (ya_37n hN nf ⟨rfl, i_in G⟩)) (fun z => absurd ⟨s, hs, rfl⟩ z)
      · refine br_t rfl (br_f h0 (br_t h4 (br_t rfl ?_)))
        exact ys_sig hni hno (fun s hs e => absurd ⟨s, hs, e⟩ ns) (fun _ => br_t rfl ⟨rfl, i_in G⟩)
    · refine br_t rfl (br_f h0 (br_t h4 (br_f (by decide) (xa_44n hN nf ?_))))
      exact br_t rfl (br_f h0 (br_t h4 (br_f (by decide) (ya_37n hN nf ⟨rfl, i_in G⟩))))
    · refine br_t rfl (br_f h0 (br_t h4 (br_f (by decide) (xa_44n hN nf ?_))))
      exact br_t rfl (br_f h0 (br_t h4 (br_f (by decide) (ya_37n hN nf ⟨rfl, i_in G⟩))))
  · have f1 : ∃ j, j < N ∧ v3 = nI j ∧ a_parentOf j = -5 := Classical.byContradiction (fun z => nf (Or.inl z))
    have f2 : ∃ j, j < N ∧ v4 = nI j ∧ a_parentOf j = -5 := Classical.byContradiction (fun z => nf (Or.inr (Or.inl z)))
    have ne : v3 ≠ v4 := fun z => nf (Or.inr (Or.inr z))
    obtain ⟨j, hj, rfl, hf⟩ := f1
    obtain ⟨j2, hj2, rfl, hf2⟩ := f2
    have hij : j ≠ j2 := fun z => ne (by rw [z])
    have hh : kk = 9 ∨ kk = 10 ∨ kk = 11 := by omega
    rcases hh with e | e | e <;> subst e
    · refine br_t rfl (br_f h0 (br_t h4 (br_t rfl ?_)))
      refine xs_sig hni hno (fun s hs e => br_f (by decide) ?_) (fun ns => br_t rfl ?_)
      · subst e
        refine xa_44 hcap hNc hj hj2 hf hf2 hij (fun hc => ?_) (fun hc => ?_)
        · refine br_t rfl (br_f h0 (br_t h4 (br_t rfl ?_)))
          refine ys_sig hni hno (fun _ _ _ => br_f (by decide) ?_) (fun z => absurd ⟨s, hs, rfl⟩ z)
          refine ya_37 (a := nI s) hcap hNc (by omega) (by omega) hj hf hj2 hf2 hij (fun _ => rfl) (fun z => absurd z (by omega)) (fun _ => ⟨rfl, i_in ?_⟩) (fun z => absurd hc z)
          exact ir_add (kk := 9) (aa := s) (pp := j) (qq := j2) G hc (by omega) (fun _ => ⟨hj, hf⟩) (fun _ => ⟨hj2, hf2, hij⟩) (fun z => absurd z (by omega)) (fun _ => hs) (fun z => absurd z (by omega)) (fun _ => rfl) (fun z => absurd z (by omega)) (fun z => absurd z (by omega)) (fun _ => rfl) (fun z => absurd z (by omega)) (fun _ => rfl)
        · refine br_t rfl (br_f h0 (br_t h4 (br_t rfl ?_)))
          refine ys_sig hni hno (fun _ _ _ => br_f (by decide) ?_) (fun z => absurd ⟨s, hs, rfl⟩ z)
          exact ya_37 (a := nI s) hcap hNc (by omega) (by omega) hj hf hj2 hf2 hij (fun _ => rfl) (fun z => absurd z (by omega)) (fun z => absurd z hc) (fun _ => ⟨rfl, i_in G⟩)
      · refine br_t rfl (br_f h0 (br_t h4 (br_t rfl ?_)))
        exact ys_sig hni hno (fun s hs e => absurd ⟨s, hs, e⟩ ns) (fun _ => br_t rfl ⟨rfl, i_in G⟩)
    · refine br_t rfl (br_f h0 (br_t h4 (br_f (by decide) ?_)))
      refine xa_44 hcap hNc hj hj2 hf hf2 hij (fun hc => ?_) (fun hc => ?_)
      · refine br_t rfl (br_f h0 (br_t h4 (br_f (by decide) ?_)))
        refine ya_37 (a := -5) hcap hNc (by omega) (by omega) hj hf hj2 hf2 hij (fun z => absurd z (by omega)) (fun _ => rfl) (fun _ => ⟨rfl, i_in ?_⟩) (fun z => absurd hc z)
        exact ir_add (kk := 10) (aa := 0) (pp := j) (qq := j2) G hc (by omega) (fun _ => ⟨hj, hf⟩) (fun _ => ⟨hj2, hf2, hij⟩) (fun z => absurd z (by omega)) (fun z => absurd z (by omega)) (fun z => absurd z (by omega)) (fun z => absurd z (by omega)) (fun _ => rfl) (fun z => absurd z (by omega)) (fun _ => rfl) (fun z => absurd z (by omega)) (fun _ => rfl)
      · refine br_t rfl (br_f h0 (br_t h4 (br_f (by decide) ?_)))
        exact ya_37 (a := -5) hcap hNc (by omega) (by omega) hj hf hj2 hf2 hij (fun z => absurd z (by omega)) (fun _ => rfl) (fun z => absurd z hc) (fun _ => ⟨rfl, i_in G⟩)
    · refine br_t rfl (br_f h0 (br_t h4 (br_f (by decide) ?_)))
      refine xa_44 hcap hNc hj hj2 hf hf2 hij (fun hc => ?_) (fun hc => ?_)
      · refine br_t rfl (br_f h0 (br_t h4 (br_f (by decide) ?_)))
        refine ya_37 (a := -5) hcap hNc (by omega) (by omega) hj hf hj2 hf2 hij (fun z => absurd z (by omega)) (fun _ => rfl) (fun _ => ⟨rfl, i_in ?_⟩) (fun z => absurd hc z)
        exact ir_add (kk := 11) (aa := 0) (pp := j) (qq := j2) G hc (by omega) (fun _ => ⟨hj, hf⟩) (fun _ => ⟨hj2, hf2, hij⟩) (fun z => absurd z (by omega)) (fun z => absurd z (by omega)) (fun z => absurd z (by omega)) (fun z => absurd z (by omega)) (fun _ => rfl) (fun z => absurd z (by omega)) (fun _ => rfl) (fun z => absurd z (by omega)) (fun _ => rfl)
      · refine br_t rfl (br_f h0 (br_t h4 (br_f (by decide) ?_)))
        exact ya_37 (a := -5) hcap hNc (by omega) (by omega) hj hf hj2 hf2 hij (fun z => absurd z (by omega)) (fun _ => rfl) (fun z => absurd z hc) (fun _ => ⟨rfl, i_in G⟩)
end
section
/-! ===== compile ===== -/
theorem ir_g0 {ni no cap N : Nat} {kd ar fi se pa an it it' : Nat → Int32} {wcI lEI : Int32} {go ga gb ce sw nx : Nat → Int32} {rI L : Int32} (G : ir_G ni no cap N 0 kd ar fi se pa an it wcI lEI go ga gb ce sw nx rI L) : ir_G ni no cap N 0 kd ar fi se pa an it' wcI lEI go ga gb ce sw nx rI L := by
  obtain ⟨a, b, c, d, p, κ, A, P, Q, U, T, hT, h0, h1⟩ := G
  exact ⟨a, b, c, d, p, κ, A, P, Q, U, T, hT, h0, fun h => absurd rfl h⟩
theorem td_dp {ni no N : Nat} {κ A P Q U : Nat → Nat} {r : Nat} (T : tr_F ni no N κ A P Q U) (hur : ¬ U r < N) (hl : ∀ n, n < N → ¬ lx_B N κ A U r n) : td_F N κ A U r (dp_n N κ U) := by
  refine ⟨dp_0 hur, fun p hp b ne => ?_, fun n hn b k => ?_⟩
  · rcases tr_Bi.mp b with e | ⟨u, _⟩
    · exact absurd e ne
    · exact dp_s T hp u
  · apply Classical.byContradiction
    intro z
    exact hl n hn ⟨b, k, z⟩
theorem i_vc_compile {k : Nat} {u : SX} {v : SY} (I : i_Rel k u v) (hk : k + 5 ≤ 2563) (v1 : Int32) : wpX_compile (fun r u' => wpY_compile (fun r' v' => r' = r ∧ i_Rel (k + 5) u' v') v v1) u v1 := by
  refine i_el (Z := fun u v => wpX_compile (fun r u' => wpY_compile (fun r' v' => r' = r ∧ i_Rel (k + 5) u' v') v v1) u v1) ?_ I
  intro ni no cap N f_wireFalse f_wireTrue f_signalBase f_bootWire f_registerBase f_firstGate f_wireLimit f_opAnd f_opOr f_opNot f_codes f_cells f_resumeBase f_rootRow f_endRow f_stayRow f_leftRow f_rightRow f_phaseNow f_instantCount f_rejectedCount f_wireCount f_logicEnd a_kindOf a_argOf a_firstOf a_secondOf a_parentOf a_activeNode a_lastStatus a_inTree a_trapDepth a_firstCodes a_gateOp a_gateA a_gateB a_inverseOf a_cell a_selWire a_keepStart a_keepResume a_frozen a_nextWire a_must a_can f_root f_activeLeaves a_e a_fst a_ms a_cs a_mk a_ck a_left G
  obtain ⟨hni, hno, hN⟩ := ir_io G
  by_cases ph : f_phaseNow = 0
  rotate_left
  · exact br_f ph (br_f ph ⟨rfl, i_in G⟩)
  subst ph
  by_cases nf : ∃ j, j < N ∧ v1 = nI j ∧ a_parentOf j = -5
  rotate_left
  · refine br_t rfl ?_
    refine xs_free hN (fun j hj e f => absurd ⟨j, hj, e, f⟩ nf) (fun _ => br_t rfl ?_)
    refine br_t rfl ?_
    exact ys_free hN (fun j hj e f => absurd ⟨j, hj, e, f⟩ nf) (fun _ => br_t rfl ⟨rfl, i_in G⟩)
  obtain ⟨r, hr, rfl, hf⟩ := nf
  have G' := G
  obtain ⟨g1, g2, g3, g4, g5, κ, A, P, Q, U, T, hT, h0, h1⟩ := G'
  obtain ⟨f, F⟩ := fc_ex T
  obtain ⟨L0, ha0⟩ := h0 rfl
  have hur : ¬ U r < N := by
    rcases (hT r hr).2.2.2.2.2.2.2 with ⟨_, q⟩ | ⟨q, _⟩
    · omega
    · rw [hf] at q
      intro h
      exact absurd q.symm (rc_m5 (by omega))
  refine xs_compile T hni hno hT hr hf F (fun lx it td => ?_) (fun nl il it td fc => ?_) (fun nl nil it td fc c lE ce sw ks kr fz nx an hI C ha => ?_)
  · exact yc_compile T hT hr hf F (fun _ => ⟨rfl, i_in (ir_g0 G)⟩) (fun z => absurd lx (fun ⟨n, hn, q⟩ => z n hn q)) (fun z => absurd lx (fun ⟨n, hn, q⟩ => z n hn q))
  · exact yc_compile T hT hr hf F (fun ⟨n, hn, q⟩ => absurd q (nl n hn)) (fun _ _ fs => ⟨rfl, i_in (ir_g0 G)⟩) (fun _ z => absurd il (fun ⟨n, hn, q⟩ => z n hn q))
  · refine yc_compile T hT hr hf F (fun ⟨n, hn, q⟩ => absurd q (nl n hn)) (fun _ ⟨n, hn, q⟩ => absurd q (nil n hn)) (fun _ _ fs => ⟨rfl, i_in ?_⟩)
    refine ⟨g1, g2, g3, g4, Or.inr (Or.inl rfl), κ, A, P, Q, U, T, hT, fun z => absurd z (by decide), fun _ => ⟨r, c.1, lE, dp_n N κ U, rfl, rfl, rfl, hr, hur, hI, td_dp T hur nl, C, cx_0 N κ P Q U r, fun n hn => ?_, fun z => absurd z (by decide)⟩⟩
    rw [ha n (by omega), show ac_b N U 0 n = false from pb_f (fun ⟨m, _, h, _⟩ => rn_f1 h), if_neg Bool.false_ne_true]
end
section
/-! ===== derive, derived ===== -/
theorem ir_run {ni no cap N : Nat} {ph : Int32} {kd ar fi se pa an it : Nat → Int32} {wcI lEI : Int32} {go ga gb ce sw nx : Nat → Int32} {rI L : Int32} (G : ir_G ni no cap N ph kd ar fi se pa an it wcI lEI go ga gb ce sw nx rI L) (hp : ph = 1 ∨ ph = 2) :
    ∃ (κ A P Q U : Nat → Nat) (r rt wc lE : Nat) (td : Nat → Nat), rI = nI r ∧ wcI = nI wc ∧ lEI = nI lE ∧ cx_T ni no N κ A P Q U r L rt td ∧ ln_T N kd ar fi se pa κ A P Q U ∧ (rt = if ph = 2 then 32 + r else r) ∧ ((ph = 1 ∧ rt = r) ∨ (ph = 2 ∧ rt = 32 + r)) ∧
      cp_F ni N κ A P Q U r wc lE go ga gb ce sw nx ∧ cx_A N κ P Q U r L ∧ (∀ n, n < N → an n = if ac_b N U L n = true then 1 else 0) ∧ ¬ U r < N ∧ kp_T N U r it := by
  obtain ⟨a, b, c, d, p, κ, A, P, Q, U, T, hT, h0, h1⟩ := G
  have nz : ph ≠ 0 := by rcases hp with e | e <;> rw [e] <;> decide
  obtain ⟨r, wc, lE, td, e1, e2, e3, hr, hur, hI, D, F, X, h, h2⟩ := h1 nz
  refine ⟨κ, A, P, Q, U, r, if ph = 2 then 32 + r else r, wc, lE, td, e1, e2, e3, ⟨T, a, b, X.1, D, hr, ?_⟩, hT, rfl, ?_, F, X, h, hur, hI⟩
  · by_cases z : ph = 2
    · rw [if_pos z]; exact Or.inr ⟨rfl, h2 z⟩
    · rw [if_neg z]; exact Or.inl rfl
  · rcases hp with e | e
    · rw [if_neg (by rw [e]; decide)]; exact Or.inl ⟨e, rfl⟩
    · rw [if_pos e]; exact Or.inr ⟨e, rfl⟩
theorem sg_ac {ni no : Nat} {e e' : Nat → Int32} {x : rn_T} (h : st_q ni no e e') : sg_a ni no e x = sg_a ni no e' x := by
  unfold sg_a
  rw [pb_c (p := ∃ s, ni ≤ s ∧ s < ni + no ∧ e s = 2) (q := ∃ s, ni ≤ s ∧ s < ni + no ∧ e' s = 2) ⟨fun ⟨s, a, b, c⟩ => ⟨s, a, b, (h s b) ▸ c⟩, fun ⟨s, a, b, c⟩ => ⟨s, a, b, (h s b).trans c⟩⟩]
section
variable {f_wireFalse f_wireTrue f_signalBase f_bootWire f_registerBase f_firstGate f_wireLimit f_opAnd f_opOr f_opNot f_codes f_cells f_resumeBase f_rootRow f_endRow f_stayRow f_leftRow f_rightRow f_inputSignals f_outputSignals f_nodeLimit f_count f_phaseNow f_instantCount f_rejectedCount f_wireCount f_logicEnd : Int32} {a_kindOf a_argOf a_firstOf a_secondOf a_parentOf a_activeNode a_lastStatus a_inTree a_trapDepth a_firstCodes a_gateOp a_gateA a_gateB a_inverseOf a_cell a_selWire a_keepStart a_keepResume a_frozen a_nextWire : Nat → Int32} {a_must a_can : Nat → Int64}
variable {pi : Int32 → Prop}
theorem xq_run (K1 : f_phaseNow = 1 ∨ f_phaseNow = 2 → pi 1) (K0 : ¬ (f_phaseNow = 1 ∨ f_phaseNow = 2) → pi 0) : wpX_runnable pi (f_wireFalse, f_wireTrue, f_signalBase, f_bootWire, f_registerBase, f_firstGate, f_wireLimit, f_opAnd, f_opOr, f_opNot, f_codes, f_cells, f_resumeBase, f_rootRow, f_endRow, f_stayRow, f_leftRow, f_rightRow, f_inputSignals, f_outputSignals, f_nodeLimit, f_count, f_phaseNow, f_instantCount, f_rejectedCount, f_wireCount, f_logicEnd, a_kindOf, a_argOf, a_firstOf, a_secondOf, a_parentOf, a_activeNode, a_lastStatus, a_inTree, a_trapDepth, a_firstCodes, a_gateOp, a_gateA, a_gateB, a_inverseOf, a_cell, a_selWire, a_keepStart, a_keepResume, a_frozen, a_nextWire, a_must, a_can) :=
  br_c (fun h => K1 (Or.inl h)) (fun h1 => br_c (fun h => K1 (Or.inr h)) (fun h2 => K0 (fun z => z.elim h1 h2)))
end
section
variable {f_inputs f_outputs f_cap f_count f_phase f_root f_instants f_rejected f_activeLeaves : Int32} {a_kind a_arg a_first a_second a_parent a_shown a_e a_fst a_ms a_cs a_mk a_ck a_left : Nat → Int32}
variable {pi : Int32 → Prop}
theorem yq_run (K1 : f_phase = 1 ∨ f_phase = 2 → pi 1) (K0 : ¬ (f_phase = 1 ∨ f_phase = 2) → pi 0) : wpY_runnable pi (f_inputs, f_outputs, f_cap, f_count, f_phase, f_root, f_instants, f_rejected, f_activeLeaves, a_kind, a_arg, a_first, a_second, a_parent, a_shown, a_e, a_fst, a_ms, a_cs, a_mk, a_ck, a_left) :=
  br_c (fun h => K1 (Or.inl h)) (fun h1 => br_c (fun h => K1 (Or.inr h)) (fun h2 => K0 (fun z => z.elim h1 h2)))
end
theorem i_vc_derive {k : Nat} {u : SX} {v : SY} (I : i_Rel k u v) (hk : k + 5 ≤ 2563) (v1 : Int32) : wpX_derive (fun r u' => wpY_derive (fun r' v' => r' = r ∧ i_Rel (k + 5) u' v') v v1) u v1 := by
  refine i_el (Z := fun u v => wpX_derive (fun r u' => wpY_derive (fun r' v' => r' = r ∧ i_Rel (k + 5) u' v') v v1) u v1) ?_ I
  intro ni no cap N f_wireFalse f_wireTrue f_signalBase f_bootWire f_registerBase f_firstGate f_wireLimit f_opAnd f_opOr f_opNot f_codes f_cells f_resumeBase f_rootRow f_endRow f_stayRow f_leftRow f_rightRow f_phaseNow f_instantCount f_rejectedCount f_wireCount f_logicEnd a_kindOf a_argOf a_firstOf a_secondOf a_parentOf a_activeNode a_lastStatus a_inTree a_trapDepth a_firstCodes a_gateOp a_gateA a_gateB a_inverseOf a_cell a_selWire a_keepStart a_keepResume a_frozen a_nextWire a_must a_can f_root f_activeLeaves a_e a_fst a_ms a_cs a_mk a_ck a_left G
  unfold wpX_derive wpY_derive
  refine xq_run (fun hp => br_f (by decide) ?_) (fun hp => br_t rfl (yq_run (fun z => absurd z hp) (fun _ => br_t rfl ⟨rfl, i_in G⟩)))
  obtain ⟨κ, A, P, Q, U, r, rt, wc, lE, td, e1, e2, e3, C, hT, ert, hph, F, X, ha, hur, hI⟩ := ir_run G hp
  have C' := C
  obtain ⟨T, hni, hno, hL, D, hr⟩ := C'
  subst e1 e2 e3
  refine xo_sf C F hph ha (fun mu ca E S0 hE hSt hV => ?_)
  have hR := st_Rl T hL (E 0)
  have b := sv_base (r := r) (rt := rt) (L := f_activeLeaves) (U := U) (show 0 < 64 by omega) S0 rfl ha
  have M := (cx_M C F (hV 0 (by omega)) (fun s hs => (hE 0 (by omega) s hs).1) b.2.2.2 b.2.2.1 hR).2
  refine xo_out C F hE M ?_
  refine yq_run (fun _ => br_f (by decide) ?_) (fun z => absurd hp z)
  refine ys_solve (R := fun t => (a_ms t, a_cs t, a_mk t, a_ck t, a_left t)) T hni hno hT hL ert hr (fun ef R hS hR' => ⟨?_, i_in G⟩)
  have q := st_Lu T hL hr (st_qr _) (hSt 0 (by omega)) hS
  rw [sg_ac (st_qs q), st_Re T hL hr (st_qs q) hR']
theorem i_vc_derived {k : Nat} {u : SX} {v : SY} (I : i_Rel k u v) (hk : k + 5 ≤ 2563) (v1 : Int32) (v2 : Int32) : wpX_derived (fun r u' => wpY_derived (fun r' v' => r' = r ∧ i_Rel (k + 5) u' v') v v1 v2) u v1 v2 := by
  refine i_el (Z := fun u v => wpX_derived (fun r u' => wpY_derived (fun r' v' => r' = r ∧ i_Rel (k + 5) u' v') v v1 v2) u v1 v2) ?_ I
  intro ni no cap N f_wireFalse f_wireTrue f_signalBase f_bootWire f_registerBase f_firstGate f_wireLimit f_opAnd f_opOr f_opNot f_codes f_cells f_resumeBase f_rootRow f_endRow f_stayRow f_leftRow f_rightRow f_phaseNow f_instantCount f_rejectedCount f_wireCount f_logicEnd a_kindOf a_argOf a_firstOf a_secondOf a_parentOf a_activeNode a_lastStatus a_inTree a_trapDepth a_firstCodes a_gateOp a_gateA a_gateB a_inverseOf a_cell a_selWire a_keepStart a_keepResume a_frozen a_nextWire a_must a_can f_root f_activeLeaves a_e a_fst a_ms a_cs a_mk a_ck a_left G
  obtain ⟨hni, hno, hN⟩ := ir_io G
  unfold wpX_derived wpY_derived
  refine xq_run (fun hp => br_f (by decide) ?_) (fun hp => br_t rfl (yq_run (fun z => absurd z hp) (fun _ => br_t rfl ⟨rfl, i_in G⟩)))
  refine xs_sig hni hno (fun s hs e => br_f (by decide) ?_) (fun ns => br_t rfl (yq_run (fun _ => br_f (by decide) (ys_sig hni hno (fun s hs e => absurd ⟨s, hs, e⟩ ns) (fun _ => br_t rfl ⟨rfl, i_in G⟩))) (fun z => absurd hp z)))
  subst e
  obtain ⟨κ, A, P, Q, U, r, rt, wc, lE, td, e1, e2, e3, C, hT, ert, hph, F, X, ha, hur, hI⟩ := ir_run G hp
  have C' := C
  obtain ⟨T, _, _, hL, D, hr⟩ := C'
  subst e1 e2 e3
  refine xo_sf C F hph ha (fun mu ca E S0 hE hSt hV => ?_)
  refine xo_st rfl hni hno hs hE ?_
  refine yq_run (fun _ => br_f (by decide) ?_) (fun z => absurd hp z)
  refine ys_sig hni hno (fun _ _ _ => br_f (by decide) ?_) (fun z => absurd ⟨s, hs, rfl⟩ z)
  refine ys_solve (R := fun t => (a_ms t, a_cs t, a_mk t, a_ck t, a_left t)) T hni hno hT hL ert hr (fun ef R hS hR' => ⟨vp_in_nI (by omega) (by decide), ?_, i_in G⟩)
  rw [nI_clamp (show s < 2 ^ 31 by omega)]
  exact (st_Lu T hL hr (st_qr _) (hSt 0 (by omega)) hS s hs).symm
end
section
/-! ===== tick ===== -/
def tk_s (n : Nat) (e ls : Nat → Int32) : Nat → Int32 := fun j => if j < n then e j else ls j
theorem tk_u {n s : Nat} {e ls cur : Nat → Int32} (h : ∀ j, cur j = if j < s then e j else ls j) : ∀ j, upd cur s (e s) j = if j < s + 1 then e j else ls j := by
  intro j
  unfold upd
  by_cases c : j = s
  · subst c; rw [if_pos rfl, if_pos (by omega)]
  · rw [if_neg c, h j]
    by_cases l : j < s
    · rw [if_pos l, if_pos (by omega)]
    · rw [if_neg l, if_neg (by omega)]
theorem st_low {ni no N : Nat} {κ A P Q U : Nat → Nat} {L : Int32} {rt : Nat} {e0 ef : Nat → Int32} (h : st_L ni no N κ A P Q U L rt e0 ef) {s : Nat} (hs : s < ni) : ef s = e0 s := by
  obtain ⟨k, hk, _⟩ := h
  rw [hk s (by omega)]
  clear hk
  induction k with
  | zero => rfl
  | succ k ih =>
    have : st_i ni no N κ A P Q U L rt e0 (k + 1) s = st_i ni no N κ A P Q U L rt e0 k s := by
      show st_F ni no N κ A P Q U L rt (st_i ni no N κ A P Q U L rt e0 k) s = _
      unfold st_F st_v; rw [if_neg (by omega)]
    rw [this]; exact ih
theorem sg_a2 {ni no : Nat} {e : Nat → Int32} {x : rn_T} (h : sg_a ni no e x ≠ 2) : (∀ s, ni ≤ s → s < ni + no → e s ≠ 2) ∧ ((sg_a ni no e x = 0 ∧ bt x.2.2.1 0 = true) ∨ (sg_a ni no e x = 1 ∧ bt x.2.2.1 0 = false)) := by
  unfold sg_a at h ⊢
  by_cases z : ∃ s, ni ≤ s ∧ s < ni + no ∧ e s = 2
  · rw [pb_t z, if_pos rfl] at h; exact absurd rfl h
  · refine ⟨fun s a b c => z ⟨s, a, b, c⟩, ?_⟩
    rw [pb_f z, if_neg Bool.false_ne_true]
    cases y : bt x.2.2.1 0 with
    | true => rw [if_pos rfl]; exact Or.inl ⟨rfl, rfl⟩
    | false => rw [if_neg Bool.false_ne_true]; exact Or.inr ⟨rfl, rfl⟩
section
variable {f_wireFalse f_wireTrue f_signalBase f_bootWire f_registerBase f_firstGate f_wireLimit f_opAnd f_opOr f_opNot f_codes f_cells f_resumeBase f_rootRow f_endRow f_stayRow f_leftRow f_rightRow f_inputSignals f_outputSignals f_nodeLimit f_count f_phaseNow f_instantCount f_rejectedCount f_wireCount f_logicEnd : Int32} {a_kindOf a_argOf a_firstOf a_secondOf a_parentOf a_activeNode a_lastStatus a_inTree a_trapDepth a_firstCodes a_gateOp a_gateA a_gateB a_inverseOf a_cell a_selWire a_keepStart a_keepResume a_frozen a_nextWire : Nat → Int32} {a_must a_can : Nat → Int64}
variable {post : Int32 → SX → Prop} {ni no N : Nat} {κ A P Q U : Nat → Nat} {r : Nat} {L : Int32} {rt : Nat} {td : Nat → Nat} {wc lE : Nat} {mu ca : Nat → Int64} {ls : Nat → Int32} {E : Nat → Nat → Int32} {R : Nat → rn_T} {m : Nat → Bool}
theorem xt_26 (C : cx_T ni no N κ A P Q U r L rt td) (hX : cx_A N κ P Q U r L) (F : cp_F ni N κ A P Q U r wc lE a_gateOp a_gateA a_gateB a_cell a_selWire a_nextWire) (hT : ln_T N a_kindOf a_argOf a_firstOf a_secondOf a_parentOf κ A P Q U) (hur : ¬ U r < N) (hI : kp_T N U r a_inTree)
    (ha : ∀ n, n < N → a_activeNode n = if ac_b N U L n = true then 1 else 0) (S0 : ld_S N (if rt = r then -1 else 0) a_activeNode mu ca) (hE : sv_E ni no mu ca E) (hin : ∀ s, s < ni → E 0 s = sg_0 ni m s) (hV : ck_S (ln_V mu ca 0) lE a_gateOp a_gateA a_gateB) (hR : lc_R N κ A P Q U L (E 0) R)
    (K2 : sg_a ni no (E 0) (R rt) = 2 → post 2 (f_wireFalse, f_wireTrue, f_signalBase, f_bootWire, f_registerBase, f_firstGate, f_wireLimit, f_opAnd, f_opOr, f_opNot, f_codes, f_cells, f_resumeBase, f_rootRow, f_endRow, f_stayRow, f_leftRow, f_rightRow, nI ni, nI no, f_nodeLimit, nI N, f_phaseNow, f_instantCount, f_rejectedCount + 1, nI wc, nI lE, a_kindOf, a_argOf, a_firstOf, a_secondOf, a_parentOf, a_activeNode, tk_s (ni + no) (E 0) ls, a_inTree, a_trapDepth, a_firstCodes, a_gateOp, a_gateA, a_gateB, a_inverseOf, a_cell, a_selWire, a_keepStart, a_keepResume, a_frozen, a_nextWire, mu, ca))
    (K : ∀ (an : Nat → Int32) (mu' ca' : Nat → Int64), sg_a ni no (E 0) (R rt) ≠ 2 → cx_A N κ P Q U r (R rt).2.2.2.2 → (∀ n, n < N → an n = if ac_b N U (R rt).2.2.2.2 n = true then 1 else 0) → (sg_a ni no (E 0) (R rt) ≠ 0 → ac_B N U (R rt).2.2.2.2 r) →
      post (sg_a ni no (E 0) (R rt)) (f_wireFalse, f_wireTrue, f_signalBase, f_bootWire, f_registerBase, f_firstGate, f_wireLimit, f_opAnd, f_opOr, f_opNot, f_codes, f_cells, f_resumeBase, f_rootRow, f_endRow, f_stayRow, f_leftRow, f_rightRow, nI ni, nI no, f_nodeLimit, nI N, if sg_a ni no (E 0) (R rt) = 0 then 3 else 2, f_instantCount + 1, f_rejectedCount, nI wc, nI lE, a_kindOf, a_argOf, a_firstOf, a_secondOf, a_parentOf, an, tk_s (ni + no) (E 0) ls, a_inTree, a_trapDepth, a_firstCodes, a_gateOp, a_gateA, a_gateB, a_inverseOf, a_cell, a_selWire, a_keepStart, a_keepResume, a_frozen, a_nextWire, mu', ca')) :
    ∀ d s cur n, s + d = ni + no → d < n → (∀ j, cur j = if j < s then E 0 j else ls j) →
      wX_tick_26 post (nI (ni + no)) f_wireFalse f_wireTrue f_signalBase f_bootWire f_registerBase f_firstGate f_wireLimit f_opAnd f_opOr f_opNot f_codes f_cells f_resumeBase f_rootRow f_endRow f_stayRow f_leftRow f_rightRow (nI ni) (nI no) f_nodeLimit (nI N) f_phaseNow f_instantCount f_rejectedCount (nI wc) (nI lE) n (nI s) a_kindOf a_argOf a_firstOf a_secondOf a_parentOf a_activeNode cur a_inTree a_trapDepth a_firstCodes a_gateOp a_gateA a_gateB a_inverseOf a_cell a_selWire a_keepStart a_keepResume a_frozen a_nextWire mu ca := by
  have C' := C
  obtain ⟨T, hni, hno, hL, D, hr⟩ := C'
  have F' := F
  obtain ⟨F1, F2, F3, F4, F5, F6, F7, F8⟩ := F'
  intro d
  induction d with
  | zero =>
    intro s cur n hs hn hc
    obtain ⟨n, rfl⟩ : ∃ y, n = y + 1 := ⟨n - 1, by omega⟩
    rw [show s = ni + no by omega] at hc ⊢
    have ec : cur = tk_s (ni + no) (E 0) ls := funext hc
    subst ec
    refine pk_le (ni + no) (ni + no) (fun _ => ?_) (fun h => absurd h (by omega))
    have b := sv_base (r := r) (rt := rt) (L := L) (U := U) (show 0 < 64 by omega) S0 rfl ha
    have M := (cx_M C F hV (fun s hs => (hE 0 (by omega) s hs).1) b.2.2.2 b.2.2.1 hR).2
    refine xo_out C F hE M ?_
    by_cases a2 : sg_a ni no (E 0) (R rt) = 2
    · rw [a2]
      exact br_t rfl (nm_e (K2 a2))
    refine br_f a2 ?_
    have kn := sg_a2 a2
    have hv : ∀ s, s < ni + no → E 0 s = 0 ∨ E 0 s = 1 := by
      intro s hs
      by_cases c : s < ni
      · rw [hin s c]
        unfold sg_0
        rw [if_pos c]
        by_cases y : m s = true
        · rw [if_pos y]; exact Or.inr rfl
        · rw [if_neg y]; exact Or.inl rfl
      · rcases (hE 0 (by omega) s hs).2 with e | e | e
        · exact Or.inl e
        · exact Or.inr e
        · exact absurd e (kn.1 s (by omega) hs)
    refine xw_sweep (lo := lE) (hi := wc) rfl rfl F2 F4 F1 (Nat.le_refl _) F3 (fun mu1 ca1 fr G => ?_)
    have same : ∀ w, w < lE → ln_V mu1 ca1 0 w = ln_V mu ca 0 w := fun w hw => ln_Ve (fr w hw).1 (fr w hw).2
    have V1 : ck_S (ln_V mu1 ca1 0) wc a_gateOp a_gateA a_gateB := by
      refine ⟨(same 0 (by omega)).trans hV.1, (same 1 (by omega)).trans hV.2.1, fun w h1 h2 => ?_⟩
      by_cases c : w < lE
      · obtain ⟨⟨a, ha', ea⟩, y, hy, ey⟩ := F4 w h1 h2
        rw [same w c, hV.2.2 w h1 c, ea, ey, nI_clamp (show a < 2 ^ 31 by omega), nI_clamp (show y < 2 ^ 31 by omega), same a (by omega), same y (by omega)]
      · exact G w (by omega) h2 0 (by omega)
    have hN := T.1
    have NX := cx_N C hX F V1 hv (fun s hs => by rw [same (2 + s) (by omega)]; exact (hE 0 (by omega) s hs).1) (fun n hn => by rw [same (13 + n) (by omega)]; exact b.2.2.2 n hn) (by rw [same 12 (by omega)]; exact b.2.2.1) hR
    refine xh_latch (F := (R rt).2.2.2.2) T hT hur hI NX.2.1.1 NX.2.1.2.1 (fun n hn hb k14 => ?_) (fun an han => ?_)
    · obtain ⟨w, hw, ew⟩ := F6 n (by omega)
      have q := NX.1 n hn hb k14
      rw [ew, nI_clamp (by omega)] at q
      exact ⟨w, by omega, ew, q⟩
    · refine nm_e ?_
      have fin := K an mu1 ca1 a2 NX.2.1 han (fun z => NX.2.2 (by
        rcases kn.2 with ⟨p, _⟩ | ⟨_, p⟩
        · exact absurd p z
        · exact p))
      refine br_c (fun z => ?_) (fun z => ?_)
      · rw [if_pos z] at fin; exact fin
      · rw [if_neg z] at fin; exact fin
  | succ d ih =>
    intro s cur n hs hn hc
    obtain ⟨n, rfl⟩ : ∃ y, n = y + 1 := ⟨n - 1, by omega⟩
    refine pk_le (ni + no) s (fun h => absurd h (by omega)) (fun _ => ?_)
    refine xo_st rfl hni hno (show s < ni + no by omega) hE ⟨vp_in_nI (by omega) (by decide), ?_⟩
    rw [nI_clamp (show s < 2 ^ 31 by omega), nI_1 s]
    exact nm_e (nm_e (ih (s + 1) _ n (by omega) (by omega) (tk_u (n := ni + no) hc)))
end
section
variable {f_inputs f_outputs f_cap f_count f_phase f_root f_instants f_rejected f_activeLeaves : Int32} {a_kind a_arg a_first a_second a_parent a_shown a_e a_fst a_ms a_cs a_mk a_ck a_left : Nat → Int32}
variable {post : Int32 → SY → Prop} {ni no N : Nat} {r rt : Nat} {e sh : Nat → Int32} {R : Nat → rn_T} {ans : Int32}
theorem yt_17 (hni : ni ≤ 4) (hno : no ≤ 6) (hr : r < 32) (ert : rt = if f_phase = 2 then 32 + r else r)
    (K2 : ans = 2 → post 2 (nI ni, nI no, f_cap, f_count, f_phase, nI r, f_instants, f_rejected + 1, f_activeLeaves, a_kind, a_arg, a_first, a_second, a_parent, tk_s (ni + no) e sh, e, a_fst, fun zz => (R zz).1, fun zz => (R zz).2.1, fun zz => (R zz).2.2.1, fun zz => (R zz).2.2.2.1, fun zz => (R zz).2.2.2.2))
    (K : ans ≠ 2 → post ans (nI ni, nI no, f_cap, f_count, if ans = 0 then 3 else 2, nI r, f_instants + 1, f_rejected, (R rt).2.2.2.2, a_kind, a_arg, a_first, a_second, a_parent, tk_s (ni + no) e sh, e, a_fst, fun zz => (R zz).1, fun zz => (R zz).2.1, fun zz => (R zz).2.2.1, fun zz => (R zz).2.2.2.1, fun zz => (R zz).2.2.2.2)) :
    ∀ d s cur n, s + d = ni + no → d < n → (∀ j, cur j = if j < s then e j else sh j) →
      wY_tick_17 post ans (nI ni) (nI no) f_cap f_count f_phase (nI r) f_instants f_rejected f_activeLeaves n (nI s) a_kind a_arg a_first a_second a_parent cur e a_fst (fun zz => (R zz).1) (fun zz => (R zz).2.1) (fun zz => (R zz).2.2.1) (fun zz => (R zz).2.2.2.1) (fun zz => (R zz).2.2.2.2) := by
  intro d
  induction d with
  | zero =>
    intro s cur n hs hn hc
    obtain ⟨n, rfl⟩ : ∃ y, n = y + 1 := ⟨n - 1, by omega⟩
    rw [show s = ni + no by omega] at hc ⊢
    have ec : cur = tk_s (ni + no) e sh := funext hc
    subst ec
    refine pk_le (ni + no) (ni + no) (fun _ => ?_) (fun h => absurd h (by omega)) (nI_add ni no)
    refine br_c (fun z => nm_e (K2 z)) (fun z => ?_)
    have k := K z
    have fin : ∀ x, x = (R rt).2.2.2.2 → wY_tick_98 post ans x (nI ni) (nI no) f_cap f_count f_phase (nI r) f_instants f_rejected f_activeLeaves a_kind a_arg a_first a_second a_parent (tk_s (ni + no) e sh) e a_fst (fun zz => (R zz).1) (fun zz => (R zz).2.1) (fun zz => (R zz).2.2.1) (fun zz => (R zz).2.2.2.1) (fun zz => (R zz).2.2.2.2) := by
      intro x hx
      subst hx
      refine nm_e (br_c (fun y => ?_) (fun y => ?_))
      · rw [if_pos y] at k; exact k
      · rw [if_neg y] at k; exact k
    refine br_c (fun p => ?_) (fun p => ?_)
    · rw [if_pos p] at ert
      rw [show 32 + nI r = nI (32 + r) from nI_add 32 r]
      refine ⟨vp_in_nI (by omega) (by decide), fin _ ?_⟩
      rw [nI_clamp (show 32 + r < 2 ^ 31 by omega), ert]
    · rw [if_neg p] at ert
      refine ⟨vp_in_nI (by omega) (by decide), fin _ ?_⟩
      rw [nI_clamp (show r < 2 ^ 31 by omega), ert]
  | succ d ih =>
    intro s cur n hs hn hc
    obtain ⟨n, rfl⟩ : ∃ y, n = y + 1 := ⟨n - 1, by omega⟩
    have hi : vp_in (nI s) 10 := vp_in_nI (by omega) (by decide)
    refine pk_le (ni + no) s (fun h => absurd h (by omega)) (fun _ => ⟨hi, hi, ?_⟩) (nI_add ni no)
    rw [nI_clamp (show s < 2 ^ 31 by omega), nI_1 s]
    exact nm_e (nm_e (ih (s + 1) _ n (by omega) (by omega) (tk_u (n := ni + no) hc)))
end
theorem i_vc_tick {k : Nat} {u : SX} {v : SY} (I : i_Rel k u v) (hk : k + 5 ≤ 2563) (v1 : Int32) : wpX_tick (fun r u' => wpY_tick (fun r' v' => r' = r ∧ i_Rel (k + 5) u' v') v v1) u v1 := by
  refine i_el (Z := fun u v => wpX_tick (fun r u' => wpY_tick (fun r' v' => r' = r ∧ i_Rel (k + 5) u' v') v v1) u v1) ?_ I
  intro ni no cap N f_wireFalse f_wireTrue f_signalBase f_bootWire f_registerBase f_firstGate f_wireLimit f_opAnd f_opOr f_opNot f_codes f_cells f_resumeBase f_rootRow f_endRow f_stayRow f_leftRow f_rightRow f_phaseNow f_instantCount f_rejectedCount f_wireCount f_logicEnd a_kindOf a_argOf a_firstOf a_secondOf a_parentOf a_activeNode a_lastStatus a_inTree a_trapDepth a_firstCodes a_gateOp a_gateA a_gateB a_inverseOf a_cell a_selWire a_keepStart a_keepResume a_frozen a_nextWire a_must a_can f_root f_activeLeaves a_e a_fst a_ms a_cs a_mk a_ck a_left G
  unfold wpX_tick wpY_tick
  refine xq_run (fun hp => br_f (by decide) ?_) (fun hp => br_t rfl (yq_run (fun z => absurd z hp) (fun _ => br_t rfl ⟨rfl, i_in G⟩)))
  have G0 := G
  obtain ⟨g1, g2, g3, g4, g5, _⟩ := G0
  obtain ⟨κ, A, P, Q, U, r, rt, wc, lE, td, e1, e2, e3, C, hT, ert, hph, F, X, ha, hur, hI⟩ := ir_run G hp
  have C' := C
  obtain ⟨T, hni, hno, hL, D, hr⟩ := C'
  have hN := T.1
  subst e1 e2 e3
  refine xo_sf C F hph ha (fun mu ca E S0 hE hSt hV => ?_)
  have hR := st_Rl T hL (E 0)
  refine nm_r (nI_add ni no) ⟨ni + no + 1, ?_⟩
  refine xt_26 (m := bt v1) (ls := a_lastStatus) C X F hT hur hI ha S0 hE (fun s hs => st_low (hSt 0 (by omega)) hs) (hV 0 (by omega)) hR (fun z2 => ?_) (fun an mu' ca' nz hX' han hb => ?_) (ni + no) 0 a_lastStatus (ni + no + 1) (by omega) (by omega) (fun j => (if_neg (by omega)).symm)
  · refine yq_run (fun _ => br_f (by decide) ?_) (fun z => absurd hp z)
    refine ys_solve (R := fun t => (a_ms t, a_cs t, a_mk t, a_ck t, a_left t)) T hni hno hT hL ert hr (fun ef R hS hR' => ?_)
    have q := st_Lu T hL hr (st_qr _) (hSt 0 (by omega)) hS
    have qa : sg_a ni no ef (R rt) = sg_a ni no (E 0) (st_R N κ A P Q U f_activeLeaves (E 0) rt) := by rw [sg_ac (st_qs q), st_Re T hL hr (st_qs q) hR']
    have qs : tk_s (ni + no) ef a_lastStatus = tk_s (ni + no) (E 0) a_lastStatus := by
      funext j
      unfold tk_s
      by_cases c : j < ni + no
      · rw [if_pos c, if_pos c]; exact (q j c).symm
      · rw [if_neg c, if_neg c]
    refine ⟨ni + no + 1, yt_17 (sh := a_lastStatus) hni hno (by have := hr.1; omega) ert (fun _ => ?_) (fun z => absurd (qa.trans z2) z) (ni + no) 0 a_lastStatus (ni + no + 1) (by omega) (by omega) (fun j => (if_neg (by omega)).symm)⟩
    rw [qs]
    exact ⟨rfl, i_in G⟩
  · refine yq_run (fun _ => br_f (by decide) ?_) (fun z => absurd hp z)
    refine ys_solve (R := fun t => (a_ms t, a_cs t, a_mk t, a_ck t, a_left t)) T hni hno hT hL ert hr (fun ef R hS hR' => ?_)
    have q := st_Lu T hL hr (st_qr _) (hSt 0 (by omega)) hS
    have qR : st_R N κ A P Q U f_activeLeaves (E 0) rt = R rt := st_Re T hL hr (st_qs q) hR'
    have qa : sg_a ni no ef (R rt) = sg_a ni no (E 0) (st_R N κ A P Q U f_activeLeaves (E 0) rt) := by rw [sg_ac (st_qs q), qR]
    have qs : tk_s (ni + no) ef a_lastStatus = tk_s (ni + no) (E 0) a_lastStatus := by
      funext j
      unfold tk_s
      by_cases c : j < ni + no
      · rw [if_pos c, if_pos c]; exact (q j c).symm
      · rw [if_neg c, if_neg c]
    refine ⟨ni + no + 1, yt_17 (sh := a_lastStatus) hni hno (by have := hr.1; omega) ert (fun z => absurd (qa.symm.trans z) nz) (fun _ => ?_) (ni + no) 0 a_lastStatus (ni + no + 1) (by omega) (by omega) (fun j => (if_neg (by omega)).symm)⟩
    rw [qs, qa, ← qR]
    refine ⟨rfl, i_in ⟨g1, g2, g3, g4, ?_, κ, A, P, Q, U, T, hT, fun z => ?_, fun _ => ⟨r, wc, lE, td, rfl, rfl, rfl, hr.1, hur, hI, D, F, hX', han, fun z => hb (fun y => ?_)⟩⟩⟩
    · by_cases c : sg_a ni no (E 0) (st_R N κ A P Q U f_activeLeaves (E 0) rt) = 0
      · rw [if_pos c]; exact Or.inr (Or.inr (Or.inr rfl))
      · rw [if_neg c]; exact Or.inr (Or.inr (Or.inl rfl))
    · by_cases c : sg_a ni no (E 0) (st_R N κ A P Q U f_activeLeaves (E 0) rt) = 0
      · rw [if_pos c] at z; exact absurd z (by decide)
      · rw [if_neg c] at z; exact absurd z (by decide)
    · rw [if_pos y] at z; exact absurd z (by decide)
end
section
/-! ===== coherent ===== -/
def sg_g (ni : Nat) (m g : Nat → Bool) : Nat → Int32 := fun s => if s < ni then (if m s = true then 1 else 0) else (if g (s - ni) = true then 1 else 0)
theorem sg_g1 {ni : Nat} {m g : Nat → Bool} (s : Nat) : sg_g ni m g s = 0 ∨ sg_g ni m g s = 1 := by
  unfold sg_g
  by_cases c : s < ni
  · rw [if_pos c]
    by_cases d : m s = true
    · rw [if_pos d]; exact Or.inr rfl
    · rw [if_neg d]; exact Or.inl rfl
  · rw [if_neg c]
    by_cases d : g (s - ni) = true
    · rw [if_pos d]; exact Or.inr rfl
    · rw [if_neg d]; exact Or.inl rfl
theorem ch_m1 : ∀ n, n < 7 → ∀ i, i < 32 → bt (((1 : Int32) <<< (nI n &&& 31)) - 1) i = decide (i < n) := by decide +kernel
theorem ch_pw : ∀ n, n < 7 → (1 : Int32) <<< (nI n &&& 31) = nI (2 ^ n) := by decide +kernel
/-- the emissions of the run x are the guess g -/
def ch_P (ni no : Nat) (x : rn_T) (g : Nat → Bool) : Prop := ∀ j, j < no → bt x.2.1 (ni + j) = g j
theorem ch_eq {ni no : Nat} {x : rn_T} {g : Int32} (hni : ni ≤ 4) (hno : no ≤ 6) (hx : ∀ i, bt x.2.1 i = true → ni ≤ i ∧ i < ni + no) : x.2.1 = ((g &&& (((1 : Int32) <<< (nI no &&& 31)) - 1)) <<< (nI ni &&& 31)) ↔ ch_P ni no x (bt g) := by
  have bits : ∀ i, i < 32 → bt ((g &&& (((1 : Int32) <<< (nI no &&& 31)) - 1)) <<< (nI ni &&& 31)) i = (decide (ni ≤ i) && (bt g (i - ni) && decide (i - ni < no))) := by
    intro i hi
    rw [b_shl ni (by omega) _ hi, b_and, ch_m1 no (by omega) (i - ni) (by omega)]
  constructor
  · intro h j hj
    rw [h, bits (ni + j) (by omega), decide_eq_true (by omega), show ni + j - ni = j by omega, decide_eq_true hj, Bool.true_and, Bool.and_true]
  · intro h
    apply b_ext
    intro i hi
    rw [bits i hi]
    by_cases c : ni ≤ i ∧ i - ni < no
    · have := h (i - ni) c.2
      rw [show ni + (i - ni) = i by omega] at this
      rw [this, decide_eq_true c.1, decide_eq_true c.2, Bool.true_and, Bool.and_true]
    · have z : bt x.2.1 i = false := by
        cases y : bt x.2.1 i with
        | false => rfl
        | true => have := hx i y; omega
      rw [z]
      by_cases d : ni ≤ i
      · rw [decide_eq_false (show ¬ i - ni < no from fun y => c ⟨d, y⟩), Bool.and_false, Bool.and_false]
      · rw [decide_eq_false d, Bool.false_and]
section
variable {f_wireFalse f_wireTrue f_signalBase f_bootWire f_registerBase f_firstGate f_wireLimit f_opAnd f_opOr f_opNot f_codes f_cells f_resumeBase f_rootRow f_endRow f_stayRow f_leftRow f_rightRow f_inputSignals f_outputSignals f_nodeLimit f_count f_phaseNow f_instantCount f_rejectedCount f_wireCount f_logicEnd : Int32} {a_kindOf a_argOf a_firstOf a_secondOf a_parentOf a_activeNode a_lastStatus a_inTree a_trapDepth a_firstCodes a_gateOp a_gateA a_gateB a_inverseOf a_cell a_selWire a_keepStart a_keepResume a_frozen a_nextWire : Nat → Int32} {a_must a_can : Nat → Int64}
variable {ni no N : Nat} {κ A P Q U : Nat → Nat} {r : Nat} {L : Int32} {rt : Nat} {td : Nat → Nat} {wc lE : Nat} {mu ca : Nat → Int64} {sw nx : Nat → Int32}
theorem xc_lanes {post : Int64 → SX → Prop} {mk : Nat → Bool} {g : Nat → Nat → Bool} (C : cx_T ni no N κ A P Q U r L rt td) (F : cp_F ni N κ A P Q U r wc lE a_gateOp a_gateA a_gateB a_cell sw nx) (ha : ∀ n, n < N → a_activeNode n = if ac_b N U L n = true then 1 else 0)
    (S0 : ld_S N (if rt = r then -1 else 0) a_activeNode mu ca) (hE : sv_E ni no mu ca (fun l => sg_g ni mk (g l)))
    (K : ∀ mu' ca' o, (∀ l, l < 64 → (ln_b o l = true ↔ ch_P ni no (st_R N κ A P Q U L (sg_g ni mk (g l)) rt) (g l))) → post o (f_wireFalse, f_wireTrue, f_signalBase, f_bootWire, f_registerBase, f_firstGate, f_wireLimit, f_opAnd, f_opOr, f_opNot, f_codes, f_cells, f_resumeBase, f_rootRow, f_endRow, f_stayRow, f_leftRow, f_rightRow, nI ni, nI no, f_nodeLimit, f_count, f_phaseNow, f_instantCount, f_rejectedCount, f_wireCount, nI lE, a_kindOf, a_argOf, a_firstOf, a_secondOf, a_parentOf, a_activeNode, a_lastStatus, a_inTree, a_trapDepth, a_firstCodes, a_gateOp, a_gateA, a_gateB, a_inverseOf, a_cell, a_selWire, a_keepStart, a_keepResume, a_frozen, a_nextWire, mu', ca')) :
    wpX_coherentLanes post (f_wireFalse, f_wireTrue, f_signalBase, f_bootWire, f_registerBase, f_firstGate, f_wireLimit, f_opAnd, f_opOr, f_opNot, f_codes, f_cells, f_resumeBase, f_rootRow, f_endRow, f_stayRow, f_leftRow, f_rightRow, nI ni, nI no, f_nodeLimit, f_count, f_phaseNow, f_instantCount, f_rejectedCount, f_wireCount, nI lE, a_kindOf, a_argOf, a_firstOf, a_secondOf, a_parentOf, a_activeNode, a_lastStatus, a_inTree, a_trapDepth, a_firstCodes, a_gateOp, a_gateA, a_gateB, a_inverseOf, a_cell, a_selWire, a_keepStart, a_keepResume, a_frozen, a_nextWire, mu, ca) := by
  have C' := C
  obtain ⟨T, hni, hno, hL, D, hr⟩ := C'
  have F' := F
  obtain ⟨F1, F2, F3, F4, F5, F6, F7, F8⟩ := F'
  have hN := T.1
  have hem : ∃ em : Nat → Nat, ∀ j, j < no → em j < 4096 ∧ a_cell (774 + j) = nI (em j) := by
    refine ⟨fun j => (a_cell (774 + j)).toNatClampNeg, fun j hj => ?_⟩
    obtain ⟨w, hw, sw', ew⟩ := F5 (6 + j) (by omega)
    have e : a_cell (774 + j) = nI w := by rw [← ew]; congr 1; omega
    have c : (a_cell (774 + j)).toNatClampNeg = w := by rw [e, nI_clamp (by omega)]
    dsimp only
    rw [c]
    exact ⟨by omega, e⟩
  obtain ⟨em, hem⟩ := hem
  refine xo_cl hni hno hem F (fun mu1 ca1 o fr G ho => K mu1 ca1 o (fun l hl => ?_))
  rw [ho l hl]
  have S1 : ld_S N (if rt = r then -1 else 0) a_activeNode mu1 ca1 := by
    obtain ⟨a1, a2, a3, a4, a5, a6, a7⟩ := S0
    exact ⟨(fr 0 (by omega)).1.trans a1, (fr 0 (by omega)).2.trans a2, (fr 1 (by omega)).1.trans a3, (fr 1 (by omega)).2.trans a4, (fr 12 (by omega)).1.trans a5, (fr 12 (by omega)).2.trans a6, fun m hm => ⟨(fr (13 + m) (by omega)).1.trans (a7 m hm).1, (fr (13 + m) (by omega)).2.trans (a7 m hm).2⟩⟩
  have E2 : ∀ s, s < ni + no → ln_V mu1 ca1 l (2 + s) = rn_en (sg_g ni mk (g l) s) := fun s hs => by
    have f := fr (2 + s) (by omega)
    rw [ln_Ve f.1 f.2]; exact (hE l hl s hs).1
  have b := sv_base (r := r) (rt := rt) (L := L) (U := U) hl S1 rfl ha
  have V1 : ck_S (ln_V mu1 ca1 l) lE a_gateOp a_gateA a_gateB := ⟨b.1, b.2.1, fun w h1 h2 => G w h1 h2 l hl⟩
  have M := (cx_M C F V1 E2 b.2.2.2 b.2.2.1 (st_Rl T hL (sg_g ni mk (g l)))).2
  have key : ∀ j, j < no → (ln_b (ca1 (em j)) l = ln_b (ca1 (2 + ni + j)) l ↔ bt (st_R N κ A P Q U L (sg_g ni mk (g l)) rt).2.1 (ni + j) = g l j) := by
    intro j hj
    have m6 := congrFun M (6 + j)
    rw [rw_v1 (by omega), rn_ro2 (by omega) (by omega), show 64 * 12 + (6 + j) = 774 + j by omega, (hem j hj).2, nI_clamp (by have := (hem j hj).1; omega), show 6 + j - 6 = j by omega] at m6
    have m7 : ln_b (ca1 (em j)) l = bt (st_R N κ A P Q U L (sg_g ni mk (g l)) rt).2.1 (ni + j) := congrArg Prod.snd m6
    have o1 := E2 (ni + j) (by omega)
    rw [show 2 + (ni + j) = 2 + ni + j by omega] at o1
    have o2 : ln_b (ca1 (2 + ni + j)) l = (rn_en (sg_g ni mk (g l) (ni + j))).2 := congrArg Prod.snd o1
    have o3 : (rn_en (sg_g ni mk (g l) (ni + j))).2 = g l j := by
      unfold sg_g
      rw [if_neg (by omega), show ni + j - ni = j by omega]
      cases g l j with
      | true => rw [if_pos rfl]; rfl
      | false => rw [if_neg Bool.false_ne_true]; rfl
    rw [m7, o2, o3]
  exact ⟨fun h j hj => (key j hj).mp (h j hj), fun h j hj => (key j hj).mpr (h j hj)⟩
/-- both rails of signals ni.. set to known values -/
theorem sv_ld {mk : Nat → Bool} {g : Nat → Nat → Bool} {vi vo : Nat → Int64} {mu1 ca1 mu2 ca2 : Nat → Int64} (I2 : ld_I 0 ni vi vi mu ca mu1 ca1) (I3 : ld_I ni (ni + no) vo vo mu1 ca1 mu2 ca2) (hi : ∀ s, s < ni → ∀ l, l < 64 → ln_b (vi s) l = mk s) (ho : ∀ j, j < no → ∀ l, l < 64 → ln_b (vo (ni + j)) l = g l j) :
    sv_E ni no mu2 ca2 (fun l => sg_g ni mk (g l)) := by
  intro l hl s hs
  refine ⟨?_, (sg_g1 s).elim Or.inl (fun h => Or.inr (Or.inl h))⟩
  dsimp only
  unfold sg_g
  by_cases c : s < ni
  · have a := I3.1 (2 + s) (by omega)
    have b := I2.2 s (Nat.zero_le s) c
    unfold ln_V
    rw [a.1, a.2, b.1, b.2, hi s c l hl, if_pos c]
    cases mk s with
    | true => rw [if_pos rfl]; rfl
    | false => rw [if_neg Bool.false_ne_true]; rfl
  · have b := I3.2 s (by omega) hs
    have o := ho (s - ni) (by omega) l hl
    rw [show ni + (s - ni) = s by omega] at o
    unfold ln_V
    rw [b.1, b.2, o, if_neg c]
    cases g l (s - ni) with
    | true => rw [if_pos rfl]; rfl
    | false => rw [if_neg Bool.false_ne_true]; rfl
theorem mk_vl (x : Int32) (s l : Nat) (hl : l < 64) : ln_b (mk_v x s) l = bt x s := by
  unfold mk_v
  cases bt x s with
  | true => rw [if_pos rfl]; exact ln_m1 l hl
  | false => rw [if_neg Bool.false_ne_true]; exact ln_0 l
theorem xc_20 {post : Int32 → SX → Prop} {x : Int32} {mk : Nat → Bool} {mu0 ca0 : Nat → Int64} {vi : Nat → Int64} (C : cx_T ni no N κ A P Q U r L rt td) (F : cp_F ni N κ A P Q U r wc lE a_gateOp a_gateA a_gateB a_cell sw nx) (ha : ∀ n, n < N → a_activeNode n = if ac_b N U L n = true then 1 else 0)
    (S0 : ld_S N (if rt = r then -1 else 0) a_activeNode mu ca) (I2 : ld_I 0 ni vi vi mu0 ca0 mu ca) (hi : ∀ s, s < ni → ∀ l, l < 64 → ln_b (vi s) l = mk s)
    (K1 : ch_P ni no (st_R N κ A P Q U L (sg_g ni mk (bt x)) rt) (bt x) → ∀ mu' ca', post 1 (f_wireFalse, f_wireTrue, f_signalBase, f_bootWire, f_registerBase, f_firstGate, f_wireLimit, f_opAnd, f_opOr, f_opNot, f_codes, f_cells, f_resumeBase, f_rootRow, f_endRow, f_stayRow, f_leftRow, f_rightRow, nI ni, nI no, f_nodeLimit, f_count, f_phaseNow, f_instantCount, f_rejectedCount, f_wireCount, nI lE, a_kindOf, a_argOf, a_firstOf, a_secondOf, a_parentOf, a_activeNode, a_lastStatus, a_inTree, a_trapDepth, a_firstCodes, a_gateOp, a_gateA, a_gateB, a_inverseOf, a_cell, a_selWire, a_keepStart, a_keepResume, a_frozen, a_nextWire, mu', ca'))
    (K0 : ¬ ch_P ni no (st_R N κ A P Q U L (sg_g ni mk (bt x)) rt) (bt x) → ∀ mu' ca', post 0 (f_wireFalse, f_wireTrue, f_signalBase, f_bootWire, f_registerBase, f_firstGate, f_wireLimit, f_opAnd, f_opOr, f_opNot, f_codes, f_cells, f_resumeBase, f_rootRow, f_endRow, f_stayRow, f_leftRow, f_rightRow, nI ni, nI no, f_nodeLimit, f_count, f_phaseNow, f_instantCount, f_rejectedCount, f_wireCount, nI lE, a_kindOf, a_argOf, a_firstOf, a_secondOf, a_parentOf, a_activeNode, a_lastStatus, a_inTree, a_trapDepth, a_firstCodes, a_gateOp, a_gateA, a_gateB, a_inverseOf, a_cell, a_selWire, a_keepStart, a_keepResume, a_frozen, a_nextWire, mu', ca')) :
    ∀ d s mu' ca' n, s + d = no → d < n → ld_I ni (ni + s) (fun z => mk_v x (z - ni)) (fun z => mk_v x (z - ni)) mu ca mu' ca' → wX_coherent_20 post x n (nI s) f_wireFalse f_wireTrue f_signalBase f_bootWire f_registerBase f_firstGate f_wireLimit f_opAnd f_opOr f_opNot f_codes f_cells f_resumeBase f_rootRow f_endRow f_stayRow f_leftRow f_rightRow (nI ni) (nI no) f_nodeLimit f_count f_phaseNow f_instantCount f_rejectedCount f_wireCount (nI lE) a_kindOf a_argOf a_firstOf a_secondOf a_parentOf a_activeNode a_lastStatus a_inTree a_trapDepth a_firstCodes a_gateOp a_gateA a_gateB a_inverseOf a_cell a_selWire a_keepStart a_keepResume a_frozen a_nextWire mu' ca' := by
  have C' := C
  obtain ⟨T, hni, hno, hL, D, hr⟩ := C'
  intro d
  induction d with
  | zero =>
    intro s mu' ca' n hs hn I
    obtain ⟨n, rfl⟩ : ∃ y, n = y + 1 := ⟨n - 1, by omega⟩
    rw [show s = no by omega] at I ⊢
    refine pk_le no no (fun _ => ?_) (fun h => absurd h (by omega))
    refine xc_lanes (mk := mk) (g := fun _ => bt x) C F ha (ld_Sm S0 (fun w hw => I.1 w (by rcases hw with c | c <;> omega))) (sv_ld I2 I hi (fun j hj l hl => by rw [show ni + j - ni = j by omega]; exact mk_vl x j l hl)) (fun mu1 ca1 o ho => ?_)
    have h0 := ho 0 (by omega)
    refine rc_ifb (ln_and1 o) (fun z => K0 (fun q => ?_) mu1 ca1) (fun z => K1 (h0.mp z) mu1 ca1)
    rw [h0.mpr q] at z; cases z
  | succ d ih =>
    intro s mu' ca' n hs hn I
    obtain ⟨n, rfl⟩ : ∃ y, n = y + 1 := ⟨n - 1, by omega⟩
    have st := ld_Is (Nat.le_add_right ni s) I
    rw [show ni + s - ni = s by omega] at st
    have nxt : ∀ v, v = mk_v x s → wX_coherent_43 post (wX_coherent_20 post x n) x (nI s) v f_wireFalse f_wireTrue f_signalBase f_bootWire f_registerBase f_firstGate f_wireLimit f_opAnd f_opOr f_opNot f_codes f_cells f_resumeBase f_rootRow f_endRow f_stayRow f_leftRow f_rightRow (nI ni) (nI no) f_nodeLimit f_count f_phaseNow f_instantCount f_rejectedCount f_wireCount (nI lE) a_kindOf a_argOf a_firstOf a_secondOf a_parentOf a_activeNode a_lastStatus a_inTree a_trapDepth a_firstCodes a_gateOp a_gateA a_gateB a_inverseOf a_cell a_selWire a_keepStart a_keepResume a_frozen a_nextWire mu' ca' := by
      intro v hv
      subst hv
      unfold wX_coherent_43
      exact xl_set (nI_add ni s) (by omega) (nm_r (nI_1 s) (ih (s + 1) _ _ n (by omega) (by omega) st))
    refine pk_le no s (fun h => absurd h (by omega)) (fun _ => rc_ifb (rc_shr1 (show s < 32 by omega) x) (fun h => nxt _ ?_) (fun h => nxt _ ?_))
    · unfold mk_v; rw [h, if_neg Bool.false_ne_true]
    · unfold mk_v; rw [if_pos h]
end
section
variable {f_inputs f_outputs f_cap f_count f_phase f_root f_instants f_rejected f_activeLeaves : Int32} {a_kind a_arg a_first a_second a_parent a_shown a_e a_fst a_ms a_cs a_mk a_ck a_left : Nat → Int32}
variable {post : Int32 → SY → Prop} {R : Nat → rn_T} {ni no N : Nat} {κ A P Q U : Nat → Nat} {r rt : Nat} {td : Nat → Nat}
theorem yc_11 {x g : Int32} (C : cx_T ni no N κ A P Q U r f_activeLeaves rt td) (hT : ln_T N a_kind a_arg a_first a_second a_parent κ A P Q U) (ert : rt = if f_phase = 2 then 32 + r else r)
    (K1 : ch_P ni no (st_R N κ A P Q U f_activeLeaves (sg_g ni (bt x) (bt g)) rt) (bt g) → ∀ (e : Nat → Int32) (R : Nat → rn_T), post 1 (nI ni, nI no, f_cap, nI N, f_phase, nI r, f_instants, f_rejected, f_activeLeaves, a_kind, a_arg, a_first, a_second, a_parent, a_shown, e, a_fst, fun zz => (R zz).1, fun zz => (R zz).2.1, fun zz => (R zz).2.2.1, fun zz => (R zz).2.2.2.1, fun zz => (R zz).2.2.2.2))
    (K0 : ¬ ch_P ni no (st_R N κ A P Q U f_activeLeaves (sg_g ni (bt x) (bt g)) rt) (bt g) → ∀ (e : Nat → Int32) (R : Nat → rn_T), post 0 (nI ni, nI no, f_cap, nI N, f_phase, nI r, f_instants, f_rejected, f_activeLeaves, a_kind, a_arg, a_first, a_second, a_parent, a_shown, e, a_fst, fun zz => (R zz).1, fun zz => (R zz).2.1, fun zz => (R zz).2.2.1, fun zz => (R zz).2.2.2.1, fun zz => (R zz).2.2.2.2)) :
    ∀ d s n (e : Nat → Int32), s + d = ni + no → d < n → (∀ j, j < s → e j = sg_g ni (bt x) (bt g) j) → wY_coherent_11 post x g (nI ni) (nI no) f_cap (nI N) f_phase (nI r) f_instants f_rejected f_activeLeaves n (nI s) a_kind a_arg a_first a_second a_parent a_shown e a_fst (fun zz => (R zz).1) (fun zz => (R zz).2.1) (fun zz => (R zz).2.2.1) (fun zz => (R zz).2.2.2.1) (fun zz => (R zz).2.2.2.2) := by
  have C' := C
  obtain ⟨T, hni, hno, hL, D, hr⟩ := C'
  have hN := T.1
  have hrt : rt < 65 := by have := hr.1; rcases hr.2 with h | ⟨h, _⟩ <;> omega
  intro d
  induction d with
  | zero =>
    intro s n e hs hn he
    obtain ⟨n, rfl⟩ : ∃ y, n = y + 1 := ⟨n - 1, by omega⟩
    rw [show s = ni + no by omega] at he ⊢
    refine pk_le (ni + no) (ni + no) (fun _ => ?_) (fun h => absurd h (by omega)) (nI_add ni no)
    refine yr_all T (by omega) hT hL (fun R1 hR1 => ?_)
    rw [← ert]
    refine ⟨vp_in_nI hrt (by decide), ?_⟩
    rw [nI_clamp (show rt < 2 ^ 31 by omega)]
    have G := cx_G C hR1
    have q : st_R N κ A P Q U f_activeLeaves (sg_g ni (bt x) (bt g)) rt = R1 rt := st_Re T hL hr (fun j hj => he j hj) hR1
    rw [q] at K1 K0
    have i := ch_eq (g := g) hni hno G.2.2.2.2.1
    exact rc_if i (fun z => K1 z _ _) (fun z => K0 z _ _)
  | succ d ih =>
    intro s n e hs hn he
    obtain ⟨n, rfl⟩ : ∃ y, n = y + 1 := ⟨n - 1, by omega⟩
    have hi : vp_in (nI s) 10 := vp_in_nI (by omega) (by decide)
    have cs : (nI s).toNatClampNeg = s := nI_clamp (by omega)
    have nxt : ∀ v, v = sg_g ni (bt x) (bt g) s → ∀ j, j < s + 1 → upd e s v j = sg_g ni (bt x) (bt g) j := by
      intro v hv j hj
      by_cases c : j = s
      · subst c; rw [pk_us]; exact hv
      · rw [pk_un c]; exact he j (by omega)
    refine pk_le (ni + no) s (fun h => absurd h (by omega)) (fun _ => pk_le ni s (fun h => ⟨hi, ?_⟩) (fun h => ⟨hi, ?_⟩)) (nI_add ni no)
    · rw [cs, nI_1 s, pk_sub h]
      exact nm_e (nm_e (ih (s + 1) n _ (by omega) (by omega) (nxt _ (by unfold sg_g; rw [if_neg (by omega)]; exact rc_sh1v (by omega) g))))
    · rw [cs, nI_1 s]
      exact nm_e (nm_e (ih (s + 1) n _ (by omega) (by omega) (nxt _ (by unfold sg_g; rw [if_pos h]; exact rc_sh1v (by omega) x))))
theorem yc_coh {x g : Int32} (hp : f_phase = 1 ∨ f_phase = 2) (C : cx_T ni no N κ A P Q U r f_activeLeaves rt td) (hT : ln_T N a_kind a_arg a_first a_second a_parent κ A P Q U) (ert : rt = if f_phase = 2 then 32 + r else r)
    (K1 : ch_P ni no (st_R N κ A P Q U f_activeLeaves (sg_g ni (bt x) (bt g)) rt) (bt g) → ∀ (e : Nat → Int32) (R : Nat → rn_T), post 1 (nI ni, nI no, f_cap, nI N, f_phase, nI r, f_instants, f_rejected, f_activeLeaves, a_kind, a_arg, a_first, a_second, a_parent, a_shown, e, a_fst, fun zz => (R zz).1, fun zz => (R zz).2.1, fun zz => (R zz).2.2.1, fun zz => (R zz).2.2.2.1, fun zz => (R zz).2.2.2.2))
    (K0 : ¬ ch_P ni no (st_R N κ A P Q U f_activeLeaves (sg_g ni (bt x) (bt g)) rt) (bt g) → ∀ (e : Nat → Int32) (R : Nat → rn_T), post 0 (nI ni, nI no, f_cap, nI N, f_phase, nI r, f_instants, f_rejected, f_activeLeaves, a_kind, a_arg, a_first, a_second, a_parent, a_shown, e, a_fst, fun zz => (R zz).1, fun zz => (R zz).2.1, fun zz => (R zz).2.2.1, fun zz => (R zz).2.2.2.1, fun zz => (R zz).2.2.2.2)) :
    wpY_coherent post (nI ni, nI no, f_cap, nI N, f_phase, nI r, f_instants, f_rejected, f_activeLeaves, a_kind, a_arg, a_first, a_second, a_parent, a_shown, a_e, a_fst, fun zz => (R zz).1, fun zz => (R zz).2.1, fun zz => (R zz).2.2.1, fun zz => (R zz).2.2.2.1, fun zz => (R zz).2.2.2.2) x g := by
  unfold wpY_coherent
  refine yq_run (fun _ => br_f (by decide) ?_) (fun z => absurd hp z)
  exact ⟨ni + no + 1, yc_11 C hT ert K1 K0 (ni + no) 0 (ni + no + 1) a_e (by omega) (by omega) (fun j h => absurd h (by omega))⟩
end
theorem i_vc_coherent {k : Nat} {u : SX} {v : SY} (I : i_Rel k u v) (hk : k + 5 ≤ 2563) (v1 : Int32) (v2 : Int32) : wpX_coherent (fun r u' => wpY_coherent (fun r' v' => r' = r ∧ i_Rel (k + 5) u' v') v v1 v2) u v1 v2 := by
  refine i_el (Z := fun u v => wpX_coherent (fun r u' => wpY_coherent (fun r' v' => r' = r ∧ i_Rel (k + 5) u' v') v v1 v2) u v1 v2) ?_ I
  intro ni no cap N f_wireFalse f_wireTrue f_signalBase f_bootWire f_registerBase f_firstGate f_wireLimit f_opAnd f_opOr f_opNot f_codes f_cells f_resumeBase f_rootRow f_endRow f_stayRow f_leftRow f_rightRow f_phaseNow f_instantCount f_rejectedCount f_wireCount f_logicEnd a_kindOf a_argOf a_firstOf a_secondOf a_parentOf a_activeNode a_lastStatus a_inTree a_trapDepth a_firstCodes a_gateOp a_gateA a_gateB a_inverseOf a_cell a_selWire a_keepStart a_keepResume a_frozen a_nextWire a_must a_can f_root f_activeLeaves a_e a_fst a_ms a_cs a_mk a_ck a_left G
  unfold wpX_coherent
  refine xq_run (fun hp => br_f (by decide) ?_) (fun hp => br_t rfl ?_)
  rotate_left
  · unfold wpY_coherent
    exact yq_run (fun z => absurd z hp) (fun _ => br_t rfl ⟨rfl, i_in G⟩)
  obtain ⟨κ, A, P, Q, U, r, rt, wc, lE, td, e1, e2, e3, C, hT, ert, hph, F, X, ha, hur, hI⟩ := ir_run G hp
  have C' := C
  obtain ⟨T, hni, hno, hL, D, hr⟩ := C'
  subst e1 e2 e3
  refine xl_state T.1 (fun mu1 ca1 S1 => ?_)
  rw [xo_hz (r := r) (rt := rt) hph] at S1
  refine xl_inputs hni (fun mu2 ca2 I2 => ?_)
  have S2 : ld_S N (if rt = r then -1 else 0) a_activeNode mu2 ca2 := ld_Sm S1 (fun w hw => I2.1 w (by rcases hw with c | c <;> omega))
  refine ⟨no + 1, xc_20 (mk := bt v1) C F ha S2 I2 (fun s hs l hl => mk_vl v1 s l hl) (fun q mu' ca' => ?_) (fun q mu' ca' => ?_) no 0 mu2 ca2 (no + 1) (by omega) (by omega) ld_I0⟩
  · exact yc_coh (R := fun t => (a_ms t, a_cs t, a_mk t, a_ck t, a_left t)) hp C hT ert (fun _ e R => ⟨rfl, i_in G⟩) (fun z => absurd q z)
  · exact yc_coh (R := fun t => (a_ms t, a_cs t, a_mk t, a_ck t, a_left t)) hp C hT ert (fun z => absurd z q) (fun _ e R => ⟨rfl, i_in G⟩)
end
section
/-! ===== countCoherent, firstNonCausal ===== -/
theorem ld_Iv {lo s : Nat} {vo vo' : Nat → Int64} {mu ca mu' ca' : Nat → Int64} (h : ld_I lo s vo vo mu ca mu' ca') (k : ∀ z, lo ≤ z → z < s → vo' z = vo z) : ld_I lo s vo' vo' mu ca mu' ca' :=
  ⟨h.1, fun z h1 h2 => by have := h.2 z h1 h2; rw [k z h1 h2]; exact this⟩
section
variable {f_wireFalse f_wireTrue f_signalBase f_bootWire f_registerBase f_firstGate f_wireLimit f_opAnd f_opOr f_opNot f_codes f_cells f_resumeBase f_rootRow f_endRow f_stayRow f_leftRow f_rightRow f_inputSignals f_outputSignals f_nodeLimit f_count f_phaseNow f_instantCount f_rejectedCount f_wireCount f_logicEnd : Int32} {a_kindOf a_argOf a_firstOf a_secondOf a_parentOf a_activeNode a_lastStatus a_inTree a_trapDepth a_firstCodes a_gateOp a_gateA a_gateB a_inverseOf a_cell a_selWire a_keepStart a_keepResume a_frozen a_nextWire : Nat → Int32} {a_must a_can : Nat → Int64}
variable {ni no N : Nat} {κ A P Q U : Nat → Nat} {r : Nat} {L : Int32} {rt : Nat} {td : Nat → Nat} {wc lE : Nat} {mu ca : Nat → Int64} {sw nx : Nat → Int32}
theorem xn_71 {post : Int32 → SX → Prop} {o : Int64} {f : Nat → Bool} {B : Nat} (hB : B ≤ 64) (ho : ∀ l, l < 64 → ln_b o l = f l) (K : post (nI (ct_n f B)) (f_wireFalse, f_wireTrue, f_signalBase, f_bootWire, f_registerBase, f_firstGate, f_wireLimit, f_opAnd, f_opOr, f_opNot, f_codes, f_cells, f_resumeBase, f_rootRow, f_endRow, f_stayRow, f_leftRow, f_rightRow, f_inputSignals, f_outputSignals, f_nodeLimit, f_count, f_phaseNow, f_instantCount, f_rejectedCount, f_wireCount, f_logicEnd, a_kindOf, a_argOf, a_firstOf, a_secondOf, a_parentOf, a_activeNode, a_lastStatus, a_inTree, a_trapDepth, a_firstCodes, a_gateOp, a_gateA, a_gateB, a_inverseOf, a_cell, a_selWire, a_keepStart, a_keepResume, a_frozen, a_nextWire, a_must, a_can)) :
    ∀ d g n, g + d = B → d < n → wX_countCoherent_71 post o (nI B) f_wireFalse f_wireTrue f_signalBase f_bootWire f_registerBase f_firstGate f_wireLimit f_opAnd f_opOr f_opNot f_codes f_cells f_resumeBase f_rootRow f_endRow f_stayRow f_leftRow f_rightRow f_inputSignals f_outputSignals f_nodeLimit f_count f_phaseNow f_instantCount f_rejectedCount f_wireCount f_logicEnd a_kindOf a_argOf a_firstOf a_secondOf a_parentOf a_activeNode a_lastStatus a_inTree a_trapDepth a_firstCodes a_gateOp a_gateA a_gateB a_inverseOf a_cell a_selWire a_keepStart a_keepResume a_frozen a_nextWire a_must a_can n (nI (ct_n f g)) (nI g) := by
  intro d
  induction d with
  | zero =>
    intro g n hg hn
    obtain ⟨n, rfl⟩ : ∃ y, n = y + 1 := ⟨n - 1, by omega⟩
    rw [show g = B by omega]
    exact pk_le B B (fun _ => K) (fun h => absurd h (by omega))
  | succ d ih =>
    intro g n hg hn
    obtain ⟨n, rfl⟩ : ∃ y, n = y + 1 := ⟨n - 1, by omega⟩
    have I := ih (g + 1) n (by omega) (by omega)
    rw [ct_n] at I
    refine pk_le B g (fun h => absurd h (by omega)) (fun _ => rc_ifb (ln_ushr1 (show g < 64 by omega) o) (fun z => nm_r (nI_1 g) ?_) (fun z => nm_r (nI_1 _) (nm_r (nI_1 g) ?_)))
    · rw [ho g (by omega)] at z
      rw [z, if_neg Bool.false_ne_true, Nat.add_zero] at I; exact I
    · rw [ho g (by omega)] at z
      rw [z, if_pos rfl] at I; exact I
theorem xn_20 {post : Int32 → SX → Prop} {mk : Nat → Bool} {mu0 ca0 : Nat → Int64} {vi : Nat → Int64} (C : cx_T ni no N κ A P Q U r L rt td) (F : cp_F ni N κ A P Q U r wc lE a_gateOp a_gateA a_gateB a_cell sw nx) (ha : ∀ n, n < N → a_activeNode n = if ac_b N U L n = true then 1 else 0)
    (S0 : ld_S N (if rt = r then -1 else 0) a_activeNode mu ca) (I2 : ld_I 0 ni vi vi mu0 ca0 mu ca) (hi : ∀ s, s < ni → ∀ l, l < 64 → ln_b (vi s) l = mk s)
    (K : ∀ mu' ca', post (nI (ct_n (fun g => pb_P (ch_P ni no (st_R N κ A P Q U L (sg_g ni mk (bt (nI g))) rt) (bt (nI g)))) (2 ^ no))) (f_wireFalse, f_wireTrue, f_signalBase, f_bootWire, f_registerBase, f_firstGate, f_wireLimit, f_opAnd, f_opOr, f_opNot, f_codes, f_cells, f_resumeBase, f_rootRow, f_endRow, f_stayRow, f_leftRow, f_rightRow, nI ni, nI no, f_nodeLimit, f_count, f_phaseNow, f_instantCount, f_rejectedCount, f_wireCount, nI lE, a_kindOf, a_argOf, a_firstOf, a_secondOf, a_parentOf, a_activeNode, a_lastStatus, a_inTree, a_trapDepth, a_firstCodes, a_gateOp, a_gateA, a_gateB, a_inverseOf, a_cell, a_selWire, a_keepStart, a_keepResume, a_frozen, a_nextWire, mu', ca')) :
    ∀ d s mu' ca' vo n, s + d = no → d < n → ld_I ni (ni + s) vo vo mu ca mu' ca' → (∀ j, j < s → ∀ l, l < 64 → ln_b (vo (ni + j)) l = bt (nI l) j) → wX_countCoherent_20 post n (nI s) f_wireFalse f_wireTrue f_signalBase f_bootWire f_registerBase f_firstGate f_wireLimit f_opAnd f_opOr f_opNot f_codes f_cells f_resumeBase f_rootRow f_endRow f_stayRow f_leftRow f_rightRow (nI ni) (nI no) f_nodeLimit f_count f_phaseNow f_instantCount f_rejectedCount f_wireCount (nI lE) a_kindOf a_argOf a_firstOf a_secondOf a_parentOf a_activeNode a_lastStatus a_inTree a_trapDepth a_firstCodes a_gateOp a_gateA a_gateB a_inverseOf a_cell a_selWire a_keepStart a_keepResume a_frozen a_nextWire mu' ca' := by
  have C' := C
  obtain ⟨T, hni, hno, hL, D, hr⟩ := C'
  intro d
  induction d with
  | zero =>
    intro s mu' ca' vo n hs hn I hv
    obtain ⟨n, rfl⟩ : ∃ y, n = y + 1 := ⟨n - 1, by omega⟩
    rw [show s = no by omega] at I hv ⊢
    refine pk_le no no (fun _ => ?_) (fun h => absurd h (by omega))
    refine xc_lanes (mk := mk) (g := fun l => bt (nI l)) C F ha (ld_Sm S0 (fun w hw => I.1 w (by rcases hw with c | c <;> omega))) (sv_ld I2 I hi hv) (fun mu1 ca1 o ho => ?_)
    refine nm_r (ch_pw no (by omega)) ⟨2 ^ no + 1, ?_⟩
    have p64 : 2 ^ no ≤ 64 := by
      have := Nat.pow_le_pow_right (show 0 < 2 by omega) hno
      omega
    refine xn_71 (f := fun g => pb_P (ch_P ni no (st_R N κ A P Q U L (sg_g ni mk (bt (nI g))) rt) (bt (nI g)))) p64 (fun l hl => ?_) (K mu1 ca1) (2 ^ no) 0 (2 ^ no + 1) (by omega) (by omega)
    have h := ho l hl
    cases z : ln_b o l with
    | true => exact (pb_t (h.mp z)).symm
    | false => exact (pb_f (fun q => by rw [h.mpr q] at z; cases z)).symm
  | succ d ih =>
    intro s mu' ca' vo n hs hn I hv
    obtain ⟨n, rfl⟩ : ∃ y, n = y + 1 := ⟨n - 1, by omega⟩
    refine pk_le no s (fun h => absurd h (by omega)) (fun _ => ?_)
    refine xo_lp (show s < 32 by omega) (fun o ho => ?_)
    refine xl_set (nI_add ni s) (by omega) (nm_r (nI_1 s) ?_)
    have I' := ld_Iv (vo' := fun z => if z = ni + s then o else vo z) I (fun z h1 h2 => if_neg (by omega))
    have st := ld_Is (Nat.le_add_right ni s) I'
    rw [if_pos rfl] at st
    refine ih (s + 1) _ _ _ n (by omega) (by omega) st (fun j hj l hl => ?_)
    by_cases c : j = s
    · subst c; rw [if_pos rfl]; exact ho l hl
    · rw [if_neg (by omega)]; exact hv j (by omega) l hl
/-- the first lane whose outputs stay open -/
theorem xn_65 {post : Int32 → SX → Prop} {o : Int64} {bad : Nat → Prop} {B : Nat} (hB : B ≤ 64) (ho : ∀ l, l < 64 → (ln_b o l = true ↔ bad l)) (K1 : ∀ m, m < B → bad m → (∀ j, j < m → ¬ bad j) → post (nI m) (f_wireFalse, f_wireTrue, f_signalBase, f_bootWire, f_registerBase, f_firstGate, f_wireLimit, f_opAnd, f_opOr, f_opNot, f_codes, f_cells, f_resumeBase, f_rootRow, f_endRow, f_stayRow, f_leftRow, f_rightRow, f_inputSignals, f_outputSignals, f_nodeLimit, f_count, f_phaseNow, f_instantCount, f_rejectedCount, f_wireCount, f_logicEnd, a_kindOf, a_argOf, a_firstOf, a_secondOf, a_parentOf, a_activeNode, a_lastStatus, a_inTree, a_trapDepth, a_firstCodes, a_gateOp, a_gateA, a_gateB, a_inverseOf, a_cell, a_selWire, a_keepStart, a_keepResume, a_frozen, a_nextWire, a_must, a_can)) (K0 : (∀ m, m < B → ¬ bad m) → post (-5) (f_wireFalse, f_wireTrue, f_signalBase, f_bootWire, f_registerBase, f_firstGate, f_wireLimit, f_opAnd, f_opOr, f_opNot, f_codes, f_cells, f_resumeBase, f_rootRow, f_endRow, f_stayRow, f_leftRow, f_rightRow, f_inputSignals, f_outputSignals, f_nodeLimit, f_count, f_phaseNow, f_instantCount, f_rejectedCount, f_wireCount, f_logicEnd, a_kindOf, a_argOf, a_firstOf, a_secondOf, a_parentOf, a_activeNode, a_lastStatus, a_inTree, a_trapDepth, a_firstCodes, a_gateOp, a_gateA, a_gateB, a_inverseOf, a_cell, a_selWire, a_keepStart, a_keepResume, a_frozen, a_nextWire, a_must, a_can)) :
    ∀ d g n, g + d = B → d < n → (∀ j, j < g → ¬ bad j) → wX_firstNonCausal_65 post o (nI B) f_wireFalse f_wireTrue f_signalBase f_bootWire f_registerBase f_firstGate f_wireLimit f_opAnd f_opOr f_opNot f_codes f_cells f_resumeBase f_rootRow f_endRow f_stayRow f_leftRow f_rightRow f_inputSignals f_outputSignals f_nodeLimit f_count f_phaseNow f_instantCount f_rejectedCount f_wireCount f_logicEnd a_kindOf a_argOf a_firstOf a_secondOf a_parentOf a_activeNode a_lastStatus a_inTree a_trapDepth a_firstCodes a_gateOp a_gateA a_gateB a_inverseOf a_cell a_selWire a_keepStart a_keepResume a_frozen a_nextWire a_must a_can n (nI g) := by
  intro d
  induction d with
  | zero =>
    intro g n hg hn h
    obtain ⟨n, rfl⟩ : ∃ y, n = y + 1 := ⟨n - 1, by omega⟩
    rw [show g = B by omega] at h ⊢
    exact pk_le B B (fun _ => K0 h) (fun h => absurd h (by omega))
  | succ d ih =>
    intro g n hg hn h
    obtain ⟨n, rfl⟩ : ∃ y, n = y + 1 := ⟨n - 1, by omega⟩
    have i := ho g (by omega)
    refine pk_le B g (fun h => absurd h (by omega)) (fun _ => rc_ifb (ln_ushr1 (show g < 64 by omega) o) (fun z => nm_r (nI_1 g) (ih (g + 1) n (by omega) (by omega) (fun j hj => ?_))) (fun z => K1 g (by omega) (i.mp z) h))
    by_cases c : j = g
    · subst c; intro q; rw [i.mpr q] at z; cases z
    · exact h j (by omega)
theorem xn_15 {post : Int32 → SX → Prop} (C : cx_T ni no N κ A P Q U r L rt td) (F : cp_F ni N κ A P Q U r wc lE a_gateOp a_gateA a_gateB a_cell sw nx) (ha : ∀ n, n < N → a_activeNode n = if ac_b N U L n = true then 1 else 0)
    (S0 : ld_S N (if rt = r then -1 else 0) a_activeNode mu ca)
    (K1 : ∀ (E : Nat → Nat → Int32) m mu' ca', (∀ l, l < 64 → st_L ni no N κ A P Q U L rt (sg_0 ni (bt (nI l))) (E l)) → m < 2 ^ ni → (∃ s, ni ≤ s ∧ s < ni + no ∧ E m s = 2) → (∀ j, j < m → ¬ ∃ s, ni ≤ s ∧ s < ni + no ∧ E j s = 2) → post (nI m) (f_wireFalse, f_wireTrue, f_signalBase, f_bootWire, f_registerBase, f_firstGate, f_wireLimit, f_opAnd, f_opOr, f_opNot, f_codes, f_cells, f_resumeBase, f_rootRow, f_endRow, f_stayRow, f_leftRow, f_rightRow, nI ni, nI no, f_nodeLimit, f_count, f_phaseNow, f_instantCount, f_rejectedCount, f_wireCount, nI lE, a_kindOf, a_argOf, a_firstOf, a_secondOf, a_parentOf, a_activeNode, a_lastStatus, a_inTree, a_trapDepth, a_firstCodes, a_gateOp, a_gateA, a_gateB, a_inverseOf, a_cell, a_selWire, a_keepStart, a_keepResume, a_frozen, a_nextWire, mu', ca'))
    (K0 : ∀ (E : Nat → Nat → Int32) mu' ca', (∀ l, l < 64 → st_L ni no N κ A P Q U L rt (sg_0 ni (bt (nI l))) (E l)) → (∀ m, m < 2 ^ ni → ¬ ∃ s, ni ≤ s ∧ s < ni + no ∧ E m s = 2) → post (-5) (f_wireFalse, f_wireTrue, f_signalBase, f_bootWire, f_registerBase, f_firstGate, f_wireLimit, f_opAnd, f_opOr, f_opNot, f_codes, f_cells, f_resumeBase, f_rootRow, f_endRow, f_stayRow, f_leftRow, f_rightRow, nI ni, nI no, f_nodeLimit, f_count, f_phaseNow, f_instantCount, f_rejectedCount, f_wireCount, nI lE, a_kindOf, a_argOf, a_firstOf, a_secondOf, a_parentOf, a_activeNode, a_lastStatus, a_inTree, a_trapDepth, a_firstCodes, a_gateOp, a_gateA, a_gateB, a_inverseOf, a_cell, a_selWire, a_keepStart, a_keepResume, a_frozen, a_nextWire, mu', ca')) :
    ∀ d s mu' ca' vo n, s + d = ni → d < n → ld_I 0 s vo vo mu ca mu' ca' → (∀ j, j < s → ∀ l, l < 64 → ln_b (vo j) l = bt (nI l) j) → wX_firstNonCausal_15 post n (nI s) f_wireFalse f_wireTrue f_signalBase f_bootWire f_registerBase f_firstGate f_wireLimit f_opAnd f_opOr f_opNot f_codes f_cells f_resumeBase f_rootRow f_endRow f_stayRow f_leftRow f_rightRow (nI ni) (nI no) f_nodeLimit f_count f_phaseNow f_instantCount f_rejectedCount f_wireCount (nI lE) a_kindOf a_argOf a_firstOf a_secondOf a_parentOf a_activeNode a_lastStatus a_inTree a_trapDepth a_firstCodes a_gateOp a_gateA a_gateB a_inverseOf a_cell a_selWire a_keepStart a_keepResume a_frozen a_nextWire mu' ca' := by
  have C' := C
  obtain ⟨T, hni, hno, hL, D, hr⟩ := C'
  intro d
  induction d with
  | zero =>
    intro s mu' ca' vo n hs hn I hv
    obtain ⟨n, rfl⟩ : ∃ y, n = y + 1 := ⟨n - 1, by omega⟩
    rw [show s = ni by omega] at I hv ⊢
    refine pk_le ni ni (fun _ => ?_) (fun h => absurd h (by omega))
    refine xl_unknown hni hno (fun mu3 ca3 I3 => ?_)
    have S3 : ld_S N (if rt = r then -1 else 0) a_activeNode mu3 ca3 := ld_Sm S0 (fun w hw => by
      have a := I3.1 w (by rcases hw with c | c <;> omega)
      have b := I.1 w (by rcases hw with c | c <;> omega)
      exact ⟨a.1.trans b.1, a.2.trans b.2⟩)
    refine xv_solve (E0 := fun l => sg_0 ni (bt (nI l))) C F rfl ha S3 (fun l hl s hs => ⟨?_, sg_3 s⟩) (fun mu4 ca4 E S4 hE hSt hV => ?_)
    · show ln_V mu3 ca3 l (2 + s) = rn_en (sg_0 ni (bt (nI l)) s)
      by_cases c : s < ni
      · have a := I3.1 (2 + s) (by omega)
        have b := I.2 s (Nat.zero_le s) c
        unfold ln_V
        rw [a.1, a.2, b.1, b.2, hv s c l hl]
        unfold sg_0
        rw [if_pos c]
        cases z : bt (nI l) s with
        | true => rw [if_pos rfl]; rfl
        | false => rw [if_neg Bool.false_ne_true]; rfl
      · have b := I3.2 s (by omega) hs
        unfold ln_V
        rw [b.1, b.2, ln_0, ln_m1 l hl]
        unfold sg_0
        rw [if_neg c]; rfl
    · refine xo_open hni hno hE (fun o ho => nm_r (ch_pw ni (by omega)) ⟨2 ^ ni + 1, ?_⟩)
      have p64 : 2 ^ ni ≤ 64 := by
        have := Nat.pow_le_pow_right (show 0 < 2 by omega) hni
        omega
      exact xn_65 p64 ho (fun m hm b hj => K1 E m mu4 ca4 hSt hm b hj) (fun h => K0 E mu4 ca4 hSt h) (2 ^ ni) 0 (2 ^ ni + 1) (by omega) (by omega) (fun j h => absurd h (by omega))
  | succ d ih =>
    intro s mu' ca' vo n hs hn I hv
    obtain ⟨n, rfl⟩ : ∃ y, n = y + 1 := ⟨n - 1, by omega⟩
    refine pk_le ni s (fun h => absurd h (by omega)) (fun _ => ?_)
    refine xo_lp (show s < 32 by omega) (fun o ho => ?_)
    refine xl_set rfl (by omega) (nm_r (nI_1 s) ?_)
    have I' := ld_Iv (vo' := fun z => if z = s then o else vo z) I (fun z h1 h2 => if_neg (by omega))
    have st := ld_Is (Nat.zero_le s) I'
    rw [if_pos rfl] at st
    refine ih (s + 1) _ _ _ n (by omega) (by omega) st (fun j hj l hl => ?_)
    by_cases c : j = s
    · subst c; rw [if_pos rfl]; exact ho l hl
    · rw [if_neg c]; exact hv j (by omega) l hl
end
section
variable {f_inputs f_outputs f_cap f_count f_phase f_root f_instants f_rejected f_activeLeaves : Int32} {a_kind a_arg a_first a_second a_parent a_shown a_e a_fst a_ms a_cs a_mk a_ck a_left : Nat → Int32}
variable {post : Int32 → SY → Prop} {ni no N : Nat} {κ A P Q U : Nat → Nat} {r rt : Nat} {td : Nat → Nat}
theorem yn_13 {x : Int32} (hp : f_phase = 1 ∨ f_phase = 2) (C : cx_T ni no N κ A P Q U r f_activeLeaves rt td) (hT : ln_T N a_kind a_arg a_first a_second a_parent κ A P Q U) (ert : rt = if f_phase = 2 then 32 + r else r)
    (K : ∀ (e : Nat → Int32) (R : Nat → rn_T), post (nI (ct_n (fun g => pb_P (ch_P ni no (st_R N κ A P Q U f_activeLeaves (sg_g ni (bt x) (bt (nI g))) rt) (bt (nI g)))) (2 ^ no))) (nI ni, nI no, f_cap, nI N, f_phase, nI r, f_instants, f_rejected, f_activeLeaves, a_kind, a_arg, a_first, a_second, a_parent, a_shown, e, a_fst, fun zz => (R zz).1, fun zz => (R zz).2.1, fun zz => (R zz).2.2.1, fun zz => (R zz).2.2.2.1, fun zz => (R zz).2.2.2.2)) :
    ∀ d g n (e : Nat → Int32) (R : Nat → rn_T), g + d = 2 ^ no → d < n → wY_countCoherent_13 post x n (nI (ct_n (fun g => pb_P (ch_P ni no (st_R N κ A P Q U f_activeLeaves (sg_g ni (bt x) (bt (nI g))) rt) (bt (nI g)))) g)) (nI g) (nI ni) (nI no) f_cap (nI N) f_phase (nI r) f_instants f_rejected f_activeLeaves a_kind a_arg a_first a_second a_parent a_shown e a_fst (fun zz => (R zz).1) (fun zz => (R zz).2.1) (fun zz => (R zz).2.2.1) (fun zz => (R zz).2.2.2.1) (fun zz => (R zz).2.2.2.2) := by
  have C' := C
  obtain ⟨T, hni, hno, hL, D, hr⟩ := C'
  have p64 : 2 ^ no ≤ 64 := by
    have := Nat.pow_le_pow_right (show 0 < 2 by omega) hno
    omega
  intro d
  induction d with
  | zero =>
    intro g n e R hg hn
    obtain ⟨n, rfl⟩ : ∃ y, n = y + 1 := ⟨n - 1, by omega⟩
    rw [show g = 2 ^ no by omega]
    exact pk_le (2 ^ no) (2 ^ no) (fun _ => K e R) (fun h => absurd h (by omega)) (ch_pw no (by omega))
  | succ d ih =>
    intro g n e R hg hn
    obtain ⟨n, rfl⟩ : ∃ y, n = y + 1 := ⟨n - 1, by omega⟩
    refine pk_le (2 ^ no) g (fun h => absurd h (by omega)) (fun _ => ?_) (ch_pw no (by omega))
    refine yc_coh hp C hT ert (fun q e1 R1 => nm_r (nI_1 _) (nm_r (nI_1 g) ?_)) (fun q e1 R1 => nm_r (show nI _ + 0 = nI _ from nI_add _ 0) (nm_r (nI_1 g) ?_))
    · have I := ih (g + 1) n e1 R1 (by omega) (by omega)
      rw [ct_n, pb_t q, if_pos rfl] at I
      exact I
    · have I := ih (g + 1) n e1 R1 (by omega) (by omega)
      rw [ct_n, pb_f q, if_neg Bool.false_ne_true] at I
      exact I
theorem yn_11 {E : Nat → Nat → Int32} (hp : f_phase = 1 ∨ f_phase = 2) (C : cx_T ni no N κ A P Q U r f_activeLeaves rt td) (hT : ln_T N a_kind a_arg a_first a_second a_parent κ A P Q U) (ert : rt = if f_phase = 2 then 32 + r else r)
    (hSt : ∀ l, l < 64 → st_L ni no N κ A P Q U f_activeLeaves rt (sg_0 ni (bt (nI l))) (E l))
    (K1 : ∀ m, m < 2 ^ ni → (∃ s, ni ≤ s ∧ s < ni + no ∧ E m s = 2) → (∀ j, j < m → ¬ ∃ s, ni ≤ s ∧ s < ni + no ∧ E j s = 2) → ∀ (e : Nat → Int32) (R : Nat → rn_T), post (nI m) (nI ni, nI no, f_cap, nI N, f_phase, nI r, f_instants, f_rejected, f_activeLeaves, a_kind, a_arg, a_first, a_second, a_parent, a_shown, e, a_fst, fun zz => (R zz).1, fun zz => (R zz).2.1, fun zz => (R zz).2.2.1, fun zz => (R zz).2.2.2.1, fun zz => (R zz).2.2.2.2))
    (K0 : (∀ m, m < 2 ^ ni → ¬ ∃ s, ni ≤ s ∧ s < ni + no ∧ E m s = 2) → ∀ (e : Nat → Int32) (R : Nat → rn_T), post (-5) (nI ni, nI no, f_cap, nI N, f_phase, nI r, f_instants, f_rejected, f_activeLeaves, a_kind, a_arg, a_first, a_second, a_parent, a_shown, e, a_fst, fun zz => (R zz).1, fun zz => (R zz).2.1, fun zz => (R zz).2.2.1, fun zz => (R zz).2.2.2.1, fun zz => (R zz).2.2.2.2)) :
    ∀ d g n (e : Nat → Int32) (R : Nat → rn_T), g + d = 2 ^ ni → d < n → (∀ j, j < g → ¬ ∃ s, ni ≤ s ∧ s < ni + no ∧ E j s = 2) → wY_firstNonCausal_11 post n (nI g) (nI ni) (nI no) f_cap (nI N) f_phase (nI r) f_instants f_rejected f_activeLeaves a_kind a_arg a_first a_second a_parent a_shown e a_fst (fun zz => (R zz).1) (fun zz => (R zz).2.1) (fun zz => (R zz).2.2.1) (fun zz => (R zz).2.2.2.1) (fun zz => (R zz).2.2.2.2) := by
  have C' := C
  obtain ⟨T, hni, hno, hL, D, hr⟩ := C'
  have p64 : 2 ^ ni ≤ 64 := by
    have := Nat.pow_le_pow_right (show 0 < 2 by omega) hni
    omega
  intro d
  induction d with
  | zero =>
    intro g n e R hg hn h
    obtain ⟨n, rfl⟩ : ∃ y, n = y + 1 := ⟨n - 1, by omega⟩
    rw [show g = 2 ^ ni by omega] at h ⊢
    exact pk_le (2 ^ ni) (2 ^ ni) (fun _ => K0 h e R) (fun h => absurd h (by omega)) (ch_pw ni (by omega))
  | succ d ih =>
    intro g n e R hg hn h
    obtain ⟨n, rfl⟩ : ∃ y, n = y + 1 := ⟨n - 1, by omega⟩
    refine pk_le (2 ^ ni) g (fun h => absurd h (by omega)) (fun _ => ?_) (ch_pw ni (by omega))
    unfold wpY_derive
    refine yq_run (fun _ => br_f (by decide) ?_) (fun z => absurd hp z)
    refine ys_solve T hni hno hT hL ert hr (fun ef R1 hS hR1 => ?_)
    have q := st_Lu T hL hr (st_qr _) (hSt g (by omega)) hS
    have i : sg_a ni no ef (R1 rt) = 2 ↔ ∃ s, ni ≤ s ∧ s < ni + no ∧ E g s = 2 := by
      rw [← sg_ac q]
      constructor
      · intro z
        apply Classical.byContradiction
        intro y
        unfold sg_a at z
        rw [pb_f y, if_neg Bool.false_ne_true] at z
        cases w : bt (R1 rt).2.2.1 0 <;> rw [w] at z <;> exact absurd z (by decide)
      · intro z
        unfold sg_a
        rw [pb_t z, if_pos rfl]
    refine rc_if i (fun z => K1 g (by omega) z h ef R1) (fun z => nm_r (nI_1 g) (ih (g + 1) n ef R1 (by omega) (by omega) (fun j hj => ?_)))
    by_cases c : j = g
    · subst c; exact z
    · exact h j (by omega)
end
theorem i_vc_countCoherent {k : Nat} {u : SX} {v : SY} (I : i_Rel k u v) (hk : k + 5 ≤ 2563) (v1 : Int32) : wpX_countCoherent (fun r u' => wpY_countCoherent (fun r' v' => r' = r ∧ i_Rel (k + 5) u' v') v v1) u v1 := by
  refine i_el (Z := fun u v => wpX_countCoherent (fun r u' => wpY_countCoherent (fun r' v' => r' = r ∧ i_Rel (k + 5) u' v') v v1) u v1) ?_ I
  intro ni no cap N f_wireFalse f_wireTrue f_signalBase f_bootWire f_registerBase f_firstGate f_wireLimit f_opAnd f_opOr f_opNot f_codes f_cells f_resumeBase f_rootRow f_endRow f_stayRow f_leftRow f_rightRow f_phaseNow f_instantCount f_rejectedCount f_wireCount f_logicEnd a_kindOf a_argOf a_firstOf a_secondOf a_parentOf a_activeNode a_lastStatus a_inTree a_trapDepth a_firstCodes a_gateOp a_gateA a_gateB a_inverseOf a_cell a_selWire a_keepStart a_keepResume a_frozen a_nextWire a_must a_can f_root f_activeLeaves a_e a_fst a_ms a_cs a_mk a_ck a_left G
  unfold wpX_countCoherent wpY_countCoherent
  refine xq_run (fun hp => br_f (by decide) ?_) (fun hp => br_t rfl (yq_run (fun z => absurd z hp) (fun _ => br_t rfl ⟨rfl, i_in G⟩)))
  obtain ⟨κ, A, P, Q, U, r, rt, wc, lE, td, e1, e2, e3, C, hT, ert, hph, F, X, ha, hur, hI⟩ := ir_run G hp
  have C' := C
  obtain ⟨T, hni, hno, hL, D, hr⟩ := C'
  subst e1 e2 e3
  refine xl_state T.1 (fun mu1 ca1 S1 => ?_)
  rw [xo_hz (r := r) (rt := rt) hph] at S1
  refine xl_inputs hni (fun mu2 ca2 I2 => ?_)
  have S2 : ld_S N (if rt = r then -1 else 0) a_activeNode mu2 ca2 := ld_Sm S1 (fun w hw => I2.1 w (by rcases hw with c | c <;> omega))
  refine ⟨no + 1, xn_20 (mk := bt v1) C F ha S2 I2 (fun s hs l hl => mk_vl v1 s l hl) (fun mu' ca' => ?_) no 0 mu2 ca2 (fun _ => 0) (no + 1) (by omega) (by omega) ld_I0 (fun j h => absurd h (by omega))⟩
  refine yq_run (fun _ => br_f (by decide) ?_) (fun z => absurd hp z)
  exact ⟨2 ^ no + 1, yn_13 hp C hT ert (fun e R => ⟨rfl, i_in G⟩) (2 ^ no) 0 (2 ^ no + 1) a_e (fun t => (a_ms t, a_cs t, a_mk t, a_ck t, a_left t)) (by omega) (by omega)⟩
theorem i_vc_firstNonCausal {k : Nat} {u : SX} {v : SY} (I : i_Rel k u v) (hk : k + 5 ≤ 2563) : wpX_firstNonCausal (fun r u' => wpY_firstNonCausal (fun r' v' => r' = r ∧ i_Rel (k + 5) u' v') v) u := by
  refine i_el (Z := fun u v => wpX_firstNonCausal (fun r u' => wpY_firstNonCausal (fun r' v' => r' = r ∧ i_Rel (k + 5) u' v') v) u) ?_ I
  intro ni no cap N f_wireFalse f_wireTrue f_signalBase f_bootWire f_registerBase f_firstGate f_wireLimit f_opAnd f_opOr f_opNot f_codes f_cells f_resumeBase f_rootRow f_endRow f_stayRow f_leftRow f_rightRow f_phaseNow f_instantCount f_rejectedCount f_wireCount f_logicEnd a_kindOf a_argOf a_firstOf a_secondOf a_parentOf a_activeNode a_lastStatus a_inTree a_trapDepth a_firstCodes a_gateOp a_gateA a_gateB a_inverseOf a_cell a_selWire a_keepStart a_keepResume a_frozen a_nextWire a_must a_can f_root f_activeLeaves a_e a_fst a_ms a_cs a_mk a_ck a_left G
  unfold wpX_firstNonCausal wpY_firstNonCausal
  refine xq_run (fun hp => br_f (by decide) ?_) (fun hp => br_t rfl (yq_run (fun z => absurd z hp) (fun _ => br_t rfl ⟨rfl, i_in G⟩)))
  obtain ⟨κ, A, P, Q, U, r, rt, wc, lE, td, e1, e2, e3, C, hT, ert, hph, F, X, ha, hur, hI⟩ := ir_run G hp
  have C' := C
  obtain ⟨T, hni, hno, hL, D, hr⟩ := C'
  subst e1 e2 e3
  refine xl_state T.1 (fun mu1 ca1 S1 => ?_)
  rw [xo_hz (r := r) (rt := rt) hph] at S1
  refine ⟨ni + 1, xn_15 C F ha S1 (fun E m mu' ca' hSt hm b hj => ?_) (fun E mu' ca' hSt hnb => ?_) ni 0 mu1 ca1 (fun _ => 0) (ni + 1) (by omega) (by omega) ld_I0 (fun j h => absurd h (by omega))⟩
  · refine yq_run (fun _ => br_f (by decide) ?_) (fun z => absurd hp z)
    refine ⟨2 ^ ni + 1, yn_11 (E := E) hp C hT ert hSt (fun m' hm' b' hj' e R => ?_) (fun z => absurd b (z m hm)) (2 ^ ni) 0 (2 ^ ni + 1) a_e (fun t => (a_ms t, a_cs t, a_mk t, a_ck t, a_left t)) (by omega) (by omega) (fun j h => absurd h (by omega))⟩
    have : m' = m := by
      rcases Nat.lt_trichotomy m' m with c | c | c
      · exact absurd b' (hj m' c)
      · exact c
      · exact absurd b (hj' m c)
    rw [this]
    exact ⟨rfl, i_in G⟩
  · refine yq_run (fun _ => br_f (by decide) ?_) (fun z => absurd hp z)
    exact ⟨2 ^ ni + 1, yn_11 (E := E) hp C hT ert hSt (fun m' hm' b' _ _ _ => absurd b' (hnb m' hm')) (fun _ e R => ⟨rfl, i_in G⟩) (2 ^ ni) 0 (2 ^ ni + 1) a_e (fun t => (a_ms t, a_cs t, a_mk t, a_ck t, a_left t)) (by omega) (by omega) (fun j h => absurd h (by omega))⟩
end
