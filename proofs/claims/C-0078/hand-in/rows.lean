section
/-! rows taken from the kit's rows to paste (a starting text) -/
def bt (x : Int32) (i : Nat) : Bool := x.toBitVec.getLsbD i
theorem b_ext {x y : Int32} (h : ∀ i, i < 32 → bt x i = bt y i) : x = y := Int32.toBitVec_inj.mp (BitVec.eq_of_getLsbD_eq (fun i hi => h i hi))
theorem b_or (x y : Int32) (i : Nat) : bt (x ||| y) i = (bt x i || bt y i) := by unfold bt; rw [Int32.toBitVec_or, BitVec.getLsbD_or]
theorem b_and (x y : Int32) (i : Nat) : bt (x &&& y) i = (bt x i && bt y i) := by unfold bt; rw [Int32.toBitVec_and, BitVec.getLsbD_and]
theorem b_xor (x y : Int32) (i : Nat) : bt (x ^^^ y) i = (bt x i ^^ bt y i) := by unfold bt; rw [Int32.toBitVec_xor, BitVec.getLsbD_xor]
theorem b_big {x : Int32} {i : Nat} (h : 32 ≤ i) : bt x i = false := BitVec.getLsbD_of_ge _ _ h
theorem b_255 (i : Nat) : bt 255 i = decide (i < 8) := by
  rcases Nat.lt_or_ge i 32 with h | h
  · exact (by decide +kernel : ∀ i, i < 32 → bt 255 i = decide (i < 8)) i h
  · rw [b_big h, decide_eq_false (by omega)]
theorem b_m1 : ∀ i, i < 32 → bt (-1) i = true := by decide +kernel
theorem b_0 (i : Nat) : bt 0 i = false := BitVec.getLsbD_zero
theorem s_l : ∀ n, n < 32 → ((nI n &&& 31).toBitVec.smod 32).toNat = n := by decide +kernel
theorem s_u : ∀ n, n < 32 → (((nI n).toUInt32 &&& Int32.toUInt32 31).toBitVec % 32).toNat = n := by decide +kernel
theorem b_shl (n : Nat) (hn : n < 32) (x : Int32) {i : Nat} (hi : i < 32) : bt (x <<< (nI n &&& 31)) i = (decide (n ≤ i) && bt x (i - n)) := by
  unfold bt
  rw [Int32.toBitVec_shiftLeft]
  show (x.toBitVec <<< ((nI n &&& 31).toBitVec.smod 32).toNat).getLsbD i = _
  rw [s_l n hn, BitVec.getLsbD_shiftLeft]
  rcases Nat.lt_or_ge i n with h | h
  · simp [h, Nat.not_le.mpr h]
  · simp [hi, h, Nat.not_lt.mpr h]
theorem b_ushr (n : Nat) (hn : n < 32) (x : Int32) (i : Nat) : bt ((x.toUInt32 >>> ((nI n).toUInt32 &&& Int32.toUInt32 31)).toInt32) i = bt x (n + i) := by
  show (x.toUInt32 >>> ((nI n).toUInt32 &&& Int32.toUInt32 31)).toBitVec.getLsbD i = x.toUInt32.toBitVec.getLsbD (n + i)
  rw [UInt32.toBitVec_shiftRight]
  show (x.toUInt32.toBitVec >>> (((nI n).toUInt32 &&& Int32.toUInt32 31).toBitVec % 32).toNat).getLsbD i = _
  rw [s_u n hn, BitVec.getLsbD_ushiftRight]
theorem b_sshr (n : Nat) (hn : n < 32) (x : Int32) {i : Nat} (hi : i < 32) : bt (x >>> (nI n &&& 31)) i = if n + i < 32 then bt x (n + i) else bt x 31 := by
  unfold bt
  rw [Int32.toBitVec_shiftRight]
  show (x.toBitVec.sshiftRight ((nI n &&& 31).toBitVec.smod 32).toNat).getLsbD i = _
  rw [s_l n hn, BitVec.getLsbD_sshiftRight, BitVec.msb_eq_getLsbD_last]
  simp [hi]
theorem ts_nf {x : Bool} (h : ¬ x = false) : x = true := by cases x <;> first | rfl | exact absurd rfl h
theorem ts_nt {x : Bool} (h : ¬ x = true) : x = false := by cases x <;> first | rfl | exact absurd rfl h
theorem ts_bit {w : Int64} {s : UInt64} {j : Nat} (hj : j < 64) (hs : s.toNat = j) : ((w.toUInt64 >>> s).toInt64 &&& 1) = 0 ↔ w.toBitVec.getLsbD j = false := by
  have e : (w.toUInt64 >>> s).toInt64.toBitVec = w.toBitVec >>> j := by
    apply BitVec.eq_of_toNat_eq
    show (w.toUInt64 >>> s).toNat = _
    rw [UInt64.toNat_shiftRight, hs, Nat.mod_eq_of_lt hj, BitVec.toNat_ushiftRight]
    rfl
  rw [← Int64.toBitVec_inj, Int64.toBitVec_and, e]
  show w.toBitVec >>> j &&& 1#64 = 0#64 ↔ _
  constructor
  · intro h
    have t := congrArg (fun x => x.getLsbD 0) h
    simpa using t
  · intro h
    apply BitVec.eq_of_getLsbD_eq
    intro i hi
    cases i with
    | zero => simp [h]
    | succ i => simp
theorem wb_c : ∀ k, k < 64 → ((nI k).toInt64 &&& 63) = lN k := by decide +kernel
theorem wb_cu : ∀ k, k < 64 → ((nI k).toInt64.toUInt64 &&& Int64.toUInt64 63) = UInt64.ofNat k := by decide +kernel
theorem wb_sm : ∀ k, k < 64 → (BitVec.ofNat 64 k).smod 64 = BitVec.ofNat 64 k := by decide +kernel
theorem u_tn {n : Nat} (h : n < 2 ^ 64) : (UInt64.ofNat n).toNat = n := Nat.mod_eq_of_lt h
theorem pk_us {f : Nat → Int32} {k : Nat} {x : Int32} : upd f k x k = x := if_pos rfl
theorem pk_un {f : Nat → Int32} {k j : Nat} {x : Int32} (h : j ≠ k) : upd f k x j = f j := if_neg h
theorem pk_uLs {f : Nat → Int64} {k : Nat} {x : Int64} : vp_updL f k x k = x := if_pos rfl
theorem pk_uLn {f : Nat → Int64} {k j : Nat} {x : Int64} (h : j ≠ k) : vp_updL f k x j = f j := if_neg h
theorem pk_sub {a b : Nat} (h : b ≤ a) : nI a - nI b = nI (a - b) := by
  obtain ⟨c, rfl⟩ : ∃ c, a = c + b := ⟨a - b, by omega⟩
  rw [← nI_add, Int32.add_sub_cancel, Nat.add_sub_cancel]
theorem pk_m1 (n : Nat) : nI (n + 1) + (-1) = nI n := by
  rw [← nI_1, Int32.add_assoc, show (1 : Int32) + (-1) = 0 from rfl, Int32.add_zero]
theorem pk_mul (a b : Nat) : nI a * nI b = nI (a * b) := (Int32.ofNat_mul a b).symm
theorem pk_sub_toInt {a b : Nat} (ha : a < 2 ^ 30) (hb : b < 2 ^ 30) : (nI a - nI b).toInt = (a : Int) - b := by
  rw [Int32.toInt_sub, nI_toInt (by omega), nI_toInt (by omega)]
  exact Int.bmod_eq_of_le (by omega) (by omega)
theorem pk_sneg {a b : Nat} (hb : b < 2 ^ 30) (h : a < b) : nI a - nI b < 0 := by
  rw [Int32.lt_iff_toInt_lt, pk_sub_toInt (by omega) hb, show (0 : Int32).toInt = 0 from by decide]
  omega
theorem pk_ix (x : Int32) {n : Nat} (hn : n < 2 ^ 31) : x < 0 ∨ nI n ≤ x ∨ ∃ j : Nat, j < n ∧ x = nI j := by
  by_cases h : x < 0
  · exact Or.inl h
  · obtain ⟨j, hj, rfl⟩ := nI_of h
    by_cases h2 : j < n
    · exact Or.inr (Or.inr ⟨j, h2, rfl⟩)
    · exact Or.inr (Or.inl (nI_le (by omega) hj))
theorem pk_le {x y : Int32} {A B : Prop} (a b : Nat) (f : a ≤ b → A) (g : b < a → B) (hx : x = nI a := by rfl) (hy : y = nI b := by rfl) (ha : a < 2 ^ 31 := by omega) (hb : b < 2 ^ 31 := by omega) : (x ≤ y → A) ∧ (¬ x ≤ y → B) := by
  subst hx hy
  rw [nI_leI ha hb]
  exact ⟨f, fun z => g (by omega)⟩
theorem pk_lt {x y : Int32} {A B : Prop} (a b : Nat) (f : a < b → A) (g : b ≤ a → B) (hx : x = nI a := by rfl) (hy : y = nI b := by rfl) (ha : a < 2 ^ 31 := by omega) (hb : b < 2 ^ 31 := by omega) : (x < y → A) ∧ (¬ x < y → B) := by
  subst hx hy
  rw [nI_ltI ha hb]
  exact ⟨f, fun z => g (by omega)⟩
theorem pk_eq {x y : Int32} {A B : Prop} (a b : Nat) (f : a = b → A) (g : a ≠ b → B) (hx : x = nI a := by rfl) (hy : y = nI b := by rfl) (ha : a < 2 ^ 31 := by omega) (hb : b < 2 ^ 31 := by omega) : (x = y → A) ∧ (¬ x = y → B) := by
  subst hx hy
  rw [nI_eq ha hb]
  exact ⟨f, g⟩
theorem pk_in {x : Int32} (n N : Nat) (h : n < N) (hx : x = nI n := by rfl) (hN : N < 2 ^ 31 := by omega) : vp_in x N := by
  subst hx
  exact vp_in_nI h hN
theorem pk_cl {x : Int32} (n : Nat) (hx : x = nI n := by rfl) (h : n < 2 ^ 31 := by omega) : x.toNatClampNeg = n := by
  subst hx
  exact nI_clamp h
theorem pk_tn {n : Nat} (h : n < 2 ^ 32) : (nI n).toBitVec.toNat = n := Nat.mod_eq_of_lt h
theorem pk_vb (z : Int32) : vp_nar .byte z.toInt8.toInt32 = z.toInt8.toInt32 := by rw [vp_nar_byte]; simp
theorem ek_if {c d A B : Prop} (e : c ↔ d) (f : d → A) (g : ¬ d → B) : (c → A) ∧ (¬ c → B) :=
  ⟨fun z => f (e.mp z), fun z => g (fun y => z (e.mpr y))⟩
theorem ek_v {α : Sort _} {P : α → Prop} {a b : α} (e : a = b) (h : P b) : P a := e ▸ h
end
section
/-! numbers, stores, bits: own -/
def nA (f : Nat → Nat) : Nat → Int32 := fun j => nI (f j)
def mA (f : Nat → Nat) : Nat → Int32 := fun j => if j < 32 then nI (f j) - 1 else 0
def bA (f : Nat → Bool) : Nat → Int32 := fun j => if f j = true then 1 else 0
def un (f : Nat → Nat) (k x : Nat) : Nat → Nat := fun j => if j = k then x else f j
def ub (f : Nat → Bool) (k : Nat) (x : Bool) : Nat → Bool := fun j => if j = k then x else f j
theorem za_us {f : Nat → Nat} {k x : Nat} : un f k x k = x := if_pos rfl
theorem za_un {f : Nat → Nat} {k x j : Nat} (h : j ≠ k) : un f k x j = f j := if_neg h
theorem za_bs {f : Nat → Bool} {k : Nat} {x : Bool} : ub f k x k = x := if_pos rfl
theorem za_bn {f : Nat → Bool} {k j : Nat} {x : Bool} (h : j ≠ k) : ub f k x j = f j := if_neg h
theorem za_uu (f : Nat → Nat) (k x y : Nat) : un (un f k x) k y = un f k y := by
  funext j
  unfold un
  split <;> rfl
theorem za_uid {f : Nat → Nat} {k x : Nat} (h : f k = x) : un f k x = f := by
  funext j
  unfold un
  split
  · next e => rw [e, h]
  · rfl
theorem za_bid {f : Nat → Bool} {k : Nat} {x : Bool} (h : f k = x) : ub f k x = f := by
  funext j
  unfold ub
  split
  · next e => rw [e, h]
  · rfl
theorem za_nA {f : Nat → Nat} {k : Nat} (h : k < 2 ^ 31) : nA f (nI k).toNatClampNeg = nI (f k) := by rw [nI_clamp h]; rfl
theorem za_mA {f : Nat → Nat} {k : Nat} (h : k < 32) : mA f (nI k).toNatClampNeg = nI (f k) - 1 := by rw [nI_clamp (by omega)]; exact if_pos h
theorem za_bA {f : Nat → Bool} {k : Nat} (h : k < 2 ^ 31) : bA f (nI k).toNatClampNeg = if f k = true then 1 else 0 := by rw [nI_clamp h]; rfl
theorem za_nU {f : Nat → Nat} {k x : Nat} (h : k < 2 ^ 31) : upd (nA f) (nI k).toNatClampNeg (nI x) = nA (un f k x) := by
  rw [nI_clamp h]
  funext j
  unfold upd nA un
  split <;> rfl
theorem za_mU {f : Nat → Nat} {k x : Nat} (h : k < 32) : upd (mA f) (nI k).toNatClampNeg (nI x - 1) = mA (un f k x) := by
  rw [nI_clamp (by omega)]
  funext j
  unfold upd mA un
  by_cases e : j = k
  · subst e; rw [if_pos rfl, if_pos h, if_pos rfl]
  · rw [if_neg e, if_neg e]
theorem za_bU1 {f : Nat → Bool} {k : Nat} (h : k < 2 ^ 31) : upd (bA f) (nI k).toNatClampNeg (vp_nar .boolean 1) = bA (ub f k true) := by
  rw [nI_clamp h]
  funext j
  unfold upd bA ub
  by_cases e : j = k
  · subst e; rw [if_pos rfl, if_pos rfl]; rfl
  · rw [if_neg e, if_neg e]
theorem za_bU0 {f : Nat → Bool} {k : Nat} (h : k < 2 ^ 31) : upd (bA f) (nI k).toNatClampNeg (vp_nar .boolean 0) = bA (ub f k false) := by
  rw [nI_clamp h]
  funext j
  unfold upd bA ub
  by_cases e : j = k
  · subst e; rw [if_pos rfl, if_pos rfl]; rfl
  · rw [if_neg e, if_neg e]
theorem za_uI {f : Nat → Int32} {k : Nat} {x : Int32} (h : k < 2 ^ 31) : upd f (nI k).toNatClampNeg x = upd f k x := by rw [nI_clamp h]
theorem za_uL {f : Nat → Int64} {k : Nat} {x : Int64} (h : k < 2 ^ 31) : vp_updL f (nI k).toNatClampNeg x = vp_updL f k x := by rw [nI_clamp h]
theorem za_nb0 : ∀ n, n < 128 → (nI n).toInt8.toInt32 = nI n := by decide +kernel
theorem za_nb {n : Nat} (h : n < 128) : vp_nar .byte (nI n) = nI n := by rw [vp_nar_byte, za_nb0 n h]
theorem za_nbb {n : Nat} (h : n < 128) : vp_nar .byte (nI n).toInt8.toInt32 = nI n := by rw [za_nb0 n h, za_nb h]
theorem za_nm1 : vp_nar .byte (-1) = nI 0 - 1 := by rw [vp_nar_byte]; decide
theorem za_nm0 : ∀ n, n < 33 → (nI n - 1).toInt8.toInt32 = nI n - 1 := by decide +kernel
theorem za_nm {n : Nat} (h : n ≤ 32) : vp_nar .byte (nI n - 1) = nI n - 1 := by rw [vp_nar_byte, za_nm0 n (by omega)]
theorem za_s1 {n : Nat} (h : n ≠ 0) : nI n - 1 = nI (n - 1) := pk_sub (b := 1) (by omega)
theorem za_8 (p : Nat) : 8 * nI p = nI (8 * p) := pk_mul 8 p
theorem za_8v (p v : Nat) : 8 * nI p + nI v = nI (8 * p + v) := by rw [za_8, nI_add]
theorem za_bc {A B : Prop} {f : Nat → Bool} {k : Nat} (h : k < 2 ^ 31) (a : f k = false → A) (b : f k = true → B) : (bA f (nI k).toNatClampNeg = 0 → A) ∧ (¬ bA f (nI k).toNatClampNeg = 0 → B) := by
  rw [za_bA h]
  cases e : f k
  · exact br_t (if_neg (fun z => nomatch z)) (a e)
  · exact br_f (by rw [if_pos rfl]; decide) (b e)
/-! bits of an int -/
theorem zb_1 : ∀ i, i < 32 → bt 1 i = decide (i = 0) := by decide +kernel
theorem zb_and1 (s : Int32) : (s &&& 1) = 0 ↔ bt s 0 = false := by
  constructor
  · intro h
    have t := b_and s 1 0
    rw [h, b_0, zb_1 0 (by omega)] at t
    simpa using t.symm
  · intro h
    apply b_ext
    intro i hi
    rw [b_and, b_0, zb_1 i hi]
    by_cases e : i = 0
    · subst e; rw [h]; rfl
    · rw [decide_eq_false e, Bool.and_false]
theorem zb_u {i : Nat} (s : Int32) (hi : i < 32) : ((s.toUInt32 >>> ((nI i).toUInt32 &&& Int32.toUInt32 31)).toInt32 &&& 1) = 0 ↔ bt s i = false := by
  rw [zb_and1, b_ushr i hi, Nat.add_zero]
theorem zb_s {i : Nat} (s : Int32) (hi : i < 32) : ((s >>> (nI i &&& 31)) &&& 1) = 0 ↔ bt s i = false := by
  rw [zb_and1, b_sshr i hi s (by omega), if_pos (by omega), Nat.add_zero]
theorem zb_c {A B : Prop} {s : Int32} {i : Nat} (hi : i < 32) (a : bt s i = false → A) (b : bt s i = true → B) : (((s.toUInt32 >>> ((nI i).toUInt32 &&& Int32.toUInt32 31)).toInt32 &&& 1) = 0 → A) ∧ (¬ ((s.toUInt32 >>> ((nI i).toUInt32 &&& Int32.toUInt32 31)).toInt32 &&& 1) = 0 → B) :=
  ek_if (zb_u s hi) a (fun h => b (ts_nf h))
theorem zb_sc {A B : Prop} {s : Int32} {i : Nat} (hi : i < 32) (a : bt s i = false → A) (b : bt s i = true → B) : (((s >>> (nI i &&& 31)) &&& 1) = 0 → A) ∧ (¬ ((s >>> (nI i &&& 31)) &&& 1) = 0 → B) :=
  ek_if (zb_s s hi) a (fun h => b (ts_nf h))
theorem zb_one {i j : Nat} (hi : i < 32) (hj : j < 32) : bt ((1 : Int32) <<< (nI i &&& 31)) j = decide (j = i) := by
  rw [b_shl i hi 1 hj, zb_1 (j - i) (by omega), ← Bool.decide_and]
  exact decide_eq_decide.mpr (by omega)
theorem zb_set {s : Int32} {i j : Nat} (hi : i < 32) (hj : j < 32) : bt (s ||| ((1 : Int32) <<< (nI i &&& 31))) j = true ↔ bt s j = true ∨ j = i := by
  rw [b_or, zb_one hi hj, Bool.or_eq_true, decide_eq_true_eq]
theorem zb_not {s : Int32} {j : Nat} (hj : j < 32) : bt (s ^^^ (-1)) j = !bt s j := by
  rw [b_xor, b_m1 j hj, Bool.xor_true]
theorem zb_clr {s : Int32} {i j : Nat} (hi : i < 32) (hj : j < 32) : bt (s &&& (((1 : Int32) <<< (nI i &&& 31)) ^^^ (-1))) j = true ↔ bt s j = true ∧ j ≠ i := by
  rw [b_and, zb_not hj, zb_one hi hj, Bool.and_eq_true]
  simp
theorem zb_cpb (s : Int32) {a : Nat} (ha : a < 32) {i : Nat} (hi : i < 32) : bt (((s.toUInt32 >>> ((nI a).toUInt32 &&& Int32.toUInt32 31)).toInt32) &&& 1) i = (decide (i = 0) && bt s a) := by
  rw [b_and, b_ushr a ha, zb_1 i hi]
  by_cases e : i = 0
  · subst e; simp
  · simp [e]
theorem zb_cp {s : Int32} {a b j : Nat} (ha : a < 32) (hb : b < 32) (hj : j < 32) : bt (s ||| ((((s.toUInt32 >>> ((nI a).toUInt32 &&& Int32.toUInt32 31)).toInt32) &&& 1) <<< (nI b &&& 31))) j = true ↔ bt s j = true ∨ (j = b ∧ bt s a = true) := by
  rw [b_or, b_shl b hb _ hj, zb_cpb s ha (by omega), Bool.or_eq_true, Bool.and_eq_true, Bool.and_eq_true, decide_eq_true_eq, decide_eq_true_eq]
  constructor
  · rintro (h | ⟨h1, h2, h3⟩)
    · exact Or.inl h
    · exact Or.inr ⟨by omega, h3⟩
  · rintro (h | ⟨h1, h3⟩)
    · exact Or.inl h
    · exact Or.inr ⟨by omega, by omega, h3⟩
theorem zb_z {s : Int32} : s = 0 ↔ ∀ i, i < 32 → bt s i = false := by
  constructor
  · intro h i _; rw [h, b_0]
  · intro h; apply b_ext; intro i hi; rw [h i hi, b_0]
theorem zb_mk0 : ∀ c, c < 9 → ((1 : Int32) <<< (nI c &&& 31)) - 1 = nI (2 ^ c - 1) := by decide +kernel
theorem zb_mk1 : ∀ c, c < 9 → ∀ i, i < 32 → bt (nI (2 ^ c - 1)) i = decide (i < c) := by decide +kernel
theorem zb_mk {c i : Nat} (hc : c ≤ 8) (hi : i < 32) : bt (((1 : Int32) <<< (nI c &&& 31)) - 1) i = decide (i < c) := by
  rw [zb_mk0 c (by omega), zb_mk1 c (by omega) i hi]
theorem zb_run {a c i : Nat} (hc : c ≤ 8) (ha : a < 32) (hi : i < 32) : bt ((((1 : Int32) <<< (nI c &&& 31)) - 1) <<< (nI a &&& 31)) i = true ↔ a ≤ i ∧ i < a + c := by
  rw [b_shl a ha _ hi, zb_mk hc (by omega), Bool.and_eq_true, decide_eq_true_eq, decide_eq_true_eq]
  omega
/-! bits of a long -/
def lb (w : Int64) (j : Nat) : Bool := w.toBitVec.getLsbD j
theorem zl_or (x y : Int64) (i : Nat) : lb (x ||| y) i = (lb x i || lb y i) := by unfold lb; rw [Int64.toBitVec_or, BitVec.getLsbD_or]
theorem zl_and (x y : Int64) (i : Nat) : lb (x &&& y) i = (lb x i && lb y i) := by unfold lb; rw [Int64.toBitVec_and, BitVec.getLsbD_and]
theorem zl_0 (i : Nat) : lb 0 i = false := BitVec.getLsbD_zero
theorem zl_c {A B : Prop} {w : Int64} {k : Nat} (hk : k < 64) (a : lb w k = false → A) (b : lb w k = true → B) : ((((w.toUInt64 >>> ((nI k).toInt64.toUInt64 &&& Int64.toUInt64 63)).toInt64) &&& 1) = 0 → A) ∧ (¬ (((w.toUInt64 >>> ((nI k).toInt64.toUInt64 &&& Int64.toUInt64 63)).toInt64) &&& 1) = 0 → B) :=
  ek_if (ts_bit hk (by rw [wb_cu k hk]; exact u_tn (by omega))) a (fun h => b (ts_nf h))
theorem zl_sh : ∀ k, k < 64 → ((1 : Int64) <<< ((nI k).toInt64 &&& 63)).toBitVec = BitVec.twoPow 64 k := by decide +kernel
theorem zl_one {k j : Nat} (hk : k < 64) (hj : j < 64) : lb ((1 : Int64) <<< ((nI k).toInt64 &&& 63)) j = true ↔ j = k := by
  unfold lb
  rw [zl_sh k hk, BitVec.getLsbD_twoPow]
  simp [hj]
  omega
theorem zl_set {w : Int64} {k j : Nat} (hk : k < 64) (hj : j < 64) : lb (w ||| ((1 : Int64) <<< ((nI k).toInt64 &&& 63))) j = true ↔ lb w j = true ∨ j = k := by
  rw [zl_or, Bool.or_eq_true, zl_one hk hj]
theorem zl_setL {w m : Int64} {j : Nat} (h : lb w j = true) : lb (w ||| m) j = true := by rw [zl_or, h, Bool.true_or]
theorem zl_andI {w m : Int64} {j : Nat} (h : lb w j = true) (h2 : lb m j = true) : lb (w &&& m) j = true := by rw [zl_and, h, h2]; rfl
/-! n numbers below n, all different, are all -/
theorem zp_pig : ∀ (n : Nat) (f : Nat → Nat), (∀ i, i < n → f i < n) → (∀ i j, i < n → j < n → f i = f j → i = j) → ∀ c, c < n → ∃ i, i < n ∧ f i = c := by
  intro n
  induction n with
  | zero => intro f _ _ c hc; omega
  | succ n ih =>
    intro f hf hi c hc
    have hm := hf n (by omega)
    have key := ih (fun i => if f i = n then f n else f i) (by
      intro i hin
      have h1 := hf i (by omega)
      show (if f i = n then f n else f i) < n
      split
      · next e =>
        have : f n ≠ n := fun e2 => by have := hi i n (by omega) (by omega) (by omega); omega
        omega
      · omega) (by
      intro i j hin hjn e
      have h1 : ∀ k, k < n → f k ≠ f n := fun k hk e2 => by have := hi k n (by omega) (by omega) e2; omega
      have a1 := h1 i hin
      have a2 := h1 j hjn
      apply hi i j (by omega) (by omega)
      revert e
      show (if f i = n then f n else f i) = (if f j = n then f n else f j) → _
      split <;> split <;> intro e <;> omega)
    by_cases e1 : c = f n
    · exact ⟨n, by omega, e1.symm⟩
    · by_cases e2 : c = n
      · obtain ⟨i, h1, h2⟩ := key (f n) (by omega)
        refine ⟨i, by omega, ?_⟩
        revert h2
        show (if f i = n then f n else f i) = f n → _
        split
        · intro _; omega
        · intro h2; have := hi i n (by omega) (by omega) h2; omega
      · obtain ⟨i, h1, h2⟩ := key c (by omega)
        refine ⟨i, by omega, ?_⟩
        revert h2
        show (if f i = n then f n else f i) = c → _
        split
        · intro h2; omega
        · intro h2; exact h2
theorem zp_least (P : Nat → Prop) (r : Nat) (h : P r) : ∃ q, q ≤ r ∧ P q ∧ ∀ j, j < q → ¬ P j := by
  induction r using Nat.strongRecOn with
  | ind r ih =>
    by_cases e : ∃ j, j < r ∧ P j
    · obtain ⟨j, hj, hp⟩ := e
      obtain ⟨q, h1, h2, h3⟩ := ih j hj hp
      exact ⟨q, by omega, h2, h3⟩
    · exact ⟨r, by omega, h, fun j hj hp => e ⟨j, hj, hp⟩⟩
/-- 32 slots, each with a witness of its own below 32: then each number below 32 is a witness -/
theorem zp_full {Q : Nat → Nat → Prop} (h : ∀ g, g < 32 → ∃ c, c < 32 ∧ Q g c) (hu : ∀ g g' c, Q g c → Q g' c → g = g') : ∀ c, c < 32 → ∃ g, g < 32 ∧ Q g c := by
  obtain ⟨f, hf⟩ : ∃ f : Nat → Nat, ∀ g, g < 32 → f g < 32 ∧ Q g (f g) :=
    ⟨fun g => if hg : g < 32 then Classical.choose (h g hg) else 0, fun g hg => by
      show (dite _ _ _) < 32 ∧ Q g (dite _ _ _)
      rw [dif_pos hg]
      exact Classical.choose_spec (h g hg)⟩
  intro c hc
  obtain ⟨i, h1, h2⟩ := zp_pig 32 f (fun i hi => (hf i hi).1) (fun i j hi hj e => hu i j (f i) (hf i hi).2 (by rw [e]; exact (hf j hj).2)) c hc
  exact ⟨i, h1, by rw [← h2]; exact (hf i h1).2⟩
/-- so a slot is free where some number has no witness -/
theorem zp_free {s : Int32} {Q : Nat → Nat → Prop} (h : ∀ g, g < 32 → bt s g = true → ∃ c, c < 32 ∧ Q g c) (hu : ∀ g g' c, Q g c → Q g' c → g = g') (c : Nat) (hc : c < 32) (hn : ∀ g, g < 32 → bt s g = true → ¬ Q g c) : ∃ r, r < 32 ∧ bt s r = false ∧ ∀ j, j < r → bt s j = true := by
  by_cases e : ∃ r, r < 32 ∧ bt s r = false
  · obtain ⟨r, hr, h0⟩ := e
    obtain ⟨q, h1, h2, h3⟩ := zp_least (fun r => bt s r = false) r h0
    exact ⟨q, by omega, h2, fun j hj => ts_nf (h3 j hj)⟩
  · exfalso
    have hall : ∀ g, g < 32 → bt s g = true := fun g hg => ts_nf (fun z => e ⟨g, hg, z⟩)
    obtain ⟨g, hg, hq⟩ := zp_full (fun g hg => h g hg (hall g hg)) hu c hc
    exact hn g hg (hall g hg) hq
/-! counting, and the set of a predicate -/
def cn (f : Nat → Bool) : Nat → Nat
  | 0 => 0
  | n + 1 => cn f n + (if f n = true then 1 else 0)
theorem zn_eq {f g : Nat → Bool} (n : Nat) (h : ∀ i, i < n → f i = g i) : cn f n = cn g n := by
  induction n with
  | zero => rfl
  | succ n ih => unfold cn; rw [ih (fun i hi => h i (by omega)), h n (by omega)]
/-- the places that hold page g, as bits -/
def zu (bk : Nat → Nat) (g : Nat) : Nat → Int32
  | 0 => 0
  | n + 1 => zu bk g n ||| (if bk n = g + 1 then (1 : Int32) <<< (nI n &&& 31) else 0)
theorem zu_bt {bk : Nat → Nat} {g n c : Nat} (hn : n ≤ 32) (hc : c < 32) : bt (zu bk g n) c = true ↔ c < n ∧ bk c = g + 1 := by
  induction n with
  | zero => unfold zu; rw [b_0]; simp
  | succ n ih =>
    unfold zu
    rw [b_or, Bool.or_eq_true, ih (by omega)]
    split
    · next e =>
      rw [zb_one (by omega) hc, decide_eq_true_eq]
      constructor
      · rintro (h | h)
        · exact ⟨by omega, h.2⟩
        · subst h; exact ⟨by omega, e⟩
      · rintro ⟨h1, h2⟩
        by_cases h3 : c = n
        · exact Or.inr h3
        · exact Or.inl ⟨by omega, h2⟩
    · next e =>
      rw [b_0]
      constructor
      · rintro (h | h)
        · exact ⟨by omega, h.2⟩
        · exact absurd h (by decide)
      · rintro ⟨h1, h2⟩
        by_cases h3 : c = n
        · subst h3; exact absurd h2 e
        · exact Or.inl ⟨by omega, h2⟩
theorem zu_eq {bk : Nat → Nat} {g : Nat} {s : Int32} (h : ∀ c, c < 32 → (bt s c = true ↔ bk c = g + 1)) : s = zu bk g 32 := by
  apply b_ext
  intro c hc
  have h1 := h c hc
  have h2 := zu_bt (bk := bk) (g := g) (n := 32) (by omega) hc
  cases e1 : bt s c <;> cases e2 : bt (zu bk g 32) c <;> first | rfl | (rw [e1] at h1; rw [e2] at h2; simp at h1 h2; omega)
theorem zu_0 {bk : Nat → Nat} {g : Nat} : zu bk g 32 = 0 ↔ ¬ ∃ c, c < 32 ∧ bk c = g + 1 := by
  rw [zb_z]
  constructor
  · rintro h ⟨c, hc, e⟩
    have := (zu_bt (bk := bk) (g := g) (n := 32) (by omega) hc).mpr ⟨hc, e⟩
    rw [h c hc] at this
    exact absurd this (by decide)
  · intro h i hi
    apply ts_nt
    intro z
    exact h ⟨i, hi, ((zu_bt (by omega) hi).mp z).2⟩
end
section
/-! what the relation says, piece by piece -/
/-- region r is there and place c lies in it -/
def cv (rg : Int32) (ow st ln : Nat → Nat) (r c : Nat) : Prop := r < 32 ∧ bt rg r = true ∧ 8 * ow r + st r ≤ c ∧ c < 8 * ow r + st r + ln r
/-- every region is within its process, within the indices, and has its own group -/
def zi_W (rg : Int32) (ow st ln oo og : Nat → Nat) (gr : Nat → Int64) : Prop := ∀ r, r < 32 → bt rg r = true → ow r < 4 ∧ 1 ≤ ln r ∧ st r + ln r ≤ 8 ∧ oo r + ln r ≤ 8 ∧ og r < 64 ∧ lb (gr r) (og r) = true
/-- regions don't overlap -/
def zi_D (rg : Int32) (ow st ln : Nat → Nat) : Prop := ∀ r r' c, cv rg ow st ln r c → cv rg ow st ln r' c → r = r'
/-- a mapped place lies in a region -/
def zi_C (rg : Int32) (ow st ln bk : Nat → Nat) : Prop := ∀ c, c < 32 → bk c ≠ 0 → ∃ r, cv rg ow st ln r c
/-- a region finds the pages of its places -/
def zi_P (rg : Int32) (ow st ln oo : Nat → Nat) (gr : Nat → Int64) (bk gp ix : Nat → Nat) : Prop := ∀ r c, cv rg ow st ln r c → bk c ≠ 0 → lb (gr r) (gp (bk c - 1)) = true ∧ ix (bk c - 1) + (8 * ow r + st r) = oo r + c
/-- regions hold mapped places alone -/
def zi_E (rg : Int32) (ow st ln bk : Nat → Nat) : Prop := ∀ r c, cv rg ow st ln r c → bk c ≠ 0
def zi_I (rg : Int32) (ow st ln oo og : Nat → Nat) (gr : Nat → Int64) (bk gp ix : Nat → Nat) : Prop := zi_W rg ow st ln oo og gr ∧ zi_D rg ow st ln ∧ zi_C rg ow st ln bk ∧ zi_P rg ow st ln oo gr bk gp ix
def zi_B (bk gp : Nat → Nat) : Prop := ∀ c, c < 32 → bk c ≤ 32 ∧ (bk c ≠ 0 → gp (bk c - 1) < 64)
def zi_M (ms : Int32) (bk : Nat → Nat) : Prop := ∀ c, c < 32 → (bt ms c = true ↔ bk c ≠ 0)
def zi_G (pg : Int32) (bk : Nat → Nat) : Prop := ∀ g, g < 32 → (bt pg g = true ↔ ∃ c, c < 32 ∧ bk c = g + 1)
def zi_S (rs : Int32) (bk : Nat → Nat) (il : Nat → Bool) : Prop := ∀ g, g < 32 → (bt rs g = true ↔ (∃ c, c < 32 ∧ bk c = g + 1) ∧ il g = true)
def zi_R (pr : Int32) (bk : Nat → Nat) (il : Nat → Bool) : Prop := ∀ c, c < 32 → (bt pr c = true ↔ bk c ≠ 0 ∧ il (bk c - 1) = true)
def zi_A (ps : Int32) (al : Nat → Bool) : Prop := ∀ p, p < 32 → (bt ps p = true ↔ p < 4 ∧ al p = true)
def zi_Z (al : Nat → Bool) (bk : Nat → Nat) : Prop := ∀ p v, p < 4 → v < 8 → al p = false → bk (8 * p + v) = 0
/-- pages and sets -/
def zi_Q (pr ms pg rs : Int32) (bk gp : Nat → Nat) (il : Nat → Bool) : Prop := zi_B bk gp ∧ zi_M ms bk ∧ zi_G pg bk ∧ zi_S rs bk il ∧ zi_R pr bk il
/-- no region of process p lies across v -/
def zi_X (rg : Int32) (ow st ln : Nat → Nat) (p v : Nat) : Prop := ∀ r, r < 32 → bt rg r = true → ow r = p → ¬ (st r < v ∧ v < st r + ln r)
/-- the groups that are given up are in nobody's use -/
def zi_K (rg pg : Int32) (og gp : Nat → Nat) (gr gr' : Nat → Int64) : Prop := ∀ r, r < 32 → bt rg r = true → (lb (gr r) (og r) = true → lb (gr' r) (og r) = true) ∧ (∀ g, g < 32 → bt pg g = true → lb (gr r) (gp g) = true → lb (gr' r) (gp g) = true)
section
variable {ps pr ms pg rs rg : Int32} {gs : Int64} {bk : Nat → Nat} {ct : Nat → Int32} {gp ix ow st ln oo og : Nat → Nat} {gr gr' : Nat → Int64} {al il : Nat → Bool}
theorem zi_ix (hW : zi_W rg ow st ln oo og gr) (hC : zi_C rg ow st ln bk) (hP : zi_P rg ow st ln oo gr bk gp ix) {c : Nat} (hc : c < 32) (h : bk c ≠ 0) : ix (bk c - 1) < 8 := by
  obtain ⟨r, hr⟩ := hC c hc h
  have h1 := (hP r c hr h).2
  have h2 := hW r hr.1 hr.2.1
  have h3 := hr.2.2
  omega
theorem zi_KI (hG : zi_G pg bk) (hB : zi_B bk gp) (hE : zi_E rg ow st ln bk) (K : zi_K rg pg og gp gr gr') (h : zi_I rg ow st ln oo og gr bk gp ix) : zi_I rg ow st ln oo og gr' bk gp ix := by
  obtain ⟨hW, hD, hC, hP⟩ := h
  refine ⟨?_, hD, hC, ?_⟩
  · intro r hr hb
    obtain ⟨a1, a2, a3, a4, a5, a6⟩ := hW r hr hb
    exact ⟨a1, a2, a3, a4, a5, (K r hr hb).1 a6⟩
  · intro r c hcv hne
    obtain ⟨b1, b2⟩ := hP r c hcv hne
    have w := hW r hcv.1 hcv.2.1
    have hc : c < 32 := by have := hcv.2.2; omega
    have hb := (hB c hc).1
    refine ⟨(K r hcv.1 hcv.2.1).2 (bk c - 1) (by omega) ?_ b1, b2⟩
    exact (hG (bk c - 1) (by omega)).mpr ⟨c, hc, by omega⟩
theorem zi_mono {bk' : Nat → Nat} (hm : ∀ c, c < 32 → bk' c ≠ 0 → bk' c = bk c) (h : zi_I rg ow st ln oo og gr bk gp ix) : zi_I rg ow st ln oo og gr bk' gp ix := by
  obtain ⟨hW, hD, hC, hP⟩ := h
  refine ⟨hW, hD, ?_, ?_⟩
  · intro c hc hne
    exact hC c hc (by rw [← hm c hc hne]; exact hne)
  · intro r c hcv hne
    have w := hW r hcv.1 hcv.2.1
    have hc : c < 32 := by have := hcv.2.2; omega
    have e := hm c hc hne
    rw [e] at hne ⊢
    exact hP r c hcv hne
/-- a page is free while some place is unmapped, or two share a page -/
theorem zi_pf (hG : zi_G pg bk) {c : Nat} (hc : c < 32) (h : bk c = 0 ∨ ∃ c2, c2 < 32 ∧ c2 ≠ c ∧ bk c2 = bk c) : ∃ g, g < 32 ∧ bt pg g = false ∧ ∀ j, j < g → bt pg j = true := by
  refine zp_free (Q := fun g d => bk d = g + 1 ∧ d ≠ c) ?_ ?_ c hc ?_
  · intro g hg hb
    obtain ⟨d, hd, e⟩ := (hG g hg).mp hb
    by_cases z : d = c
    · subst z
      rcases h with h | ⟨c2, h1, h2, h3⟩
      · omega
      · exact ⟨c2, h1, by omega, h2⟩
    · exact ⟨d, hd, e, z⟩
  · intro g g' d h1 h2
    have a := h1.1
    have b := h2.1
    omega
  · intro g _ _ h2
    exact h2.2 rfl
/-- a region is free while some place begins none -/
theorem zi_rf (hW : zi_W rg ow st ln oo og gr) (hD : zi_D rg ow st ln) {c : Nat} (hc : c < 32) (h : ∀ r, r < 32 → bt rg r = true → 8 * ow r + st r ≠ c) : ∃ r, r < 32 ∧ bt rg r = false ∧ ∀ j, j < r → bt rg j = true := by
  refine zp_free (Q := fun r d => r < 32 ∧ bt rg r = true ∧ 8 * ow r + st r = d) ?_ ?_ c hc ?_
  · intro r hr hb
    have w := hW r hr hb
    exact ⟨8 * ow r + st r, by omega, hr, hb, rfl⟩
  · intro r r' d h1 h2
    have w1 := hW r h1.1 h1.2.1
    have w2 := hW r' h2.1 h2.2.1
    have e1 := h1.2.2
    have e2 := h2.2.2
    exact hD r r' d ⟨h1.1, h1.2.1, by omega, by omega⟩ ⟨h2.1, h2.2.1, by omega, by omega⟩
  · intro r hr hb h2
    exact h r hr hb h2.2.2
end
end
section
/-! X's small methods -/
theorem za_mEq {b g : Nat} (hb : b ≤ 32) (hg : g < 32) : nI b - 1 = nI g ↔ b = g + 1 := by
  constructor
  · intro h
    have e : nI b = nI (g + 1) := by rw [← nI_1, ← h, Int32.sub_add_cancel]
    exact (nI_eq (by omega) (by omega)).mp e
  · intro h
    rw [h]
    exact nI_pred g
theorem za_wb {f : Nat → Nat} {k x : Nat} (h : k < 32) (hx : x < 128) : upd (nA f) (nI k).toNatClampNeg (vp_nar .byte (nI x).toInt8.toInt32) = nA (un f k x) := by rw [za_nbb hx, za_nU (by omega)]
theorem za_wc {f : Nat → Nat} {k x : Nat} (h : k < 32) (hx : x < 128) : upd (nA f) (nI k).toNatClampNeg (vp_nar .byte (nI x)) = nA (un f k x) := by rw [za_nb hx, za_nU (by omega)]
theorem za_wm {f : Nat → Nat} {k : Nat} (h : k < 32) : upd (mA f) (nI k).toNatClampNeg (vp_nar .byte (-1)) = mA (un f k 0) := by rw [za_nm1, za_mU h]
theorem za_wn {f : Nat → Nat} {k x : Nat} (h : k < 32) (hx : x ≤ 32) : upd (mA f) (nI k).toNatClampNeg (vp_nar .byte (nI x - 1)) = mA (un f k x) := by rw [za_nm hx, za_mU h]
theorem zl_d {A B : Prop} {w w' : Int64} {x : Int32} {k : Nat} (hk : k < 64) (hw : w' = w) (hx : x = nI k) (a : lb w k = false → A) (b : lb w k = true → B) : ((((w'.toUInt64 >>> (x.toInt64.toUInt64 &&& Int64.toUInt64 63)).toInt64) &&& 1) = 0 → A) ∧ (¬ (((w'.toUInt64 >>> (x.toInt64.toUInt64 &&& Int64.toUInt64 63)).toInt64) &&& 1) = 0 → B) := by
  subst hw hx
  exact zl_c hk a b
theorem zb_v {s : Int32} {i : Nat} (hi : i < 32) : ((s.toUInt32 >>> ((nI i).toUInt32 &&& Int32.toUInt32 31)).toInt32 &&& 1) = nI (if bt s i = true then 1 else 0) := by
  cases e : bt s i
  · rw [if_neg (by decide)]
    exact (zb_u s hi).mpr e
  · rw [if_pos rfl]
    apply b_ext
    intro j hj
    rw [zb_cpb s hi hj, e, Bool.and_true]
    exact (zb_1 j hj).symm
theorem zb_vs {s : Int32} {i : Nat} (hi : i < 32) : ((s >>> (nI i &&& 31)) &&& 1) = nI (if bt s i = true then 1 else 0) := by
  cases e : bt s i
  · rw [if_neg (by decide)]
    exact (zb_s s hi).mpr e
  · rw [if_pos rfl]
    apply b_ext
    intro j hj
    rw [b_and, zb_1 j hj]
    show _ = bt 1 j
    rw [zb_1 j hj]
    by_cases z : j = 0
    · subst z
      rw [b_sshr i hi s (by omega), if_pos (by omega), Nat.add_zero, e]
      rfl
    · rw [decide_eq_false z, Bool.and_false]
theorem zx_ffl {post : Int32 → Prop} {s : Int32} {r : Nat} (hr : r < 32) (h0 : bt s r = false) (h1 : ∀ j, j < r → bt s j = true) (k : post (nI r)) : ∀ d i, i + d = r → wX_firstFree_2 post s (d + 1) (nI i) := by
  intro d
  induction d with
  | zero =>
    intro i hi
    obtain rfl : i = r := by omega
    exact pk_le 32 i (fun h => absurd h (by omega)) (fun _ => zb_c hr (fun _ => k) (fun h => by rw [h0] at h; exact nomatch h))
  | succ d ih =>
    intro i hi
    exact pk_le 32 i (fun h => absurd h (by omega)) (fun _ => zb_c (by omega) (fun h => by rw [h1 i (by omega)] at h; exact nomatch h) (fun _ => nm_r (nI_1 i) (ih (i + 1) (by omega))))
theorem zx_ff {post : Int32 → Prop} {s : Int32} {r : Nat} (hr : r < 32) (h0 : bt s r = false) (h1 : ∀ j, j < r → bt s j = true) (k : post (nI r)) : wpX_firstFree post s :=
  ⟨r + 1, zx_ffl hr h0 h1 k r 0 (by omega)⟩
theorem zx_onl {post : Int32 → Prop} {s : Int32} (k : post (nI (cn (bt s) 32))) : ∀ d i, i + d = 32 → wX_ones_4 post s (d + 1) (nI (cn (bt s) i)) (nI i) := by
  intro d
  induction d with
  | zero =>
    intro i hi
    obtain rfl : i = 32 := by omega
    exact pk_le 32 32 (fun _ => k) (fun h => absurd h (by omega))
  | succ d ih =>
    intro i hi
    exact pk_le 32 i (fun h => absurd h (by omega)) (fun _ => nm_r (e' := nI (cn (bt s) (i + 1))) (by rw [zb_v (by omega), nI_add]; rfl) (nm_r (nI_1 i) (ih (i + 1) (by omega))))
theorem zx_ones {post : Int32 → Prop} {s : Int32} (k : post (nI (cn (bt s) 32))) : wpX_ones post s := ⟨33, zx_onl k 32 0 (by omega)⟩
theorem zx_runOk (a b : Int32) : (∃ f c : Nat, 1 ≤ c ∧ f + c ≤ 8 ∧ a = nI f ∧ b = nI c ∧ ∀ post : Int32 → Prop, post 1 → wpX_runOk post a b) ∨ ((∀ post : Int32 → Prop, post 0 → wpX_runOk post a b) ∧ (b < 1 ∨ 8 < b ∨ a < 0 ∨ 8 ≤ a ∨ 8 < a + b)) := by
  by_cases h1 : b < 1
  · exact Or.inr ⟨fun _ k => br_t h1 k, Or.inl h1⟩
  by_cases h2 : 8 < b
  · exact Or.inr ⟨fun _ k => br_f h1 (br_t h2 k), Or.inr (Or.inl h2)⟩
  by_cases h3 : a < 0
  · exact Or.inr ⟨fun _ k => br_f h1 (br_f h2 (br_t h3 k)), Or.inr (Or.inr (Or.inl h3))⟩
  by_cases h4 : 8 ≤ a
  · exact Or.inr ⟨fun _ k => br_f h1 (br_f h2 (br_f h3 (br_t h4 k))), Or.inr (Or.inr (Or.inr (Or.inl h4)))⟩
  by_cases h5 : 8 < a + b
  · exact Or.inr ⟨fun _ k => br_f h1 (br_f h2 (br_f h3 (br_f h4 (br_t h5 k)))), Or.inr (Or.inr (Or.inr (Or.inr h5)))⟩
  have h0 : ¬ b < 0 := fun z => h1 (Int32.lt_trans z (by decide))
  obtain ⟨f, hf, rfl⟩ := nI_of h3
  obtain ⟨c, hc, rfl⟩ := nI_of h0
  have e1 : ¬ nI c < nI 1 := h1
  have e2 : ¬ nI 8 < nI c := h2
  have e4 : ¬ nI 8 ≤ nI f := h4
  rw [nI_ltI hc (by omega)] at e1
  rw [nI_ltI (by omega) hc] at e2
  rw [nI_leI (by omega) hf] at e4
  have e5 : ¬ nI 8 < nI f + nI c := h5
  rw [nI_add, nI_ltI (by omega) (by omega)] at e5
  exact Or.inl ⟨f, c, by omega, by omega, rfl, rfl, fun _ k => br_f h1 (br_f h2 (br_f h3 (br_f h4 (br_f h5 k))))⟩
section
variable {ps pr ms pg rs rg : Int32} {gs : Int64} {bk : Nat → Nat} {ct : Nat → Int32} {gp ix ow st ln oo og : Nat → Nat} {gr gr' : Nat → Int64} {al il : Nat → Bool}
theorem zx_ir {post : Int32 → Prop} {r p : Nat} (hr : r < 32) (hp : p < 2 ^ 31) (hW : zi_W rg ow st ln oo og gr) (k1 : bt rg r = true → ow r = p → post 1) (k0 : ¬ (bt rg r = true ∧ ow r = p) → post 0) : wpX_isRegionOf post (ps, pr, ms, pg, rs, rg, gs, (mA bk), ct, (nA gp), (nA ix), (nA ow), (nA st), (nA ln), (nA oo), (nA og), gr) (nI r) (nI p) :=
  zb_c hr (fun h => k0 (fun z => by rw [h] at z; exact nomatch z.1)) (fun h => And.intro (vp_in_nI hr (by decide)) (pk_eq (ow r) p (fun e => k1 h e) (fun e => k0 (fun z => e z.2)) (za_nA (by omega)) rfl (by have := (hW r hr h).1; omega) hp))
theorem zx_ral {post : Int32 → Prop} {p v : Nat} (hp : p < 4) (hv : v ≤ 8) (hW : zi_W rg ow st ln oo og gr) (k1 : ∀ r, r < 32 → bt rg r = true → ow r = p → st r ≤ v → v < st r + ln r → post (nI r)) (k0 : (∀ r, r < 32 → bt rg r = true → ow r = p → ¬ (st r ≤ v ∧ v < st r + ln r)) → post (-1)) :
    ∀ d i, i + d = 32 → (∀ r, r < i → bt rg r = true → ow r = p → ¬ (st r ≤ v ∧ v < st r + ln r)) → wX_regionAt_2 post (nI p) (nI v) ps pr ms pg rs rg gs (mA bk) ct (nA gp) (nA ix) (nA ow) (nA st) (nA ln) (nA oo) (nA og) gr (d + 1) (nI i) := by
  intro d
  induction d with
  | zero =>
    intro i hi hq
    obtain rfl : i = 32 := by omega
    exact pk_le 32 32 (fun _ => k0 hq) (fun h => absurd h (by omega))
  | succ d ih =>
    intro i hi hq
    have next : ¬ (bt rg i = true ∧ ow i = p ∧ st i ≤ v ∧ v < st i + ln i) → wX_regionAt_2 post (nI p) (nI v) ps pr ms pg rs rg gs (mA bk) ct (nA gp) (nA ix) (nA ow) (nA st) (nA ln) (nA oo) (nA og) gr (d + 1) (nI (i + 1)) := fun hn => ih (i + 1) (by omega) (fun r hr h1 h2 h3 => by
      by_cases e : r = i
      · subst e; exact hn ⟨h1, h2, h3.1, h3.2⟩
      · exact hq r (by omega) h1 h2 h3)
    have vi : vp_in (nI i) 32 := vp_in_nI (by omega) (by decide)
    refine pk_le 32 i (fun h => absurd h (by omega)) (fun _ => ?_)
    refine zx_ir (by omega) (by omega) hW (fun h1 h2 => br_f (by decide) (And.intro vi ?_)) (fun h1 => br_t rfl (nm_r (nI_1 i) (next (fun z => h1 ⟨z.1, z.2.1⟩))))
    have w := hW i (by omega) h1
    refine pk_lt v (st i) (fun a => nm_r (nI_1 i) (next (fun z => by have := z.2.2.1; omega))) (fun a => And.intro vi (And.intro vi ?_)) rfl (za_nA (by omega))
    refine pk_le (st i + ln i) v (fun b => nm_r (nI_1 i) (next (fun z => by have := z.2.2.2; omega))) (fun b => k1 i (by omega) h1 h2 a b) (by rw [za_nA (by omega), za_nA (by omega), nI_add]) rfl
theorem zx_ra {post : Int32 → Prop} {p v : Nat} (hp : p < 4) (hv : v ≤ 8) (hW : zi_W rg ow st ln oo og gr) (k1 : ∀ r, r < 32 → bt rg r = true → ow r = p → st r ≤ v → v < st r + ln r → post (nI r)) (k0 : (∀ r, r < 32 → bt rg r = true → ow r = p → ¬ (st r ≤ v ∧ v < st r + ln r)) → post (-1)) : wpX_regionAt post (ps, pr, ms, pg, rs, rg, gs, (mA bk), ct, (nA gp), (nA ix), (nA ow), (nA st), (nA ln), (nA oo), (nA og), gr) (nI p) (nI v) :=
  ⟨33, zx_ral hp hv hW k1 k0 32 0 (by omega) (fun r hr => absurd hr (by omega))⟩
theorem zx_wl {post : Int32 → Prop} {g : Nat} (hg : g < 32) (hgp : gp g < 64) (hix : ix g < 8) (hI : zi_I rg ow st ln oo og gr bk gp ix) (hb : ∀ c, c < 32 → bk c ≤ 32) (k : post (zu bk g 32)) :
    ∀ d i S, i + d = 32 → (∀ c, c < 32 → (bt S c = true ↔ bk c = g + 1 ∧ ∃ r, r < i ∧ cv rg ow st ln r c)) → wX_walk_4 post (nI g) ps pr ms pg rs rg gs (mA bk) ct (nA gp) (nA ix) (nA ow) (nA st) (nA ln) (nA oo) (nA og) gr (d + 1) S (nI i) := by
  obtain ⟨hW, hD, hC, hP⟩ := hI
  intro d
  induction d with
  | zero =>
    intro i S hi hS
    obtain rfl : i = 32 := by omega
    have e : S = zu bk g 32 := zu_eq (fun c hc => by
      rw [hS c hc]
      exact ⟨fun z => z.1, fun z => ⟨z, by obtain ⟨r, hr⟩ := hC c hc (by omega); exact ⟨r, hr.1, hr⟩⟩⟩)
    exact pk_le 32 32 (fun _ => by rw [e]; exact k) (fun h => absurd h (by omega))
  | succ d ih =>
    intro i S hi hS
    have vi : vp_in (nI i) 32 := vp_in_nI (by omega) (by decide)
    have vg : vp_in (nI g) 32 := vp_in_nI hg (by decide)
    have next : (∀ c, c < 32 → bk c = g + 1 → ¬ cv rg ow st ln i c) → wX_walk_4 post (nI g) ps pr ms pg rs rg gs (mA bk) ct (nA gp) (nA ix) (nA ow) (nA st) (nA ln) (nA oo) (nA og) gr (d + 1) S (nI (i + 1)) := fun hn => ih (i + 1) S (by omega) (fun c hc => by
      rw [hS c hc]
      constructor
      · rintro ⟨a, r, h1, h2⟩; exact ⟨a, r, by omega, h2⟩
      · rintro ⟨a, r, h1, h2⟩
        refine ⟨a, r, ?_, h2⟩
        by_cases e : r = i
        · subst e; exact absurd h2 (hn c hc a)
        · omega)
    refine pk_le 32 i (fun h => absurd h (by omega)) (fun _ => ?_)
    refine zb_c (by omega) (fun hf => ?_) (fun ht => ?_)
    · exact And.intro vg (And.intro vi (fun x5 _ => br_t rfl (nm_r (nI_1 i) (next (fun c hc a z => by have := z.2.1; rw [hf] at this; exact nomatch this)))))
    · have w := hW i (by omega) ht
      refine And.intro vi (And.intro vg ?_)
      refine zl_d hgp (w := gr i) (by rw [nI_clamp (by omega)]) (za_nA (by omega)) (fun hf => ?_) (fun hl => ?_)
      · exact And.intro vg (And.intro vi (fun x5 _ => br_t rfl (nm_r (nI_1 i) (next (fun c hc a z => by
          have := (hP i c z (by omega)).1
          rw [show bk c - 1 = g by omega, hf] at this
          exact nomatch this)))))
      · refine And.intro vg (And.intro vi (fun x5 e5 => br_f (by decide) ?_))
        have e5' : x5 = nI (ix g) - nI (oo i) := by rw [e5, za_nA (by omega), za_nA (by omega)]
        by_cases h1 : ix g < oo i
        · refine br_t (by rw [e5']; exact pk_sneg (by omega) h1) (nm_r (nI_1 i) (next (fun c hc a z => ?_)))
          have h2 := (hP i c z (by omega)).2
          have h3 := z.2.2
          rw [show bk c - 1 = g by omega] at h2
          omega
        · rw [pk_sub (by omega)] at e5'
          subst e5'
          refine br_f (nI_pos (by omega)) (And.intro vi ?_)
          refine pk_le (ln i) (ix g - oo i) (fun h2 => nm_r (nI_1 i) (next (fun c hc a z => ?_))) (fun h2 => ?_) (za_nA (by omega)) rfl
          · have h3 := (hP i c z (by omega)).2
            have h4 := z.2.2
            rw [show bk c - 1 = g by omega] at h3
            omega
          · refine And.intro vi (And.intro vi (nm_r (e' := nI (8 * ow i + st i + (ix g - oo i))) (by rw [za_nA (by omega), za_nA (by omega), za_8v, nI_add]) ?_))
            refine And.intro (vp_in_nI (by omega) (by decide)) ?_
            rw [za_mA (by omega)]
            refine ek_if (za_mEq (hb _ (by omega)) hg) (fun he => nm_e (nm_r (nI_1 i) (ih (i + 1) _ (by omega) (fun c hc => ?_)))) (fun he => nm_r (nI_1 i) (next (fun c hc a z => ?_)))
            · rw [zb_set (by omega) hc, hS c hc]
              constructor
              · rintro (⟨a, r, q1, q2⟩ | e)
                · exact ⟨a, r, by omega, q2⟩
                · subst e
                  exact ⟨he, i, by omega, by omega, ht, by omega, by omega⟩
              · rintro ⟨a, r, q1, q2⟩
                by_cases e : r = i
                · subst e
                  have h3 := (hP r c q2 (by omega)).2
                  rw [show bk c - 1 = g by omega] at h3
                  exact Or.inr (by omega)
                · exact Or.inl ⟨a, r, by omega, q2⟩
            · have h3 := (hP i c z (by omega)).2
              rw [show bk c - 1 = g by omega] at h3
              have h4 : c = 8 * ow i + st i + (ix g - oo i) := by omega
              rw [← h4] at he
              exact he a
theorem zx_walk {post : Int32 → Prop} {g : Nat} (hg : g < 32) (hgp : gp g < 64) (hix : ix g < 8) (hI : zi_I rg ow st ln oo og gr bk gp ix) (hb : ∀ c, c < 32 → bk c ≤ 32) (k : post (zu bk g 32)) : wpX_walk post (ps, pr, ms, pg, rs, rg, gs, (mA bk), ct, (nA gp), (nA ix), (nA ow), (nA st), (nA ln), (nA oo), (nA og), gr) (nI g) :=
  ⟨33, zx_wl hg hgp hix hI hb k 32 0 0 (by omega) (fun c hc => by
    rw [b_0]
    exact ⟨(fun z => nomatch z), fun ⟨_, r, hr, _⟩ => absurd hr (by omega)⟩)⟩
/-- the walk from the page of a mapped place -/
theorem zx_walkc {post : Int32 → Prop} {c : Nat} (hc : c < 32) (hne : bk c ≠ 0) (hI : zi_I rg ow st ln oo og gr bk gp ix) (hB : zi_B bk gp) (k : post (zu bk (bk c - 1) 32)) : wpX_walk post (ps, pr, ms, pg, rs, rg, gs, (mA bk), ct, (nA gp), (nA ix), (nA ow), (nA st), (nA ln), (nA oo), (nA og), gr) (nI (bk c - 1)) :=
  zx_walk (by have := (hB c hc).1; omega) ((hB c hc).2 hne) (zi_ix hI.1 hI.2.2.1 hI.2.2.2 hc hne) hI (fun c hc => (hB c hc).1) k
end
end
section
/-! X: new region, groups -/
def zk_g (gr : Nat → Int64) (K : Int64) (i : Nat) : Nat → Int64 := fun j => if j < i then gr j &&& K else gr j
theorem zk_gs (gr : Nat → Int64) (K : Int64) (i : Nat) : vp_updL (zk_g gr K i) i (zk_g gr K i i &&& K) = zk_g gr K (i + 1) := by
  funext j
  unfold vp_updL zk_g
  by_cases e : j = i
  · subst e
    rw [if_pos rfl, if_neg (by omega), if_pos (by omega)]
  · rw [if_neg e]
    by_cases h : j < i
    · rw [if_pos h, if_pos (by omega)]
    · rw [if_neg h, if_neg (by omega)]
section
variable {ps pr ms pg rs rg : Int32} {gs : Int64} {bk : Nat → Nat} {ct : Nat → Int32} {gp ix ow st ln oo og : Nat → Nat} {gr gr' : Nat → Int64} {al il : Nat → Bool}
theorem zx_nr {post : Int32 → SX → Prop} {r p f c x : Nat} {a1 a2 a3 a4 : Int32} (e1 : a1 = nI p) (e2 : a2 = nI f) (e3 : a3 = nI c) (e4 : a4 = nI x) (hr : r < 32) (h0 : bt rg r = false) (h1 : ∀ j, j < r → bt rg j = true) (hp : p < 128) (hf : f < 128) (hc : c < 128) (hx : x < 128)
    (k : post (nI r) (ps, pr, ms, pg, rs, (rg ||| ((1 : Int32) <<< (nI r &&& 31))), gs, (mA bk), ct, (nA gp), (nA ix), (nA (un ow r p)), (nA (un st r f)), (nA (un ln r c)), (nA (un oo r x)), (nA og), gr)) : wpX_newRegion post (ps, pr, ms, pg, rs, rg, gs, (mA bk), ct, (nA gp), (nA ix), (nA ow), (nA st), (nA ln), (nA oo), (nA og), gr) a1 a2 a3 a4 := by
  subst e1 e2 e3 e4
  have vr : vp_in (nI r) 32 := vp_in_nI hr (by decide)
  unfold wpX_newRegion
  dsimp only
  refine zx_ff hr h0 h1 (nm_e (And.intro vr (nm_r (za_wb hr hp) (And.intro vr (nm_r (za_wb hr hf) (And.intro vr (nm_r (za_wb hr hc) (And.intro vr (nm_r (za_wb hr hx) ?_)))))))))
  exact k
theorem zx_c67 {post : SX → Prop} {K : Int64} (k : post (ps, pr, ms, pg, rs, rg, K, (mA bk), ct, (nA gp), (nA ix), (nA ow), (nA st), (nA ln), (nA oo), (nA og), (zk_g gr K 32))) : ∀ d i, i + d = 32 → wX_collect_67 post K ps pr ms pg rs rg K (d + 1) (nI i) (mA bk) ct (nA gp) (nA ix) (nA ow) (nA st) (nA ln) (nA oo) (nA og) (zk_g gr K i) := by
  intro d
  induction d with
  | zero =>
    intro i hi
    obtain rfl : i = 32 := by omega
    exact pk_le 32 32 (fun _ => k) (fun h => absurd h (by omega))
  | succ d ih =>
    intro i hi
    have vi : vp_in (nI i) 32 := vp_in_nI (by omega) (by decide)
    exact pk_le 32 i (fun h => absurd h (by omega)) (fun _ => And.intro vi (And.intro vi (nm_r (e' := zk_g gr K (i + 1)) (by rw [nI_clamp (by omega), zk_gs]) (nm_r (nI_1 i) (ih (i + 1) (by omega))))))
theorem zx_c32 {post : SX → Prop} {J : Int64 → Int32 → Prop} {K : Int64} {i : Nat} (hi : i < 32) (hg : bt pg i = true → gp i < 64) (k : ∀ K', (∀ j, lb K j = true → lb K' j = true) → (bt pg i = true → lb K' (gp i) = true) → J K' (nI (i + 1))) : wX_collect_32 post J K (nI i) ps pr ms pg rs rg gs (mA bk) ct (nA gp) (nA ix) (nA ow) (nA st) (nA ln) (nA oo) (nA og) gr := by
  refine zb_c hi (fun h => nm_r (nI_1 i) (k K (fun _ z => z) (fun z => by rw [h] at z; exact nomatch z))) (fun h => And.intro (vp_in_nI hi (by decide)) (nm_e (nm_r (nI_1 i) ?_)))
  rw [za_nA (by omega)]
  exact k _ (fun j z => zl_setL z) (fun _ => (zl_set (hg h) (hg h)).mpr (Or.inr rfl))
theorem zx_c4 {post : SX → Prop} (ho : ∀ r, r < 32 → bt rg r = true → og r < 64) (hg : ∀ g, g < 32 → bt pg g = true → gp g < 64)
    (k : ∀ K, (∀ r, r < 32 → bt rg r = true → lb K (og r) = true) → (∀ g, g < 32 → bt pg g = true → lb K (gp g) = true) → post (ps, pr, ms, pg, rs, rg, K, (mA bk), ct, (nA gp), (nA ix), (nA ow), (nA st), (nA ln), (nA oo), (nA og), (zk_g gr K 32))) :
    ∀ d i K, i + d = 32 → (∀ r, r < i → bt rg r = true → lb K (og r) = true) → (∀ g, g < i → bt pg g = true → lb K (gp g) = true) → wX_collect_4 post ps pr ms pg rs rg gs (mA bk) ct (nA gp) (nA ix) (nA ow) (nA st) (nA ln) (nA oo) (nA og) gr (d + 1) K (nI i) := by
  intro d
  induction d with
  | zero =>
    intro i K hi h1 h2
    obtain rfl : i = 32 := by omega
    exact pk_le 32 32 (fun _ => ⟨33, zx_c67 (gr := gr) (k K h1 h2) 32 0 (by omega)⟩) (fun h => absurd h (by omega))
  | succ d ih =>
    intro i K hi h1 h2
    have next : ∀ K0 K', (∀ j, lb K j = true → lb K0 j = true) → (bt rg i = true → lb K0 (og i) = true) → (∀ j, lb K0 j = true → lb K' j = true) → (bt pg i = true → lb K' (gp i) = true) → wX_collect_4 post ps pr ms pg rs rg gs (mA bk) ct (nA gp) (nA ix) (nA ow) (nA st) (nA ln) (nA oo) (nA og) gr (d + 1) K' (nI (i + 1)) := fun K0 K' a1 a2 a3 a4 =>
      ih (i + 1) K' (by omega) (fun r hr hb => by
        by_cases e : r = i
        · subst e; exact a3 _ (a2 hb)
        · exact a3 _ (a1 _ (h1 r (by omega) hb))) (fun g hg hb => by
        by_cases e : g = i
        · subst e; exact a4 hb
        · exact a3 _ (a1 _ (h2 g (by omega) hb)))
    refine pk_le 32 i (fun h => absurd h (by omega)) (fun _ => ?_)
    refine zb_c (by omega) (fun h => ?_) (fun h => And.intro (vp_in_nI (by omega) (by decide)) (nm_e ?_))
    · exact zx_c32 (by omega) (hg i (by omega)) (fun K' b1 b2 => next K K' (fun _ z => z) (fun z => by rw [h] at z; exact nomatch z) b1 b2)
    · rw [za_nA (by omega)]
      exact zx_c32 (by omega) (hg i (by omega)) (fun K' b1 b2 => next _ K' (fun _ z => zl_setL z) (fun _ => (zl_set (ho i (by omega) h) (ho i (by omega) h)).mpr (Or.inr rfl)) b1 b2)
theorem zx_collect {post : SX → Prop} (ho : ∀ r, r < 32 → bt rg r = true → og r < 64) (hg : ∀ g, g < 32 → bt pg g = true → gp g < 64) (k : ∀ gs' gr', zi_K rg pg og gp gr gr' → post (ps, pr, ms, pg, rs, rg, gs', (mA bk), ct, (nA gp), (nA ix), (nA ow), (nA st), (nA ln), (nA oo), (nA og), gr')) : wpX_collect post (ps, pr, ms, pg, rs, rg, gs, (mA bk), ct, (nA gp), (nA ix), (nA ow), (nA st), (nA ln), (nA oo), (nA og), gr) :=
  ⟨33, zx_c4 ho hg (fun K h1 h2 => k K _ (fun r hr hb => by
    have e : zk_g gr K 32 r = gr r &&& K := if_pos hr
    rw [e]
    exact ⟨fun z => zl_andI z (h1 r hr hb), fun g hg hb' z => zl_andI z (h2 g hg hb')⟩)) 32 0 0 (by omega) (fun r hr => absurd hr (by omega)) (fun r hr => absurd hr (by omega))⟩
theorem zx_f17 {post : Int32 → SX → Prop} (k : ∀ g gs', g < 64 → post (nI g) (ps, pr, ms, pg, rs, rg, gs', (mA bk), ct, (nA gp), (nA ix), (nA ow), (nA st), (nA ln), (nA oo), (nA og), gr)) : ∀ d i, i + d = 64 → wX_freshGroup_17 post ps pr ms pg rs rg gs (mA bk) ct (nA gp) (nA ix) (nA ow) (nA st) (nA ln) (nA oo) (nA og) gr (d + 1) (nI i) := by
  intro d
  induction d with
  | zero =>
    intro i hi
    obtain rfl : i = 64 := by omega
    exact pk_le 64 64 (fun _ => k 0 gs (by omega)) (fun h => absurd h (by omega))
  | succ d ih =>
    intro i hi
    exact pk_le 64 i (fun h => absurd h (by omega)) (fun _ => zl_c (by omega) (fun _ => nm_e (k i _ (by omega))) (fun _ => nm_r (nI_1 i) (ih (i + 1) (by omega))))
theorem zx_fg {post : Int32 → SX → Prop} (ho : ∀ r, r < 32 → bt rg r = true → og r < 64) (hg : ∀ g, g < 32 → bt pg g = true → gp g < 64) (k : ∀ g gs' gr', g < 64 → zi_K rg pg og gp gr gr' → post (nI g) (ps, pr, ms, pg, rs, rg, gs', (mA bk), ct, (nA gp), (nA ix), (nA ow), (nA st), (nA ln), (nA oo), (nA og), gr')) : wpX_freshGroup post (ps, pr, ms, pg, rs, rg, gs, (mA bk), ct, (nA gp), (nA ix), (nA ow), (nA st), (nA ln), (nA oo), (nA og), gr) := by
  unfold wpX_freshGroup
  dsimp only
  refine br_c (fun _ => ?_) (fun _ => ?_)
  · refine zx_collect ho hg (fun gs' gr' hK => ?_)
    exact ⟨65, zx_f17 (fun g gs'' hg' => k g gs'' gr' hg' hK) 64 0 (by omega)⟩
  · exact ⟨65, zx_f17 (fun g gs'' hg' => k g gs'' gr hg' (fun r _ _ => ⟨fun z => z, fun _ _ _ z => z⟩)) 64 0 (by omega)⟩
end
end
section
/-! X: cutting a region, and what stays true -/
section
variable {ps pr ms pg rs rg : Int32} {gs : Int64} {bk : Nat → Nat} {ct : Nat → Int32} {gp ix ow st ln oo og : Nat → Nat} {gr gr' : Nat → Int64} {al il : Nat → Bool}
/-- the cut: region r of process p ends before v, the new region r2 begins there -/
theorem zi_cut (hI : zi_I rg ow st ln oo og gr bk gp ix) {p v r r2 : Nat} {rg' : Int32} {ow' st' ln' oo' og' : Nat → Nat} (hr : r < 32) (hb : bt rg r = true) (hw : ow r = p) (h1 : st r < v) (h2 : v < st r + ln r) (hr2 : r2 < 32) (h0 : bt rg r2 = false)
    (q1 : rg' = rg ||| ((1 : Int32) <<< (nI r2 &&& 31))) (q2 : ow' = un ow r2 p) (q3 : st' = un st r2 v) (q4 : ln' = un (un ln r2 (ln r - (v - st r))) r (v - st r)) (q5 : oo' = un oo r2 (oo r + (v - st r))) (q6 : og' = un og r2 (og r)) (q7 : gr' = vp_updL gr r2 (gr r)) :
    zi_I rg' ow' st' ln' oo' og' gr' bk gp ix ∧ (zi_E rg ow st ln bk → zi_E rg' ow' st' ln' bk) ∧ zi_X rg' ow' st' ln' p v ∧ ∀ p' w, zi_X rg ow st ln p' w → zi_X rg' ow' st' ln' p' w := by
  obtain ⟨hW, hD, hC, hP⟩ := hI
  have hne : r2 ≠ r := fun e => by rw [e, hb] at h0; exact nomatch h0
  have w := hW r hr hb
  have live : ∀ j, j < 32 → (bt rg' j = true ↔ bt rg j = true ∨ j = r2) := fun j hj => by rw [q1]; exact zb_set hr2 hj
  have o2 : ow' r2 = p ∧ st' r2 = v ∧ ln' r2 = ln r - (v - st r) ∧ oo' r2 = oo r + (v - st r) ∧ og' r2 = og r ∧ gr' r2 = gr r := by
    rw [q2, q3, q4, q5, q6, q7]
    exact ⟨za_us, za_us, by rw [za_un hne, za_us], za_us, za_us, pk_uLs⟩
  have o1 : ow' r = p ∧ st' r = st r ∧ ln' r = v - st r ∧ oo' r = oo r ∧ og' r = og r ∧ gr' r = gr r := by
    have hne' : r ≠ r2 := fun e => hne e.symm
    rw [q2, q3, q4, q5, q6, q7]
    exact ⟨by rw [za_un hne', hw], za_un hne', za_us, za_un hne', za_un hne', pk_uLn hne'⟩
  have o0 : ∀ j, j ≠ r2 → j ≠ r → ow' j = ow j ∧ st' j = st j ∧ ln' j = ln j ∧ oo' j = oo j ∧ og' j = og j ∧ gr' j = gr j := by
    intro j j1 j2
    rw [q2, q3, q4, q5, q6, q7]
    exact ⟨za_un j1, za_un j1, by rw [za_un j2, za_un j1], za_un j1, za_un j1, pk_uLn j1⟩
  -- every new region lies in an old one
  have back : ∀ j c, cv rg' ow' st' ln' j c → (j = r2 ∧ 8 * p + v ≤ c ∧ c < 8 * p + st r + ln r ∧ cv rg ow st ln r c) ∨ (j = r ∧ 8 * p + st r ≤ c ∧ c < 8 * p + v ∧ cv rg ow st ln r c) ∨ (j ≠ r2 ∧ j ≠ r ∧ cv rg ow st ln j c) := by
    rintro j c ⟨c1, c2, c3, c4⟩
    by_cases e2 : j = r2
    · subst e2
      rw [o2.1, o2.2.1] at c3 c4
      rw [o2.2.2.1] at c4
      exact Or.inl ⟨rfl, by omega, by omega, hr, hb, by omega, by omega⟩
    · by_cases e1 : j = r
      · subst e1
        rw [o1.1, o1.2.1] at c3 c4
        rw [o1.2.2.1] at c4
        exact Or.inr (Or.inl ⟨rfl, by omega, by omega, hr, hb, by omega, by omega⟩)
      · have o := o0 j e2 e1
        rw [o.1, o.2.1] at c3 c4
        rw [o.2.2.1] at c4
        refine Or.inr (Or.inr ⟨e2, e1, c1, ?_, c3, c4⟩)
        rcases (live j c1).mp c2 with z | z
        · exact z
        · exact absurd z e2
  have cov : ∀ j c, cv rg' ow' st' ln' j c → ∃ i, cv rg ow st ln i c := by
    intro j c h
    rcases back j c h with ⟨_, _, _, z⟩ | ⟨_, _, _, z⟩ | ⟨_, _, z⟩
    · exact ⟨r, z⟩
    · exact ⟨r, z⟩
    · exact ⟨j, z⟩
  refine ⟨⟨?_, ?_, ?_, ?_⟩, ?_, ?_, ?_⟩
  · intro j hj hbj
    by_cases e2 : j = r2
    · subst e2
      obtain ⟨a1, a2, a3, a4, a5, a6⟩ := o2
      rw [a1, a2, a3, a4, a5, a6]
      exact ⟨by omega, by omega, by omega, by omega, w.2.2.2.2.1, w.2.2.2.2.2⟩
    · by_cases e1 : j = r
      · subst e1
        obtain ⟨a1, a2, a3, a4, a5, a6⟩ := o1
        rw [a1, a2, a3, a4, a5, a6]
        exact ⟨by omega, by omega, by omega, by omega, w.2.2.2.2.1, w.2.2.2.2.2⟩
      · obtain ⟨a1, a2, a3, a4, a5, a6⟩ := o0 j e2 e1
        rw [a1, a2, a3, a4, a5, a6]
        rcases (live j hj).mp hbj with z | z
        · exact hW j hj z
        · exact absurd z e2
  · intro j j' c h h'
    rcases back j c h with ⟨y1, y2, y3, y4⟩ | ⟨y1, y2, y3, y4⟩ | ⟨y1, y2, y3⟩ <;> rcases back j' c h' with ⟨z1, z2, z3, z4⟩ | ⟨z1, z2, z3, z4⟩ | ⟨z1, z2, z3⟩
    · omega
    · omega
    · exact absurd (hD _ _ _ y4 z3) (fun e => z2 e.symm)
    · omega
    · omega
    · exact absurd (hD _ _ _ y4 z3) (fun e => z2 e.symm)
    · exact absurd (hD _ _ _ y3 z4) y2
    · exact absurd (hD _ _ _ y3 z4) y2
    · exact hD _ _ _ y3 z3
  · intro c hc hn
    obtain ⟨i, hi⟩ := hC c hc hn
    obtain ⟨c1, c2, c3, c4⟩ := hi
    by_cases e1 : i = r
    · subst e1
      by_cases hv : c < 8 * p + v
      · refine ⟨i, c1, (live i c1).mpr (Or.inl c2), ?_, ?_⟩
        · rw [o1.1, o1.2.1]; omega
        · rw [o1.1, o1.2.1, o1.2.2.1]; omega
      · refine ⟨r2, hr2, (live r2 hr2).mpr (Or.inr rfl), ?_, ?_⟩
        · rw [o2.1, o2.2.1]; omega
        · rw [o2.1, o2.2.1, o2.2.2.1]; omega
    · have e2 : i ≠ r2 := fun e => by rw [e, h0] at c2; exact nomatch c2
      have o := o0 i e2 e1
      refine ⟨i, c1, (live i c1).mpr (Or.inl c2), ?_, ?_⟩
      · rw [o.1, o.2.1]; exact c3
      · rw [o.1, o.2.1, o.2.2.1]; exact c4
  · intro j c h hn
    rcases back j c h with ⟨y1, y2, y3, y4⟩ | ⟨y1, y2, y3, y4⟩ | ⟨y1, y2, y3⟩
    · have a := hP r c y4 hn
      subst y1
      obtain ⟨a1, a2, a3, a4, a5, a6⟩ := o2
      rw [a1, a2, a4, a6]
      exact ⟨a.1, by have := a.2; omega⟩
    · have a := hP r c y4 hn
      subst y1
      obtain ⟨a1, a2, a3, a4, a5, a6⟩ := o1
      rw [a1, a2, a4, a6]
      exact ⟨a.1, by have := a.2; omega⟩
    · have a := hP j c y3 hn
      obtain ⟨a1, a2, a3, a4, a5, a6⟩ := o0 j y1 y2
      rw [a1, a2, a4, a6]
      exact a
  · intro hE j c h
    obtain ⟨i, hi⟩ := cov j c h
    exact hE i c hi
  · intro j hj hbj hoj
    by_cases e2 : j = r2
    · subst e2; rw [o2.2.1]; omega
    · by_cases e1 : j = r
      · subst e1; rw [o1.2.1, o1.2.2.1]; omega
      · have o := o0 j e2 e1
        rw [o.2.1, o.2.2.1]
        intro hx
        have hlj : bt rg j = true := by
          rcases (live j hj).mp hbj with z | z
          · exact z
          · exact absurd z e2
        have wj := hW j hj hlj
        rw [o.1] at hoj
        exact e1 (hD j r (8 * p + v) ⟨hj, hlj, by omega, by omega⟩ ⟨hr, hb, by omega, by omega⟩)
  · intro p' u hX j hj hbj hoj
    by_cases e2 : j = r2
    · subst e2
      rw [o2.1] at hoj
      rw [o2.2.1, o2.2.2.1]
      have := hX r hr hb (by omega)
      omega
    · by_cases e1 : j = r
      · subst e1
        rw [o1.1] at hoj
        rw [o1.2.1, o1.2.2.1]
        have := hX j hj hb (by omega)
        omega
      · have o := o0 j e2 e1
        rw [o.1] at hoj
        rw [o.2.1, o.2.2.1]
        refine hX j hj ?_ hoj
        rcases (live j hj).mp hbj with z | z
        · exact z
        · exact absurd z e2
theorem zx_cut {post : SX → Prop} {p v : Nat} {a2 : Int32} (e2 : a2 = nI v) (hp : p < 4) (hv : v ≤ 8) (hI : zi_I rg ow st ln oo og gr bk gp ix) (hE : zi_E rg ow st ln bk)
    (k : ∀ rg' ow' st' ln' oo' og' gr', zi_I rg' ow' st' ln' oo' og' gr' bk gp ix → zi_E rg' ow' st' ln' bk → zi_X rg' ow' st' ln' p v → (∀ p' w, zi_X rg ow st ln p' w → zi_X rg' ow' st' ln' p' w) → post (ps, pr, ms, pg, rs, rg', gs, (mA bk), ct, (nA gp), (nA ix), (nA ow'), (nA st'), (nA ln'), (nA oo'), (nA og'), gr')) : wpX_cutBefore post (ps, pr, ms, pg, rs, rg, gs, (mA bk), ct, (nA gp), (nA ix), (nA ow), (nA st), (nA ln), (nA oo), (nA og), gr) (nI p) a2 := by
  subst e2
  unfold wpX_cutBefore
  dsimp only
  refine zx_ra hp hv hI.1 (fun r hr hb hw h1 h2 => ?_) (fun hn => br_t (by decide) (k _ _ _ _ _ _ _ hI hE (fun r hr hb hw => by have := hn r hr hb hw; omega) (fun _ _ z => z)))
  have w := hI.1 r hr hb
  have vr : vp_in (nI r) 32 := vp_in_nI hr (by decide)
  refine br_f (nI_pos (by omega)) (And.intro vr ?_)
  refine pk_eq (st r) v (fun e => k _ _ _ _ _ _ _ hI hE (fun j hj hbj hoj hx => ?_) (fun _ _ z => z)) (fun e => And.intro vr (nm_r (e' := nI (v - st r)) (by rw [za_nA (by omega), pk_sub (by omega)]) (And.intro vr (And.intro vr ?_)))) (za_nA (by omega)) rfl
  · have wj := hI.1 j hj hbj
    have := hI.2.1 j r (8 * p + v) ⟨hj, hbj, by omega, by omega⟩ ⟨hr, hb, by omega, by omega⟩
    subst this
    omega
  · obtain ⟨r2, hr2, h0, h3⟩ := zi_rf hI.1 hI.2.1 (c := 8 * p + v) (by omega) (fun j hj hbj ej => by
      have wj := hI.1 j hj hbj
      have := hI.2.1 j r (8 * p + v) ⟨hj, hbj, by omega, by omega⟩ ⟨hr, hb, by omega, by omega⟩
      subst this
      omega)
    have v2 : vp_in (nI r2) 32 := vp_in_nI hr2 (by decide)
    have hne : r ≠ r2 := fun e => by rw [e, h0] at hb; exact nomatch hb
    have J := zi_cut hI hr hb hw (by omega) h2 hr2 h0 rfl rfl rfl rfl rfl rfl rfl
    refine zx_nr (p := p) (f := v) (c := ln r - (v - st r)) (x := oo r + (v - st r)) rfl rfl (by rw [za_nA (by omega), pk_sub (by omega)]) (by rw [za_nA (by omega), nI_add]) hr2 h0 h3 (by omega) (by omega) (by omega) (by omega) ?_
    dsimp only
    refine And.intro vr (And.intro v2 (nm_r (e' := nA (un og r2 (og r))) (by rw [za_nA (by omega), za_wc hr2 (by omega)]) (And.intro vr (And.intro v2 (nm_r (e' := vp_updL gr r2 (gr r)) (by rw [nI_clamp (by omega), nI_clamp (by omega)]) (And.intro vr (nm_r (za_wb hr (by omega)) ?_)))))))
    exact k _ _ _ _ _ _ _ J.1 (J.2.1 hE) J.2.2.1 J.2.2.2
end
end
section
/-! X: pages -/
section
variable {ps pr ms pg rs rg : Int32} {gs : Int64} {bk : Nat → Nat} {ct : Nat → Int32} {gp ix ow st ln oo og : Nat → Nat} {gr gr' : Nat → Int64} {al il : Nat → Bool}
theorem zx_np {post : SX → Prop} {p v r g : Nat} {a1 a2 a3 x : Int32} (e1 : a1 = nI p) (e2 : a2 = nI v) (e3 : a3 = nI r) (hp : p < 4) (hv : v < 8) (hr : r < 32) (hg : g < 32) (h0 : bt pg g = false) (h1 : ∀ j, j < g → bt pg j = true) (ho : og r < 64) (hs : st r ≤ v) (hb : oo r + v - st r < 128)
    (k : post (ps, (pr ||| ((1 : Int32) <<< (nI (8 * p + v) &&& 31))), (ms ||| ((1 : Int32) <<< (nI (8 * p + v) &&& 31))), (pg ||| ((1 : Int32) <<< (nI g &&& 31))), (rs ||| ((1 : Int32) <<< (nI g &&& 31))), rg, gs, (mA (un bk (8 * p + v) (g + 1))), (upd ct g x), (nA (un gp g (og r))), (nA (un ix g (oo r + v - st r))), (nA ow), (nA st), (nA ln), (nA oo), (nA og), gr)) : wpX_newPage post (ps, pr, ms, pg, rs, rg, gs, (mA bk), ct, (nA gp), (nA ix), (nA ow), (nA st), (nA ln), (nA oo), (nA og), gr) a1 a2 a3 x := by
  subst e1 e2 e3
  have vr : vp_in (nI r) 32 := vp_in_nI hr (by decide)
  have vg : vp_in (nI g) 32 := vp_in_nI hg (by decide)
  have vc : vp_in (nI (8 * p + v)) 32 := vp_in_nI (by omega) (by decide)
  unfold wpX_newPage
  dsimp only
  refine zx_ff hg h0 h1 (nm_r (za_8v p v) (nm_e (nm_e (And.intro vg (nm_r (za_uI (by omega)) (And.intro vr (And.intro vg (nm_r (e' := nA (un gp g (og r))) (by rw [za_nA (by omega), za_wc hg (by omega)]) (And.intro vr (And.intro vr (And.intro vg (nm_r (e' := nA (un ix g (oo r + v - st r))) (by rw [za_nA (by omega), za_nA (by omega), nI_add, pk_sub (by omega), za_wb hg hb]) (And.intro vc (nm_r (e' := mA (un bk (8 * p + v) (g + 1))) (by rw [za_nbb (by omega), ← nI_pred g, za_mU (by omega)]) (nm_e (nm_e ?_))))))))))))))))
  exact k
/-- a new page for place c: what stays true -/
theorem zi_np (hI : zi_I rg ow st ln oo og gr bk gp ix) (hQ : zi_Q pr ms pg rs bk gp il) {r c g x : Nat} (hcv : cv rg ow st ln r c) (hg : g < 32) (h0 : bt pg g = false) (hc : bk c = 0 ∨ ∃ c2, c2 < 32 ∧ c2 ≠ c ∧ bk c2 = bk c) (hx : x + (8 * ow r + st r) = oo r + c) :
    zi_I rg ow st ln oo og gr (un bk c (g + 1)) (un gp g (og r)) (un ix g x) ∧ zi_Q (pr ||| ((1 : Int32) <<< (nI c &&& 31))) (ms ||| ((1 : Int32) <<< (nI c &&& 31))) (pg ||| ((1 : Int32) <<< (nI g &&& 31))) (rs ||| ((1 : Int32) <<< (nI g &&& 31))) (un bk c (g + 1)) (un gp g (og r)) (ub il g true) := by
  obtain ⟨hW, hD, hC, hP⟩ := hI
  obtain ⟨hB, hM, hG, hS, hR⟩ := hQ
  have w := hW r hcv.1 hcv.2.1
  have hc32 : c < 32 := by have := hcv.2.2; omega
  have fresh : ∀ d, d < 32 → bk d ≠ g + 1 := fun d hd e => by
    have := (hG g hg).mpr ⟨d, hd, e⟩
    rw [h0] at this
    exact nomatch this
  have fr2 : ∀ d, d < 32 → bk d ≠ 0 → bk d - 1 ≠ g := fun d hd hn e => fresh d hd (by omega)
  have used : ∀ g', g' ≠ g → ((∃ d, d < 32 ∧ un bk c (g + 1) d = g' + 1) ↔ ∃ d, d < 32 ∧ bk d = g' + 1) := by
    intro g' hne
    constructor
    · rintro ⟨d, hd, e⟩
      by_cases z : d = c
      · subst z; rw [za_us] at e; omega
      · rw [za_un z] at e; exact ⟨d, hd, e⟩
    · rintro ⟨d, hd, e⟩
      by_cases z : d = c
      · subst z
        rcases hc with hc | ⟨c2, k1, k2, k3⟩
        · omega
        · exact ⟨c2, k1, by rw [za_un k2]; omega⟩
      · exact ⟨d, hd, by rw [za_un z]; exact e⟩
  have usedg : ∃ d, d < 32 ∧ un bk c (g + 1) d = g + 1 := ⟨c, hc32, za_us⟩
  refine ⟨⟨hW, hD, ?_, ?_⟩, ?_, ?_, ?_, ?_, ?_⟩
  · intro d hd hn
    by_cases z : d = c
    · subst z; exact ⟨r, hcv⟩
    · rw [za_un z] at hn; exact hC d hd hn
  · intro r' d hv hn
    by_cases z : d = c
    · subst z
      have e := hD r' r d hv hcv
      subst e
      rw [za_us, Nat.add_sub_cancel, za_us, za_us]
      exact ⟨w.2.2.2.2.2, hx⟩
    · have wd := hW r' hv.1 hv.2.1
      have hd : d < 32 := by have := hv.2.2; omega
      rw [za_un z] at hn ⊢
      rw [za_un (fr2 d hd hn), za_un (fr2 d hd hn)]
      exact hP r' d hv hn
  · intro d hd
    by_cases z : d = c
    · subst z
      rw [za_us, Nat.add_sub_cancel, za_us]
      exact ⟨by omega, fun _ => w.2.2.2.2.1⟩
    · rw [za_un z]
      refine ⟨(hB d hd).1, fun hn => ?_⟩
      rw [za_un (fr2 d hd hn)]
      exact (hB d hd).2 hn
  · intro d hd
    rw [zb_set hc32 hd, hM d hd]
    by_cases z : d = c
    · subst z; rw [za_us]; simp
    · rw [za_un z]; simp [z]
  · intro g' hg'
    rw [zb_set hg hg']
    by_cases z : g' = g
    · subst z; exact ⟨fun _ => usedg, fun _ => Or.inr rfl⟩
    · rw [used g' z, hG g' hg']
      exact ⟨fun q => q.resolve_right z, Or.inl⟩
  · intro g' hg'
    rw [zb_set hg hg']
    by_cases z : g' = g
    · subst z; exact ⟨fun _ => ⟨usedg, za_bs⟩, fun _ => Or.inr rfl⟩
    · rw [used g' z, za_bn z, hS g' hg']
      exact ⟨fun q => q.resolve_right z, Or.inl⟩
  · intro d hd
    rw [zb_set hc32 hd]
    by_cases z : d = c
    · subst z
      rw [za_us, Nat.add_sub_cancel, za_bs]
      exact ⟨fun _ => ⟨by omega, rfl⟩, fun _ => Or.inr rfl⟩
    · rw [za_un z, hR d hd]
      constructor
      · intro q
        have q := q.resolve_right z
        rw [za_bn (fr2 d hd q.1)]
        exact q
      · rintro ⟨q1, q2⟩
        rw [za_bn (fr2 d hd q1)] at q2
        exact Or.inl ⟨q1, q2⟩
theorem zi_ub (hQ : zi_Q pr ms pg rs bk gp il) {c : Nat} (hc : c < 32) (hne : bk c ≠ 0) {pg' rs' : Int32}
    (h : ((∃ d, d < 32 ∧ d ≠ c ∧ bk d = bk c) ∧ pg' = pg ∧ rs' = rs) ∨ ((¬ ∃ d, d < 32 ∧ d ≠ c ∧ bk d = bk c) ∧ pg' = pg &&& (((1 : Int32) <<< (nI (bk c - 1) &&& 31)) ^^^ (-1)) ∧ rs' = rs &&& (((1 : Int32) <<< (nI (bk c - 1) &&& 31)) ^^^ (-1)))) :
    zi_Q (pr &&& (((1 : Int32) <<< (nI c &&& 31)) ^^^ (-1))) (ms &&& (((1 : Int32) <<< (nI c &&& 31)) ^^^ (-1))) pg' rs' (un bk c 0) gp il := by
  obtain ⟨hB, hM, hG, hS, hR⟩ := hQ
  have hb := (hB c hc).1
  have used : ∀ g', (∃ d, d < 32 ∧ un bk c 0 d = g' + 1) ↔ ((∃ d, d < 32 ∧ bk d = g' + 1) ∧ (g' = bk c - 1 → ∃ d, d < 32 ∧ d ≠ c ∧ bk d = bk c)) := by
    intro g'
    constructor
    · rintro ⟨d, hd, e⟩
      by_cases z : d = c
      · subst z; rw [za_us] at e; omega
      · rw [za_un z] at e
        exact ⟨⟨d, hd, e⟩, fun y => ⟨d, hd, z, by clear h; omega⟩⟩
    · rintro ⟨⟨d, hd, e⟩, q⟩
      by_cases z : d = c
      · subst z
        obtain ⟨d2, y1, y2, y3⟩ := q (by omega)
        exact ⟨d2, y1, by rw [za_un y2]; omega⟩
      · exact ⟨d, hd, by rw [za_un z]; exact e⟩
  refine ⟨?_, ?_, ?_, ?_, ?_⟩
  · intro d hd
    by_cases z : d = c
    · subst z; rw [za_us]; exact ⟨by omega, fun q => absurd rfl q⟩
    · rw [za_un z]; exact hB d hd
  · intro d hd
    rw [zb_clr hc hd, hM d hd]
    by_cases z : d = c
    · subst z; rw [za_us]; simp
    · rw [za_un z]; simp [z]
  · intro g' hg'
    rw [used g']
    rcases h with ⟨h1, h2, h3⟩ | ⟨h1, h2, h3⟩
    · rw [h2, hG g' hg']
      exact ⟨fun q => ⟨q, fun _ => h1⟩, fun q => q.1⟩
    · rw [h2, zb_clr (by omega) hg', hG g' hg']
      exact ⟨fun q => ⟨q.1, fun y => absurd y q.2⟩, fun q => ⟨q.1, fun y => h1 (q.2 y)⟩⟩
  · intro g' hg'
    rw [used g']
    rcases h with ⟨h1, h2, h3⟩ | ⟨h1, h2, h3⟩
    · rw [h3, hS g' hg']
      exact ⟨fun q => ⟨⟨q.1, fun _ => h1⟩, q.2⟩, fun q => ⟨q.1.1, q.2⟩⟩
    · rw [h3, zb_clr (by omega) hg', hS g' hg']
      exact ⟨fun q => ⟨⟨q.1.1, fun y => absurd y q.2⟩, q.1.2⟩, fun q => ⟨⟨q.1.1, q.2⟩, fun y => h1 (q.1.2 y)⟩⟩
  · intro d hd
    rw [zb_clr hc hd, hR d hd]
    by_cases z : d = c
    · subst z; rw [za_us]; simp
    · rw [za_un z]; simp [z]
theorem zi_oth {c : Nat} (hc : c < 32) : (zu bk (bk c - 1) 32 &&& (((1 : Int32) <<< (nI c &&& 31)) ^^^ (-1))) = 0 ↔ ¬ ∃ d, d < 32 ∧ d ≠ c ∧ bk d = bk c - 1 + 1 := by
  rw [zb_z]
  constructor
  · rintro h ⟨d, hd, hn, e⟩
    have a := h d hd
    have : bt (zu bk (bk c - 1) 32 &&& (((1 : Int32) <<< (nI c &&& 31)) ^^^ (-1))) d = true := by
      rw [b_and, zb_not hd, zb_one hc hd, (zu_bt (by omega) hd).mpr ⟨hd, e⟩, decide_eq_false hn]
      rfl
    rw [a] at this
    exact nomatch this
  · intro h d hd
    apply ts_nt
    intro z
    rw [b_and, zb_not hd, zb_one hc hd, Bool.and_eq_true] at z
    refine h ⟨d, hd, ?_, ((zu_bt (by omega) hd).mp z.1).2⟩
    intro e
    rw [decide_eq_true e] at z
    exact nomatch z.2
theorem zx_ub {post : SX → Prop} {c : Nat} {a : Int32} (e : a = nI c) (hc : c < 32) (hne : bk c ≠ 0) (hI : zi_I rg ow st ln oo og gr bk gp ix) (hQ : zi_Q pr ms pg rs bk gp il) (k : ∀ pr' ms' pg' rs', zi_Q pr' ms' pg' rs' (un bk c 0) gp il → post (ps, pr', ms', pg', rs', rg, gs, (mA (un bk c 0)), ct, (nA gp), (nA ix), (nA ow), (nA st), (nA ln), (nA oo), (nA og), gr)) : wpX_unback post (ps, pr, ms, pg, rs, rg, gs, (mA bk), ct, (nA gp), (nA ix), (nA ow), (nA st), (nA ln), (nA oo), (nA og), gr) a := by
  subst e
  have vc : vp_in (nI c) 32 := vp_in_nI hc (by decide)
  have e1 : bk c - 1 + 1 = bk c := by omega
  unfold wpX_unback
  dsimp only
  refine And.intro vc (nm_r (e' := nI (bk c - 1)) (by rw [za_mA hc, za_s1 hne]) ?_)
  refine zx_walkc hc hne hI hQ.1 (nm_e (And.intro vc (nm_r (za_wm hc) (nm_e (nm_e ?_)))))
  refine ek_if (zi_oth hc) (fun h => nm_e (nm_e (k _ _ _ _ (zi_ub hQ hc hne (Or.inr ⟨by rw [e1] at h; exact h, rfl, rfl⟩))))) (fun h => k _ _ _ _ (zi_ub hQ hc hne (Or.inl ⟨by rw [e1] at h; exact Classical.not_not.mp h, rfl, rfl⟩)))
theorem zx_bi {post : SX → Prop} {c : Nat} {a : Int32} (e : a = nI (bk c - 1)) (hc : c < 32) (hne : bk c ≠ 0) (hI : zi_I rg ow st ln oo og gr bk gp ix) (hQ : zi_Q pr ms pg rs bk gp il) (k : ∀ pr' rs', zi_Q pr' ms pg rs' bk gp (ub il (bk c - 1) true) → post (ps, pr', ms, pg, rs', rg, gs, (mA bk), ct, (nA gp), (nA ix), (nA ow), (nA st), (nA ln), (nA oo), (nA og), gr)) : wpX_bringIn post (ps, pr, ms, pg, rs, rg, gs, (mA bk), ct, (nA gp), (nA ix), (nA ow), (nA st), (nA ln), (nA oo), (nA og), gr) a := by
  subst e
  obtain ⟨hB, hM, hG, hS, hR⟩ := hQ
  have hb := (hB c hc).1
  unfold wpX_bringIn
  dsimp only
  refine zb_c (by omega) (fun hf => nm_e ?_) (fun ht => k pr rs ?_)
  · refine zx_walkc hc hne hI hB (nm_e (k _ _ ?_))
    refine ⟨hB, hM, hG, ?_, ?_⟩
    · intro g' hg'
      rw [zb_set (by omega) hg', hS g' hg']
      by_cases z : g' = bk c - 1
      · rw [z, za_bs]
        exact ⟨fun q => ⟨⟨c, hc, by clear q; omega⟩, rfl⟩, fun _ => Or.inr rfl⟩
      · rw [za_bn z]
        exact ⟨fun q => q.resolve_right z, Or.inl⟩
    · intro d hd
      rw [b_or, Bool.or_eq_true, hR d hd, zu_bt (by omega) hd]
      by_cases z : bk d - 1 = bk c - 1
      · rw [z, za_bs]
        constructor
        · rintro (q | q)
          · exact ⟨q.1, rfl⟩
          · exact ⟨by omega, rfl⟩
        · rintro ⟨q, _⟩
          exact Or.inr ⟨hd, by omega⟩
      · rw [za_bn z]
        constructor
        · rintro (q | q)
          · exact q
          · exact absurd q.2 (by omega)
        · exact Or.inl
  · have hi : il (bk c - 1) = true := ((hS (bk c - 1) (by omega)).mp ht).2
    rw [za_bid hi]
    exact ⟨hB, hM, hG, hS, hR⟩
/-- carrying place a over to place b -/
theorem zx_co {post : SX → Prop} {a b : Nat} {x y : Int32} (ex : x = nI a) (ey : y = nI b) (ha : a < 32) (hb : b < 32) (hne : bk a ≠ 0) (hz : bk b = 0) (hbd : bk a ≤ 32) (hM : zi_M ms bk) (hR : zi_R pr bk il) (k : ∀ pr' ms', zi_M ms' (un (un bk b (bk a)) a 0) → zi_R pr' (un (un bk b (bk a)) a 0) il → post (ps, pr', ms', pg, rs, rg, gs, (mA (un (un bk b (bk a)) a 0)), ct, (nA gp), (nA ix), (nA ow), (nA st), (nA ln), (nA oo), (nA og), gr)) : wpX_carryOver post (ps, pr, ms, pg, rs, rg, gs, (mA bk), ct, (nA gp), (nA ix), (nA ow), (nA st), (nA ln), (nA oo), (nA og), gr) x y := by
  subst ex ey
  have va' : vp_in (nI a) 32 := vp_in_nI ha (by decide)
  have vb : vp_in (nI b) 32 := vp_in_nI hb (by decide)
  have hab : b ≠ a := fun e => hne (by rw [← e]; exact hz)
  unfold wpX_carryOver
  dsimp only
  refine And.intro va' (And.intro vb (nm_r (e' := mA (un bk b (bk a))) (by rw [za_mA ha, za_wn hb hbd]) (And.intro va' (nm_r (za_wm ha) (nm_e (nm_e (nm_e (k _ _ ?_ ?_))))))))
  · intro d hd
    rw [b_or, Bool.or_eq_true, zb_clr ha hd, zb_one hb hd, decide_eq_true_eq, hM d hd]
    by_cases z : d = a
    · subst z; rw [za_us]
      constructor
      · rintro (q | q)
        · exact absurd rfl q.2
        · exact absurd q.symm hab
      · intro q; exact absurd rfl q
    · rw [za_un z]
      by_cases z2 : d = b
      · subst z2; rw [za_us]; exact ⟨fun _ => hne, fun _ => Or.inr rfl⟩
      · rw [za_un z2]
        exact ⟨fun q => (q.resolve_right z2).1, fun q => Or.inl ⟨q, z⟩⟩
  · intro d hd
    rw [zb_clr ha hd, zb_cp ha hb hd, hR d hd, hR a ha]
    by_cases z : d = a
    · subst z; rw [za_us]
      exact ⟨fun q => absurd rfl q.2, fun q => absurd rfl q.1⟩
    · rw [za_un z]
      by_cases z2 : d = b
      · subst z2; rw [za_us, hz]
        exact ⟨fun q => (q.1.resolve_left (fun y => y.1 rfl)).2, fun q => ⟨Or.inr ⟨rfl, q⟩, z⟩⟩
      · rw [za_un z2]
        exact ⟨fun q => q.1.resolve_right (fun y => z2 y.1), fun q => ⟨Or.inl q, z⟩⟩
end
end
section
/-! both sides: processes and places; Y's small methods -/
def zs (f : Nat → Bool) : Nat → Int32
  | 0 => 0
  | n + 1 => zs f n ||| (if f n = true then (1 : Int32) <<< (nI n &&& 31) else 0)
theorem zs_bt {f : Nat → Bool} {n c : Nat} (hn : n ≤ 32) (hc : c < 32) : bt (zs f n) c = true ↔ c < n ∧ f c = true := by
  induction n with
  | zero => unfold zs; rw [b_0]; simp
  | succ n ih =>
    unfold zs
    rw [b_or, Bool.or_eq_true, ih (by omega)]
    split
    · next e =>
      rw [zb_one (by omega) hc, decide_eq_true_eq]
      constructor
      · rintro (h | h)
        · exact ⟨by omega, h.2⟩
        · subst h; exact ⟨by omega, e⟩
      · rintro ⟨h1, h2⟩
        by_cases h3 : c = n
        · exact Or.inr h3
        · exact Or.inl ⟨by omega, h2⟩
    · next e =>
      rw [b_0]
      constructor
      · rintro (h | h)
        · exact ⟨by omega, h.2⟩
        · exact absurd h (by decide)
      · rintro ⟨h1, h2⟩
        by_cases h3 : c = n
        · subst h3; exact absurd h2 e
        · exact Or.inl ⟨by omega, h2⟩
theorem zs_eq {f : Nat → Bool} {n : Nat} {s : Int32} (hn : n ≤ 32) (h : ∀ c, c < 32 → (bt s c = true ↔ c < n ∧ f c = true)) : zs f n = s := by
  apply b_ext
  intro c hc
  have h1 := h c hc
  have h2 := zs_bt (f := f) hn hc
  rw [← h1] at h2
  exact Bool.eq_iff_iff.mpr h2
theorem zs_t {f : Nat → Bool} {n : Nat} (h : f n = true) : zs f (n + 1) = zs f n ||| ((1 : Int32) <<< (nI n &&& 31)) := by
  show zs f n ||| (if f n = true then _ else _) = _
  rw [if_pos h]
theorem zs_f {f : Nat → Bool} {n : Nat} (h : f n = false) : zs f (n + 1) = zs f n ||| 0 := by
  show zs f n ||| (if f n = true then _ else _) = _
  rw [if_neg (by rw [h]; decide)]
section
variable {ps pr ms pg rs rg : Int32} {gs : Int64} {bk : Nat → Nat} {ct : Nat → Int32} {gp ix ow st ln oo og : Nat → Nat} {gr gr' : Nat → Int64} {al il : Nat → Bool}
theorem zx_has {post : Int32 → Prop} {p : Nat} (hA : zi_A ps al) (hp : p < 4) (k1 : al p = true → post 1) (k0 : al p = false → post 0) : wpX_has post (ps, pr, ms, pg, rs, rg, gs, (mA bk), ct, (nA gp), (nA ix), (nA ow), (nA st), (nA ln), (nA oo), (nA og), gr) (nI p) :=
  br_f (nI_pos (by omega)) (br_f (nI_ge (b := 4) hp (by decide)) (zb_sc (by omega) (fun h => k0 (ts_nt (fun z => by rw [(hA p (by omega)).mpr ⟨hp, z⟩] at h; exact nomatch h))) (fun h => k1 ((hA p (by omega)).mp h).2)))
theorem zy_is {post : Int32 → Prop} {p : Nat} (hp : p < 4) (k1 : al p = true → post 1) (k0 : al p = false → post 0) : wpY_is post ((bA al), (nA bk), ct, (bA il)) (nI p) :=
  br_f (nI_pos (by omega)) (br_f (nI_ge (b := 4) hp (by decide)) (And.intro (vp_in_nI hp (by decide)) (za_bc (by omega) k0 k1)))
theorem zc_has (hA : zi_A ps al) (p0 : Int32) : (∃ p, p < 4 ∧ p0 = nI p ∧ al p = true ∧ (∀ post : Int32 → Prop, post 1 → wpX_has post (ps, pr, ms, pg, rs, rg, gs, (mA bk), ct, (nA gp), (nA ix), (nA ow), (nA st), (nA ln), (nA oo), (nA og), gr) p0) ∧ (∀ post : Int32 → Prop, post 1 → wpY_is post ((bA al), (nA bk), ct, (bA il)) p0)) ∨ ((∀ post : Int32 → Prop, post 0 → wpX_has post (ps, pr, ms, pg, rs, rg, gs, (mA bk), ct, (nA gp), (nA ix), (nA ow), (nA st), (nA ln), (nA oo), (nA og), gr) p0) ∧ (∀ post : Int32 → Prop, post 0 → wpY_is post ((bA al), (nA bk), ct, (bA il)) p0)) := by
  by_cases hn : p0 < 0
  · exact Or.inr ⟨fun _ k => br_t hn k, fun _ k => br_t hn k⟩
  by_cases h4 : 4 ≤ p0
  · exact Or.inr ⟨fun _ k => br_f hn (br_t h4 k), fun _ k => br_f hn (br_t h4 k)⟩
  obtain ⟨p, hp, rfl⟩ := nI_of hn
  have e4 : ¬ nI 4 ≤ nI p := h4
  rw [nI_leI (by omega) hp] at e4
  cases ha : al p
  · refine Or.inr ⟨fun post k => zx_has hA (by omega) (fun z => ?_) (fun _ => k), fun post k => zy_is (by omega) (fun z => ?_) (fun _ => k)⟩
    · rw [ha] at z; exact nomatch z
    · rw [ha] at z; exact nomatch z
  · refine Or.inl ⟨p, by omega, rfl, ha, fun post k => zx_has hA (by omega) (fun _ => k) (fun z => ?_), fun post k => zy_is (by omega) (fun _ => k) (fun z => ?_)⟩
    · rw [ha] at z; exact nomatch z
    · rw [ha] at z; exact nomatch z
theorem zx_im {post : Int32 → Prop} {p v : Nat} (hA : zi_A ps al) (hM : zi_M ms bk) (hp : p < 4) (ha : al p = true) (hv : v < 8) (k1 : bk (8 * p + v) ≠ 0 → post 1) (k0 : bk (8 * p + v) = 0 → post 0) : wpX_isMapped post (ps, pr, ms, pg, rs, rg, gs, (mA bk), ct, (nA gp), (nA ix), (nA ow), (nA st), (nA ln), (nA oo), (nA og), gr) (nI p) (nI v) := by
  unfold wpX_isMapped
  dsimp only
  refine zx_has hA hp (fun _ => br_f (by decide) (br_f (nI_pos (by omega)) (br_f (nI_ge (b := 8) hv (by decide)) ?_))) (fun z => ?_)
  · rw [za_8v]
    refine zb_c (by omega) (fun h => k0 ?_) (fun h => k1 ((hM _ (by omega)).mp h))
    exact Classical.not_not.mp (fun z => by rw [(hM _ (by omega)).mpr z] at h; exact nomatch h)
  · rw [ha] at z; exact nomatch z
theorem zy_pl {post : Int32 → Prop} {p v : Nat} (hb : ∀ c, c < 32 → bk c ≤ 32) (hp : p < 4) (ha : al p = true) (hv : v < 8) (k1 : bk (8 * p + v) ≠ 0 → post 1) (k0 : bk (8 * p + v) = 0 → post 0) : wpY_place post ((bA al), (nA bk), ct, (bA il)) (nI p) (nI v) := by
  unfold wpY_place
  dsimp only
  refine zy_is hp (fun _ => br_f (by decide) (br_f (nI_pos (by omega)) (br_f (nI_ge (b := 8) hv (by decide)) ?_))) (fun z => ?_)
  · rw [za_8v]
    have := hb (8 * p + v) (by omega)
    exact And.intro (vp_in_nI (by omega) (by decide)) (pk_le (bk (8 * p + v)) 0 (fun h => k0 (by omega)) (fun h => k1 (by omega)) (za_nA (by omega)) rfl)
  · rw [ha] at z; exact nomatch z
/-- a place that is asked for: mapped on both sides, or on neither -/
theorem zc_place (hA : zi_A ps al) (hM : zi_M ms bk) (hb : ∀ c, c < 32 → bk c ≤ 32) (p0 p1 : Int32) : (∃ p v, p < 4 ∧ v < 8 ∧ p0 = nI p ∧ p1 = nI v ∧ al p = true ∧ bk (8 * p + v) ≠ 0 ∧ (∀ post : Int32 → Prop, post 1 → wpX_isMapped post (ps, pr, ms, pg, rs, rg, gs, (mA bk), ct, (nA gp), (nA ix), (nA ow), (nA st), (nA ln), (nA oo), (nA og), gr) p0 p1) ∧ (∀ post : Int32 → Prop, post 1 → wpY_place post ((bA al), (nA bk), ct, (bA il)) p0 p1)) ∨ ((∀ post : Int32 → Prop, post 0 → wpX_isMapped post (ps, pr, ms, pg, rs, rg, gs, (mA bk), ct, (nA gp), (nA ix), (nA ow), (nA st), (nA ln), (nA oo), (nA og), gr) p0 p1) ∧ (∀ post : Int32 → Prop, post 0 → wpY_place post ((bA al), (nA bk), ct, (bA il)) p0 p1)) := by
  rcases zc_has (pr := pr) (ms := ms) (pg := pg) (rs := rs) (rg := rg) (gs := gs) (bk := bk) (ct := ct) (gp := gp) (ix := ix) (ow := ow) (st := st) (ln := ln) (oo := oo) (og := og) (gr := gr) (il := il) hA p0 with ⟨p, hp, rfl, ha, kx, ky⟩ | ⟨kx, ky⟩
  · by_cases hn : p1 < 0
    · refine Or.inr ⟨fun post k => ?_, fun post k => ?_⟩
      · unfold wpX_isMapped; dsimp only; exact kx _ (br_f (by decide) (br_t hn k))
      · unfold wpY_place; dsimp only; exact ky _ (br_f (by decide) (br_t hn k))
    by_cases h8 : 8 ≤ p1
    · refine Or.inr ⟨fun post k => ?_, fun post k => ?_⟩
      · unfold wpX_isMapped; dsimp only; exact kx _ (br_f (by decide) (br_f hn (br_t h8 k)))
      · unfold wpY_place; dsimp only; exact ky _ (br_f (by decide) (br_f hn (br_t h8 k)))
    obtain ⟨v, hv, rfl⟩ := nI_of hn
    have e8 : ¬ nI 8 ≤ nI v := h8
    rw [nI_leI (by omega) hv] at e8
    by_cases hz : bk (8 * p + v) = 0
    · exact Or.inr ⟨fun post k => zx_im hA hM hp ha (by omega) (fun z => absurd hz z) (fun _ => k), fun post k => zy_pl hb hp ha (by omega) (fun z => absurd hz z) (fun _ => k)⟩
    · exact Or.inl ⟨p, v, hp, by omega, rfl, rfl, ha, hz, fun post k => zx_im hA hM hp ha (by omega) (fun _ => k) (fun z => absurd z hz), fun post k => zy_pl hb hp ha (by omega) (fun _ => k) (fun z => absurd z hz)⟩
  · refine Or.inr ⟨fun post k => ?_, fun post k => ?_⟩
    · unfold wpX_isMapped; dsimp only; exact kx _ (br_t rfl k)
    · unfold wpY_place; dsimp only; exact ky _ (br_t rfl k)
/-- Y's range, once the process is known to be there -/
theorem zy_range {post : Int32 → Prop} {p0 a b : Int32} (ky : ∀ post : Int32 → Prop, post 1 → wpY_is post ((bA al), (nA bk), ct, (bA il)) p0) : (∀ f c : Nat, 1 ≤ c → f + c ≤ 8 → a = nI f → b = nI c → post 1 → wpY_range post ((bA al), (nA bk), ct, (bA il)) p0 a b) ∧ ((b < 1 ∨ 8 < b ∨ a < 0 ∨ 8 ≤ a ∨ 8 < a + b) → post 0 → wpY_range post ((bA al), (nA bk), ct, (bA il)) p0 a b) := by
  constructor
  · rintro f c hc hf rfl rfl k
    unfold wpY_range
    dsimp only
    refine ky _ (br_f (by decide) (br_f (nI_nlt (b := 1) hc (by omega)) (br_f (nI_nlt (a := 8) (by omega) (by decide)) (br_f (nI_pos (by omega)) (br_f (nI_nlt (a := 7) (by omega) (by decide)) (br_f ?_ k))))))
    rw [nI_add]
    exact nI_nlt (a := 8) (by omega) (by decide)
  · intro h k
    unfold wpY_range
    dsimp only
    refine ky _ (br_f (by decide) ?_)
    by_cases h1 : b < 1
    · exact br_t h1 k
    by_cases h2 : 8 < b
    · exact br_f h1 (br_t h2 k)
    by_cases h3 : a < 0
    · exact br_f h1 (br_f h2 (br_t h3 k))
    by_cases h4 : 7 < a
    · exact br_f h1 (br_f h2 (br_f h3 (br_t h4 k)))
    · have h4' : ¬ 8 ≤ a := by
        intro z
        obtain ⟨f, hf, rfl⟩ := nI_of h3
        have e1 : nI 8 ≤ nI f := z
        have e2 : ¬ nI 7 < nI f := h4
        rw [nI_leI (by omega) hf] at e1
        rw [nI_ltI (by omega) hf] at e2
        omega
      rcases h with h | h | h | h | h
      · exact absurd h h1
      · exact absurd h h2
      · exact absurd h h3
      · exact absurd h h4'
      · exact br_f h1 (br_f h2 (br_f h3 (br_f h4 (br_t h k))))
theorem zy_range0 {post : Int32 → Prop} {p0 a b : Int32} (ky : ∀ post : Int32 → Prop, post 0 → wpY_is post ((bA al), (nA bk), ct, (bA il)) p0) (k : post 0) : wpY_range post ((bA al), (nA bk), ct, (bA il)) p0 a b := by
  unfold wpY_range
  dsimp only
  exact ky _ (br_t rfl k)
theorem zy_ul {post : Int32 → Prop} {g : Nat} (hb : ∀ c, c < 32 → bk c ≤ 32) (hg : g < 32) (k : post (zu bk g 32)) : ∀ d i, i + d = 32 → wY_users_4 post (nI g) (bA al) (nA bk) ct (bA il) (d + 1) (zu bk g i) (nI i) := by
  intro d
  induction d with
  | zero =>
    intro i hi
    obtain rfl : i = 32 := by omega
    exact pk_le 32 32 (fun _ => k) (fun h => absurd h (by omega))
  | succ d ih =>
    intro i hi
    have hbi := hb i (by omega)
    refine pk_le 32 i (fun h => absurd h (by omega)) (fun _ => And.intro (vp_in_nI (by omega) (by decide)) ?_)
    refine pk_eq (bk i) (g + 1) (fun e => nm_r (e' := zu bk g (i + 1)) ?_ (nm_r (nI_1 i) (ih (i + 1) (by omega)))) (fun e => nm_r (e' := zu bk g (i + 1)) ?_ (nm_r (nI_1 i) (ih (i + 1) (by omega)))) (za_nA (by omega)) (nI_1 g)
    · show _ = zu bk g i ||| (if bk i = g + 1 then _ else _)
      rw [if_pos e]
    · show _ = zu bk g i ||| (if bk i = g + 1 then _ else _)
      rw [if_neg e]
theorem zy_users {post : Int32 → Prop} {g : Nat} {a : Int32} (e : a = nI g) (hb : ∀ c, c < 32 → bk c ≤ 32) (hg : g < 32) (k : post (zu bk g 32)) : wpY_users post ((bA al), (nA bk), ct, (bA il)) a := by
  subst e
  exact ⟨33, zy_ul hb hg k 32 0 (by omega)⟩
theorem za_mm (m : Nat) : nI m + (-1) = nI m - 1 := (Int32.sub_eq_add_neg _ _).symm
theorem zy_fl {post : SY → Prop} {c g : Nat} {x : Int32} (hc : c < 32) (hg : g < 32) (hb : ∀ c, c < 32 → bk c ≤ 32) (h0 : ¬ ∃ d, d < 32 ∧ bk d = g + 1) (h1 : ∀ j, j < g → ∃ d, d < 32 ∧ bk d = j + 1) (k : post ((bA al), (nA (un bk c (g + 1))), (upd ct g x), (bA (ub il g true)))) :
    ∀ m q, m ≤ 32 → q < 32 → (m ≤ g → q = g) → wY_fresh_13 post (nI c) x (bA al) (nA bk) ct (bA il) (m + 1) (nI q) (nI m - 1) := by
  intro m
  induction m with
  | zero =>
    intro q hm hq hqg
    obtain rfl : q = g := hqg (by omega)
    have vq : vp_in (nI q) 32 := vp_in_nI hq (by decide)
    exact br_t (by decide) (And.intro vq (nm_r (za_uI (by omega)) (And.intro vq (nm_r (za_bU1 (by omega)) (And.intro (vp_in_nI hc (by decide)) (nm_r (e' := nA (un bk c (q + 1))) (by rw [nI_1, za_nU (by omega)]) k))))))
  | succ m ih =>
    intro q hm hq hqg
    rw [nI_pred]
    refine br_f (nI_pos (by omega)) (zy_users rfl hb (by omega) ?_)
    refine ek_if zu_0 (fun e => nm_r (za_mm m) (ih m (by omega) (by omega) (fun hmg => ?_))) (fun e => nm_r (za_mm m) (ih q (by omega) hq (fun hmg => ?_)))
    · by_cases z : m < g
      · exact absurd (h1 m z) e
      · omega
    · refine hqg ?_
      by_cases z : m = g
      · subst z; exact absurd h0 e
      · omega
theorem zy_fresh {post : SY → Prop} {c g : Nat} {a x : Int32} (e : a = nI c) (hc : c < 32) (hg : g < 32) (hb : ∀ c, c < 32 → bk c ≤ 32) (h0 : ¬ ∃ d, d < 32 ∧ un bk c 0 d = g + 1) (h1 : ∀ j, j < g → ∃ d, d < 32 ∧ un bk c 0 d = j + 1) (k : post ((bA al), (nA (un bk c (g + 1))), (upd ct g x), (bA (ub il g true)))) : wpY_fresh post ((bA al), (nA bk), ct, (bA il)) a x := by
  subst e
  unfold wpY_fresh
  dsimp only
  refine And.intro (vp_in_nI hc (by decide)) (nm_r (e' := nA (un bk c 0)) (za_nU (x := 0) (by omega)) ⟨33, ?_⟩)
  refine zy_fl (bk := un bk c 0) hc hg ?_ h0 h1 ?_ 32 0 (by omega) (by omega) (fun h => absurd h (by omega))
  · intro d hd
    by_cases z : d = c
    · subst z; rw [za_us]; omega
    · rw [za_un z]; exact hb d hd
  · rw [za_uu]; exact k
/-- X's first free page and Y's are one -/
theorem zi_same {c g : Nat} (hG : zi_G pg bk) (hg : g < 32) (h0 : bt pg g = false) (h1 : ∀ j, j < g → bt pg j = true) (hc : bk c = 0 ∨ ∃ c2, c2 < 32 ∧ c2 ≠ c ∧ bk c2 = bk c) : (¬ ∃ d, d < 32 ∧ un bk c 0 d = g + 1) ∧ (∀ j, j < g → ∃ d, d < 32 ∧ un bk c 0 d = j + 1) := by
  constructor
  · rintro ⟨d, hd, e⟩
    by_cases z : d = c
    · subst z; rw [za_us] at e; omega
    · rw [za_un z] at e
      rw [(hG g hg).mpr ⟨d, hd, e⟩] at h0
      exact nomatch h0
  · intro j hj
    obtain ⟨d, hd, e⟩ := (hG j (by omega)).mp (h1 j hj)
    by_cases z : d = c
    · subst z
      rcases hc with hc | ⟨c2, k1, k2, k3⟩
      · omega
      · exact ⟨c2, k1, by rw [za_un k2]; omega⟩
    · exact ⟨d, hd, by rw [za_un z]; exact e⟩
theorem zy_onl {post : Int32 → Prop} {s : Int32} (k : post (nI (cn (bt s) 32))) : ∀ d i, i + d = 32 → wY_ones_4 post s (bA al) (nA bk) ct (bA il) (d + 1) (nI (cn (bt s) i)) (nI i) := by
  intro d
  induction d with
  | zero =>
    intro i hi
    obtain rfl : i = 32 := by omega
    exact pk_le 32 32 (fun _ => k) (fun h => absurd h (by omega))
  | succ d ih =>
    intro i hi
    exact pk_le 32 i (fun h => absurd h (by omega)) (fun _ => nm_r (e' := nI (cn (bt s) (i + 1))) (by rw [zb_vs (by omega), nI_add]; rfl) (nm_r (nI_1 i) (ih (i + 1) (by omega))))
theorem zy_ones {post : Int32 → Prop} {s : Int32} (k : post (nI (cn (bt s) 32))) : wpY_ones post ((bA al), (nA bk), ct, (bA il)) s := ⟨33, zy_onl k 32 0 (by omega)⟩
theorem zy_procl {post : Int32 → Prop} (k : post (zs al 4)) : ∀ d i, i + d = 4 → wY_processes_4 post (bA al) (nA bk) ct (bA il) (d + 1) (zs al i) (nI i) := by
  intro d
  induction d with
  | zero =>
    intro i hi
    obtain rfl : i = 4 := by omega
    exact pk_le 4 4 (fun _ => k) (fun h => absurd h (by omega))
  | succ d ih =>
    intro i hi
    exact pk_le 4 i (fun h => absurd h (by omega)) (fun _ => And.intro (vp_in_nI (by omega) (by decide)) (za_bc (by omega) (fun h => nm_r (zs_f h).symm (nm_r (nI_1 i) (ih (i + 1) (by omega)))) (fun h => nm_r (zs_t h).symm (nm_r (nI_1 i) (ih (i + 1) (by omega))))))
theorem zy_mapl {post : Int32 → Prop} {p0 : Int32} {f : Nat → Bool} (h1 : ∀ v, v < 8 → f v = true → ∀ q : Int32 → Prop, q 1 → wpY_place q ((bA al), (nA bk), ct, (bA il)) p0 (nI v)) (h0 : ∀ v, v < 8 → f v = false → ∀ q : Int32 → Prop, q 0 → wpY_place q ((bA al), (nA bk), ct, (bA il)) p0 (nI v)) (k : post (zs f 8)) : ∀ d i, i + d = 8 → wY_mapped_4 post p0 (bA al) (nA bk) ct (bA il) (d + 1) (zs f i) (nI i) := by
  intro d
  induction d with
  | zero =>
    intro i hi
    obtain rfl : i = 8 := by omega
    exact pk_le 8 8 (fun _ => k) (fun h => absurd h (by omega))
  | succ d ih =>
    intro i hi
    refine pk_le 8 i (fun h => absurd h (by omega)) (fun _ => ?_)
    cases e : f i
    · exact h0 i (by omega) e _ (br_t rfl (nm_r (zs_f e).symm (nm_r (nI_1 i) (ih (i + 1) (by omega)))))
    · exact h1 i (by omega) e _ (br_f (by decide) (nm_r (zs_t e).symm (nm_r (nI_1 i) (ih (i + 1) (by omega)))))
theorem zy_mapped {post : Int32 → Prop} {p0 : Int32} {f : Nat → Bool} (h1 : ∀ v, v < 8 → f v = true → ∀ q : Int32 → Prop, q 1 → wpY_place q ((bA al), (nA bk), ct, (bA il)) p0 (nI v)) (h0 : ∀ v, v < 8 → f v = false → ∀ q : Int32 → Prop, q 0 → wpY_place q ((bA al), (nA bk), ct, (bA il)) p0 (nI v)) (k : post (zs f 8)) : wpY_mapped post ((bA al), (nA bk), ct, (bA il)) p0 := ⟨9, zy_mapl h1 h0 k 8 0 (by omega)⟩
end
end
section
/-! the relation -/
def zi_F (ps pr ms pg rs rg : Int32) (bk gp ix ow st ln oo og : Nat → Nat) (gr : Nat → Int64) (al il : Nat → Bool) : Prop := zi_I rg ow st ln oo og gr bk gp ix ∧ zi_E rg ow st ln bk ∧ zi_Q pr ms pg rs bk gp il ∧ zi_A ps al ∧ zi_Z al bk
/-- the relation at the head of a turn: one abstract state behind both -/
def i_Rel (k : Nat) (u : SX) (v : SY) : Prop := ∃ (ps pr ms pg rs rg : Int32) (gs : Int64) (bk : Nat → Nat) (ct : Nat → Int32) (gp ix ow st ln oo og : Nat → Nat) (gr : Nat → Int64) (al il : Nat → Bool), u = (ps, pr, ms, pg, rs, rg, gs, (mA bk), ct, (nA gp), (nA ix), (nA ow), (nA st), (nA ln), (nA oo), (nA og), gr) ∧ v = ((bA al), (nA bk), ct, (bA il)) ∧ zi_F ps pr ms pg rs rg bk gp ix ow st ln oo og gr al il
theorem zz_el {k : Nat} {u : SX} {v : SY} {P : SX → SY → Prop} (h : ∀ (ps pr ms pg rs rg : Int32) (gs : Int64) (bk : Nat → Nat) (ct : Nat → Int32) (gp ix ow st ln oo og : Nat → Nat) (gr : Nat → Int64) (al il : Nat → Bool), zi_F ps pr ms pg rs rg bk gp ix ow st ln oo og gr al il → P (ps, pr, ms, pg, rs, rg, gs, (mA bk), ct, (nA gp), (nA ix), (nA ow), (nA st), (nA ln), (nA oo), (nA og), gr) ((bA al), (nA bk), ct, (bA il))) (I : i_Rel k u v) : P u v := by
  obtain ⟨ps, pr, ms, pg, rs, rg, gs, bk, ct, gp, ix, ow, st, ln, oo, og, gr, al, il, rfl, rfl, hF⟩ := I
  exact h ps pr ms pg rs rg gs bk ct gp ix ow st ln oo og gr al il hF
theorem zz_in {k : Nat} {ps pr ms pg rs rg : Int32} {gs : Int64} {bk : Nat → Nat} {ct : Nat → Int32} {gp ix ow st ln oo og : Nat → Nat} {gr : Nat → Int64} {al il : Nat → Bool} (hF : zi_F ps pr ms pg rs rg bk gp ix ow st ln oo og gr al il) : i_Rel k (ps, pr, ms, pg, rs, rg, gs, (mA bk), ct, (nA gp), (nA ix), (nA ow), (nA st), (nA ln), (nA oo), (nA og), gr) ((bA al), (nA bk), ct, (bA il)) :=
  ⟨ps, pr, ms, pg, rs, rg, gs, bk, ct, gp, ix, ow, st, ln, oo, og, gr, al, il, rfl, rfl, hF⟩
theorem i_up {k : Nat} {u : SX} {v : SY} (h : i_Rel k u v) : i_Rel (k + 5) u v := h
/-! the beginning -/
def z0_b (i : Nat) : Nat → Int32 := fun j => if j < i then nI 0 - 1 else 0
theorem z0_s {i : Nat} (hi : i < 32) : upd (z0_b i) (nI i).toNatClampNeg (vp_nar .byte (-1)) = z0_b (i + 1) := by
  rw [za_nm1, nI_clamp (by omega)]
  funext j
  unfold upd z0_b
  by_cases e : j = i
  · subst e; rw [if_pos rfl, if_pos (by omega)]
  · rw [if_neg e]
    by_cases h : j < i
    · rw [if_pos h, if_pos (by omega)]
    · rw [if_neg h, if_neg (by omega)]
theorem z0_l {post : SX → Prop} (k : post (0, 0, 0, 0, 0, 0, 0, (z0_b 32), (fun _ => 0), (nA (fun _ => 0)), (nA (fun _ => 0)), (nA (fun _ => 0)), (nA (fun _ => 0)), (nA (fun _ => 0)), (nA (fun _ => 0)), (nA (fun _ => 0)), (fun _ => 0))) :
    ∀ d i, i + d = 32 → wX_init_86 post 0 0 0 0 0 0 0 (d + 1) (nI i) (z0_b i) (fun _ => 0) (nA (fun _ => 0)) (nA (fun _ => 0)) (nA (fun _ => 0)) (nA (fun _ => 0)) (nA (fun _ => 0)) (nA (fun _ => 0)) (nA (fun _ => 0)) (fun _ => 0) := by
  intro d
  induction d with
  | zero =>
    intro i hi
    obtain rfl : i = 32 := by omega
    exact pk_le 32 32 (fun _ => k) (fun h => absurd h (by omega))
  | succ d ih =>
    intro i hi
    exact pk_le 32 i (fun h => absurd h (by omega)) (fun _ => And.intro (vp_in_nI (by omega) (by decide)) (nm_r (z0_s (by omega)) (nm_r (nI_1 i) (ih (i + 1) (by omega)))))
theorem z0_F : zi_F 0 0 0 0 0 0 (fun _ => 0) (fun _ => 0) (fun _ => 0) (fun _ => 0) (fun _ => 0) (fun _ => 0) (fun _ => 0) (fun _ => 0) (fun _ => 0) (fun _ => false) (fun _ => false) := by
  have no : ∀ r, ¬ bt 0 r = true := fun r h => by rw [b_0] at h; exact nomatch h
  refine ⟨⟨fun r _ h => absurd h (no r), fun r _ _ h => absurd h.2.1 (no r), fun c _ h => absurd rfl h, fun r c h => absurd h.2.1 (no r)⟩, fun r c h => absurd h.2.1 (no r), ⟨?_, ?_, ?_, ?_, ?_⟩, ?_, ?_⟩
  · exact fun c _ => ⟨Nat.zero_le _, fun h => absurd rfl h⟩
  · exact fun c _ => ⟨fun h => absurd h (no c), fun h => absurd rfl h⟩
  · exact fun g _ => ⟨fun h => absurd h (no g), fun ⟨_, _, h⟩ => Nat.noConfusion (show 0 = g + 1 from h)⟩
  · exact fun g _ => ⟨fun h => absurd h (no g), fun h => Bool.noConfusion (show false = true from h.2)⟩
  · exact fun c _ => ⟨fun h => absurd h (no c), fun h => absurd rfl h.1⟩
  · exact fun c _ => ⟨fun h => absurd h (no c), fun h => Bool.noConfusion (show false = true from h.2)⟩
  · exact fun _ _ _ _ _ => rfl
theorem i_vc0 : wpX_init (fun u => wpY_init (fun v => i_Rel 0 u v)) := by
  have e : (fun _ => 0 : Nat → Int32) = z0_b 0 := by
    funext j
    exact (if_neg (by omega)).symm
  have K : i_Rel 0 (0, 0, 0, 0, 0, 0, 0, (mA (fun _ => 0)), (fun _ => 0), (nA (fun _ => 0)), (nA (fun _ => 0)), (nA (fun _ => 0)), (nA (fun _ => 0)), (nA (fun _ => 0)), (nA (fun _ => 0)), (nA (fun _ => 0)), (fun _ => 0)) ((bA (fun _ => false)), (nA (fun _ => 0)), (fun _ => 0), (bA (fun _ => false))) := zz_in z0_F
  have L := z0_l (post := fun u => wpY_init (fun v => i_Rel 0 u v)) K 32 0 (by omega)
  rw [← e] at L
  exact ⟨33, L⟩
end
section
/-! the methods that ask -/
section
variable {ps pr ms pg rs rg : Int32} {gs : Int64} {bk : Nat → Nat} {ct : Nat → Int32} {gp ix ow st ln oo og : Nat → Nat} {gr gr' : Nat → Int64} {al il : Nat → Bool}
theorem zy_pl0 {q : Int32 → Prop} {p0 a : Int32} (ky : ∀ post : Int32 → Prop, post 0 → wpY_is post ((bA al), (nA bk), ct, (bA il)) p0) (k : q 0) : wpY_place q ((bA al), (nA bk), ct, (bA il)) p0 a := by
  unfold wpY_place
  dsimp only
  exact ky _ (br_t rfl k)
theorem zb_sel {s : Int32} {p v : Nat} (hp : p < 4) (hv : v < 32) : bt ((s.toUInt32 >>> ((8 * nI p).toUInt32 &&& Int32.toUInt32 31)).toInt32 &&& 255) v = true ↔ v < 8 ∧ bt s (8 * p + v) = true := by
  rw [za_8, b_and, b_255, b_ushr (8 * p) (by omega), Bool.and_eq_true, decide_eq_true_eq]
  exact And.comm
theorem zy_pgl {post : Int32 → Prop} (hG : zi_G pg bk) (hb : ∀ c, c < 32 → bk c ≤ 32) (k : post (nI (cn (bt pg) 32))) : ∀ d i, i + d = 32 → wY_pages_4 post (bA al) (nA bk) ct (bA il) (d + 1) (nI (cn (bt pg) i)) (nI i) := by
  intro d
  induction d with
  | zero =>
    intro i hi
    obtain rfl : i = 32 := by omega
    exact pk_le 32 32 (fun _ => k) (fun h => absurd h (by omega))
  | succ d ih =>
    intro i hi
    refine pk_le 32 i (fun h => absurd h (by omega)) (fun _ => zy_users rfl hb (by omega) ?_)
    refine ek_if zu_0 (fun e => nm_r (e' := nI (cn (bt pg) (i + 1))) ?_ (nm_r (nI_1 i) (ih (i + 1) (by omega)))) (fun e => nm_r (e' := nI (cn (bt pg) (i + 1))) ?_ (nm_r (nI_1 i) (ih (i + 1) (by omega))))
    · show nI _ + nI 0 = nI (cn (bt pg) i + (if bt pg i = true then 1 else 0))
      rw [if_neg (fun z => e ((hG i (by omega)).mp z)), nI_add]
    · show nI _ + nI 1 = nI (cn (bt pg) i + (if bt pg i = true then 1 else 0))
      rw [if_pos ((hG i (by omega)).mpr (Classical.not_not.mp e)), nI_add]
theorem zy_rpl {post : Int32 → Prop} (hS : zi_S rs bk il) (hb : ∀ c, c < 32 → bk c ≤ 32) (k : post (nI (cn (bt rs) 32))) : ∀ d i, i + d = 32 → wY_residentPages_4 post (bA al) (nA bk) ct (bA il) (d + 1) (nI (cn (bt rs) i)) (nI i) := by
  intro d
  induction d with
  | zero =>
    intro i hi
    obtain rfl : i = 32 := by omega
    exact pk_le 32 32 (fun _ => k) (fun h => absurd h (by omega))
  | succ d ih =>
    intro i hi
    have e0 : ¬ bt rs i = true → nI (cn (bt rs) i) + 0 = nI (cn (bt rs) (i + 1)) := by
      intro z
      show nI _ + nI 0 = nI (cn (bt rs) i + (if bt rs i = true then 1 else 0))
      rw [if_neg z, nI_add]
    have e1 : bt rs i = true → nI (cn (bt rs) i) + 1 = nI (cn (bt rs) (i + 1)) := by
      intro z
      show nI _ + nI 1 = nI (cn (bt rs) i + (if bt rs i = true then 1 else 0))
      rw [if_pos z, nI_add]
    refine pk_le 32 i (fun h => absurd h (by omega)) (fun _ => zy_users rfl hb (by omega) ?_)
    refine ek_if zu_0 (fun e => nm_r (e0 (fun z => e ((hS i (by omega)).mp z).1)) (nm_r (nI_1 i) (ih (i + 1) (by omega)))) (fun e => And.intro (vp_in_nI (by omega) (by decide)) (za_bc (by omega) (fun h => nm_r (e0 (fun z => ?_)) (nm_r (nI_1 i) (ih (i + 1) (by omega)))) (fun h => nm_r (e1 ?_) (nm_r (nI_1 i) (ih (i + 1) (by omega))))))
    · have := ((hS i (by omega)).mp z).2
      rw [h] at this
      exact nomatch this
    · exact (hS i (by omega)).mpr ⟨Classical.not_not.mp e, h⟩
theorem zy_rsl {post : Int32 → Prop} {p : Nat} {f : Nat → Bool} (hp : p < 4) (ha : al p = true) (hb : ∀ c, c < 32 → bk c ≤ 32) (hf : ∀ v, v < 8 → f v = (decide (bk (8 * p + v) ≠ 0) && il (bk (8 * p + v) - 1))) (k : post (zs f 8)) : ∀ d i, i + d = 8 → wY_resident_4 post (nI p) (bA al) (nA bk) ct (bA il) (d + 1) (zs f i) (nI i) := by
  intro d
  induction d with
  | zero =>
    intro i hi
    obtain rfl : i = 8 := by omega
    exact pk_le 8 8 (fun _ => k) (fun h => absurd h (by omega))
  | succ d ih =>
    intro i hi
    have hfi := hf i (by omega)
    have hbi := hb (8 * p + i) (by omega)
    refine pk_le 8 i (fun h => absurd h (by omega)) (fun _ => ?_)
    refine zy_pl hb hp ha (by omega) (fun hn => br_f (by decide) ?_) (fun hz => br_t rfl (nm_r (zs_f ?_).symm (nm_r (nI_1 i) (ih (i + 1) (by omega)))))
    · rw [za_8v, za_nA (by omega), za_s1 hn]
      refine And.intro (vp_in_nI (by omega) (by decide)) (And.intro (vp_in_nI (by omega) (by decide)) ?_)
      rw [decide_eq_true hn, Bool.true_and] at hfi
      exact za_bc (by omega) (fun h => nm_r (zs_f (by rw [hfi, h])).symm (nm_r (nI_1 i) (ih (i + 1) (by omega)))) (fun h => nm_r (zs_t (by rw [hfi, h])).symm (nm_r (nI_1 i) (ih (i + 1) (by omega))))
    · rw [hfi, hz]; rfl
theorem zy_rs0 {post : Int32 → Prop} {p0 : Int32} (ky : ∀ post : Int32 → Prop, post 0 → wpY_is post ((bA al), (nA bk), ct, (bA il)) p0) (k : post (zs (fun _ => false) 8)) : ∀ d i, i + d = 8 → wY_resident_4 post p0 (bA al) (nA bk) ct (bA il) (d + 1) (zs (fun _ => false) i) (nI i) := by
  intro d
  induction d with
  | zero =>
    intro i hi
    obtain rfl : i = 8 := by omega
    exact pk_le 8 8 (fun _ => k) (fun h => absurd h (by omega))
  | succ d ih =>
    intro i hi
    exact pk_le 8 i (fun h => absurd h (by omega)) (fun _ => zy_pl0 ky (br_t rfl (nm_r (zs_f rfl).symm (nm_r (nI_1 i) (ih (i + 1) (by omega))))))
theorem zs_00 : zs (fun _ => false) 8 = 0 := by decide
end
theorem i_vc_processes {k : Nat} {u : SX} {v : SY} (I : i_Rel k u v) (hk : k + 5 ≤ 2560) : wpX_processes (fun r => wpY_processes (fun r' => r' = r ∧ i_Rel (k + 5) u v) v) u := by
  refine zz_el (P := fun u v => wpX_processes (fun r => wpY_processes (fun r' => r' = r ∧ i_Rel (k + 5) u v) v) u) ?_ I
  intro ps pr ms pg rs rg gs bk ct gp ix ow st ln oo og gr al il hF
  have R : i_Rel (k + 5) (ps, pr, ms, pg, rs, rg, gs, (mA bk), ct, (nA gp), (nA ix), (nA ow), (nA st), (nA ln), (nA oo), (nA og), gr) ((bA al), (nA bk), ct, (bA il)) := zz_in hF
  have hA := hF.2.2.2.1
  refine ⟨5, zy_procl ?_ 4 0 (by omega)⟩
  exact ⟨zs_eq (by omega) (fun c hc => hA c hc), R⟩
theorem i_vc_mapped {k : Nat} {u : SX} {v : SY} (I : i_Rel k u v) (hk : k + 5 ≤ 2560) (v1 : Int32) : wpX_mapped (fun r => wpY_mapped (fun r' => r' = r ∧ i_Rel (k + 5) u v) v v1) u v1 := by
  refine zz_el (P := fun u v => wpX_mapped (fun r => wpY_mapped (fun r' => r' = r ∧ i_Rel (k + 5) u v) v v1) u v1) ?_ I
  intro ps pr ms pg rs rg gs bk ct gp ix ow st ln oo og gr al il hF
  have R : i_Rel (k + 5) (ps, pr, ms, pg, rs, rg, gs, (mA bk), ct, (nA gp), (nA ix), (nA ow), (nA st), (nA ln), (nA oo), (nA og), gr) ((bA al), (nA bk), ct, (bA il)) := zz_in hF
  have hM := hF.2.2.1.2.1
  have hb : ∀ c, c < 32 → bk c ≤ 32 := fun c hc => (hF.2.2.1.1 c hc).1
  unfold wpX_mapped
  dsimp only
  rcases zc_has (ps := ps) (pr := pr) (ms := ms) (pg := pg) (rs := rs) (rg := rg) (gs := gs) (bk := bk) (ct := ct) (gp := gp) (ix := ix) (ow := ow) (st := st) (ln := ln) (oo := oo) (og := og) (gr := gr) (al := al) (il := il) hF.2.2.2.1 v1 with ⟨p, hp, rfl, ha, kx, ky⟩ | ⟨kx, ky⟩
  · refine kx _ (br_f (by decide) (zy_mapped (f := fun v => decide (bk (8 * p + v) ≠ 0)) (fun v hv e q kq => zy_pl hb hp ha hv (fun _ => kq) (fun z => absurd z (of_decide_eq_true e))) (fun v hv e q kq => zy_pl hb hp ha hv (fun z => absurd z (of_decide_eq_false e)) (fun _ => kq)) ⟨?_, R⟩))
    refine zs_eq (by omega) (fun c hc => ?_)
    rw [zb_sel hp hc]
    constructor
    · rintro ⟨a, b⟩; exact ⟨a, decide_eq_true ((hM _ (by omega)).mp b)⟩
    · rintro ⟨a, b⟩; exact ⟨a, (hM _ (by omega)).mpr (of_decide_eq_true b)⟩
  · exact kx _ (br_t rfl (zy_mapped (f := fun _ => false) (fun v hv e => nomatch e) (fun v hv e q kq => zy_pl0 ky kq) ⟨zs_00, R⟩))
theorem i_vc_resident {k : Nat} {u : SX} {v : SY} (I : i_Rel k u v) (hk : k + 5 ≤ 2560) (v1 : Int32) : wpX_resident (fun r => wpY_resident (fun r' => r' = r ∧ i_Rel (k + 5) u v) v v1) u v1 := by
  refine zz_el (P := fun u v => wpX_resident (fun r => wpY_resident (fun r' => r' = r ∧ i_Rel (k + 5) u v) v v1) u v1) ?_ I
  intro ps pr ms pg rs rg gs bk ct gp ix ow st ln oo og gr al il hF
  have R : i_Rel (k + 5) (ps, pr, ms, pg, rs, rg, gs, (mA bk), ct, (nA gp), (nA ix), (nA ow), (nA st), (nA ln), (nA oo), (nA og), gr) ((bA al), (nA bk), ct, (bA il)) := zz_in hF
  have hR := hF.2.2.1.2.2.2.2
  have hb : ∀ c, c < 32 → bk c ≤ 32 := fun c hc => (hF.2.2.1.1 c hc).1
  unfold wpX_resident
  dsimp only
  rcases zc_has (ps := ps) (pr := pr) (ms := ms) (pg := pg) (rs := rs) (rg := rg) (gs := gs) (bk := bk) (ct := ct) (gp := gp) (ix := ix) (ow := ow) (st := st) (ln := ln) (oo := oo) (og := og) (gr := gr) (al := al) (il := il) hF.2.2.2.1 v1 with ⟨p, hp, rfl, ha, kx, ky⟩ | ⟨kx, ky⟩
  · refine kx _ (br_f (by decide) ⟨9, zy_rsl (f := fun v => (decide (bk (8 * p + v) ≠ 0) && il (bk (8 * p + v) - 1))) hp ha hb (fun _ _ => rfl) ⟨?_, R⟩ 8 0 (by omega)⟩)
    refine zs_eq (by omega) (fun c hc => ?_)
    rw [zb_sel hp hc, Bool.and_eq_true, decide_eq_true_eq]
    constructor
    · rintro ⟨a, b⟩; exact ⟨a, (hR _ (by omega)).mp b⟩
    · rintro ⟨a, b⟩; exact ⟨a, (hR _ (by omega)).mpr b⟩
  · exact kx _ (br_t rfl ⟨9, zy_rs0 ky ⟨zs_00, R⟩ 8 0 (by omega)⟩)
theorem i_vc_pages {k : Nat} {u : SX} {v : SY} (I : i_Rel k u v) (hk : k + 5 ≤ 2560) : wpX_pages (fun r => wpY_pages (fun r' => r' = r ∧ i_Rel (k + 5) u v) v) u := by
  refine zz_el (P := fun u v => wpX_pages (fun r => wpY_pages (fun r' => r' = r ∧ i_Rel (k + 5) u v) v) u) ?_ I
  intro ps pr ms pg rs rg gs bk ct gp ix ow st ln oo og gr al il hF
  have R : i_Rel (k + 5) (ps, pr, ms, pg, rs, rg, gs, (mA bk), ct, (nA gp), (nA ix), (nA ow), (nA st), (nA ln), (nA oo), (nA og), gr) ((bA al), (nA bk), ct, (bA il)) := zz_in hF
  have hb : ∀ c, c < 32 → bk c ≤ 32 := fun c hc => (hF.2.2.1.1 c hc).1
  unfold wpX_pages
  dsimp only
  exact zx_ones ⟨33, zy_pgl hF.2.2.1.2.2.1 hb ⟨rfl, R⟩ 32 0 (by omega)⟩
theorem i_vc_residentPages {k : Nat} {u : SX} {v : SY} (I : i_Rel k u v) (hk : k + 5 ≤ 2560) : wpX_residentPages (fun r => wpY_residentPages (fun r' => r' = r ∧ i_Rel (k + 5) u v) v) u := by
  refine zz_el (P := fun u v => wpX_residentPages (fun r => wpY_residentPages (fun r' => r' = r ∧ i_Rel (k + 5) u v) v) u) ?_ I
  intro ps pr ms pg rs rg gs bk ct gp ix ow st ln oo og gr al il hF
  have R : i_Rel (k + 5) (ps, pr, ms, pg, rs, rg, gs, (mA bk), ct, (nA gp), (nA ix), (nA ow), (nA st), (nA ln), (nA oo), (nA og), gr) ((bA al), (nA bk), ct, (bA il)) := zz_in hF
  have hb : ∀ c, c < 32 → bk c ≤ 32 := fun c hc => (hF.2.2.1.1 c hc).1
  unfold wpX_residentPages
  dsimp only
  exact zx_ones ⟨33, zy_rpl hF.2.2.1.2.2.2.1 hb ⟨rfl, R⟩ 32 0 (by omega)⟩
theorem i_vc_mappers {k : Nat} {u : SX} {v : SY} (I : i_Rel k u v) (hk : k + 5 ≤ 2560) (v1 : Int32) (v2 : Int32) : wpX_mappers (fun r => wpY_mappers (fun r' => r' = r ∧ i_Rel (k + 5) u v) v v1 v2) u v1 v2 := by
  refine zz_el (P := fun u v => wpX_mappers (fun r => wpY_mappers (fun r' => r' = r ∧ i_Rel (k + 5) u v) v v1 v2) u v1 v2) ?_ I
  intro ps pr ms pg rs rg gs bk ct gp ix ow st ln oo og gr al il hF
  have R : i_Rel (k + 5) (ps, pr, ms, pg, rs, rg, gs, (mA bk), ct, (nA gp), (nA ix), (nA ow), (nA st), (nA ln), (nA oo), (nA og), gr) ((bA al), (nA bk), ct, (bA il)) := zz_in hF
  have hb : ∀ c, c < 32 → bk c ≤ 32 := fun c hc => (hF.2.2.1.1 c hc).1
  unfold wpX_mappers wpY_mappers
  dsimp only
  rcases zc_place (ps := ps) (pr := pr) (ms := ms) (pg := pg) (rs := rs) (rg := rg) (gs := gs) (bk := bk) (ct := ct) (gp := gp) (ix := ix) (ow := ow) (st := st) (ln := ln) (oo := oo) (og := og) (gr := gr) (al := al) (il := il) hF.2.2.2.1 hF.2.2.1.2.1 hb v1 v2 with ⟨p, v, hp, hv, rfl, rfl, ha, hne, kx, ky⟩ | ⟨kx, ky⟩
  · have hc := hb (8 * p + v) (by omega)
    rw [za_8v, za_mA (by omega), za_nA (by omega), za_s1 hne]
    have vc : vp_in (nI (8 * p + v)) 32 := vp_in_nI (by omega) (by decide)
    exact kx _ (br_f (by decide) (And.intro vc (zx_walkc (by omega) hne hF.1 hF.2.2.1.1 (ky _ (br_f (by decide) (And.intro vc (zy_users rfl hb (by omega) ⟨rfl, R⟩)))))))
  · exact kx _ (br_t rfl (ky _ (br_t rfl ⟨rfl, R⟩)))
end
section
/-! spawn, read, write, swapOut -/
section
variable {ps pr ms pg rs rg : Int32} {gs : Int64} {bk : Nat → Nat} {ct : Nat → Int32} {gp ix ow st ln oo og : Nat → Nat} {gr gr' : Nat → Int64} {al il : Nat → Bool}
theorem zx_fpl {post : Int32 → Prop} {q : Nat} (hA : zi_A ps al) (hq : q < 4) (h0 : al q = false) (h1 : ∀ j, j < q → al j = true) (k : post (nI q)) : ∀ d i, i + d = q → wX_freeProcess_2 post ps pr ms pg rs rg gs (mA bk) ct (nA gp) (nA ix) (nA ow) (nA st) (nA ln) (nA oo) (nA og) gr (d + 1) (nI i) := by
  intro d
  induction d with
  | zero =>
    intro i hi
    obtain rfl : i = q := by omega
    exact pk_le 4 i (fun h => absurd h (by omega)) (fun _ => zx_has hA hq (fun z => by rw [h0] at z; exact nomatch z) (fun _ => br_t rfl k))
  | succ d ih =>
    intro i hi
    exact pk_le 4 i (fun h => absurd h (by omega)) (fun _ => zx_has hA (by omega) (fun _ => br_f (by decide) (nm_r (nI_1 i) (ih (i + 1) (by omega)))) (fun z => by rw [h1 i (by omega)] at z; exact nomatch z))
theorem zx_fp0 {post : Int32 → Prop} (hA : zi_A ps al) (h1 : ∀ j, j < 4 → al j = true) (k : post (-2)) : ∀ d i, i + d = 4 → wX_freeProcess_2 post ps pr ms pg rs rg gs (mA bk) ct (nA gp) (nA ix) (nA ow) (nA st) (nA ln) (nA oo) (nA og) gr (d + 1) (nI i) := by
  intro d
  induction d with
  | zero =>
    intro i hi
    obtain rfl : i = 4 := by omega
    exact pk_le 4 4 (fun _ => k) (fun h => absurd h (by omega))
  | succ d ih =>
    intro i hi
    exact pk_le 4 i (fun h => absurd h (by omega)) (fun _ => zx_has hA (by omega) (fun _ => br_f (by decide) (nm_r (nI_1 i) (ih (i + 1) (by omega)))) (fun z => by rw [h1 i (by omega)] at z; exact nomatch z))
theorem zy_spl {post : Int32 → SY → Prop} {q : Nat} (hq : q < 4) (h0 : al q = false) (h1 : ∀ j, j < q → al j = true) (k : post (nI q) ((bA (ub al q true)), (nA bk), ct, (bA il))) : ∀ d i, i + d = q → wY_spawn_2 post (bA al) (nA bk) ct (bA il) (d + 1) (nI i) := by
  intro d
  induction d with
  | zero =>
    intro i hi
    obtain rfl : i = q := by omega
    have vi : vp_in (nI i) 4 := vp_in_nI hq (by decide)
    exact pk_le 4 i (fun h => absurd h (by omega)) (fun _ => And.intro vi (za_bc (by omega) (fun _ => And.intro vi (nm_r (za_bU1 (by omega)) k)) (fun z => by rw [h0] at z; exact nomatch z)))
  | succ d ih =>
    intro i hi
    have vi : vp_in (nI i) 4 := vp_in_nI (by omega) (by decide)
    exact pk_le 4 i (fun h => absurd h (by omega)) (fun _ => And.intro vi (za_bc (by omega) (fun z => by rw [h1 i (by omega)] at z; exact nomatch z) (fun _ => nm_r (nI_1 i) (ih (i + 1) (by omega)))))
theorem zy_sp0 {post : Int32 → SY → Prop} (h1 : ∀ j, j < 4 → al j = true) (k : post (-2) ((bA al), (nA bk), ct, (bA il))) : ∀ d i, i + d = 4 → wY_spawn_2 post (bA al) (nA bk) ct (bA il) (d + 1) (nI i) := by
  intro d
  induction d with
  | zero =>
    intro i hi
    obtain rfl : i = 4 := by omega
    exact pk_le 4 4 (fun _ => k) (fun h => absurd h (by omega))
  | succ d ih =>
    intro i hi
    have vi : vp_in (nI i) 4 := vp_in_nI (by omega) (by decide)
    exact pk_le 4 i (fun h => absurd h (by omega)) (fun _ => And.intro vi (za_bc (by omega) (fun z => by rw [h1 i (by omega)] at z; exact nomatch z) (fun _ => nm_r (nI_1 i) (ih (i + 1) (by omega)))))
theorem zc_free (hA : zi_A ps al) : (∃ q, q < 4 ∧ al q = false ∧ (∀ post : Int32 → Prop, post (nI q) → wpX_freeProcess post (ps, pr, ms, pg, rs, rg, gs, (mA bk), ct, (nA gp), (nA ix), (nA ow), (nA st), (nA ln), (nA oo), (nA og), gr)) ∧ (∀ post : Int32 → SY → Prop, post (nI q) ((bA (ub al q true)), (nA bk), ct, (bA il)) → wpY_spawn post ((bA al), (nA bk), ct, (bA il)))) ∨ ((∀ post : Int32 → Prop, post (-2) → wpX_freeProcess post (ps, pr, ms, pg, rs, rg, gs, (mA bk), ct, (nA gp), (nA ix), (nA ow), (nA st), (nA ln), (nA oo), (nA og), gr)) ∧ (∀ post : Int32 → SY → Prop, post (-2) ((bA al), (nA bk), ct, (bA il)) → wpY_spawn post ((bA al), (nA bk), ct, (bA il)))) := by
  by_cases h : ∃ q, q < 4 ∧ al q = false
  · obtain ⟨q0, h1, h2⟩ := h
    obtain ⟨q, a1, a2, a3⟩ := zp_least (fun q => al q = false) q0 h2
    have a3 : ∀ j, j < q → al j = true := fun j hj => ts_nf (a3 j hj)
    exact Or.inl ⟨q, by omega, a2, fun post k => ⟨q + 1, zx_fpl hA (by omega) a2 a3 k q 0 (by omega)⟩, fun post k => ⟨q + 1, zy_spl (by omega) a2 a3 k q 0 (by omega)⟩⟩
  · have a3 : ∀ j, j < 4 → al j = true := fun j hj => ts_nf (fun z => h ⟨j, hj, z⟩)
    exact Or.inr ⟨fun post k => ⟨5, zx_fp0 hA a3 k 4 0 (by omega)⟩, fun post k => ⟨5, zy_sp0 a3 k 4 0 (by omega)⟩⟩
theorem zi_spA {q : Nat} (hA : zi_A ps al) (hq : q < 4) : zi_A (ps ||| ((1 : Int32) <<< (nI q &&& 31))) (ub al q true) := by
  intro p hp
  rw [zb_set (by omega) hp, hA p hp]
  by_cases z : p = q
  · subst z; rw [za_bs]; exact ⟨fun _ => ⟨hq, rfl⟩, fun _ => Or.inr rfl⟩
  · rw [za_bn z]; exact ⟨fun h => h.resolve_right z, Or.inl⟩
theorem zi_spZ {q : Nat} (hZ : zi_Z al bk) : zi_Z (ub al q true) bk := by
  intro p v hp hv h
  by_cases z : p = q
  · subst z; rw [za_bs] at h; exact nomatch h
  · rw [za_bn z] at h; exact hZ p v hp hv h
theorem zi_npE {c x : Nat} (hE : zi_E rg ow st ln bk) : zi_E rg ow st ln (un bk c (x + 1)) := by
  intro r d h
  by_cases z : d = c
  · subst z; rw [za_us]; omega
  · rw [za_un z]; exact hE r d h
theorem zi_npZ {p v x : Nat} (hp : p < 4) (hv : v < 8) (ha : al p = true) (hZ : zi_Z al bk) : zi_Z al (un bk (8 * p + v) x) := by
  intro p' v' hp' hv' h
  by_cases z : 8 * p' + v' = 8 * p + v
  · have e : p' = p := by omega
    rw [e, ha] at h
    exact nomatch h
  · rw [za_un z]; exact hZ p' v' hp' hv' h
/-- one place alone has the page -/
theorem zu_one {c : Nat} (hc : c < 32) (hne : bk c ≠ 0) : zu bk (bk c - 1) 32 = (1 : Int32) <<< (nI c &&& 31) ↔ ¬ ∃ c2, c2 < 32 ∧ c2 ≠ c ∧ bk c2 = bk c := by
  constructor
  · rintro h ⟨c2, h1, h2, h3⟩
    have a : bt (zu bk (bk c - 1) 32) c2 = true := (zu_bt (by omega) h1).mpr ⟨h1, by omega⟩
    rw [h, zb_one hc h1, decide_eq_true_eq] at a
    exact h2 a
  · intro h
    apply b_ext
    intro i hi
    have a := zu_bt (bk := bk) (g := bk c - 1) (n := 32) (by omega) hi
    rw [zb_one hc hi]
    apply Bool.eq_iff_iff.mpr
    rw [a, decide_eq_true_eq]
    constructor
    · rintro ⟨_, b⟩
      apply Classical.not_not.mp
      intro z
      exact h ⟨i, hi, z, by clear h; omega⟩
    · intro z; subst z; exact ⟨hi, by clear h; omega⟩
theorem zi_so (hQ : zi_Q pr ms pg rs bk gp il) {c : Nat} (hc : c < 32) (hne : bk c ≠ 0) : zi_Q (pr &&& (zu bk (bk c - 1) 32 ^^^ (-1))) ms pg (rs &&& (((1 : Int32) <<< (nI (bk c - 1) &&& 31)) ^^^ (-1))) bk gp (ub il (bk c - 1) false) := by
  obtain ⟨hB, hM, hG, hS, hR⟩ := hQ
  have hb := (hB c hc).1
  refine ⟨hB, hM, hG, ?_, ?_⟩
  · intro g' hg'
    rw [zb_clr (by omega) hg', hS g' hg']
    by_cases z : g' = bk c - 1
    · rw [z, za_bs]; exact ⟨fun h => absurd rfl h.2, (fun h => nomatch h.2)⟩
    · rw [za_bn z]; exact ⟨fun h => h.1, fun h => ⟨h, z⟩⟩
  · intro d hd
    have a := zu_bt (bk := bk) (g := bk c - 1) (n := 32) (by omega) hd
    rw [b_and, zb_not hd, Bool.and_eq_true, hR d hd]
    by_cases z : bk d = bk c
    · rw [a.mpr ⟨hd, by omega⟩, z, za_bs]; exact ⟨(fun h => nomatch h.2), (fun h => nomatch h.2)⟩
    · have b : bt (zu bk (bk c - 1) 32) d = false := ts_nt (fun y => z (by have := (a.mp y).2; omega))
      rw [b]
      constructor
      · rintro ⟨h, _⟩
        rw [za_bn (by have := h.1; omega)]
        exact h
      · rintro ⟨h1, h2⟩
        rw [za_bn (by omega)] at h2
        exact ⟨⟨h1, h2⟩, rfl⟩
end
theorem i_vc_spawn {k : Nat} {u : SX} {v : SY} (I : i_Rel k u v) (hk : k + 5 ≤ 2560) : wpX_spawn (fun r u' => wpY_spawn (fun r' v' => r' = r ∧ i_Rel (k + 5) u' v') v) u := by
  refine zz_el (P := fun u v => wpX_spawn (fun r u' => wpY_spawn (fun r' v' => r' = r ∧ i_Rel (k + 5) u' v') v) u) ?_ I
  intro ps pr ms pg rs rg gs bk ct gp ix ow st ln oo og gr al il hF
  have R : i_Rel (k + 5) (ps, pr, ms, pg, rs, rg, gs, (mA bk), ct, (nA gp), (nA ix), (nA ow), (nA st), (nA ln), (nA oo), (nA og), gr) ((bA al), (nA bk), ct, (bA il)) := zz_in hF
  obtain ⟨hI, hE, hQ, hA, hZ⟩ := hF
  unfold wpX_spawn
  dsimp only
  rcases zc_free (ps := ps) (pr := pr) (ms := ms) (pg := pg) (rs := rs) (rg := rg) (gs := gs) (bk := bk) (ct := ct) (gp := gp) (ix := ix) (ow := ow) (st := st) (ln := ln) (oo := oo) (og := og) (gr := gr) (al := al) (il := il) hA with ⟨q, hq, hal, kx, ky⟩ | ⟨kx, ky⟩
  · exact kx _ (br_f (nI_pos (by omega)) (nm_e (ky _ ⟨rfl, zz_in ⟨hI, hE, hQ, zi_spA hA hq, zi_spZ hZ⟩⟩)))
  · exact kx _ (br_t (by decide) (ky _ ⟨rfl, R⟩))
theorem i_vc_read {k : Nat} {u : SX} {v : SY} (I : i_Rel k u v) (hk : k + 5 ≤ 2560) (v1 : Int32) (v2 : Int32) : wpX_read (fun r u' => wpY_read (fun r' v' => r' = r ∧ i_Rel (k + 5) u' v') v v1 v2) u v1 v2 := by
  refine zz_el (P := fun u v => wpX_read (fun r u' => wpY_read (fun r' v' => r' = r ∧ i_Rel (k + 5) u' v') v v1 v2) u v1 v2) ?_ I
  intro ps pr ms pg rs rg gs bk ct gp ix ow st ln oo og gr al il hF
  have R : i_Rel (k + 5) (ps, pr, ms, pg, rs, rg, gs, (mA bk), ct, (nA gp), (nA ix), (nA ow), (nA st), (nA ln), (nA oo), (nA og), gr) ((bA al), (nA bk), ct, (bA il)) := zz_in hF
  obtain ⟨hI, hE, hQ, hA, hZ⟩ := hF
  have hb : ∀ c, c < 32 → bk c ≤ 32 := fun c hc => (hQ.1 c hc).1
  unfold wpX_read wpY_read
  dsimp only
  rcases zc_place (ps := ps) (pr := pr) (ms := ms) (pg := pg) (rs := rs) (rg := rg) (gs := gs) (bk := bk) (ct := ct) (gp := gp) (ix := ix) (ow := ow) (st := st) (ln := ln) (oo := oo) (og := og) (gr := gr) (al := al) (il := il) hA hQ.2.1 hb v1 v2 with ⟨p, v, hp, hv, rfl, rfl, ha, hne, kx, ky⟩ | ⟨kx, ky⟩
  · have hc := hb (8 * p + v) (by omega)
    rw [za_8v, za_mA (by omega), za_nA (by omega), za_s1 hne]
    have vc : vp_in (nI (8 * p + v)) 32 := vp_in_nI (by omega) (by decide)
    have vg : vp_in (nI (bk (8 * p + v) - 1)) 32 := vp_in_nI (by omega) (by decide)
    refine kx _ (br_f (by decide) (And.intro vc (nm_e (zx_bi rfl (by omega) hne hI hQ (fun pr' rs' hQ' => And.intro vg (ky _ (br_f (by decide) (And.intro vc (nm_e (And.intro vg (nm_r (za_bU1 (by omega)) (And.intro vg ⟨rfl, ?_⟩))))))))))))
    exact zz_in ⟨hI, hE, hQ', hA, hZ⟩
  · exact kx _ (br_t rfl (ky _ (br_t rfl ⟨rfl, R⟩)))
theorem i_vc_swapOut {k : Nat} {u : SX} {v : SY} (I : i_Rel k u v) (hk : k + 5 ≤ 2560) (v1 : Int32) (v2 : Int32) : wpX_swapOut (fun r u' => wpY_swapOut (fun r' v' => r' = r ∧ i_Rel (k + 5) u' v') v v1 v2) u v1 v2 := by
  refine zz_el (P := fun u v => wpX_swapOut (fun r u' => wpY_swapOut (fun r' v' => r' = r ∧ i_Rel (k + 5) u' v') v v1 v2) u v1 v2) ?_ I
  intro ps pr ms pg rs rg gs bk ct gp ix ow st ln oo og gr al il hF
  have R : i_Rel (k + 5) (ps, pr, ms, pg, rs, rg, gs, (mA bk), ct, (nA gp), (nA ix), (nA ow), (nA st), (nA ln), (nA oo), (nA og), gr) ((bA al), (nA bk), ct, (bA il)) := zz_in hF
  obtain ⟨hI, hE, hQ, hA, hZ⟩ := hF
  have hb : ∀ c, c < 32 → bk c ≤ 32 := fun c hc => (hQ.1 c hc).1
  unfold wpX_swapOut wpY_swapOut
  dsimp only
  rcases zc_place (ps := ps) (pr := pr) (ms := ms) (pg := pg) (rs := rs) (rg := rg) (gs := gs) (bk := bk) (ct := ct) (gp := gp) (ix := ix) (ow := ow) (st := st) (ln := ln) (oo := oo) (og := og) (gr := gr) (al := al) (il := il) hA hQ.2.1 hb v1 v2 with ⟨p, v, hp, hv, rfl, rfl, ha, hne, kx, ky⟩ | ⟨kx, ky⟩
  · have hc := hb (8 * p + v) (by omega)
    rw [za_8v, za_mA (by omega), za_nA (by omega), za_s1 hne]
    have vc : vp_in (nI (8 * p + v)) 32 := vp_in_nI (by omega) (by decide)
    have vg : vp_in (nI (bk (8 * p + v) - 1)) 32 := vp_in_nI (by omega) (by decide)
    have hS := hQ.2.2.2.1 (bk (8 * p + v) - 1) (by omega)
    refine kx _ (br_f (by decide) (And.intro vc (nm_e (zb_c (by omega) (fun hf => ?_) (fun ht => ?_)))))
    · have hil : il (bk (8 * p + v) - 1) = false := ts_nt (fun z => by
        rw [hS.mpr ⟨⟨8 * p + v, by clear hS; omega, by clear hS; omega⟩, z⟩] at hf
        exact nomatch hf)
      exact ky _ (br_f (by decide) (And.intro vc (nm_e (And.intro vg (za_bc (by clear hS; omega) (fun _ => ⟨rfl, R⟩) (fun z => by rw [hil] at z; exact nomatch z))))))
    · have hil : il (bk (8 * p + v) - 1) = true := (hS.mp ht).2
      clear hS
      refine zx_walkc (by omega) hne hI hQ.1 (nm_e (nm_e (zx_ones ?_)))
      refine ky _ (br_f (by decide) (And.intro vc (nm_e (And.intro vg (za_bc (by omega) (fun z => by rw [hil] at z; exact nomatch z) (fun _ => And.intro vg (nm_r (za_bU0 (by omega)) (zy_users rfl hb (by omega) (zy_ones ⟨rfl, ?_⟩)))))))))
      exact zz_in ⟨hI, hE, zi_so hQ (by omega) hne, hA, hZ⟩
  · exact kx _ (br_t rfl (ky _ (br_t rfl ⟨rfl, R⟩)))
theorem i_vc_write {k : Nat} {u : SX} {v : SY} (I : i_Rel k u v) (hk : k + 5 ≤ 2560) (v1 : Int32) (v2 : Int32) (v3 : Int32) : wpX_write (fun r u' => wpY_write (fun r' v' => r' = r ∧ i_Rel (k + 5) u' v') v v1 v2 v3) u v1 v2 v3 := by
  refine zz_el (P := fun u v => wpX_write (fun r u' => wpY_write (fun r' v' => r' = r ∧ i_Rel (k + 5) u' v') v v1 v2 v3) u v1 v2 v3) ?_ I
  intro ps pr ms pg rs rg gs bk ct gp ix ow st ln oo og gr al il hF
  have R : i_Rel (k + 5) (ps, pr, ms, pg, rs, rg, gs, (mA bk), ct, (nA gp), (nA ix), (nA ow), (nA st), (nA ln), (nA oo), (nA og), gr) ((bA al), (nA bk), ct, (bA il)) := zz_in hF
  obtain ⟨hI, hE, hQ, hA, hZ⟩ := hF
  have hb : ∀ c, c < 32 → bk c ≤ 32 := fun c hc => (hQ.1 c hc).1
  unfold wpX_write wpY_write
  dsimp only
  rcases zc_place (ps := ps) (pr := pr) (ms := ms) (pg := pg) (rs := rs) (rg := rg) (gs := gs) (bk := bk) (ct := ct) (gp := gp) (ix := ix) (ow := ow) (st := st) (ln := ln) (oo := oo) (og := og) (gr := gr) (al := al) (il := il) hA hQ.2.1 hb v1 v2 with ⟨p, v, hp, hv, rfl, rfl, ha, hne, kx, ky⟩ | ⟨kx, ky⟩
  · have hc := hb (8 * p + v) (by omega)
    rw [za_8v, za_nA (by omega), za_s1 hne]
    have vc : vp_in (nI (8 * p + v)) 32 := vp_in_nI (by omega) (by decide)
    have vg : vp_in (nI (bk (8 * p + v) - 1)) 32 := vp_in_nI (by omega) (by decide)
    refine kx _ (br_f (by decide) (nm_e (And.intro vc (nm_r (e' := nI (bk (8 * p + v) - 1)) (by rw [za_mA (by omega), za_s1 hne]) (zx_bi rfl (by omega) hne hI hQ (fun pr' rs' hQ' => ?_))))))
    refine zx_walkc (by omega) hne hI hQ.1 ?_
    by_cases hu : zu bk (bk (8 * p + v) - 1) 32 = (1 : Int32) <<< (nI (8 * p + v) &&& 31)
    · refine br_t hu (And.intro vg (nm_e (ky _ (br_f (by decide) (And.intro vc (nm_e (And.intro vg (nm_r (za_bU1 (by omega)) (zy_users rfl hb (by omega) (br_t hu (And.intro vg (nm_e ⟨rfl, ?_⟩)))))))))))) 
      exact zz_in ⟨hI, hE, hQ', hA, hZ⟩
    · refine br_f hu ?_
      have hs : ∃ c2, c2 < 32 ∧ c2 ≠ 8 * p + v ∧ bk c2 = bk (8 * p + v) := Classical.not_not.mp (fun z => hu ((zu_one (by omega) hne).mpr z))
      obtain ⟨g, hg, h0, h1⟩ := zi_pf hQ.2.2.1 (c := 8 * p + v) (by clear hs; omega) (Or.inr hs)
      obtain ⟨s0, s1⟩ := zi_same hQ.2.2.1 hg h0 h1 (Or.inr hs)
      have hs' : bk (8 * p + v) = 0 ∨ ∃ c2, c2 < 32 ∧ c2 ≠ 8 * p + v ∧ bk c2 = bk (8 * p + v) := Or.inr hs
      clear hs
      refine zx_ra hp (by omega) hI.1 (fun r hr hbr how h3 h4 => ?_) (fun hn => ?_)
      · have w := hI.1 r hr hbr
        have hcv : cv rg ow st ln r (8 * p + v) := ⟨hr, hbr, by omega, by omega⟩
        have J := zi_np hI hQ' hcv hg h0 hs' (x := oo r + v - st r) (by clear hs'; omega)
        clear hs'
        have s0' := s0
        clear s0
        refine zx_np rfl rfl rfl hp hv hr hg h0 h1 w.2.2.2.2.1 h3 (by omega) ?_
        refine ky _ (br_f (by decide) (And.intro vc (nm_e (And.intro vg (nm_r (za_bU1 (by omega)) (zy_users rfl hb (by omega) (br_f hu ?_)))))))
        exact zy_fresh rfl (by omega) hg hb s0' s1 ⟨rfl, zz_in ⟨J.1, zi_npE hE, J.2, hA, zi_npZ hp hv ha hZ⟩⟩
      · obtain ⟨r, hr⟩ := hI.2.2.1 (8 * p + v) (by clear hs'; omega) hne
        have w := hI.1 r hr.1 hr.2.1
        have h5 := hr.2.2
        exact absurd ⟨by clear hs'; omega, by clear hs'; omega⟩ (hn r hr.1 hr.2.1 (by clear hs'; omega))
  · exact kx _ (br_t rfl (ky _ (br_t rfl ⟨rfl, R⟩)))
end
section
/-! map -/
section
variable {ps pr ms pg rs rg : Int32} {gs : Int64} {bk : Nat → Nat} {ct : Nat → Int32} {gp ix ow st ln oo og : Nat → Nat} {gr gr' : Nat → Int64} {al il : Nat → Bool}
/-- a new region over unmapped places -/
theorem zi_new (hI : zi_I rg ow st ln oo og gr bk gp ix) (hE : zi_E rg ow st ln bk) {r p f c x g : Nat} {G : Int64} {rg' : Int32} {ow' st' ln' oo' og' : Nat → Nat} (hr : r < 32) (h0 : bt rg r = false) (hp : p < 4) (hc : 1 ≤ c) (hf : f + c ≤ 8) (hx : x + c ≤ 8) (hg : g < 64) (hG : lb G g = true) (hz : ∀ i, i < c → bk (8 * p + f + i) = 0)
    (q1 : rg' = rg ||| ((1 : Int32) <<< (nI r &&& 31))) (q2 : ow' = un ow r p) (q3 : st' = un st r f) (q4 : ln' = un ln r c) (q5 : oo' = un oo r x) (q6 : og' = un og r g) (q7 : gr' = vp_updL gr r G) :
    zi_I rg' ow' st' ln' oo' og' gr' bk gp ix ∧ (∀ j d, cv rg' ow' st' ln' j d ↔ (j ≠ r ∧ cv rg ow st ln j d) ∨ (j = r ∧ 8 * p + f ≤ d ∧ d < 8 * p + f + c)) ∧ (∀ j, j ≠ r → ow' j = ow j ∧ st' j = st j ∧ ln' j = ln j ∧ oo' j = oo j ∧ og' j = og j ∧ gr' j = gr j) ∧ (ow' r = p ∧ st' r = f ∧ ln' r = c ∧ oo' r = x ∧ og' r = g ∧ gr' r = G) := by
  obtain ⟨hW, hD, hC, hP⟩ := hI
  have live : ∀ j, j < 32 → (bt rg' j = true ↔ bt rg j = true ∨ j = r) := fun j hj => by rw [q1]; exact zb_set hr hj
  have o1 : ow' r = p ∧ st' r = f ∧ ln' r = c ∧ oo' r = x ∧ og' r = g ∧ gr' r = G := by
    rw [q2, q3, q4, q5, q6, q7]
    exact ⟨za_us, za_us, za_us, za_us, za_us, pk_uLs⟩
  have o0 : ∀ j, j ≠ r → ow' j = ow j ∧ st' j = st j ∧ ln' j = ln j ∧ oo' j = oo j ∧ og' j = og j ∧ gr' j = gr j := by
    intro j j1
    rw [q2, q3, q4, q5, q6, q7]
    exact ⟨za_un j1, za_un j1, za_un j1, za_un j1, za_un j1, pk_uLn j1⟩
  have cvi : ∀ j d, cv rg' ow' st' ln' j d ↔ (j ≠ r ∧ cv rg ow st ln j d) ∨ (j = r ∧ 8 * p + f ≤ d ∧ d < 8 * p + f + c) := by
    intro j d
    by_cases e : j = r
    · subst e
      obtain ⟨a1, a2, a3, a4, a5, a6⟩ := o1
      unfold cv
      rw [a1, a2, a3]
      constructor
      · rintro ⟨_, _, y1, y2⟩; exact Or.inr ⟨rfl, y1, y2⟩
      · rintro (y | ⟨_, y1, y2⟩)
        · exact absurd rfl y.1
        · exact ⟨hr, (live j hr).mpr (Or.inr rfl), y1, y2⟩
    · obtain ⟨a1, a2, a3, a4, a5, a6⟩ := o0 j e
      unfold cv
      rw [a1, a2, a3]
      constructor
      · rintro ⟨y1, y2, y3, y4⟩; exact Or.inl ⟨e, y1, ((live j y1).mp y2).resolve_right e, y3, y4⟩
      · rintro (⟨_, y1, y2, y3, y4⟩ | y)
        · exact ⟨y1, (live j y1).mpr (Or.inl y2), y3, y4⟩
        · exact absurd y.1 e
  have off : ∀ j d, cv rg ow st ln j d → ¬ (8 * p + f ≤ d ∧ d < 8 * p + f + c) := by
    intro j d h1 h2
    have a := hE j d h1
    have b := hz (d - (8 * p + f)) (by omega)
    rw [show 8 * p + f + (d - (8 * p + f)) = d by omega] at b
    exact a b
  refine ⟨⟨?_, ?_, ?_, ?_⟩, cvi, o0, o1⟩
  · intro j hj hbj
    by_cases e : j = r
    · subst e
      obtain ⟨a1, a2, a3, a4, a5, a6⟩ := o1
      rw [a1, a2, a3, a4, a5, a6]
      exact ⟨hp, hc, hf, hx, hg, hG⟩
    · obtain ⟨a1, a2, a3, a4, a5, a6⟩ := o0 j e
      rw [a1, a2, a3, a4, a5, a6]
      exact hW j hj (((live j hj).mp hbj).resolve_right e)
  · intro j j' d h h'
    rcases (cvi j d).mp h with ⟨y1, y2⟩ | ⟨y1, y2⟩ <;> rcases (cvi j' d).mp h' with ⟨z1, z2⟩ | ⟨z1, z2⟩
    · exact hD _ _ _ y2 z2
    · exact absurd z2 (off j d y2)
    · exact absurd y2 (off j' d z2)
    · omega
  · intro d hd hn
    obtain ⟨j, hj⟩ := hC d hd hn
    have e : j ≠ r := fun e => by have := hj.2.1; rw [e, h0] at this; exact nomatch this
    exact ⟨j, (cvi j d).mpr (Or.inl ⟨e, hj⟩)⟩
  · intro j d h hn
    rcases (cvi j d).mp h with ⟨y1, y2⟩ | ⟨y1, y2⟩
    · obtain ⟨a1, a2, a3, a4, a5, a6⟩ := o0 j y1
      rw [a1, a2, a4, a6]
      exact hP j d y2 hn
    · have b := hz (d - (8 * p + f)) (by omega)
      rw [show 8 * p + f + (d - (8 * p + f)) = d by omega] at b
      exact absurd b hn
theorem zb_runz {p f c : Nat} (hM : zi_M ms bk) (hp : p < 4) (hc : c ≤ 8) (hf : f + c ≤ 8) (hf8 : f < 8) : (((((1 : Int32) <<< (nI c &&& 31)) - 1) <<< ((8 * nI p + nI f) &&& 31)) &&& ms) = 0 ↔ ∀ i, i < c → bk (8 * p + f + i) = 0 := by
  rw [za_8v, zb_z]
  constructor
  · intro h i hi
    apply Classical.not_not.mp
    intro z
    have a := h (8 * p + f + i) (by omega)
    rw [b_and, (zb_run hc (by omega) (by omega)).mpr ⟨by omega, by omega⟩, (hM _ (by omega)).mpr z] at a
    exact nomatch a
  · intro h i hi
    apply ts_nt
    intro z
    rw [b_and, Bool.and_eq_true, zb_run hc (by omega) hi, hM i hi] at z
    refine z.2 ?_
    have a := h (i - (8 * p + f)) (by omega)
    rw [show 8 * p + f + (i - (8 * p + f)) = i by omega] at a
    exact a
theorem zb_runn {p f c : Nat} (hM : zi_M ms bk) (hp : p < 4) (hc : c ≤ 8) (hf : f + c ≤ 8) (hf8 : f < 8) : (((((1 : Int32) <<< (nI c &&& 31)) - 1) <<< ((8 * nI p + nI f) &&& 31)) &&& (ms ^^^ (-1))) = 0 ↔ ∀ i, i < c → bk (8 * p + f + i) ≠ 0 := by
  rw [za_8v, zb_z]
  constructor
  · intro h i hi z
    have a := h (8 * p + f + i) (by omega)
    rw [b_and, (zb_run hc (by omega) (by omega)).mpr ⟨by omega, by omega⟩, zb_not (by omega), ts_nt (fun y => (hM _ (by omega)).mp y z)] at a
    exact nomatch a
  · intro h i hi
    apply ts_nt
    intro z
    rw [b_and, Bool.and_eq_true, zb_run hc (by omega) hi, zb_not hi] at z
    have a := h (i - (8 * p + f)) (by omega)
    rw [show 8 * p + f + (i - (8 * p + f)) = i by omega] at a
    rw [(hM i hi).mpr a] at z
    exact nomatch z.2
theorem zy_some {p f c : Nat} (hb : ∀ c, c < 32 → bk c ≤ 32) (hp : p < 4) (ha : al p = true) (hc : 1 ≤ c) (hf : f + c ≤ 8) : ∃ S : Int32, (∀ i, i < 32 → (bt S i = true ↔ i < c ∧ bk (8 * p + f + i) ≠ 0)) ∧ ∀ post : Int32 → Prop, post S → wpY_some post ((bA al), (nA bk), ct, (bA il)) (nI p) (nI f) (nI c) := by
  refine ⟨(zs (fun v => decide (bk (8 * p + v) ≠ 0)) 8 >>> (nI f &&& 31)) &&& (((1 : Int32) <<< (nI c &&& 31)) - 1), ?_, ?_⟩
  · intro i hi
    rw [b_and, b_sshr f (by omega) _ hi, zb_mk (by omega) hi, Bool.and_eq_true, decide_eq_true_eq]
    constructor
    · rintro ⟨h1, h2⟩
      rw [if_pos (by omega), zs_bt (by omega) (by omega)] at h1
      have h3 := of_decide_eq_true h1.2
      rw [show 8 * p + f + i = 8 * p + (f + i) by omega]
      exact ⟨h2, h3⟩
    · rintro ⟨h1, h2⟩
      rw [if_pos (by omega), zs_bt (by omega) (by omega)]
      refine ⟨⟨by omega, decide_eq_true ?_⟩, h1⟩
      rw [show 8 * p + (f + i) = 8 * p + f + i by omega]
      exact h2
  · intro post k
    unfold wpY_some
    dsimp only
    exact zy_mapped (f := fun v => decide (bk (8 * p + v) ≠ 0)) (fun v hv e q kq => zy_pl hb hp ha hv (fun _ => kq) (fun z => absurd z (of_decide_eq_true e))) (fun v hv e q kq => zy_pl hb hp ha hv (fun z => absurd z (of_decide_eq_false e)) (fun _ => kq)) k
theorem zy_s0 {S : Int32} {b c : Nat} (hc : c ≤ 8) (h : ∀ i, i < 32 → (bt S i = true ↔ i < c ∧ bk (b + i) ≠ 0)) : S = 0 ↔ ∀ i, i < c → bk (b + i) = 0 := by
  rw [zb_z]
  constructor
  · intro q i hi
    apply Classical.not_not.mp
    intro z
    have a := q i (by omega)
    rw [(h i (by omega)).mpr ⟨hi, z⟩] at a
    exact nomatch a
  · intro q i hi
    apply ts_nt
    intro z
    have a := (h i hi).mp z
    exact a.2 (q i a.1)
theorem zy_s1 {S : Int32} {b c : Nat} (hc : c ≤ 8) (h : ∀ i, i < 32 → (bt S i = true ↔ i < c ∧ bk (b + i) ≠ 0)) : S = (((1 : Int32) <<< (nI c &&& 31)) - 1) ↔ ∀ i, i < c → bk (b + i) ≠ 0 := by
  constructor
  · intro q i hi
    have a : bt S i = true := by rw [q, zb_mk hc (by omega)]; exact decide_eq_true hi
    exact ((h i (by omega)).mp a).2
  · intro q
    apply b_ext
    intro i hi
    rw [zb_mk hc hi]
    apply Bool.eq_iff_iff.mpr
    rw [h i hi, decide_eq_true_eq]
    exact ⟨fun z => z.1, fun z => ⟨z, q i z⟩⟩
theorem zc_mapl {p f c r : Nat} (hp : p < 4) (hc : 1 ≤ c) (hf : f + c ≤ 8) (hr : r < 32) (hbr : bt rg r = true) (how : ow r = p) (hst : st r = f) (hln : ln r = c) (hoo : oo r = f) : ∀ d v (pr ms pg rs : Int32) (bk : Nat → Nat) (ct : Nat → Int32) (gp ix : Nat → Nat) (il : Nat → Bool), v + d = f + c → f ≤ v → zi_I rg ow st ln oo og gr bk gp ix → zi_Q pr ms pg rs bk gp il → (∀ w, v ≤ w → w < f + c → bk (8 * p + w) = 0) →
    ∃ (bk' : Nat → Nat) (ct' : Nat → Int32) (il' : Nat → Bool), (∀ post : Int32 → SX → Prop, (∀ pr' ms' pg' rs' gp' ix', zi_I rg ow st ln oo og gr bk' gp' ix' → zi_Q pr' ms' pg' rs' bk' gp' il' → (∀ w, v ≤ w → w < f + c → bk' (8 * p + w) ≠ 0) → (∀ e, (e < 8 * p + v ∨ 8 * p + (f + c) ≤ e) → bk' e = bk e) → post 1 (ps, pr', ms', pg', rs', rg, gs, (mA bk'), ct', (nA gp'), (nA ix'), (nA ow), (nA st), (nA ln), (nA oo), (nA og), gr)) → wX_map_72 post (nI p) (nI f) (nI c) (nI r) (d + 1) (nI v) ps pr ms pg rs rg gs (mA bk) ct (nA gp) (nA ix) (nA ow) (nA st) (nA ln) (nA oo) (nA og) gr) ∧ (∀ post : Int32 → SY → Prop, post 1 ((bA al), (nA bk'), ct', (bA il')) → wY_map_25 post (nI p) (nI f) (nI c) (d + 1) (nI v) (bA al) (nA bk) ct (bA il)) := by
  intro d
  induction d with
  | zero =>
    intro v pr ms pg rs bk ct gp ix il hv hfv hI hQ hz
    refine ⟨bk, ct, il, fun post k => ?_, fun post k => ?_⟩
    · exact pk_le (f + c) v (fun _ => k _ _ _ _ _ _ hI hQ (fun w h1 h2 => absurd h1 (by omega)) (fun _ _ => rfl)) (fun h => absurd h (by omega)) (nI_add f c)
    · exact pk_le (f + c) v (fun _ => k) (fun h => absurd h (by omega)) (nI_add f c)
  | succ d ih =>
    intro v pr ms pg rs bk ct gp ix il hv hfv hI hQ hz
    have hz0 := hz v (by omega) (by omega)
    obtain ⟨g, hg, h0, h1⟩ := zi_pf hQ.2.2.1 (c := 8 * p + v) (by omega) (Or.inl hz0)
    obtain ⟨s0, s1⟩ := zi_same hQ.2.2.1 hg h0 h1 (Or.inl hz0)
    have w := hI.1 r hr hbr
    have hcv : cv rg ow st ln r (8 * p + v) := ⟨hr, hbr, by omega, by omega⟩
    have J := zi_np hI hQ hcv hg h0 (Or.inl hz0) (x := oo r + v - st r) (by omega)
    obtain ⟨bk', ct', il', KX, KY⟩ := ih (v + 1) _ _ _ _ _ (upd ct g 0) _ _ _ (by omega) (by omega) J.1 J.2 (fun u h1 h2 => by rw [za_un (by omega)]; exact hz u (by omega) h2)
    refine ⟨bk', ct', il', fun post k => ?_, fun post k => ?_⟩
    · refine pk_le (f + c) v (fun h => absurd h (by omega)) (fun _ => ?_) (nI_add f c)
      refine zx_np rfl rfl rfl hp (by omega) hr hg h0 h1 w.2.2.2.2.1 (by omega) (by omega) ?_
      refine nm_r (nI_1 v) (KX post (fun pr' ms' pg' rs' gp' ix' a1 a2 a3 a4 => k _ _ _ _ _ _ a1 a2 (fun u h1 h2 => ?_) (fun e he => ?_)))
      · by_cases z : u = v
        · subst z
          rw [a4 (8 * p + u) (by omega), za_us]
          omega
        · exact a3 u (by omega) h2
      · rw [a4 e (by omega), za_un (by omega)]
    · refine pk_le (f + c) v (fun h => absurd h (by omega)) (fun _ => ?_) (nI_add f c)
      exact zy_fresh (za_8v p v) (by omega) hg (fun c hc => (hQ.1 c hc).1) s0 s1 (nm_r (nI_1 v) (KY post k))
end
theorem i_vc_map {k : Nat} {u : SX} {v : SY} (I : i_Rel k u v) (hk : k + 5 ≤ 2560) (v1 : Int32) (v2 : Int32) (v3 : Int32) : wpX_map (fun r u' => wpY_map (fun r' v' => r' = r ∧ i_Rel (k + 5) u' v') v v1 v2 v3) u v1 v2 v3 := by
  refine zz_el (P := fun u v => wpX_map (fun r u' => wpY_map (fun r' v' => r' = r ∧ i_Rel (k + 5) u' v') v v1 v2 v3) u v1 v2 v3) ?_ I
  intro ps pr ms pg rs rg gs bk ct gp ix ow st ln oo og gr al il hF
  have R : i_Rel (k + 5) (ps, pr, ms, pg, rs, rg, gs, (mA bk), ct, (nA gp), (nA ix), (nA ow), (nA st), (nA ln), (nA oo), (nA og), gr) ((bA al), (nA bk), ct, (bA il)) := zz_in hF
  obtain ⟨hI, hE, hQ, hA, hZ⟩ := hF
  have hb : ∀ c, c < 32 → bk c ≤ 32 := fun c hc => (hQ.1 c hc).1
  unfold wpX_map wpY_map
  dsimp only
  rcases zc_has (ps := ps) (pr := pr) (ms := ms) (pg := pg) (rs := rs) (rg := rg) (gs := gs) (bk := bk) (ct := ct) (gp := gp) (ix := ix) (ow := ow) (st := st) (ln := ln) (oo := oo) (og := og) (gr := gr) (al := al) (il := il) hA v1 with ⟨p, hp, rfl, ha, kx, ky⟩ | ⟨kx, ky⟩
  · refine kx _ (br_f (by decide) ?_)
    rcases zx_runOk v2 v3 with ⟨f, c, hc, hf, rfl, rfl, kr⟩ | ⟨kr, hbad⟩
    · refine kr _ (br_f (by decide) ?_)
      obtain ⟨S, hS, kS⟩ := zy_some (ct := ct) (il := il) hb hp ha hc hf
      have RY : ∀ post : Int32 → Prop, post 1 → wpY_range post ((bA al), (nA bk), ct, (bA il)) (nI p) (nI f) (nI c) := fun post q => (zy_range ky).1 f c hc hf rfl rfl q
      refine ek_if (zb_runz hQ.2.1 hp (by omega) hf (by omega)) (fun hz => ?_) (fun hz => RY _ (br_f (by decide) (kS _ (br_f (fun z => hz ((zy_s0 (by omega) hS).mp z)) ⟨rfl, R⟩))))
      refine zx_fg (fun r hr hb => (hI.1 r hr hb).2.2.2.2.1) (fun g hg hbg => ?_) (fun g gs' gr1 hg hK => ?_)
      · obtain ⟨d, hd, e⟩ := (hQ.2.2.1 g hg).mp hbg
        have := (hQ.1 d hd).2 (by omega)
        rw [e] at this
        exact this
      · have hI1 := zi_KI hQ.2.2.1 hQ.1 hE hK hI
        obtain ⟨r, hr, h0, h1⟩ := zi_rf hI1.1 hI1.2.1 (c := 8 * p + f) (by omega) (fun r hr hbr e => by
          have w := hI1.1 r hr hbr
          have a := hE r (8 * p + f) ⟨hr, hbr, by omega, by omega⟩
          exact a (hz 0 (by omega)))
        have vr : vp_in (nI r) 32 := vp_in_nI hr (by decide)
        have J := zi_new hI1 hE (G := (1 : Int64) <<< ((nI g).toInt64 &&& 63)) hr h0 hp hc hf hf hg ((zl_one hg hg).mpr rfl) hz rfl rfl rfl rfl rfl rfl rfl
        obtain ⟨JI, Jc, J0, J1⟩ := J
        refine zx_nr rfl rfl rfl rfl hr h0 h1 (by omega) (by omega) (by omega) (by omega) ?_
        refine And.intro vr (nm_r (za_wb hr (by omega)) (And.intro vr (nm_r (za_uL (by omega)) ?_)))
        obtain ⟨bk', ct', il', KX, KY⟩ := zc_mapl (gs := gs') (ps := ps) (al := al) hp hc hf hr ((zb_set hr hr).mpr (Or.inr rfl)) J1.1 J1.2.1 J1.2.2.1 J1.2.2.2.1 c f pr ms pg rs bk ct gp ix il rfl (Nat.le_refl f) JI hQ (fun w h1 h2 => by have := hz (w - f) (by omega); rw [show 8 * p + f + (w - f) = 8 * p + w by omega] at this; exact this)
        refine ⟨c + 1, KX _ (fun pr' ms' pg' rs' gp' ix' a1 a2 a3 a4 => RY _ (br_f (by decide) (kS _ (br_t ((zy_s0 (by omega) hS).mpr hz) ⟨c + 1, KY _ ⟨rfl, zz_in ⟨a1, ?_, a2, hA, ?_⟩⟩⟩))))⟩
        · intro j d hj
          rcases (Jc j d).mp hj with ⟨y1, y2⟩ | ⟨y1, y2, y3⟩
          · have a := hE j d y2
            rw [a4 d ?_]
            · exact a
            · apply Classical.not_not.mp
              intro z
              have b := hz (d - (8 * p + f)) (by omega)
              rw [show 8 * p + f + (d - (8 * p + f)) = d by omega] at b
              exact a b
          · have a := a3 (d - 8 * p) (by omega) (by omega)
            rw [show 8 * p + (d - 8 * p) = d by omega] at a
            exact a
        · intro p' v' hp' hv' h
          have hne : p' ≠ p := fun e => by rw [e, ha] at h; exact nomatch h
          rw [a4 _ (by omega)]
          exact hZ p' v' hp' hv' h
    · exact kr _ (br_t rfl ((zy_range ky).2 hbad (br_t rfl ⟨rfl, R⟩)))
  · exact kx _ (br_t rfl (zy_range0 ky (br_t rfl ⟨rfl, R⟩)))
end
section
/-! unmap and exit -/
/-- k places from a on are taken out -/
def zr (bk : Nat → Nat) (a k : Nat) : Nat → Nat := fun d => if a ≤ d ∧ d < a + k then 0 else bk d
def cz (bk : Nat → Nat) (a : Nat) : Nat → Nat
  | 0 => 0
  | k + 1 => cz bk a k + (if bk (a + k) = 0 then 0 else 1)
theorem zr_i {bk : Nat → Nat} {a k d : Nat} (h1 : a ≤ d) (h2 : d < a + k) : zr bk a k d = 0 := if_pos ⟨h1, h2⟩
theorem zr_o {bk : Nat → Nat} {a k d : Nat} (h : ¬ (a ≤ d ∧ d < a + k)) : zr bk a k d = bk d := if_neg h
theorem zr_0 (bk : Nat → Nat) (a : Nat) : zr bk a 0 = bk := by
  funext d
  exact zr_o (by omega)
theorem zr_s (bk : Nat → Nat) (a k : Nat) : un (zr bk a k) (a + k) 0 = zr bk a (k + 1) := by
  funext d
  by_cases e : d = a + k
  · subst e; rw [za_us, zr_i (by omega) (by omega)]
  · rw [za_un e]
    by_cases h : a ≤ d ∧ d < a + k
    · rw [zr_i h.1 h.2, zr_i h.1 (by omega)]
    · rw [zr_o h, zr_o (by omega)]
theorem zr_z {bk : Nat → Nat} {a k : Nat} (h : bk (a + k) = 0) : zr bk a (k + 1) = zr bk a k := by
  rw [← zr_s]
  refine za_uid ?_
  rw [zr_o (by omega)]
  exact h
theorem zr_m {bk : Nat → Nat} {a k d : Nat} (h : zr bk a k d ≠ 0) : zr bk a k d = bk d := by
  by_cases z : a ≤ d ∧ d < a + k
  · exact absurd (zr_i z.1 z.2) h
  · exact zr_o z
theorem cz_z {bk : Nat → Nat} {a k : Nat} (h : bk (a + k) = 0) : cz bk a (k + 1) = cz bk a k := by
  show cz bk a k + (if bk (a + k) = 0 then 0 else 1) = _
  rw [if_pos h]
  rfl
theorem cz_n {bk : Nat → Nat} {a k : Nat} (h : bk (a + k) ≠ 0) : cz bk a (k + 1) = cz bk a k + 1 := by
  show cz bk a k + (if bk (a + k) = 0 then 0 else 1) = _
  rw [if_neg h]
section
variable {ps pr ms pg rs rg : Int32} {gs : Int64} {bk : Nat → Nat} {ct : Nat → Int32} {gp ix ow st ln oo og : Nat → Nat} {gr gr' : Nat → Int64} {al il : Nat → Bool}
theorem zx_u79 {post : Int32 → SX → Prop} {p f c : Nat} {x4 : Int32} (hp : p < 4) (hf : f + c ≤ 8) (hW : zi_W rg ow st ln oo og gr) (k : ∀ rg', (∀ r, r < 32 → (bt rg' r = true ↔ bt rg r = true ∧ ¬ (ow r = p ∧ f ≤ st r ∧ st r < f + c))) → post x4 (ps, pr, ms, pg, rs, rg', gs, (mA bk), ct, (nA gp), (nA ix), (nA ow), (nA st), (nA ln), (nA oo), (nA og), gr)) :
    ∀ d i rg1, i + d = 32 → (∀ r, r < 32 → (bt rg1 r = true ↔ bt rg r = true ∧ ¬ (r < i ∧ ow r = p ∧ f ≤ st r ∧ st r < f + c))) → wX_unmap_79 post (nI p) (nI f) (nI c) x4 ps pr ms pg rs gs (mA bk) ct (nA gp) (nA ix) (nA ow) (nA st) (nA ln) (nA oo) (nA og) gr (d + 1) (nI i) rg1 := by
  intro d
  induction d with
  | zero =>
    intro i rg1 hi h
    obtain rfl : i = 32 := by omega
    refine pk_le 32 32 (fun _ => k rg1 (fun r hr => ?_)) (fun h => absurd h (by omega))
    rw [h r hr]
    exact ⟨fun z => ⟨z.1, fun y => z.2 ⟨hr, y⟩⟩, fun z => ⟨z.1, fun y => z.2 y.2⟩⟩
  | succ d ih =>
    intro i rg1 hi h
    have vi : vp_in (nI i) 32 := vp_in_nI (by omega) (by decide)
    have hW1 : zi_W rg1 ow st ln oo og gr := fun r hr hb => hW r hr ((h r hr).mp hb).1
    have same : ¬ (bt rg1 i = true ∧ ow i = p ∧ f ≤ st i ∧ st i < f + c) → wX_unmap_79 post (nI p) (nI f) (nI c) x4 ps pr ms pg rs gs (mA bk) ct (nA gp) (nA ix) (nA ow) (nA st) (nA ln) (nA oo) (nA og) gr (d + 1) (nI (i + 1)) rg1 := fun hn => ih (i + 1) rg1 (by omega) (fun r hr => by
      constructor
      · intro z
        refine ⟨((h r hr).mp z).1, fun y => ?_⟩
        by_cases e : r = i
        · subst e; exact hn ⟨z, y.2⟩
        · exact ((h r hr).mp z).2 ⟨by omega, y.2⟩
      · rintro ⟨z1, z2⟩
        exact (h r hr).mpr ⟨z1, fun y => z2 ⟨by omega, y.2⟩⟩)
    refine pk_le 32 i (fun h => absurd h (by omega)) (fun _ => ?_)
    refine zx_ir (by omega) (by omega) hW1 (fun h1 h2 => br_f (by decide) (And.intro vi ?_)) (fun h1 => br_t rfl (nm_r (nI_1 i) (same (fun z => h1 ⟨z.1, z.2.1⟩))))
    have w := hW1 i (by omega) h1
    refine pk_lt (st i) f (fun a => nm_r (nI_1 i) (same (fun z => by have := z.2.2.1; omega))) (fun a => And.intro vi ?_) (za_nA (by omega)) rfl
    refine pk_le (f + c) (st i) (fun b => nm_r (nI_1 i) (same (fun z => by have := z.2.2.2; omega))) (fun b => nm_e (nm_r (nI_1 i) (ih (i + 1) _ (by omega) (fun r hr => ?_)))) (nI_add f c) (za_nA (by omega))
    rw [zb_clr (by omega) hr, h r hr]
    constructor
    · rintro ⟨⟨z1, z2⟩, z3⟩
      exact ⟨z1, fun y => z2 ⟨by omega, y.2⟩⟩
    · rintro ⟨z1, z2⟩
      refine ⟨⟨z1, fun y => z2 ⟨by omega, y.2⟩⟩, fun e => ?_⟩
      subst e
      exact z2 ⟨by omega, h2, a, b⟩
theorem zx_uml {post : Int32 → SX → Prop} {p f c a : Nat} (hA : zi_A ps al) (hp : p < 4) (ha : al p = true) (hf : f + c ≤ 8) (ea : a = 8 * p + f) (hI : zi_I rg ow st ln oo og gr bk gp ix) (k : ∀ pr ms pg rs, zi_Q pr ms pg rs (zr bk a c) gp il → ∃ n, wX_unmap_79 post (nI p) (nI f) (nI c) (nI (cz bk a c)) ps pr ms pg rs gs (mA (zr bk a c)) ct (nA gp) (nA ix) (nA ow) (nA st) (nA ln) (nA oo) (nA og) gr n 0 rg) :
    ∀ d i pr ms pg rs, i + d = c → zi_Q pr ms pg rs (zr bk a i) gp il → wX_unmap_38 post (nI p) (nI f) (nI c) (d + 1) (nI (cz bk a i)) (nI (f + i)) ps pr ms pg rs rg gs (mA (zr bk a i)) ct (nA gp) (nA ix) (nA ow) (nA st) (nA ln) (nA oo) (nA og) gr := by
  intro d
  induction d with
  | zero =>
    intro i pr ms pg rs hi hQ
    obtain rfl : i = c := by omega
    exact pk_le (f + i) (f + i) (fun _ => k _ _ _ _ hQ) (fun h => absurd h (by omega)) (nI_add f i)
  | succ d ih =>
    intro i pr ms pg rs hi hQ
    have e8 : 8 * p + (f + i) = a + i := by omega
    have eb : zr bk a i (a + i) = bk (a + i) := zr_o (by omega)
    refine pk_le (f + c) (f + i) (fun h => absurd h (by omega)) (fun _ => ?_) (nI_add f c)
    refine zx_im hA hQ.2.1 hp ha (by omega) (fun hne => br_f (by decide) ?_) (fun hz => br_t rfl (nm_r (nI_1 (f + i)) ?_))
    · rw [e8] at hne
      refine zx_ub (c := a + i) (by rw [za_8v, e8]) (by omega) hne (zi_mono (fun c _ h => zr_m h) hI) hQ (fun pr' ms' pg' rs' hQ' => ?_)
      rw [eb] at hne
      rw [zr_s] at hQ' ⊢
      refine nm_r (e' := nI (cz bk a (i + 1))) (by rw [nI_1, cz_n hne]) (nm_r (nI_1 (f + i)) ?_)
      exact ih (i + 1) pr' ms' pg' rs' (by omega) hQ'
    · rw [e8, eb] at hz
      have t := ih (i + 1) pr ms pg rs (by omega) (by rw [zr_z hz]; exact hQ)
      rw [zr_z hz, cz_z hz] at t
      exact t
/-- the regions of a run that both ends cut clean go, with the places of the run -/
theorem zi_unm {p f c a : Nat} {rg' : Int32} (hp : p < 4) (hf : f + c ≤ 8) (ea : a = 8 * p + f) (hI : zi_I rg ow st ln oo og gr bk gp ix) (hE : zi_E rg ow st ln bk) (x1 : zi_X rg ow st ln p f) (x2 : zi_X rg ow st ln p (f + c)) (h : ∀ r, r < 32 → (bt rg' r = true ↔ bt rg r = true ∧ ¬ (ow r = p ∧ f ≤ st r ∧ st r < f + c))) :
    zi_I rg' ow st ln oo og gr (zr bk a c) gp ix ∧ zi_E rg' ow st ln (zr bk a c) := by
  obtain ⟨hW, hD, hC, hP⟩ := hI
  have sub : ∀ r d, cv rg' ow st ln r d → cv rg ow st ln r d := fun r d z => ⟨z.1, ((h r z.1).mp z.2.1).1, z.2.2⟩
  refine ⟨⟨fun r hr hb => hW r hr ((h r hr).mp hb).1, fun r r' d y z => hD r r' d (sub r d y) (sub r' d z), ?_, ?_⟩, ?_⟩
  · intro d hd hn
    have e := zr_m hn
    obtain ⟨r, hr⟩ := hC d hd (by rw [← e]; exact hn)
    obtain ⟨c1, c2, c3, c4⟩ := hr
    have w := hW r c1 c2
    refine ⟨r, c1, (h r c1).mpr ⟨c2, fun z => ?_⟩, c3, c4⟩
    have y := x2 r c1 c2 z.1
    exact hn (zr_i (by omega) (by omega))
  · intro r d hv hn
    have e := zr_m hn
    rw [e] at hn ⊢
    exact hP r d (sub r d hv) hn
  · intro r d hv
    have b := hE r d (sub r d hv)
    rw [zr_o ?_]
    · exact b
    · rintro ⟨z1, z2⟩
      obtain ⟨c1, c2, c3, c4⟩ := hv
      obtain ⟨b1, b2⟩ := (h r c1).mp c2
      have w := hW r c1 b1
      have ew : ow r = p := by omega
      have y := x1 r c1 b1 ew
      exact b2 ⟨ew, by omega, by omega⟩
theorem zx_unmap {post : Int32 → SX → Prop} {p f c a : Nat} {a2 a3 : Int32} (e2 : a2 = nI f) (e3 : a3 = nI c) (hA : zi_A ps al) (hp : p < 4) (ha : al p = true) (hc : 1 ≤ c) (hf : f + c ≤ 8) (ea : a = 8 * p + f) (hI : zi_I rg ow st ln oo og gr bk gp ix) (hE : zi_E rg ow st ln bk) (hQ : zi_Q pr ms pg rs bk gp il) (kr : ∀ q : Int32 → Prop, q 1 → wpX_runOk q a2 a3)
    (k : ∀ pr' ms' pg' rs' rg' ow' st' ln' oo' og' gr', zi_I rg' ow' st' ln' oo' og' gr' (zr bk a c) gp ix → zi_E rg' ow' st' ln' (zr bk a c) → zi_Q pr' ms' pg' rs' (zr bk a c) gp il → post (nI (cz bk a c)) (ps, pr', ms', pg', rs', rg', gs, (mA (zr bk a c)), ct, (nA gp), (nA ix), (nA ow'), (nA st'), (nA ln'), (nA oo'), (nA og'), gr')) : wpX_unmap post (ps, pr, ms, pg, rs, rg, gs, (mA bk), ct, (nA gp), (nA ix), (nA ow), (nA st), (nA ln), (nA oo), (nA og), gr) (nI p) a2 a3 := by
  subst e2 e3
  unfold wpX_unmap
  dsimp only
  refine zx_has hA hp (fun _ => br_f (by decide) (kr _ (br_f (by decide) ?_))) (fun z => by rw [ha] at z; exact nomatch z)
  refine zx_cut rfl hp (by omega) hI hE (fun rg1 ow1 st1 ln1 oo1 og1 gr1 hI1 hE1 x1 y1 => ?_)
  refine zx_cut (nI_add f c) hp (by omega) hI1 hE1 (fun rg2 ow2 st2 ln2 oo2 og2 gr2 hI2 hE2 x2 y2 => ?_)
  have t := zx_uml (gs := gs) (ct := ct) (post := post) (il := il) (c := c) hA hp ha hf ea hI2 (fun pr' ms' pg' rs' hQ' => ⟨33, zx_u79 hp hf hI2.1 (fun rg' h => ?_) 32 0 rg2 (by omega) (fun r hr => ⟨fun z => ⟨z, fun y => absurd y.1 (by omega)⟩, fun z => z.1⟩)⟩) c 0 pr ms pg rs (by omega) (by rw [zr_0]; exact hQ)
  · rw [zr_0] at t
    exact ⟨c + 1, t⟩
  · have J := zi_unm hp hf ea hI2 hE2 (y2 p f x1) x2 h
    exact k _ _ _ _ _ _ _ _ _ _ _ J.1 J.2 hQ'
theorem zy_uml {post : Int32 → SY → Prop} {p f c a : Nat} (hp : p < 4) (hf : f + c ≤ 8) (ea : a = 8 * p + f) (hb : ∀ c, c < 32 → bk c ≤ 32) (k : post (nI (cz bk a c)) ((bA al), (nA (zr bk a c)), ct, (bA il))) : ∀ d i, i + d = c → wY_unmap_18 post (nI p) (nI f) (nI c) (d + 1) (nI (cz bk a i)) (nI (f + i)) (bA al) (nA (zr bk a i)) ct (bA il) := by
  intro d
  induction d with
  | zero =>
    intro i hi
    obtain rfl : i = c := by omega
    exact pk_le (f + i) (f + i) (fun _ => k) (fun h => absurd h (by omega)) (nI_add f i)
  | succ d ih =>
    intro i hi
    have e8 : 8 * nI p + nI (f + i) = nI (a + i) := by rw [za_8v, ea]; exact congrArg nI (by omega)
    have eb : zr bk a i (a + i) = bk (a + i) := zr_o (by omega)
    have hbi := hb (a + i) (by omega)
    have vi : vp_in (nI (a + i)) 32 := vp_in_nI (by omega) (by decide)
    refine pk_le (f + c) (f + i) (fun h => absurd h (by omega)) (fun _ => ?_) (nI_add f c)
    unfold wY_unmap_48
    rw [e8]
    refine And.intro vi (pk_le (bk (a + i)) 0 (fun h => ?_) (fun h => ?_) (by rw [za_nA (by omega), eb]) rfl)
    · have hz : bk (a + i) = 0 := by omega
      refine nm_r (e' := nI (cz bk a (i + 1))) (by rw [cz_z hz]; exact nI_add _ 0) (And.intro vi (nm_r (e' := nA (zr bk a (i + 1))) (by rw [← zr_s]; exact za_nU (x := 0) (by omega)) (nm_r (nI_1 (f + i)) (ih (i + 1) (by omega)))))
    · have hz : bk (a + i) ≠ 0 := by omega
      refine nm_r (e' := nI (cz bk a (i + 1))) (by rw [cz_n hz]; exact nI_add _ 1) (And.intro vi (nm_r (e' := nA (zr bk a (i + 1))) (by rw [← zr_s]; exact za_nU (x := 0) (by omega)) (nm_r (nI_1 (f + i)) (ih (i + 1) (by omega)))))
theorem zy_exl {post : Int32 → SY → Prop} {p a : Nat} (hp : p < 4) (ea : a = 8 * p) (k : post 1 ((bA al), (nA (zr bk a 8)), ct, (bA il))) : ∀ d i, i + d = 8 → wY_exit_19 post (nI p) (d + 1) (nI i) (bA al) (nA (zr bk a i)) ct (bA il) := by
  intro d
  induction d with
  | zero =>
    intro i hi
    obtain rfl : i = 8 := by omega
    exact pk_le 8 8 (fun _ => k) (fun h => absurd h (by omega))
  | succ d ih =>
    intro i hi
    have e8 : 8 * nI p + nI i = nI (a + i) := by rw [za_8v, ea]
    have vi : vp_in (nI (a + i)) 32 := vp_in_nI (by omega) (by decide)
    refine pk_le 8 i (fun h => absurd h (by omega)) (fun _ => ?_)
    rw [e8]
    exact And.intro vi (nm_r (e' := nA (zr bk a (i + 1))) (by rw [← zr_s]; exact za_nU (x := 0) (by omega)) (nm_r (nI_1 i) (ih (i + 1) (by omega))))
end
theorem i_vc_unmap {k : Nat} {u : SX} {v : SY} (I : i_Rel k u v) (hk : k + 5 ≤ 2560) (v1 : Int32) (v2 : Int32) (v3 : Int32) : wpX_unmap (fun r u' => wpY_unmap (fun r' v' => r' = r ∧ i_Rel (k + 5) u' v') v v1 v2 v3) u v1 v2 v3 := by
  refine zz_el (P := fun u v => wpX_unmap (fun r u' => wpY_unmap (fun r' v' => r' = r ∧ i_Rel (k + 5) u' v') v v1 v2 v3) u v1 v2 v3) ?_ I
  intro ps pr ms pg rs rg gs bk ct gp ix ow st ln oo og gr al il hF
  have R : i_Rel (k + 5) (ps, pr, ms, pg, rs, rg, gs, (mA bk), ct, (nA gp), (nA ix), (nA ow), (nA st), (nA ln), (nA oo), (nA og), gr) ((bA al), (nA bk), ct, (bA il)) := zz_in hF
  obtain ⟨hI, hE, hQ, hA, hZ⟩ := hF
  have hb : ∀ c, c < 32 → bk c ≤ 32 := fun c hc => (hQ.1 c hc).1
  unfold wpY_unmap
  dsimp only
  rcases zc_has (ps := ps) (pr := pr) (ms := ms) (pg := pg) (rs := rs) (rg := rg) (gs := gs) (bk := bk) (ct := ct) (gp := gp) (ix := ix) (ow := ow) (st := st) (ln := ln) (oo := oo) (og := og) (gr := gr) (al := al) (il := il) hA v1 with ⟨p, hp, rfl, ha, kx, ky⟩ | ⟨kx, ky⟩
  · rcases zx_runOk v2 v3 with ⟨f, c, hc, hf, rfl, rfl, kr⟩ | ⟨kr, hbad⟩
    · refine zx_unmap (a := 8 * p + f) rfl rfl hA hp ha hc hf rfl hI hE hQ kr (fun pr' ms' pg' rs' rg' ow' st' ln' oo' og' gr' hI' hE' hQ' => ?_)
      refine (zy_range ky).1 f c hc hf rfl rfl (br_f (by decide) ?_)
      have t := zy_uml (post := fun r' v' => r' = nI (cz bk (8 * p + f) c) ∧ i_Rel (k + 5) (ps, pr', ms', pg', rs', rg', gs, (mA (zr bk (8 * p + f) c)), ct, (nA gp), (nA ix), (nA ow'), (nA st'), (nA ln'), (nA oo'), (nA og'), gr') v') (al := al) (ct := ct) (il := il) hp hf rfl hb ⟨rfl, zz_in ⟨hI', hE', hQ', hA, ?_⟩⟩ c 0 (by omega)
      · rw [zr_0] at t
        exact ⟨c + 1, t⟩
      · intro p' v' hp' hv' h
        have hne : p' ≠ p := fun e => by rw [e, ha] at h; exact nomatch h
        rw [zr_o (by omega)]
        exact hZ p' v' hp' hv' h
    · unfold wpX_unmap
      dsimp only
      exact kx _ (br_f (by decide) (kr _ (br_t rfl ((zy_range ky).2 hbad (br_t rfl ⟨rfl, R⟩)))))
  · unfold wpX_unmap
    dsimp only
    exact kx _ (br_t rfl (zy_range0 ky (br_t rfl ⟨rfl, R⟩)))
theorem i_vc_exit {k : Nat} {u : SX} {v : SY} (I : i_Rel k u v) (hk : k + 5 ≤ 2560) (v1 : Int32) : wpX_exit (fun r u' => wpY_exit (fun r' v' => r' = r ∧ i_Rel (k + 5) u' v') v v1) u v1 := by
  refine zz_el (P := fun u v => wpX_exit (fun r u' => wpY_exit (fun r' v' => r' = r ∧ i_Rel (k + 5) u' v') v v1) u v1) ?_ I
  intro ps pr ms pg rs rg gs bk ct gp ix ow st ln oo og gr al il hF
  have R : i_Rel (k + 5) (ps, pr, ms, pg, rs, rg, gs, (mA bk), ct, (nA gp), (nA ix), (nA ow), (nA st), (nA ln), (nA oo), (nA og), gr) ((bA al), (nA bk), ct, (bA il)) := zz_in hF
  obtain ⟨hI, hE, hQ, hA, hZ⟩ := hF
  unfold wpX_exit wpY_exit
  dsimp only
  rcases zc_has (ps := ps) (pr := pr) (ms := ms) (pg := pg) (rs := rs) (rg := rg) (gs := gs) (bk := bk) (ct := ct) (gp := gp) (ix := ix) (ow := ow) (st := st) (ln := ln) (oo := oo) (og := og) (gr := gr) (al := al) (il := il) hA v1 with ⟨p, hp, rfl, ha, kx, ky⟩ | ⟨kx, ky⟩
  · refine kx _ (br_f (by decide) ?_)
    refine zx_unmap (f := 0) (c := 8) (a := 8 * p) rfl rfl hA hp ha (by omega) (by omega) rfl hI hE hQ (fun q kq => br_f (by decide) (br_f (by decide) (br_f (by decide) (br_f (by decide) (br_f (by decide) kq))))) (fun pr' ms' pg' rs' rg' ow' st' ln' oo' og' gr' hI' hE' hQ' => nm_e ?_)
    refine ky _ (br_f (by decide) (And.intro (vp_in_nI hp (by decide)) (nm_r (za_bU0 (by omega)) ?_)))
    have t := zy_exl (post := fun r' v' => r' = 1 ∧ i_Rel (k + 5) ((ps &&& (((1 : Int32) <<< (nI p &&& 31)) ^^^ (-1))), pr', ms', pg', rs', rg', gs, (mA (zr bk (8 * p) 8)), ct, (nA gp), (nA ix), (nA ow'), (nA st'), (nA ln'), (nA oo'), (nA og'), gr') v') (al := ub al p false) (ct := ct) (il := il) hp rfl ⟨rfl, zz_in ⟨hI', hE', hQ', ?_, ?_⟩⟩ 8 0 (by omega)
    · rw [zr_0] at t
      exact ⟨9, t⟩
    · intro q hq
      rw [zb_clr (by omega) hq, hA q hq]
      by_cases z : q = p
      · subst z; rw [za_bs]; exact ⟨fun y => absurd rfl y.2, (fun y => nomatch y.2)⟩
      · rw [za_bn z]; exact ⟨fun y => y.1, fun y => ⟨y, z⟩⟩
    · intro p' v' hp' hv' h
      by_cases z : p' = p
      · rw [z]; exact zr_i (by omega) (by omega)
      · rw [za_bn z] at h
        rw [zr_o (by omega)]
        exact hZ p' v' hp' hv' h
  · exact kx _ (br_t rfl (ky _ (br_t rfl ⟨rfl, R⟩)))
end
section
/-! move -/
/-- k places from a on are carried over to b -/
def zm (bk : Nat → Nat) (a b k : Nat) : Nat → Nat := fun d => if b ≤ d ∧ d < b + k then bk (d - b + a) else if a ≤ d ∧ d < a + k then 0 else bk d
theorem zm_t {bk : Nat → Nat} {a b k d : Nat} (h : b ≤ d ∧ d < b + k) : zm bk a b k d = bk (d - b + a) := if_pos h
theorem zm_f {bk : Nat → Nat} {a b k d : Nat} (h : ¬ (b ≤ d ∧ d < b + k)) (h2 : a ≤ d ∧ d < a + k) : zm bk a b k d = 0 := (if_neg h).trans (if_pos h2)
theorem zm_o {bk : Nat → Nat} {a b k d : Nat} (h : ¬ (b ≤ d ∧ d < b + k)) (h2 : ¬ (a ≤ d ∧ d < a + k)) : zm bk a b k d = bk d := (if_neg h).trans (if_neg h2)
theorem zm_0 (bk : Nat → Nat) (a b : Nat) : zm bk a b 0 = bk := by
  funext d
  exact zm_o (by omega) (by omega)
theorem zm_s {bk : Nat → Nat} {a b c k : Nat} (hk : k < c) (hd : a + c ≤ b ∨ b + c ≤ a) : un (un (zm bk a b k) (b + k) (zm bk a b k (a + k))) (a + k) 0 = zm bk a b (k + 1) := by
  funext d
  by_cases e1 : d = a + k
  · subst e1; rw [za_us, zm_f (by omega) (by omega)]
  · rw [za_un e1]
    by_cases e2 : d = b + k
    · subst e2
      rw [za_us, zm_o (k := k) (by omega) (by omega), zm_t (k := k + 1) (by omega)]
      exact congrArg bk (by omega)
    · rw [za_un e2]
      by_cases h1 : b ≤ d ∧ d < b + k
      · rw [zm_t h1, zm_t (by omega)]
      · by_cases h2 : a ≤ d ∧ d < a + k
        · rw [zm_f h1 h2, zm_f (by omega) (by omega)]
        · rw [zm_o h1 h2, zm_o (by omega) (by omega)]
/-- the first places of the regions in mv among the first i are carried over -/
def zv (st : Nat → Nat) (mv : Int32) (t f i : Nat) : Nat → Nat := fun r => if r < i ∧ bt mv r = true then st r + t - f else st r
theorem zv_n {st : Nat → Nat} {mv : Int32} {t f i r : Nat} (h : ¬ (r < i ∧ bt mv r = true)) : zv st mv t f i r = st r := if_neg h
theorem zv_y {st : Nat → Nat} {mv : Int32} {t f i r : Nat} (h : r < i ∧ bt mv r = true) : zv st mv t f i r = st r + t - f := if_pos h
theorem zv_0 (st : Nat → Nat) (mv : Int32) (t f : Nat) : zv st mv t f 0 = st := by
  funext r
  exact zv_n (by omega)
theorem zv_z {st : Nat → Nat} {mv : Int32} {t f i : Nat} (h : bt mv i = false) : zv st mv t f (i + 1) = zv st mv t f i := by
  funext r
  by_cases e : r = i
  · subst e
    rw [zv_n (by rw [h]; simp), zv_n (by omega)]
  · by_cases z : r < i ∧ bt mv r = true
    · rw [zv_y z, zv_y ⟨by omega, z.2⟩]
    · rw [zv_n z, zv_n (fun y => z ⟨by omega, y.2⟩)]
theorem zv_s {st : Nat → Nat} {mv : Int32} {t f i : Nat} (h : bt mv i = true) : un (zv st mv t f i) i (st i + t - f) = zv st mv t f (i + 1) := by
  funext r
  by_cases e : r = i
  · subst e
    rw [za_us, zv_y ⟨by omega, h⟩]
  · rw [za_un e]
    by_cases z : r < i ∧ bt mv r = true
    · rw [zv_y z, zv_y ⟨by omega, z.2⟩]
    · rw [zv_n z, zv_n (fun y => z ⟨by omega, y.2⟩)]
section
variable {ps pr ms pg rs rg : Int32} {gs : Int64} {bk : Nat → Nat} {ct : Nat → Int32} {gp ix ow st ln oo og : Nat → Nat} {gr gr' : Nat → Int64} {al il : Nat → Bool}
theorem zx_m84 {post : Int32 → SX → Prop} {p f c : Nat} {x4 : Int32} (hp : p < 4) (hf : f + c ≤ 8) (hW : zi_W rg ow st ln oo og gr) (k : ∀ mv, (∀ r, r < 32 → (bt mv r = true ↔ bt rg r = true ∧ ow r = p ∧ f ≤ st r ∧ st r < f + c)) → ∃ n, wX_move_143 post (nI p) (nI f) (nI c) x4 mv ps pr ms pg rs rg gs n 0 (mA bk) ct (nA gp) (nA ix) (nA ow) (nA st) (nA ln) (nA oo) (nA og) gr) :
    ∀ d i mv, i + d = 32 → (∀ r, r < 32 → (bt mv r = true ↔ r < i ∧ bt rg r = true ∧ ow r = p ∧ f ≤ st r ∧ st r < f + c)) → wX_move_84 post (nI p) (nI f) (nI c) x4 ps pr ms pg rs rg gs (mA bk) ct (nA gp) (nA ix) (nA ow) (nA st) (nA ln) (nA oo) (nA og) gr (d + 1) mv (nI i) := by
  intro d
  induction d with
  | zero =>
    intro i mv hi h
    obtain rfl : i = 32 := by omega
    refine pk_le 32 32 (fun _ => k mv (fun r hr => ?_)) (fun h => absurd h (by omega))
    rw [h r hr]
    exact ⟨fun z => z.2, fun z => ⟨hr, z⟩⟩
  | succ d ih =>
    intro i mv hi h
    have vi : vp_in (nI i) 32 := vp_in_nI (by omega) (by decide)
    have same : ¬ (bt rg i = true ∧ ow i = p ∧ f ≤ st i ∧ st i < f + c) → wX_move_84 post (nI p) (nI f) (nI c) x4 ps pr ms pg rs rg gs (mA bk) ct (nA gp) (nA ix) (nA ow) (nA st) (nA ln) (nA oo) (nA og) gr (d + 1) mv (nI (i + 1)) := fun hn => ih (i + 1) mv (by omega) (fun r hr => by
      rw [h r hr]
      constructor
      · rintro ⟨z1, z2⟩; exact ⟨by omega, z2⟩
      · rintro ⟨z1, z2⟩
        by_cases e : r = i
        · subst e; exact absurd z2 hn
        · exact ⟨by omega, z2⟩)
    refine pk_le 32 i (fun h => absurd h (by omega)) (fun _ => ?_)
    refine zx_ir (by omega) (by omega) hW (fun h1 h2 => br_f (by decide) (And.intro vi ?_)) (fun h1 => br_t rfl (nm_r (nI_1 i) (same (fun z => h1 ⟨z.1, z.2.1⟩))))
    have w := hW i (by omega) h1
    refine pk_lt (st i) f (fun a => nm_r (nI_1 i) (same (fun z => by have := z.2.2.1; omega))) (fun a => And.intro vi ?_) (za_nA (by omega)) rfl
    refine pk_le (f + c) (st i) (fun b => nm_r (nI_1 i) (same (fun z => by have := z.2.2.2; omega))) (fun b => nm_e (nm_r (nI_1 i) (ih (i + 1) _ (by omega) (fun r hr => ?_)))) (nI_add f c) (za_nA (by omega))
    rw [zb_set (by omega) hr, h r hr]
    constructor
    · rintro (⟨z1, z2⟩ | e)
      · exact ⟨by omega, z2⟩
      · subst e; exact ⟨by omega, h1, h2, a, b⟩
    · rintro ⟨z1, z2⟩
      by_cases e : r = i
      · exact Or.inr e
      · exact Or.inl ⟨by omega, z2⟩
theorem zx_m143 {post : Int32 → SX → Prop} {p f c t : Nat} {mv : Int32} (ht : t ≤ 8) (hm : ∀ r, r < 32 → bt mv r = true → f ≤ st r ∧ st r ≤ 8) (k : ∃ n, wX_move_189 post (nI p) (nI f) (nI c) (nI t) n 0 ps pr ms pg rs rg gs (mA bk) ct (nA gp) (nA ix) (nA ow) (nA (zv st mv t f 32)) (nA ln) (nA oo) (nA og) gr) :
    ∀ d i, i + d = 32 → wX_move_143 post (nI p) (nI f) (nI c) (nI t) mv ps pr ms pg rs rg gs (d + 1) (nI i) (mA bk) ct (nA gp) (nA ix) (nA ow) (nA (zv st mv t f i)) (nA ln) (nA oo) (nA og) gr := by
  intro d
  induction d with
  | zero =>
    intro i hi
    obtain rfl : i = 32 := by omega
    exact pk_le 32 32 (fun _ => k) (fun h => absurd h (by omega))
  | succ d ih =>
    intro i hi
    have vi : vp_in (nI i) 32 := vp_in_nI (by omega) (by decide)
    refine pk_le 32 i (fun h => absurd h (by omega)) (fun _ => zb_c (by omega) (fun hb => nm_r (nI_1 i) ?_) (fun hb => And.intro vi (And.intro vi (nm_r (e' := nA (zv st mv t f (i + 1))) ?_ (nm_r (nI_1 i) (ih (i + 1) (by omega)))))))
    · have q := ih (i + 1) (by omega)
      rw [zv_z hb] at q
      exact q
    · have w := hm i (by omega) hb
      rw [za_nA (by omega), zv_n (by omega), nI_add, pk_sub (by omega), za_wb (by omega) (by omega), zv_s hb]
theorem zx_m189 {post : Int32 → SX → Prop} {p f c t a b : Nat} (hp : p < 4) (hf : f + c ≤ 8) (ht : t + c ≤ 8) (ea : a = 8 * p + f) (eb : b = 8 * p + t) (hd : a + c ≤ b ∨ b + c ≤ a) (hn : ∀ i, i < c → bk (a + i) ≠ 0) (hz : ∀ i, i < c → bk (b + i) = 0) (hb : ∀ c, c < 32 → bk c ≤ 32) (k : ∀ pr ms, zi_M ms (zm bk a b c) → zi_R pr (zm bk a b c) il → post 1 (ps, pr, ms, pg, rs, rg, gs, (mA (zm bk a b c)), ct, (nA gp), (nA ix), (nA ow), (nA st), (nA ln), (nA oo), (nA og), gr)) :
    ∀ d i pr ms, i + d = c → zi_M ms (zm bk a b i) → zi_R pr (zm bk a b i) il → wX_move_189 post (nI p) (nI f) (nI c) (nI t) (d + 1) (nI i) ps pr ms pg rs rg gs (mA (zm bk a b i)) ct (nA gp) (nA ix) (nA ow) (nA st) (nA ln) (nA oo) (nA og) gr := by
  intro d
  induction d with
  | zero =>
    intro i pr ms hi hM hR
    obtain rfl : i = c := by omega
    exact pk_le i i (fun _ => k pr ms hM hR) (fun h => absurd h (by omega))
  | succ d ih =>
    intro i pr ms hi hM hR
    have q1 : zm bk a b i (a + i) = bk (a + i) := zm_o (by omega) (by omega)
    have q2 : zm bk a b i (b + i) = bk (b + i) := zm_o (by omega) (by omega)
    refine pk_le c i (fun h => absurd h (by omega)) (fun _ => ?_)
    refine zx_co (a := a + i) (b := b + i) (by rw [za_8v, nI_add, ea]) (by rw [za_8v, nI_add, eb]) (by omega) (by omega) (by rw [q1]; exact hn i (by omega)) (by rw [q2]; exact hz i (by omega)) (by rw [q1]; exact hb _ (by omega)) hM hR (fun pr' ms' hM' hR' => ?_)
    rw [zm_s (c := c) (by omega) hd] at hM' hR' ⊢
    exact nm_r (nI_1 i) (ih (i + 1) pr' ms' (by omega) hM' hR')
theorem zy_m52 {post : Int32 → SY → Prop} {p f c t a b : Nat} (hp : p < 4) (hf : f + c ≤ 8) (ht : t + c ≤ 8) (ea : a = 8 * p + f) (eb : b = 8 * p + t) (hd : a + c ≤ b ∨ b + c ≤ a) (k : post 1 ((bA al), (nA (zm bk a b c)), ct, (bA il))) : ∀ d i, i + d = c → wY_move_52 post (nI p) (nI f) (nI c) (nI t) (d + 1) (nI i) (bA al) (nA (zm bk a b i)) ct (bA il) := by
  intro d
  induction d with
  | zero =>
    intro i hi
    obtain rfl : i = c := by omega
    exact pk_le i i (fun _ => k) (fun h => absurd h (by omega))
  | succ d ih =>
    intro i hi
    have e1 : 8 * nI p + nI f + nI i = nI (a + i) := by rw [za_8v, nI_add, ea]
    have e2 : 8 * nI p + nI t + nI i = nI (b + i) := by rw [za_8v, nI_add, eb]
    have v1 : vp_in (nI (a + i)) 32 := vp_in_nI (by omega) (by decide)
    have v2 : vp_in (nI (b + i)) 32 := vp_in_nI (by omega) (by decide)
    refine pk_le c i (fun h => absurd h (by omega)) (fun _ => ?_)
    rw [e1, e2]
    refine And.intro v1 (And.intro v2 (nm_r (e' := nA (un (zm bk a b i) (b + i) (zm bk a b i (a + i)))) (by rw [za_nA (by omega), za_nU (by omega)]) (And.intro v1 (nm_r (e' := nA (zm bk a b (i + 1))) ?_ (nm_r (nI_1 i) (ih (i + 1) (by omega)))))))
    rw [← zm_s (c := c) (by omega) hd]
    exact za_nU (x := 0) (by omega)
theorem zi_mv {p f c t a b : Nat} {mv : Int32} (hp : p < 4) (hf : f + c ≤ 8) (ht : t + c ≤ 8) (ea : a = 8 * p + f) (eb : b = 8 * p + t) (hd : a + c ≤ b ∨ b + c ≤ a) (hz : ∀ i, i < c → bk (b + i) = 0) (hI : zi_I rg ow st ln oo og gr bk gp ix) (hE : zi_E rg ow st ln bk) (x1 : zi_X rg ow st ln p f) (x2 : zi_X rg ow st ln p (f + c)) (hm : ∀ r, r < 32 → (bt mv r = true ↔ bt rg r = true ∧ ow r = p ∧ f ≤ st r ∧ st r < f + c)) :
    zi_I rg ow (zv st mv t f 32) ln oo og gr (zm bk a b c) gp ix ∧ zi_E rg ow (zv st mv t f 32) ln (zm bk a b c) := by
  obtain ⟨hW, hD, hC, hP⟩ := hI
  have hz' : ∀ d, b ≤ d → d < b + c → bk d = 0 := fun d h1 h2 => by
    have q := hz (d - b) (by omega)
    rw [show b + (d - b) = d by omega] at q
    exact q
  -- a region after the move: one that moved, or one that stayed
  have back : ∀ r d, cv rg ow (zv st mv t f 32) ln r d → (bt mv r = true ∧ zv st mv t f 32 r = st r + t - f ∧ ow r = p ∧ f ≤ st r ∧ st r + ln r ≤ f + c ∧ b ≤ d ∧ d < b + c ∧ cv rg ow st ln r (d - b + a)) ∨ (bt mv r = false ∧ zv st mv t f 32 r = st r ∧ cv rg ow st ln r d ∧ ¬ (b ≤ d ∧ d < b + c) ∧ ¬ (a ≤ d ∧ d < a + c)) := by
    rintro r d ⟨c1, c2, c3, c4⟩
    have w := hW r c1 c2
    cases e : bt mv r
    · have s := zv_n (st := st) (t := t) (f := f) (i := 32) (r := r) (mv := mv) (fun z => by rw [e] at z; exact nomatch z.2)
      rw [s] at c3 c4
      have hcv : cv rg ow st ln r d := ⟨c1, c2, c3, c4⟩
      refine Or.inr ⟨rfl, s, hcv, fun z => hE r d hcv (hz' d z.1 z.2), fun z => ?_⟩
      have ew : ow r = p := by omega
      have y := x1 r c1 c2 ew
      have : bt mv r = true := (hm r c1).mpr ⟨c2, ew, by omega, by omega⟩
      rw [e] at this
      exact nomatch this
    · obtain ⟨m1, m2, m3, m4⟩ := (hm r c1).mp e
      have s := zv_y (st := st) (t := t) (f := f) (i := 32) (r := r) (mv := mv) ⟨c1, e⟩
      rw [s] at c3 c4
      have y := x2 r c1 c2 m2
      exact Or.inl ⟨rfl, s, m2, m3, by omega, by omega, by omega, c1, c2, by omega, by omega⟩
  refine ⟨⟨?_, ?_, ?_, ?_⟩, ?_⟩
  · intro r hr hb
    have w := hW r hr hb
    have s : zv st mv t f 32 r + ln r ≤ 8 := by
      cases e : bt mv r
      · rw [zv_n (fun z => by rw [e] at z; exact nomatch z.2)]; omega
      · obtain ⟨m1, m2, m3, m4⟩ := (hm r hr).mp e
        have y := x2 r hr hb m2
        rw [zv_y ⟨hr, e⟩]; omega
    exact ⟨w.1, w.2.1, s, w.2.2.2⟩
  · intro r r' d h h'
    rcases back r d h with ⟨y1, y2, y3, y4, y5, y6, y7, y8⟩ | ⟨y1, y2, y3, y4, y5⟩ <;> rcases back r' d h' with ⟨z1, z2, z3, z4, z5, z6, z7, z8⟩ | ⟨z1, z2, z3, z4, z5⟩
    · exact hD r r' _ y8 z8
    · exact absurd ⟨y6, y7⟩ z4
    · exact absurd ⟨z6, z7⟩ y4
    · exact hD r r' _ y3 z3
  · intro d hd32 hn
    by_cases h1 : b ≤ d ∧ d < b + c
    · rw [zm_t h1] at hn
      obtain ⟨r, c1, c2, c3, c4⟩ := hC (d - b + a) (by omega) hn
      have w := hW r c1 c2
      have ew : ow r = p := by omega
      have y := x1 r c1 c2 ew
      have e : bt mv r = true := (hm r c1).mpr ⟨c2, ew, by omega, by omega⟩
      have s := zv_y (st := st) (t := t) (f := f) (i := 32) (r := r) (mv := mv) ⟨c1, e⟩
      exact ⟨r, c1, c2, by rw [s]; omega, by rw [s]; omega⟩
    · by_cases h2 : a ≤ d ∧ d < a + c
      · exact absurd (zm_f h1 h2) hn
      · rw [zm_o h1 h2] at hn
        obtain ⟨r, c1, c2, c3, c4⟩ := hC d hd32 hn
        have w := hW r c1 c2
        have e : bt mv r = false := ts_nt (fun e => by
          obtain ⟨m1, m2, m3, m4⟩ := (hm r c1).mp e
          have y := x2 r c1 c2 m2
          exact h2 ⟨by omega, by omega⟩)
        have s := zv_n (st := st) (t := t) (f := f) (i := 32) (r := r) (mv := mv) (fun z => by rw [e] at z; exact nomatch z.2)
        exact ⟨r, c1, c2, by rw [s]; exact c3, by rw [s]; exact c4⟩
  · intro r d h hn
    rcases back r d h with ⟨y1, y2, y3, y4, y5, y6, y7, y8⟩ | ⟨y1, y2, y3, y4, y5⟩
    · rw [zm_t ⟨y6, y7⟩] at hn ⊢
      have q := hP r _ y8 hn
      rw [y2]
      exact ⟨q.1, by have := q.2; omega⟩
    · rw [zm_o y4 y5] at hn ⊢
      rw [y2]
      exact hP r d y3 hn
  · intro r d h
    rcases back r d h with ⟨y1, y2, y3, y4, y5, y6, y7, y8⟩ | ⟨y1, y2, y3, y4, y5⟩
    · rw [zm_t ⟨y6, y7⟩]
      exact hE r _ y8
    · rw [zm_o y4 y5]
      exact hE r d y3
theorem zi_mvG {c a b : Nat} (h32 : a + c ≤ 32) (k32 : b + c ≤ 32) (hd : a + c ≤ b ∨ b + c ≤ a) (hz : ∀ i, i < c → bk (b + i) = 0) (g : Nat) : (∃ d, d < 32 ∧ zm bk a b c d = g + 1) ↔ ∃ d, d < 32 ∧ bk d = g + 1 := by
  constructor
  · rintro ⟨d, hd32, e⟩
    by_cases h1 : b ≤ d ∧ d < b + c
    · rw [zm_t h1] at e; exact ⟨_, by omega, e⟩
    · by_cases h2 : a ≤ d ∧ d < a + c
      · rw [zm_f h1 h2] at e; omega
      · rw [zm_o h1 h2] at e; exact ⟨d, hd32, e⟩
  · rintro ⟨d, hd32, e⟩
    have h1 : ¬ (b ≤ d ∧ d < b + c) := fun z => by
      have q := hz (d - b) (by omega)
      rw [show b + (d - b) = d by omega] at q
      omega
    by_cases h2 : a ≤ d ∧ d < a + c
    · refine ⟨d - a + b, by omega, ?_⟩
      rw [zm_t (by omega), show d - a + b - b + a = d by omega]
      exact e
    · exact ⟨d, hd32, by rw [zm_o h1 h2]; exact e⟩
theorem zi_mvB {c a b : Nat} (h32 : a + c ≤ 32) (hB : zi_B bk gp) : zi_B (zm bk a b c) gp := by
  intro d hd
  by_cases h1 : b ≤ d ∧ d < b + c
  · rw [zm_t h1]; exact hB _ (by omega)
  · by_cases h2 : a ≤ d ∧ d < a + c
    · rw [zm_f h1 h2]; exact ⟨by omega, fun z => absurd rfl z⟩
    · rw [zm_o h1 h2]; exact hB d hd
end
theorem i_vc_move {k : Nat} {u : SX} {v : SY} (I : i_Rel k u v) (hk : k + 5 ≤ 2560) (v1 : Int32) (v2 : Int32) (v3 : Int32) (v4 : Int32) : wpX_move (fun r u' => wpY_move (fun r' v' => r' = r ∧ i_Rel (k + 5) u' v') v v1 v2 v3 v4) u v1 v2 v3 v4 := by
  refine zz_el (P := fun u v => wpX_move (fun r u' => wpY_move (fun r' v' => r' = r ∧ i_Rel (k + 5) u' v') v v1 v2 v3 v4) u v1 v2 v3 v4) ?_ I
  intro ps pr ms pg rs rg gs bk ct gp ix ow st ln oo og gr al il hF
  have R : i_Rel (k + 5) (ps, pr, ms, pg, rs, rg, gs, (mA bk), ct, (nA gp), (nA ix), (nA ow), (nA st), (nA ln), (nA oo), (nA og), gr) ((bA al), (nA bk), ct, (bA il)) := zz_in hF
  obtain ⟨hI, hE, hQ, hA, hZ⟩ := hF
  have hb : ∀ c, c < 32 → bk c ≤ 32 := fun c hc => (hQ.1 c hc).1
  unfold wpX_move wpY_move
  dsimp only
  rcases zc_has (ps := ps) (pr := pr) (ms := ms) (pg := pg) (rs := rs) (rg := rg) (gs := gs) (bk := bk) (ct := ct) (gp := gp) (ix := ix) (ow := ow) (st := st) (ln := ln) (oo := oo) (og := og) (gr := gr) (al := al) (il := il) hA v1 with ⟨p, hp, rfl, ha, kx, ky⟩ | ⟨kx, ky⟩
  · refine kx _ (br_f (by decide) ?_)
    rcases zx_runOk v2 v3 with ⟨f, c, hc, hf, rfl, rfl, kr⟩ | ⟨kr, hbad⟩
    · refine kr _ (br_f (by decide) ?_)
      have RY : ∀ post : Int32 → Prop, post 1 → wpY_range post ((bA al), (nA bk), ct, (bA il)) (nI p) (nI f) (nI c) := fun post q => (zy_range ky).1 f c hc hf rfl rfl q
      rcases zx_runOk v4 (nI c) with ⟨t, c', hc', hft, rfl, ec, kr2⟩ | ⟨kr2, hbad⟩
      · refine kr2 _ (br_f (by decide) ?_)
        obtain rfl : c = c' := by
          by_cases h : c' < 2 ^ 31
          · exact (nI_eq (by omega) h).mp ec
          · omega
        have RT : ∀ post : Int32 → Prop, post 1 → wpY_range post ((bA al), (nA bk), ct, (bA il)) (nI p) (nI t) (nI c) := fun post q => (zy_range ky).1 t c hc hft rfl rfl q
        obtain ⟨S, hS, kS⟩ := zy_some (ct := ct) (il := il) hb hp ha hc hf
        obtain ⟨T, hT, kT⟩ := zy_some (ct := ct) (il := il) hb hp ha hc hft
        have s1 := zy_s1 (c := c) (by omega) hS
        have s0 := zy_s0 (c := c) (by omega) hT
        refine ek_if (zb_runn hQ.2.1 hp (by omega) hf (by omega)) (fun hn => ?_) (fun hn => ?_)
        · refine ek_if (zb_runz hQ.2.1 hp (by omega) hft (by omega)) (fun hz => ?_) (fun hz => RY _ (br_f (by decide) (RT _ (br_f (by decide) (kT _ (br_f (fun z => hz (s0.mp z)) ⟨rfl, R⟩))))))
          have hd : (8 * p + f) + c ≤ 8 * p + t ∨ (8 * p + t) + c ≤ 8 * p + f := by
            by_cases q : f ≤ t
            · by_cases q2 : f + c ≤ t
              · exact Or.inl (by omega)
              · exfalso
                have y := hn (t - f) (by omega)
                rw [show 8 * p + f + (t - f) = 8 * p + t + 0 by omega] at y
                exact y (hz 0 (by omega))
            · by_cases q2 : t + c ≤ f
              · exact Or.inr (by omega)
              · exfalso
                have y := hz (f - t) (by omega)
                rw [show 8 * p + t + (f - t) = 8 * p + f + 0 by omega] at y
                exact hn 0 (by omega) y
          refine zx_cut rfl hp (by omega) hI hE (fun rg1 ow1 st1 ln1 oo1 og1 gr1 hI1 hE1 x1 y1 => ?_)
          refine zx_cut (nI_add f c) hp (by omega) hI1 hE1 (fun rg2 ow2 st2 ln2 oo2 og2 gr2 hI2 hE2 x2 y2 => ?_)
          refine ⟨33, zx_m84 hp hf hI2.1 (fun mv hm => ?_) 32 0 0 (by omega) (fun r hr => ⟨(fun z => by rw [b_0] at z; exact nomatch z), fun z => absurd z.1 (by omega)⟩)⟩
          have J := zi_mv (mv := mv) hp hf hft rfl rfl hd hz hI2 hE2 (y2 p f x1) x2 hm
          have t1 := zx_m143 (ps := ps) (pr := pr) (ms := ms) (pg := pg) (rs := rs) (rg := rg2) (gs := gs) (bk := bk) (ct := ct) (gp := gp) (ix := ix) (ow := ow2) (st := st2) (ln := ln2) (oo := oo2) (og := og2) (gr := gr2) (post := fun r u' => wpY_range (fun r_1 => (r_1 = 0 → 0 = r ∧ i_Rel (k + 5) u' ((bA al), (nA bk), ct, (bA il))) ∧ (¬ r_1 = 0 → wpY_range (fun r_7 => (r_7 = 0 → 0 = r ∧ i_Rel (k + 5) u' ((bA al), (nA bk), ct, (bA il))) ∧ (¬ r_7 = 0 → wpY_some (fun r_13 => (r_13 = 0 → wpY_some (fun r_19 => (r_19 = (1 : Int32) <<< (nI c &&& 31) - 1 → ∃ n52, wY_move_52 (fun r' v' => r' = r ∧ i_Rel (k + 5) u' v') (nI p) (nI f) (nI c) (nI t) n52 0 (bA al) (nA bk) ct (bA il)) ∧ (¬ r_19 = (1 : Int32) <<< (nI c &&& 31) - 1 → 0 = r ∧ i_Rel (k + 5) u' ((bA al), (nA bk), ct, (bA il)))) ((bA al), (nA bk), ct, (bA il)) (nI p) (nI f) (nI c)) ∧ (¬ r_13 = 0 → 0 = r ∧ i_Rel (k + 5) u' ((bA al), (nA bk), ct, (bA il)))) ((bA al), (nA bk), ct, (bA il)) (nI p) (nI t) (nI c))) ((bA al), (nA bk), ct, (bA il)) (nI p) (nI t) (nI c))) ((bA al), (nA bk), ct, (bA il)) (nI p) (nI f) (nI c)) (p := p) (f := f) (c := c) (t := t) (mv := mv) (by omega) (fun r hr hb => by
            obtain ⟨m1, m2, m3, m4⟩ := (hm r hr).mp hb
            exact ⟨m3, by omega⟩) ?_ 32 0 (by omega)
          · rw [zv_0] at t1
            exact ⟨33, t1⟩
          · have t2 := zx_m189 (ps := ps) (pg := pg) (rs := rs) (rg := rg2) (gs := gs) (bk := bk) (ct := ct) (gp := gp) (ix := ix) (ow := ow2) (st := zv st2 mv t f 32) (ln := ln2) (oo := oo2) (og := og2) (gr := gr2) (il := il) (post := fun r u' => wpY_range (fun r_1 => (r_1 = 0 → 0 = r ∧ i_Rel (k + 5) u' ((bA al), (nA bk), ct, (bA il))) ∧ (¬ r_1 = 0 → wpY_range (fun r_7 => (r_7 = 0 → 0 = r ∧ i_Rel (k + 5) u' ((bA al), (nA bk), ct, (bA il))) ∧ (¬ r_7 = 0 → wpY_some (fun r_13 => (r_13 = 0 → wpY_some (fun r_19 => (r_19 = (1 : Int32) <<< (nI c &&& 31) - 1 → ∃ n52, wY_move_52 (fun r' v' => r' = r ∧ i_Rel (k + 5) u' v') (nI p) (nI f) (nI c) (nI t) n52 0 (bA al) (nA bk) ct (bA il)) ∧ (¬ r_19 = (1 : Int32) <<< (nI c &&& 31) - 1 → 0 = r ∧ i_Rel (k + 5) u' ((bA al), (nA bk), ct, (bA il)))) ((bA al), (nA bk), ct, (bA il)) (nI p) (nI f) (nI c)) ∧ (¬ r_13 = 0 → 0 = r ∧ i_Rel (k + 5) u' ((bA al), (nA bk), ct, (bA il)))) ((bA al), (nA bk), ct, (bA il)) (nI p) (nI t) (nI c))) ((bA al), (nA bk), ct, (bA il)) (nI p) (nI t) (nI c))) ((bA al), (nA bk), ct, (bA il)) (nI p) (nI f) (nI c)) (p := p) (f := f) (c := c) (t := t) hp hf hft rfl rfl hd hn hz hb (fun pr' ms' hM' hR' => RY _ (br_f (by decide) (RT _ (br_f (by decide) (kT _ (br_t (s0.mpr hz) (kS _ (br_t (s1.mpr hn) ?_)))))))) c 0 pr ms (by omega) (by rw [zm_0]; exact hQ.2.1) (by rw [zm_0]; exact hQ.2.2.2.2)
            · rw [zm_0] at t2
              exact ⟨c + 1, t2⟩
            · have t3 := zy_m52 (post := fun r' v' => r' = 1 ∧ i_Rel (k + 5) (ps, pr', ms', pg, rs, rg2, gs, (mA (zm bk (8 * p + f) (8 * p + t) c)), ct, (nA gp), (nA ix), (nA ow2), (nA (zv st2 mv t f 32)), (nA ln2), (nA oo2), (nA og2), gr2) v') (al := al) (bk := bk) (ct := ct) (il := il) hp hf hft rfl rfl hd ⟨rfl, zz_in ⟨J.1, J.2, ⟨zi_mvB (by omega) hQ.1, hM', ?_, ?_, hR'⟩, hA, ?_⟩⟩ c 0 (by omega)
              · rw [zm_0] at t3
                exact ⟨c + 1, t3⟩
              · intro g hg
                rw [zi_mvG (by omega) (by omega) hd hz, hQ.2.2.1 g hg]
              · intro g hg
                rw [zi_mvG (by omega) (by omega) hd hz, hQ.2.2.2.1 g hg]
              · intro p' v' hp' hv' h
                have hne : p' ≠ p := fun e => by rw [e, ha] at h; exact nomatch h
                rw [zm_o (by omega) (by omega)]
                exact hZ p' v' hp' hv' h
        · refine RY _ (br_f (by decide) (RT _ (br_f (by decide) (kT _ ?_))))
          exact br_c (fun _ => kS _ (br_f (fun z => hn (s1.mp z)) ⟨rfl, R⟩)) (fun _ => ⟨rfl, R⟩)
      · exact kr2 _ (br_t rfl (RY _ (br_f (by decide) ((zy_range ky).2 hbad (br_t rfl ⟨rfl, R⟩)))))
    · exact kr _ (br_t rfl ((zy_range ky).2 hbad (br_t rfl ⟨rfl, R⟩)))
  · exact kx _ (br_t rfl (zy_range0 ky (br_t rfl ⟨rfl, R⟩)))
end
section
/-! fork -/
/-- k places from a on are copied to b -/
def zc (bk : Nat → Nat) (a b k : Nat) : Nat → Nat := fun d => if b ≤ d ∧ d < b + k then bk (d - b + a) else bk d
theorem zc_t {bk : Nat → Nat} {a b k d : Nat} (h : b ≤ d ∧ d < b + k) : zc bk a b k d = bk (d - b + a) := if_pos h
theorem zc_o {bk : Nat → Nat} {a b k d : Nat} (h : ¬ (b ≤ d ∧ d < b + k)) : zc bk a b k d = bk d := if_neg h
theorem zc_0 (bk : Nat → Nat) (a b : Nat) : zc bk a b 0 = bk := by
  funext d
  exact zc_o (by omega)
theorem zc_s {bk : Nat → Nat} {a b c k : Nat} (hk : k < c) (hd : a + c ≤ b ∨ b + c ≤ a) : un (zc bk a b k) (b + k) (zc bk a b k (a + k)) = zc bk a b (k + 1) := by
  funext d
  by_cases e2 : d = b + k
  · subst e2
    rw [za_us, zc_o (k := k) (by omega), zc_t (k := k + 1) (by omega)]
    exact congrArg bk (by omega)
  · rw [za_un e2]
    by_cases h1 : b ≤ d ∧ d < b + k
    · rw [zc_t h1, zc_t (by omega)]
    · rw [zc_o h1, zc_o (by omega)]
section
variable {ps pr ms pg rs rg : Int32} {gs : Int64} {bk : Nat → Nat} {ct : Nat → Int32} {gp ix ow st ln oo og : Nat → Nat} {gr gr' : Nat → Int64} {al il : Nat → Bool}
theorem zx_inl {post : SX → Prop} {r q a b c : Nat} (hr : r < 32) (hq : q < 4) (how : ow r < 4) (hsl : st r + ln r ≤ 8) (ec : c = ln r) (ea : a = 8 * ow r + st r) (eb : b = 8 * q + st r) (hd : a + c ≤ b ∨ b + c ≤ a) (hn : ∀ i, i < c → bk (a + i) ≠ 0) (hz : ∀ i, i < c → bk (b + i) = 0) (hb : ∀ c, c < 32 → bk c ≤ 32) (k : ∀ pr ms, zi_M ms (zc bk a b c) → zi_R pr (zc bk a b c) il → post (ps, pr, ms, pg, rs, rg, gs, (mA (zc bk a b c)), ct, (nA gp), (nA ix), (nA ow), (nA st), (nA ln), (nA oo), (nA og), gr)) :
    ∀ d i pr ms, i + d = c → zi_M ms (zc bk a b i) → zi_R pr (zc bk a b i) il → wX_inherit_59 post (nI r) (nI q) ps pg rs rg gs (d + 1) (nI i) pr ms (mA (zc bk a b i)) ct (nA gp) (nA ix) (nA ow) (nA st) (nA ln) (nA oo) (nA og) gr := by
  have vr : vp_in (nI r) 32 := vp_in_nI hr (by decide)
  intro d
  induction d with
  | zero =>
    intro i pr ms hi hM hR
    obtain rfl : i = c := by omega
    exact And.intro vr (pk_le (ln r) i (fun _ => k pr ms hM hR) (fun h => absurd h (by omega)) (za_nA (by omega)) rfl)
  | succ d ih =>
    intro i pr ms hi hM hR
    have q1 : zc bk a b i (a + i) = bk (a + i) := zc_o (by omega)
    have q2 : zc bk a b i (b + i) = bk (b + i) := zc_o (by omega)
    have hni := hn i (by omega)
    have hzi := hz i (by omega)
    have e1 : 8 * nA ow (nI r).toNatClampNeg + nA st (nI r).toNatClampNeg + nI i = nI (a + i) := by rw [za_nA (by omega), za_nA (by omega), za_8v, nI_add, ea]
    have e2 : 8 * nI q + nA st (nI r).toNatClampNeg + nI i = nI (b + i) := by rw [za_nA (by omega), za_8v, nI_add, eb]
    have v1 : vp_in (nI (a + i)) 32 := vp_in_nI (by omega) (by decide)
    have v2 : vp_in (nI (b + i)) 32 := vp_in_nI (by omega) (by decide)
    refine And.intro vr (pk_le (ln r) i (fun h => absurd h (by omega)) (fun _ => And.intro vr (And.intro vr (nm_r e1 (And.intro vr (nm_r e2 (And.intro v1 (And.intro v2 (nm_r (e' := mA (zc bk a b (i + 1))) ?_ (nm_e (nm_e (nm_r (nI_1 i) (ih (i + 1) _ _ (by omega) ?_ ?_)))))))))))) (za_nA (by omega)) rfl)
    · rw [za_mA (by omega), za_wn (by omega) (by rw [q1]; exact hb _ (by omega)), zc_s (c := c) (by omega) hd]
    · intro e he
      rw [← zc_s (c := c) (by omega) hd, zb_set (by omega) he, hM e he]
      by_cases z : e = b + i
      · rw [z, za_us, q1]; exact ⟨fun _ => hni, fun _ => Or.inr rfl⟩
      · rw [za_un z]; exact ⟨fun y => y.resolve_right z, Or.inl⟩
    · intro e he
      rw [← zc_s (c := c) (by omega) hd, zb_cp (by omega) (by omega) he, hR e he, hR (a + i) (by omega)]
      by_cases z : e = b + i
      · rw [z, za_us, q1, q2, hzi]
        exact ⟨fun y => (y.resolve_left (fun y => y.1 rfl)).2, fun y => Or.inr ⟨rfl, y⟩⟩
      · rw [za_un z]
        exact ⟨fun y => y.resolve_right (fun y => z y.1), Or.inl⟩
theorem zi_cpG {c a b : Nat} (h32 : a + c ≤ 32) (hz : ∀ i, i < c → bk (b + i) = 0) (g : Nat) : (∃ d, d < 32 ∧ zc bk a b c d = g + 1) ↔ ∃ d, d < 32 ∧ bk d = g + 1 := by
  constructor
  · rintro ⟨d, hd32, e⟩
    by_cases h1 : b ≤ d ∧ d < b + c
    · rw [zc_t h1] at e; exact ⟨_, by omega, e⟩
    · rw [zc_o h1] at e; exact ⟨d, hd32, e⟩
  · rintro ⟨d, hd32, e⟩
    have h1 : ¬ (b ≤ d ∧ d < b + c) := fun z => by
      have q := hz (d - b) (by omega)
      rw [show b + (d - b) = d by omega] at q
      omega
    exact ⟨d, hd32, by rw [zc_o h1]; exact e⟩
theorem zi_cpB {c a b : Nat} (h32 : a + c ≤ 32) (hB : zi_B bk gp) : zi_B (zc bk a b c) gp := by
  intro d hd
  by_cases h1 : b ≤ d ∧ d < b + c
  · rw [zc_t h1]; exact hB _ (by omega)
  · rw [zc_o h1]; exact hB d hd
/-- the child's region holds the same pages -/
theorem zi_cp {rg' : Int32} {ow' st' ln' oo' og' : Nat → Nat} {r ch q a b c g : Nat} (hE : zi_E rg ow st ln bk) (hr : r < 32) (hbr : bt rg r = true) (hq : q < 4) (hlive : bt rg' ch = true) (hch : ch < 32) (ec : c = ln r) (ea : a = 8 * ow r + st r) (eb : b = 8 * q + st r) (hn : ∀ i, i < c → bk (a + i) ≠ 0) (hz : ∀ i, i < c → bk (b + i) = 0)
    (JI : zi_I rg' ow' st' ln' oo' og' gr' bk gp ix) (Jc : ∀ j d, cv rg' ow' st' ln' j d ↔ (j ≠ ch ∧ cv rg ow st ln j d) ∨ (j = ch ∧ 8 * q + st r ≤ d ∧ d < 8 * q + st r + ln r)) (hne : r ≠ ch) (hr' : ow' r = ow r ∧ st' r = st r ∧ oo' r = oo r) (hc' : ow' ch = q ∧ st' ch = st r ∧ oo' ch = oo r ∧ gr' ch = gr' r ||| ((1 : Int64) <<< ((nI g).toInt64 &&& 63))) :
    zi_I rg' ow' st' ln' oo' og' gr' (zc bk a b c) gp ix ∧ zi_E rg' ow' st' ln' (zc bk a b c) := by
  obtain ⟨hW, hD, hC, hP⟩ := JI
  have cch : ∀ d, b ≤ d → d < b + c → cv rg' ow' st' ln' ch d := fun d h1 h2 => (Jc ch d).mpr (Or.inr ⟨rfl, by omega, by omega⟩)
  have cr : ∀ d, b ≤ d → d < b + c → cv rg' ow' st' ln' r (d - b + a) := fun d h1 h2 => (Jc r _).mpr (Or.inl ⟨hne, hr, hbr, by omega, by omega⟩)
  have nz : ∀ d, b ≤ d → d < b + c → bk (d - b + a) ≠ 0 := fun d h1 h2 => by
    have y := hn (d - b) (by omega)
    rw [show a + (d - b) = d - b + a by omega] at y
    exact y
  refine ⟨⟨hW, hD, ?_, ?_⟩, ?_⟩
  · intro d hd hnz
    by_cases h1 : b ≤ d ∧ d < b + c
    · exact ⟨ch, cch d h1.1 h1.2⟩
    · rw [zc_o h1] at hnz; exact hC d hd hnz
  · intro j d hj hnz
    by_cases h1 : b ≤ d ∧ d < b + c
    · have e := hD j ch d hj (cch d h1.1 h1.2)
      subst e
      rw [zc_t h1] at hnz ⊢
      have y := hP r _ (cr d h1.1 h1.2) hnz
      rw [hr'.1, hr'.2.1, hr'.2.2] at y
      rw [hc'.1, hc'.2.1, hc'.2.2.1, hc'.2.2.2]
      exact ⟨zl_setL y.1, by have := y.2; omega⟩
    · rw [zc_o h1] at hnz ⊢
      exact hP j d hj hnz
  · intro j d hj
    by_cases h1 : b ≤ d ∧ d < b + c
    · rw [zc_t h1]; exact nz d h1.1 h1.2
    · rw [zc_o h1]
      rcases (Jc j d).mp hj with ⟨_, y⟩ | ⟨_, y2, y3⟩
      · exact hE j d y
      · exact absurd ⟨by omega, by omega⟩ h1
theorem zx_inh {post : SX → Prop} {r q a b c : Nat} (hr : r < 32) (hbr : bt rg r = true) (hq : q < 4) (hne : ow r ≠ q) (ec : c = ln r) (ea : a = 8 * ow r + st r) (eb : b = 8 * q + st r) (hI : zi_I rg ow st ln oo og gr bk gp ix) (hE : zi_E rg ow st ln bk) (hQ : zi_Q pr ms pg rs bk gp il) (hz : ∀ i, i < c → bk (b + i) = 0)
    (k : ∀ pr' ms' rg' gs' ow' st' ln' oo' og' gr', zi_I rg' ow' st' ln' oo' og' gr' (zc bk a b c) gp ix → zi_E rg' ow' st' ln' (zc bk a b c) → zi_Q pr' ms' pg rs (zc bk a b c) gp il → (∀ j, j < 32 → bt rg j = true → bt rg' j = true ∧ ow' j = ow j ∧ st' j = st j ∧ ln' j = ln j) → post (ps, pr', ms', pg, rs, rg', gs', (mA (zc bk a b c)), ct, (nA gp), (nA ix), (nA ow'), (nA st'), (nA ln'), (nA oo'), (nA og'), gr')) : wpX_inherit post (ps, pr, ms, pg, rs, rg, gs, (mA bk), ct, (nA gp), (nA ix), (nA ow), (nA st), (nA ln), (nA oo), (nA og), gr) (nI r) (nI q) := by
  have w := hI.1 r hr hbr
  have hn : ∀ i, i < c → bk (a + i) ≠ 0 := fun i hi => hE r _ ⟨hr, hbr, by omega, by omega⟩
  have hb : ∀ c, c < 32 → bk c ≤ 32 := fun c hc => (hQ.1 c hc).1
  have vr : vp_in (nI r) 32 := vp_in_nI hr (by decide)
  unfold wpX_inherit
  dsimp only
  refine zx_fg (fun r hr hb => (hI.1 r hr hb).2.2.2.2.1) (fun g hg hbg => ?_) (fun g gs' gr1 hg hK => ?_)
  · obtain ⟨d, hd, e⟩ := (hQ.2.2.1 g hg).mp hbg
    have := (hQ.1 d hd).2 (by omega)
    rw [e] at this
    exact this
  · have hI1 := zi_KI hQ.2.2.1 hQ.1 hE hK hI
    obtain ⟨ch, hch, h0, h1⟩ := zi_rf hI1.1 hI1.2.1 (c := b) (by omega) (fun j hj hbj e => by
      have wj := hI1.1 j hj hbj
      have y := hE j b ⟨hj, hbj, by omega, by omega⟩
      exact y (hz 0 (by omega)))
    have vch : vp_in (nI ch) 32 := vp_in_nI hch (by decide)
    have hrc : r ≠ ch := fun e => by rw [← e, hbr] at h0; exact nomatch h0
    obtain ⟨JI, Jc, J0, J1⟩ := zi_new hI1 hE (r := ch) (p := q) (f := st r) (c := ln r) (x := oo r) (g := g) (G := gr1 r ||| ((1 : Int64) <<< ((nI g).toInt64 &&& 63))) hch h0 hq w.2.1 w.2.2.1 w.2.2.2.1 hg ((zl_set hg hg).mpr (Or.inr rfl)) (by rw [← eb, ← ec]; exact hz) rfl rfl rfl rfl rfl rfl rfl
    have live : ∀ j, j < 32 → bt rg j = true → bt (rg ||| ((1 : Int32) <<< (nI ch &&& 31))) j = true := fun j hj hbj => (zb_set hch hj).mpr (Or.inl hbj)
    have o := J0 r hrc
    have P := zi_cp (g := g) (oo := oo) (ix := ix) (gp := gp) hE hr hbr hq ((zb_set hch hch).mpr (Or.inr rfl)) hch ec ea eb hn hz JI Jc hrc ⟨o.1, o.2.1, o.2.2.2.1⟩ ⟨J1.1, J1.2.1, J1.2.2.2.1, by rw [J1.2.2.2.2.2, o.2.2.2.2.2]⟩
    refine And.intro vr (And.intro vr (And.intro vr (zx_nr rfl (za_nA (by omega)) (za_nA (by omega)) (za_nA (by omega)) hch h0 h1 (by omega) (by omega) (by omega) (by omega) ?_)))
    dsimp only
    refine And.intro vch (nm_r (za_wb hch (by omega)) (And.intro vr (And.intro vch (nm_r (e' := vp_updL gr1 ch (gr1 r ||| ((1 : Int64) <<< ((nI g).toInt64 &&& 63)))) (by rw [nI_clamp (by omega), nI_clamp (by omega)]) ?_))))
    have t := zx_inl (ps := ps) (pg := pg) (rs := rs) (rg := rg ||| ((1 : Int32) <<< (nI ch &&& 31))) (gs := gs') (bk := bk) (ct := ct) (gp := gp) (ix := ix) (ow := un ow ch q) (st := un st ch (st r)) (ln := un ln ch (ln r)) (oo := un oo ch (oo r)) (og := un og ch g) (gr := vp_updL gr1 ch (gr1 r ||| ((1 : Int64) <<< ((nI g).toInt64 &&& 63)))) (il := il) (post := post) (r := r) (q := q) (a := a) (b := b) (c := c) hr hq (by rw [o.1]; omega) (by rw [o.2.1, o.2.2.1]; omega) (by rw [o.2.2.1]; exact ec) (by rw [o.1, o.2.1]; exact ea) (by rw [o.2.1]; exact eb) (by omega) hn hz hb (fun pr' ms' hM' hR' => ?_) c 0 pr ms (by omega) (by rw [zc_0]; exact hQ.2.1) (by rw [zc_0]; exact hQ.2.2.2.2)
    · rw [zc_0] at t
      exact ⟨c + 1, t⟩
    · refine k pr' ms' _ gs' _ _ _ _ _ _ P.1 P.2 ⟨zi_cpB (by omega) hQ.1, hM', ?_, ?_, hR'⟩ (fun j hj hbj => ?_)
      · intro g' hg'
        rw [zi_cpG (by omega) hz, hQ.2.2.1 g' hg']
      · intro g' hg'
        rw [zi_cpG (by omega) hz, hQ.2.2.2.1 g' hg']
      · have hjc : j ≠ ch := fun e => by rw [e, h0] at hbj; exact nomatch hbj
        have oj := J0 j hjc
        exact ⟨live j hj hbj, oj.1, oj.2.1, oj.2.2.1⟩
theorem zx_fkl {post : Int32 → SX → Prop} {p q : Nat} {rg0 : Int32} {ow0 st0 ln0 bk0 : Nat → Nat} (hp : p < 4) (hq : q < 4) (hpq : p ≠ q) (hD0 : zi_D rg0 ow0 st0 ln0) (hW0 : ∀ r, r < 32 → bt rg0 r = true → ow0 r < 4 ∧ st0 r + ln0 r ≤ 8)
    (k : ∀ pr ms rg gs bk ow st ln oo og gr, zi_I rg ow st ln oo og gr bk gp ix → zi_E rg ow st ln bk → zi_Q pr ms pg rs bk gp il → (∀ e, ¬ (8 * q ≤ e ∧ e < 8 * q + 8) → bk e = bk0 e) → (∀ v, v < 8 → ((∃ r, r < 32 ∧ cv rg0 ow0 st0 ln0 r (8 * p + v)) ∧ bk (8 * q + v) = bk0 (8 * p + v)) ∨ ((∀ r, r < 32 → ¬ cv rg0 ow0 st0 ln0 r (8 * p + v)) ∧ bk (8 * q + v) = 0)) → post (nI q) (ps, pr, ms, pg, rs, rg, gs, (mA bk), ct, (nA gp), (nA ix), (nA ow), (nA st), (nA ln), (nA oo), (nA og), gr)) :
    ∀ d i (pr ms rg : Int32) (gs : Int64) (bk ow st ln oo og : Nat → Nat) (gr : Nat → Int64), i + d = 32 → zi_I rg ow st ln oo og gr bk gp ix → zi_E rg ow st ln bk → zi_Q pr ms pg rs bk gp il → (∀ j, j < 32 → bt rg0 j = true → bt rg j = true ∧ ow j = ow0 j ∧ st j = st0 j ∧ ln j = ln0 j) → (∀ e, ¬ (8 * q ≤ e ∧ e < 8 * q + 8) → bk e = bk0 e) → (∀ v, v < 8 → ((∃ r, r < i ∧ cv rg0 ow0 st0 ln0 r (8 * p + v)) ∧ bk (8 * q + v) = bk0 (8 * p + v)) ∨ ((∀ r, r < i → ¬ cv rg0 ow0 st0 ln0 r (8 * p + v)) ∧ bk (8 * q + v) = 0)) → wX_fork_42 post (nI p) (nI q) rg0 (d + 1) (nI i) ps pr ms pg rs rg gs (mA bk) ct (nA gp) (nA ix) (nA ow) (nA st) (nA ln) (nA oo) (nA og) gr := by
  intro d
  induction d with
  | zero =>
    intro i pr ms rg gs bk ow st ln oo og gr hi hI hE hQ hkeep hout hin
    obtain rfl : i = 32 := by omega
    exact pk_le 32 32 (fun _ => k _ _ _ _ _ _ _ _ _ _ _ hI hE hQ hout hin) (fun h => absurd h (by omega))
  | succ d ih =>
    intro i pr ms rg gs bk ow st ln oo og gr hi hI hE hQ hkeep hout hin
    have vi : vp_in (nI i) 32 := vp_in_nI (by omega) (by decide)
    have skip : (∀ v, v < 8 → ¬ cv rg0 ow0 st0 ln0 i (8 * p + v)) → wX_fork_42 post (nI p) (nI q) rg0 (d + 1) (nI (i + 1)) ps pr ms pg rs rg gs (mA bk) ct (nA gp) (nA ix) (nA ow) (nA st) (nA ln) (nA oo) (nA og) gr := fun hs => ih (i + 1) pr ms rg gs bk ow st ln oo og gr (by omega) hI hE hQ hkeep hout (fun v hv => by
      rcases hin v hv with ⟨⟨r, h1, h2⟩, h3⟩ | ⟨h1, h2⟩
      · exact Or.inl ⟨⟨r, by omega, h2⟩, h3⟩
      · refine Or.inr ⟨fun r hr hc => ?_, h2⟩
        by_cases e : r = i
        · subst e; exact hs v hv hc
        · exact h1 r (by omega) hc)
    refine pk_le 32 i (fun h => absurd h (by omega)) (fun _ => zb_c (by omega) (fun hb => nm_r (nI_1 i) (skip (fun v hv hc => ?_))) (fun hb => And.intro vi ?_))
    · have := hc.2.1
      rw [hb] at this
      exact nomatch this
    · obtain ⟨kb, kw, ks, kl⟩ := hkeep i (by omega) hb
      have w := hI.1 i (by omega) kb
      have w0 := hW0 i (by omega) hb
      refine pk_eq (ow i) p (fun e => ?_) (fun e => nm_r (nI_1 i) (skip (fun v hv hc => by have := hc.2.2; omega))) (za_nA (by omega)) rfl
      refine zx_inh (a := 8 * ow i + st i) (b := 8 * q + st i) (c := ln i) (by omega) kb hq (by omega) rfl rfl rfl hI hE hQ (fun j hj => ?_) (fun pr' ms' rg' gs' ow' st' ln' oo' og' gr' hI' hE' hQ' hk' => nm_r (nI_1 i) ?_)
      · have hc0 : cv rg0 ow0 st0 ln0 i (8 * p + (st i + j)) := ⟨by omega, hb, by omega, by omega⟩
        rcases hin (st i + j) (by omega) with ⟨⟨r, h1, h2⟩, h3⟩ | ⟨h1, h2⟩
        · exact absurd (hD0 r i _ h2 hc0) (by omega)
        · rw [show 8 * q + st i + j = 8 * q + (st i + j) by omega]
          exact h2
      · refine ih (i + 1) pr' ms' rg' gs' _ ow' st' ln' oo' og' gr' (by omega) hI' hE' hQ' (fun j hj hbj => ?_) (fun e' he => ?_) (fun v hv => ?_)
        · obtain ⟨jb, jw, js, jl⟩ := hkeep j hj hbj
          obtain ⟨tb, tw, ts, tl⟩ := hk' j hj jb
          exact ⟨tb, by omega, by omega, by omega⟩
        · rw [zc_o (by omega)]
          exact hout e' he
        · by_cases h1 : st i ≤ v ∧ v < st i + ln i
          · refine Or.inl ⟨⟨i, by omega, by omega, hb, by omega, by omega⟩, ?_⟩
            rw [zc_t (by omega), show 8 * q + v - (8 * q + st i) + (8 * ow i + st i) = 8 * p + v by omega]
            exact hout _ (by omega)
          · rw [zc_o (by omega)]
            rcases hin v hv with ⟨⟨r, h2, h3⟩, h4⟩ | ⟨h2, h3⟩
            · exact Or.inl ⟨⟨r, by omega, h3⟩, h4⟩
            · refine Or.inr ⟨fun r hr hc => ?_, h3⟩
              by_cases e2 : r = i
              · subst e2
                have := hc.2.2
                omega
              · exact h2 r (by omega) hc
theorem zy_fkl {post : Int32 → SY → Prop} {p q a b : Nat} (hp : p < 4) (hq : q < 4) (hpq : p ≠ q) (ea : a = 8 * p) (eb : b = 8 * q) (k : post (nI q) ((bA al), (nA (zc bk a b 8)), ct, (bA il))) : ∀ d i, i + d = 8 → wY_fork_17 post (nI p) (nI q) (d + 1) (nI i) (bA al) (nA (zc bk a b i)) ct (bA il) := by
  intro d
  induction d with
  | zero =>
    intro i hi
    obtain rfl : i = 8 := by omega
    exact pk_le 8 8 (fun _ => k) (fun h => absurd h (by omega))
  | succ d ih =>
    intro i hi
    have e1 : 8 * nI p + nI i = nI (a + i) := by rw [za_8v, ea]
    have e2 : 8 * nI q + nI i = nI (b + i) := by rw [za_8v, eb]
    have v1 : vp_in (nI (a + i)) 32 := vp_in_nI (by omega) (by decide)
    have v2 : vp_in (nI (b + i)) 32 := vp_in_nI (by omega) (by decide)
    refine pk_le 8 i (fun h => absurd h (by omega)) (fun _ => br_f (nI_pos (by omega)) ?_)
    rw [e1, e2]
    refine And.intro v1 (And.intro v2 (nm_r (e' := nA (zc bk a b (i + 1))) ?_ (nm_r (nI_1 i) (ih (i + 1) (by omega)))))
    rw [za_nA (by omega), za_nU (by omega), zc_s (c := 8) (by omega) (by omega)]
end
theorem i_vc_fork {k : Nat} {u : SX} {v : SY} (I : i_Rel k u v) (hk : k + 5 ≤ 2560) (v1 : Int32) : wpX_fork (fun r u' => wpY_fork (fun r' v' => r' = r ∧ i_Rel (k + 5) u' v') v v1) u v1 := by
  refine zz_el (P := fun u v => wpX_fork (fun r u' => wpY_fork (fun r' v' => r' = r ∧ i_Rel (k + 5) u' v') v v1) u v1) ?_ I
  intro ps pr ms pg rs rg gs bk ct gp ix ow st ln oo og gr al il hF
  have R : i_Rel (k + 5) (ps, pr, ms, pg, rs, rg, gs, (mA bk), ct, (nA gp), (nA ix), (nA ow), (nA st), (nA ln), (nA oo), (nA og), gr) ((bA al), (nA bk), ct, (bA il)) := zz_in hF
  obtain ⟨hI, hE, hQ, hA, hZ⟩ := hF
  unfold wpX_fork wpY_fork
  dsimp only
  rcases zc_has (ps := ps) (pr := pr) (ms := ms) (pg := pg) (rs := rs) (rg := rg) (gs := gs) (bk := bk) (ct := ct) (gp := gp) (ix := ix) (ow := ow) (st := st) (ln := ln) (oo := oo) (og := og) (gr := gr) (al := al) (il := il) hA v1 with ⟨p, hp, rfl, ha, kx, ky⟩ | ⟨kx, ky⟩
  · refine kx _ (br_f (by decide) ?_)
    rcases zc_free (ps := ps) (pr := pr) (ms := ms) (pg := pg) (rs := rs) (rg := rg) (gs := gs) (bk := bk) (ct := ct) (gp := gp) (ix := ix) (ow := ow) (st := st) (ln := ln) (oo := oo) (og := og) (gr := gr) (al := al) (il := il) hA with ⟨q, hq, hal, kx2, ky2⟩ | ⟨kx2, ky2⟩
    · have hpq : p ≠ q := fun e => by rw [e, hal] at ha; exact nomatch ha
      refine kx2 _ (br_t (nI_pos' (by omega)) (nm_e ⟨33, zx_fkl (il := il) (bk0 := bk) (ow0 := ow) (st0 := st) (ln0 := ln) hp hq hpq hI.2.1 (fun r hr hb => ⟨(hI.1 r hr hb).1, (hI.1 r hr hb).2.2.1⟩) (fun pr' ms' rg' gs' bk' ow' st' ln' oo' og' gr' hI' hE' hQ' hout hin => ?_) 32 0 pr ms rg gs bk ow st ln oo og gr (by omega) hI hE hQ (fun j _ hb => ⟨hb, rfl, rfl, rfl⟩) (fun _ _ => rfl) (fun v hv => Or.inr ⟨fun r hr => absurd hr (by omega), hZ q v hq hv hal⟩)⟩))
      have eb : bk' = zc bk (8 * p) (8 * q) 8 := by
        funext e
        by_cases h1 : 8 * q ≤ e ∧ e < 8 * q + 8
        · rw [zc_t h1]
          rcases hin (e - 8 * q) (by omega) with ⟨_, h3⟩ | ⟨h2, h3⟩
          · rw [show 8 * q + (e - 8 * q) = e by omega, show 8 * p + (e - 8 * q) = e - 8 * q + 8 * p by omega] at h3
            exact h3
          · rw [show 8 * q + (e - 8 * q) = e by omega] at h3
            rw [h3]
            apply Classical.not_not.mp
            intro z
            obtain ⟨r, hr⟩ := hI.2.2.1 (e - 8 * q + 8 * p) (by omega) (fun y => z y.symm)
            rw [show e - 8 * q + 8 * p = 8 * p + (e - 8 * q) by omega] at hr
            exact h2 r hr.1 hr
        · rw [zc_o h1]
          exact hout e h1
      refine ky _ (br_f (by decide) (ky2 _ ?_))
      have t := zy_fkl (post := fun r' v' => r' = nI q ∧ i_Rel (k + 5) ((ps ||| ((1 : Int32) <<< (nI q &&& 31))), pr', ms', pg, rs, rg', gs', (mA bk'), ct, (nA gp), (nA ix), (nA ow'), (nA st'), (nA ln'), (nA oo'), (nA og'), gr') v') (al := ub al q true) (bk := bk) (ct := ct) (il := il) hp hq hpq rfl rfl ⟨rfl, ?_⟩ 8 0 (by omega)
      · rw [zc_0] at t
        exact ⟨9, t⟩
      · rw [← eb]
        refine zz_in ⟨hI', hE', hQ', zi_spA hA hq, ?_⟩
        intro p' v' hp' hv' h
        by_cases z : p' = q
        · rw [z, za_bs] at h; exact nomatch h
        · rw [za_bn z] at h
          rw [hout _ (by omega)]
          exact hZ p' v' hp' hv' h
    · refine kx2 _ (br_f (by decide) (ky _ (br_f (by decide) (ky2 _ ⟨1, ?_⟩))))
      exact br_f (by decide) (br_t (by decide) ⟨rfl, R⟩)
  · exact kx _ (br_t rfl (ky _ (br_t rfl ⟨rfl, R⟩)))
end
