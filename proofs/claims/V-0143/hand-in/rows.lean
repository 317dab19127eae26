section
/-! rows of kit/rows (starting texts), pasted -/
theorem pk_us {f : Nat → Int32} {k : Nat} {x : Int32} : upd f k x k = x := if_pos rfl
theorem pk_un {f : Nat → Int32} {k j : Nat} {x : Int32} (h : j ≠ k) : upd f k x j = f j := if_neg h
theorem pk_uLs {f : Nat → Int64} {k : Nat} {x : Int64} : vp_updL f k x k = x := if_pos rfl
theorem pk_uLn {f : Nat → Int64} {k j : Nat} {x : Int64} (h : j ≠ k) : vp_updL f k x j = f j := if_neg h
theorem pk_sub {a b : Nat} (h : b ≤ a) : nI a - nI b = nI (a - b) := by
  obtain ⟨c, rfl⟩ : ∃ c, a = c + b := ⟨a - b, by omega⟩
  rw [← nI_add, Int32.add_sub_cancel, Nat.add_sub_cancel]
theorem pk_mul (a b : Nat) : nI a * nI b = nI (a * b) := (Int32.ofNat_mul a b).symm
theorem pk_ix (x : Int32) {n : Nat} (hn : n < 2 ^ 31) : x < 0 ∨ nI n ≤ x ∨ ∃ j : Nat, j < n ∧ x = nI j := by
  by_cases h : x < 0
  · exact Or.inl h
  · obtain ⟨j, hj, rfl⟩ := nI_of h
    by_cases h2 : j < n
    · exact Or.inr (Or.inr ⟨j, h2, rfl⟩)
    · exact Or.inr (Or.inl (nI_le (by omega) hj))
theorem pk_le {x y : Int32} {A B : Prop} (a b : Nat) (f : a ≤ b → A) (g : b < a → B) (hx : x = nI a := by rfl) (hy : y = nI b := by rfl) (ha : a < 2 ^ 31 := by omega) (hb : b < 2 ^ 31 := by omega) : (x ≤ y → A) ∧ (¬ x ≤ y → B) := by
  subst hx hy
  rw [nI_leI ha hb]
  exact ⟨f, fun z => g (by omega)⟩
theorem pk_lt {x y : Int32} {A B : Prop} (a b : Nat) (f : a < b → A) (g : b ≤ a → B) (hx : x = nI a := by rfl) (hy : y = nI b := by rfl) (ha : a < 2 ^ 31 := by omega) (hb : b < 2 ^ 31 := by omega) : (x < y → A) ∧ (¬ x < y → B) := by
  subst hx hy
  rw [nI_ltI ha hb]
  exact ⟨f, fun z => g (by omega)⟩
theorem pk_eq {x y : Int32} {A B : Prop} (a b : Nat) (f : a = b → A) (g : a ≠ b → B) (hx : x = nI a := by rfl) (hy : y = nI b := by rfl) (ha : a < 2 ^ 31 := by omega) (hb : b < 2 ^ 31 := by omega) : (x = y → A) ∧ (¬ x = y → B) := by
  subst hx hy
  rw [nI_eq ha hb]
  exact ⟨f, g⟩
theorem pk_in {x : Int32} (n N : Nat) (h : n < N) (hx : x = nI n := by rfl) (hN : N < 2 ^ 31 := by omega) : vp_in x N := by
  subst hx
  exact vp_in_nI h hN
theorem pk_cl {x : Int32} (n : Nat) (hx : x = nI n := by rfl) (h : n < 2 ^ 31 := by omega) : x.toNatClampNeg = n := by
  subst hx
  exact nI_clamp h
theorem pk_tn {n : Nat} (h : n < 2 ^ 32) : (nI n).toBitVec.toNat = n := Nat.mod_eq_of_lt h
theorem pk_ushr (x s : Int32) (k : Nat) (hs : ((s.toUInt32 &&& Int32.toUInt32 31).toBitVec % 32).toNat = k) : (x.toUInt32 >>> (s.toUInt32 &&& Int32.toUInt32 31)).toInt32.toBitVec.toNat = x.toBitVec.toNat / 2 ^ k := by
  have e : (x.toUInt32 >>> (s.toUInt32 &&& Int32.toUInt32 31)).toInt32.toBitVec = x.toBitVec >>> k := by
    rw [← hs]
    exact UInt32.toBitVec_shiftRight _ _
  rw [e, BitVec.toNat_ushiftRight, Nat.shiftRight_eq_div_pow]
theorem pk_ushrN {n : Nat} (hn : n < 2 ^ 32) (s : Int32) (k : Nat) (hs : ((s.toUInt32 &&& Int32.toUInt32 31).toBitVec % 32).toNat = k) : ((nI n).toUInt32 >>> (s.toUInt32 &&& Int32.toUInt32 31)).toInt32 = nI (n / 2 ^ k) := by
  apply Int32.toBitVec_inj.mp
  apply BitVec.eq_of_toNat_eq
  rw [pk_ushr _ s k hs, pk_tn hn, pk_tn (Nat.lt_of_le_of_lt (Nat.div_le_self _ _) hn)]
theorem pk_lT {n : Nat} (h : n < 2 ^ 63) : (lN n).toInt = (n : Int) := lg_ofNat_toInt h
def bt (x : Int32) (i : Nat) : Bool := x.toBitVec.getLsbD i
theorem b_ext {x y : Int32} (h : ∀ i, i < 32 → bt x i = bt y i) : x = y := Int32.toBitVec_inj.mp (BitVec.eq_of_getLsbD_eq (fun i hi => h i hi))
theorem b_or (x y : Int32) (i : Nat) : bt (x ||| y) i = (bt x i || bt y i) := by unfold bt; rw [Int32.toBitVec_or, BitVec.getLsbD_or]
theorem b_and (x y : Int32) (i : Nat) : bt (x &&& y) i = (bt x i && bt y i) := by unfold bt; rw [Int32.toBitVec_and, BitVec.getLsbD_and]
theorem b_xor (x y : Int32) (i : Nat) : bt (x ^^^ y) i = (bt x i ^^ bt y i) := by unfold bt; rw [Int32.toBitVec_xor, BitVec.getLsbD_xor]
theorem b_big {x : Int32} {i : Nat} (h : 32 ≤ i) : bt x i = false := BitVec.getLsbD_of_ge _ _ h
theorem b_m1 : ∀ i, i < 32 → bt (-1) i = true := by decide +kernel
theorem b_0 (i : Nat) : bt 0 i = false := BitVec.getLsbD_zero
theorem s_l : ∀ n, n < 32 → ((nI n &&& 31).toBitVec.smod 32).toNat = n := by decide +kernel
theorem b_shl (n : Nat) (hn : n < 32) (x : Int32) {i : Nat} (hi : i < 32) : bt (x <<< (nI n &&& 31)) i = (decide (n ≤ i) && bt x (i - n)) := by
  unfold bt
  rw [Int32.toBitVec_shiftLeft]
  show (x.toBitVec <<< ((nI n &&& 31).toBitVec.smod 32).toNat).getLsbD i = _
  rw [s_l n hn, BitVec.getLsbD_shiftLeft]
  rcases Nat.lt_or_ge i n with h | h
  · simp [h, Nat.not_le.mpr h]
  · simp [hi, h, Nat.not_lt.mpr h]
theorem nx_and (a b : Nat) : nI a &&& nI b = nI (a &&& b) := by
  apply Int32.toBitVec_inj.1
  show BitVec.ofNat 32 a &&& BitVec.ofNat 32 b = BitVec.ofNat 32 (a &&& b)
  apply BitVec.eq_of_getLsbD_eq
  intro i hi
  simp [hi]
theorem wb_of32 (x : Int32) : ∃ n, n < 2 ^ 32 ∧ x = nI n := ⟨x.toBitVec.toNat, x.toBitVec.isLt, Int32.toBitVec_inj.mp (by show _ = BitVec.ofNat 32 _; simp)⟩
theorem ts_nf {x : Bool} (h : ¬ x = false) : x = true := by cases x <;> first | rfl | exact absurd rfl h
theorem ts_nt {x : Bool} (h : ¬ x = true) : x = false := by cases x <;> first | rfl | exact absurd rfl h
end
section
/-! bits: single bits, tests, masks, counts -/
theorem mb_one : ∀ t, t < 32 → ∀ i, i < 32 → bt ((1 : Int32) <<< (nI t &&& 31)) i = decide (i = t) := by decide +kernel
theorem mb_bit {t : Nat} (ht : t < 32) (i : Nat) : bt ((1 : Int32) <<< (nI t &&& 31)) i = decide (i = t) := by
  rcases Nat.lt_or_ge i 32 with h | h
  · exact mb_one t ht i h
  · rw [b_big h, decide_eq_false (by omega)]
theorem mb_z {x : Int32} (h : ∀ i, i < 32 → bt x i = false) : x = 0 := b_ext fun i hi => by rw [h i hi, b_0]
theorem mb_z0 {x : Int32} : x = 0 ↔ ∀ i, bt x i = false := ⟨fun e i => by rw [e, b_0], fun h => mb_z fun i _ => h i⟩
theorem mb_lt {x : Int32} {i : Nat} (h : bt x i = true) : i < 32 := by
  rcases Nat.lt_or_ge i 32 with z | z
  · exact z
  · rw [b_big z] at h; exact absurd h (by decide)
theorem mb_and0 {x : Int32} {t : Nat} (ht : t < 32) : (x &&& ((1 : Int32) <<< (nI t &&& 31))) = 0 ↔ bt x t = false := by
  constructor
  · intro e
    have := mb_z0.mp e t
    rw [b_and, mb_bit ht, decide_eq_true rfl, Bool.and_true] at this
    exact this
  · intro e
    refine mb_z fun i _ => ?_
    rw [b_and, mb_bit ht]
    by_cases z : i = t
    · subst z; rw [e]; rfl
    · rw [decide_eq_false z, Bool.and_false]
theorem mb_and1 {x : Int32} {t : Nat} (ht : t < 32) : ¬ (x &&& ((1 : Int32) <<< (nI t &&& 31))) = 0 ↔ bt x t = true := by
  rw [mb_and0 ht]
  cases bt x t <;> decide
theorem mb_set {x : Int32} {t : Nat} (ht : t < 32) (i : Nat) : bt (x ||| ((1 : Int32) <<< (nI t &&& 31))) i = true ↔ bt x i = true ∨ i = t := by
  rw [b_or, mb_bit ht, Bool.or_eq_true, decide_eq_true_eq]
theorem mb_not {x : Int32} {i : Nat} (hi : i < 32) : bt (x ^^^ (-1)) i = !bt x i := by
  rw [b_xor, b_m1 i hi]; cases bt x i <;> rfl
theorem mb_clr {x : Int32} {t : Nat} (ht : t < 32) (i : Nat) : bt (x &&& (((1 : Int32) <<< (nI t &&& 31)) ^^^ (-1))) i = true ↔ bt x i = true ∧ i ≠ t := by
  rcases Nat.lt_or_ge i 32 with h | h
  · rw [b_and, mb_not h, mb_bit ht, Bool.and_eq_true]
    by_cases z : i = t <;> simp [z]
  · rw [b_and, b_big h, b_big h]; simp
theorem mb_or {x y : Int32} (i : Nat) : bt (x ||| y) i = true ↔ bt x i = true ∨ bt y i = true := by rw [b_or, Bool.or_eq_true]
theorem mb_and {x y : Int32} (i : Nat) : bt (x &&& y) i = true ↔ bt x i = true ∧ bt y i = true := by rw [b_and, Bool.and_eq_true]
theorem mb_eq0 {x : Int32} : x = 0 ↔ ∀ i, ¬ bt x i = true := by
  rw [mb_z0]
  exact ⟨fun h i z => by rw [h i] at z; exact absurd z (by decide), fun h i => ts_nt (h i)⟩
theorem mb_ne0 {x : Int32} : ¬ x = 0 ↔ ∃ i, bt x i = true := by
  rw [mb_eq0]
  exact ⟨fun h => Classical.byContradiction fun z => h fun i q => z ⟨i, q⟩, fun ⟨i, q⟩ h => h i q⟩
theorem mb_sub {x y : Int32} : (x &&& (y ^^^ (-1))) = 0 ↔ ∀ i, bt x i = true → bt y i = true := by
  rw [mb_eq0]
  constructor
  · intro h i hi
    have l := mb_lt hi
    have := h i
    rw [mb_and, mb_not l] at this
    cases e : bt y i
    · exact absurd ⟨hi, by rw [e]; rfl⟩ this
    · rfl
  · intro h i z
    rw [mb_and] at z
    have l := mb_lt z.1
    rw [mb_not l, h i z.1] at z
    exact absurd z.2 (by decide)
theorem mb_bf {x : Int32} {i : Nat} : bt x i = false ↔ ¬ bt x i = true := by cases bt x i <;> decide
/-! indices -/
theorem mb_i31 (t n : Nat) : nI t * 31 + nI n = nI (t * 31 + n) := by
  show nI t * nI 31 + nI n = _
  rw [pk_mul, nI_add]
theorem mb_i6 (t n : Nat) : nI t * 6 + nI n = nI (t * 6 + n) := by
  show nI t * nI 6 + nI n = _
  rw [pk_mul, nI_add]
theorem mb_m6 (t : Nat) : nI t * 6 = nI (t * 6) := by
  show nI t * nI 6 = _
  rw [pk_mul]
theorem mb_i4 (t n : Nat) : nI t * 4 + nI n = nI (t * 4 + n) := by
  show nI t * nI 4 + nI n = _
  rw [pk_mul, nI_add]
theorem mb_i8 (t n : Nat) : nI t * 8 + nI n = nI (t * 8 + n) := by
  show nI t * nI 8 + nI n = _
  rw [pk_mul, nI_add]
theorem mb_v31 {t n : Nat} (ht : t < 8) (hn : n < 31) : vp_in (nI t * 31 + nI n) 248 := by
  rw [mb_i31]; exact vp_in_nI (by omega) (by omega)
theorem mb_c31 {t n : Nat} (ht : t < 8) (hn : n < 31) : (nI t * 31 + nI n).toNatClampNeg = t * 31 + n := by
  rw [mb_i31]; exact nI_clamp (by omega)
theorem mb_v6t {t n : Nat} (ht : t < 8) (hn : n < 6) : vp_in (nI t * 6 + nI n) 48 := by
  rw [mb_i6]; exact vp_in_nI (by omega) (by omega)
theorem mb_v6n {t n : Nat} (ht : t < 31) (hn : n < 6) : vp_in (nI t * 6 + nI n) 186 := by
  rw [mb_i6]; exact vp_in_nI (by omega) (by omega)
theorem mb_c6 {t n : Nat} (ht : t < 31) (hn : n < 6) : (nI t * 6 + nI n).toNatClampNeg = t * 6 + n := by
  rw [mb_i6]; exact nI_clamp (by omega)
theorem mb_v4 {t n : Nat} (ht : t < 31) (hn : n < 4) : vp_in (nI t * 4 + nI n) 124 := by
  rw [mb_i4]; exact vp_in_nI (by omega) (by omega)
theorem mb_c4 {t n : Nat} (ht : t < 31) (hn : n < 4) : (nI t * 4 + nI n).toNatClampNeg = t * 4 + n := by
  rw [mb_i4]; exact nI_clamp (by omega)
theorem mb_v8 {t : Nat} (ht : t < 8) : vp_in (nI t) 8 := vp_in_nI ht (by omega)
theorem mb_n31 {t : Nat} (ht : t < 31) : vp_in (nI t) 31 := vp_in_nI ht (by omega)
theorem mb_c {t : Nat} (ht : t < 31) : (nI t).toNatClampNeg = t := nI_clamp (by omega)
theorem mb_lt_ {t n : Nat} (ht : t < n) (hn : n < 2 ^ 31) : ¬ nI n ≤ nI t := nI_ge ht hn
theorem mb_ud {f : Nat → Int32} {k : Nat} {x : Int32} (e : f k = x) : upd f k x = f := by
  funext j
  by_cases z : j = k
  · rw [z, pk_us, e]
  · rw [pk_un z]
theorem mb_ti {t n u m : Nat} (hn : n < 31) (hm : m < 31) : t * 31 + n = u * 31 + m ↔ t = u ∧ n = m := by omega
theorem mb_si {t n u m : Nat} (hn : n < 6) (hm : m < 6) : t * 6 + n = u * 6 + m ↔ t = u ∧ n = m := by omega
theorem mb_inj {a b : Nat} (ha : a < 2 ^ 31) (hb : b < 2 ^ 31) (e : nI a = nI b) : a = b := (nI_eq ha hb).mp e
/-! truth values -/
noncomputable def mb_01 (P : Prop) : Int32 := @ite Int32 P (Classical.propDecidable P) 1 0
theorem mb_t {P : Prop} (h : P) : mb_01 P = 1 := by unfold mb_01; rw [if_pos h]
theorem mb_f {P : Prop} (h : ¬ P) : mb_01 P = 0 := by unfold mb_01; rw [if_neg h]
theorem mb_01c {P : Prop} {q : Int32 → Prop} (h1 : P → q 1) (h0 : ¬ P → q 0) : q (mb_01 P) := by
  rcases Classical.em P with h | h
  · rw [mb_t h]; exact h1 h
  · rw [mb_f h]; exact h0 h
theorem mb_br {P A B : Prop} (f : ¬ P → A) (g : P → B) : (mb_01 P = 0 → A) ∧ (¬ mb_01 P = 0 → B) := by
  rcases Classical.em P with h | h
  · rw [mb_t h]; exact br_f (by decide) (g h)
  · rw [mb_f h]; exact br_t rfl (f h)
theorem mb_cg {P Q : Prop} (h : P ↔ Q) : mb_01 P = mb_01 Q := congrArg mb_01 (propext h)
end
section
/-! counting bits -/
def mb_cn (p : Nat → Bool) : Nat → Nat
  | 0 => 0
  | n + 1 => mb_cn p n + (if p n = true then 1 else 0)
theorem mb_cn_c {p q : Nat → Bool} : ∀ {n : Nat}, (∀ i, i < n → p i = q i) → mb_cn p n = mb_cn q n
  | 0, _ => rfl
  | n + 1, h => by rw [mb_cn, mb_cn, mb_cn_c (n := n) (fun i hi => h i (by omega)), h n (by omega)]
theorem mb_cn_a (p : Nat → Bool) (m : Nat) : ∀ n, mb_cn p (m + n) = mb_cn p m + mb_cn (fun i => p (m + i)) n
  | 0 => rfl
  | n + 1 => by
    rw [← Nat.add_assoc, mb_cn, mb_cn, mb_cn_a p m n, Nat.add_assoc]
theorem mb_cn_le (p : Nat → Bool) : ∀ n, mb_cn p n ≤ n
  | 0 => Nat.le_refl _
  | n + 1 => by
    have := mb_cn_le p n
    rw [mb_cn]; split <;> omega
theorem mp_and (x m : Nat) : x &&& m = (x % 256 &&& m % 256) + 256 * (x / 256 &&& m / 256) := by
  have h1 := Nat.and_mod_two_pow (a := x) (b := m) (n := 8)
  have h2 := Nat.and_div_two_pow (a := x) (b := m) (n := 8)
  have h3 := Nat.mod_add_div (x &&& m) 256
  rw [show (2 : Nat) ^ 8 = 256 from rfl] at h1 h2
  rw [h1, h2] at h3
  exact h3.symm
theorem mp_and4 (x m : Nat) : x &&& m = (x % 256 &&& m % 256) + 256 * ((x / 256 % 256 &&& m / 256 % 256) + 256 * ((x / 256 / 256 % 256 &&& m / 256 / 256 % 256) + 256 * (x / 256 / 256 / 256 &&& m / 256 / 256 / 256))) := by
  rw [← mp_and (x / 256 / 256) (m / 256 / 256), ← mp_and (x / 256) (m / 256), ← mp_and x m]
theorem mp_l1 : ∀ a, a < 256 → ∀ e, e < 2 → (a / 2 + 128 * e) &&& 85 = a / 2 &&& 85 := by decide +kernel
theorem mp_l2 : ∀ a, a < 256 → ∀ e, e < 4 → (a / 4 + 64 * e) &&& 51 = a / 4 &&& 51 := by decide +kernel
theorem mp_l3 : ∀ a, a < 69 → ∀ e, e < 16 → (a + a / 16 + 16 * e) &&& 15 = (a + a / 16) &&& 15 := by decide +kernel
theorem mp_b1 : ∀ a, a < 256 → (a / 2 &&& 85) ≤ a := by decide +kernel
theorem mp_b2 : ∀ a, a < 256 → ((a - (a / 2 &&& 85)) &&& 51) + ((a - (a / 2 &&& 85)) / 4 &&& 51) < 69 ∧ (((a - (a / 2 &&& 85)) &&& 51) + ((a - (a / 2 &&& 85)) / 4 &&& 51)) % 16 < 5 := by decide +kernel
def mp_p (a : Nat) : Nat := (((a - (a / 2 &&& 85)) &&& 51) + ((a - (a / 2 &&& 85)) / 4 &&& 51) + (((a - (a / 2 &&& 85)) &&& 51) + ((a - (a / 2 &&& 85)) / 4 &&& 51)) / 16) &&& 15
theorem mp_b3 : ∀ a, a < 256 → mp_p a = mb_cn a.testBit 8 := by decide +kernel
theorem mp_s1 {n a b c d : Nat} (hn : n = a + 256 * (b + 256 * (c + 256 * d))) (ha : a < 256) (hb : b < 256) (hc : c < 256) (hd : d < 256) : n / 2 &&& 1431655765 = (a / 2 &&& 85) + 256 * ((b / 2 &&& 85) + 256 * ((c / 2 &&& 85) + 256 * (d / 2 &&& 85))) := by
  rw [mp_and4, show n / 2 % 256 = a / 2 + 128 * (b % 2) by omega, show n / 2 / 256 % 256 = b / 2 + 128 * (c % 2) by omega, show n / 2 / 256 / 256 % 256 = c / 2 + 128 * (d % 2) by omega, show n / 2 / 256 / 256 / 256 = d / 2 by omega, show 1431655765 % 256 = 85 from rfl, show 1431655765 / 256 / 256 / 256 = 85 from rfl, mp_l1 a ha _ (Nat.mod_lt _ (by decide)), mp_l1 b hb _ (Nat.mod_lt _ (by decide)), mp_l1 c hc _ (Nat.mod_lt _ (by decide))]
theorem mp_s2 {n a b c d : Nat} (hn : n = a + 256 * (b + 256 * (c + 256 * d))) (ha : a < 256) (hb : b < 256) (hc : c < 256) (hd : d < 256) : n &&& 858993459 = (a &&& 51) + 256 * ((b &&& 51) + 256 * ((c &&& 51) + 256 * (d &&& 51))) := by
  rw [mp_and4, show n % 256 = a by omega, show n / 256 % 256 = b by omega, show n / 256 / 256 % 256 = c by omega, show n / 256 / 256 / 256 = d by omega]
theorem mp_s3 {n a b c d : Nat} (hn : n = a + 256 * (b + 256 * (c + 256 * d))) (ha : a < 256) (hb : b < 256) (hc : c < 256) (hd : d < 256) : n / 4 &&& 858993459 = (a / 4 &&& 51) + 256 * ((b / 4 &&& 51) + 256 * ((c / 4 &&& 51) + 256 * (d / 4 &&& 51))) := by
  rw [mp_and4, show n / 4 % 256 = a / 4 + 64 * (b % 4) by omega, show n / 4 / 256 % 256 = b / 4 + 64 * (c % 4) by omega, show n / 4 / 256 / 256 % 256 = c / 4 + 64 * (d % 4) by omega, show n / 4 / 256 / 256 / 256 = d / 4 by omega, show 858993459 % 256 = 51 from rfl, show 858993459 / 256 / 256 / 256 = 51 from rfl, mp_l2 a ha _ (Nat.mod_lt _ (by decide)), mp_l2 b hb _ (Nat.mod_lt _ (by decide)), mp_l2 c hc _ (Nat.mod_lt _ (by decide))]
theorem mp_dig {x A B C D : Nat} (e : x = A + 256 * (B + 256 * (C + 256 * D))) (hA : A < 256) (hB : B < 256) (hC : C < 256) : x % 256 = A ∧ x / 256 % 256 = B ∧ x / 256 / 256 % 256 = C ∧ x / 256 / 256 / 256 = D := by
  refine ⟨?_, ?_, ?_, ?_⟩ <;> omega
theorem mp_s4 {n a b c d : Nat} (hn : n = a + 256 * (b + 256 * (c + 256 * d))) (ha : a < 69) (hb : b < 69) (hc : c < 69) (hd : d < 69) (hb' : b % 16 < 5) (hc' : c % 16 < 5) (hd' : d % 16 < 5) : (n + n / 16) &&& 252645135 = ((a + a / 16) &&& 15) + 256 * (((b + b / 16) &&& 15) + 256 * (((c + c / 16) &&& 15) + 256 * ((d + d / 16) &&& 15))) := by
  have e1 : n / 16 = (a / 16 + 16 * (b % 16)) + 256 * ((b / 16 + 16 * (c % 16)) + 256 * ((c / 16 + 16 * (d % 16)) + 256 * (d / 16))) := by omega
  have e2 : n + n / 16 = (a + a / 16 + 16 * (b % 16)) + 256 * ((b + b / 16 + 16 * (c % 16)) + 256 * ((c + c / 16 + 16 * (d % 16)) + 256 * (d + d / 16))) := by omega
  obtain ⟨d1, d2, d3, d4⟩ := mp_dig e2 (by omega) (by omega) (by omega)
  rw [mp_and4, d1, d2, d3, d4, show 252645135 % 256 = 15 from rfl, show 252645135 / 256 / 256 / 256 = 15 from rfl, mp_l3 a ha _ (Nat.mod_lt _ (by decide)), mp_l3 b hb _ (Nat.mod_lt _ (by decide)), mp_l3 c hc _ (Nat.mod_lt _ (by decide))]
theorem mp_s5 {n a b c d : Nat} (hn : n = a + 256 * (b + 256 * (c + 256 * d))) (ha : a ≤ 8) (hb : b ≤ 8) (hc : c ≤ 8) (hd : d ≤ 8) : n * 16843009 % 4294967296 / 16777216 = a + b + c + d := by
  have e : n * 16843009 = (a + 256 * (a + b) + 65536 * (a + b + c) + 16777216 * (a + b + c + d)) + 4294967296 * (b + c * 257 + d * 65793) := by omega
  rw [e, Nat.add_mul_mod_self_left, Nat.mod_eq_of_lt (by omega)]
  omega
def mp_A (n : Nat) : Nat := n - (n / 2 &&& 1431655765)
def mp_B (n : Nat) : Nat := (n &&& 858993459) + (n / 4 &&& 858993459)
def mp_C (n : Nat) : Nat := (n + n / 16) &&& 252645135
theorem mp_all {n : Nat} (hn : n < 2 ^ 32) : (n / 2 &&& 1431655765) ≤ n ∧ mp_A n < 2 ^ 32 ∧ mp_B (mp_A n) < 2 ^ 32 ∧ mp_C (mp_B (mp_A n)) < 2 ^ 32 ∧ mp_C (mp_B (mp_A n)) * 16843009 % 4294967296 / 16777216 = mb_cn n.testBit 32 := by
  obtain ⟨a, b, c, d, e, ha, hb, hc, hd, ea, eb, ec, ed⟩ : ∃ a b c d, n = a + 256 * (b + 256 * (c + 256 * d)) ∧ a < 256 ∧ b < 256 ∧ c < 256 ∧ d < 256 ∧ a = n % 256 ∧ b = n / 256 % 256 ∧ c = n / 65536 % 256 ∧ d = n / 16777216 := ⟨n % 256, n / 256 % 256, n / 65536 % 256, n / 16777216, by omega, by omega, by omega, by omega, by omega, rfl, rfl, rfl, rfl⟩
  have q1 := mp_s1 e ha hb hc hd
  have a1 := mp_b1 a ha
  have b1 := mp_b1 b hb
  have c1 := mp_b1 c hc
  have d1 := mp_b1 d hd
  have a2 := mp_b2 a ha
  have b2 := mp_b2 b hb
  have c2 := mp_b2 c hc
  have d2 := mp_b2 d hd
  have a3 := mp_b3 a ha
  have b3 := mp_b3 b hb
  have c3 := mp_b3 c hc
  have d3 := mp_b3 d hd
  have hA : mp_A n = (a - (a / 2 &&& 85)) + 256 * ((b - (b / 2 &&& 85)) + 256 * ((c - (c / 2 &&& 85)) + 256 * (d - (d / 2 &&& 85)))) := by
    unfold mp_A; rw [q1]; omega
  have q2 := mp_s2 hA (by omega) (by omega) (by omega) (by omega)
  have q3 := mp_s3 hA (by omega) (by omega) (by omega) (by omega)
  unfold mp_p at a3 b3 c3 d3
  generalize (a - (a / 2 &&& 85)) = A at *
  generalize (b - (b / 2 &&& 85)) = B at *
  generalize (c - (c / 2 &&& 85)) = C at *
  generalize (d - (d / 2 &&& 85)) = D at *
  have hB : mp_B (mp_A n) = ((A &&& 51) + (A / 4 &&& 51)) + 256 * (((B &&& 51) + (B / 4 &&& 51)) + 256 * (((C &&& 51) + (C / 4 &&& 51)) + 256 * ((D &&& 51) + (D / 4 &&& 51)))) := by
    unfold mp_B; rw [q2, q3]; omega
  generalize (A &&& 51) + (A / 4 &&& 51) = A' at *
  generalize (B &&& 51) + (B / 4 &&& 51) = B' at *
  generalize (C &&& 51) + (C / 4 &&& 51) = C' at *
  generalize (D &&& 51) + (D / 4 &&& 51) = D' at *
  have hC := mp_s4 hB a2.1 b2.1 c2.1 d2.1 b2.2 c2.2 d2.2
  have hC' : mp_C (mp_B (mp_A n)) = _ := hC
  rw [a3, b3, c3, d3] at hC'
  have la := mb_cn_le a.testBit 8
  have lb := mb_cn_le b.testBit 8
  have lc := mb_cn_le c.testBit 8
  have ld := mb_cn_le d.testBit 8
  have q5 := mp_s5 hC' la lb lc ld
  have z1 : mb_cn n.testBit 32 = mb_cn a.testBit 8 + mb_cn b.testBit 8 + mb_cn c.testBit 8 + mb_cn d.testBit 8 := by
    rw [show 32 = 8 + (8 + (8 + 8)) from rfl, mb_cn_a, mb_cn_a, mb_cn_a]
    have w1 : mb_cn n.testBit 8 = mb_cn a.testBit 8 := mb_cn_c fun i hi => by
      rw [ea, show 256 = 2 ^ 8 from rfl, Nat.testBit_mod_two_pow, decide_eq_true hi, Bool.true_and]
    have w2 : mb_cn (fun i => n.testBit (8 + i)) 8 = mb_cn b.testBit 8 := mb_cn_c fun i hi => by
      rw [eb, show 256 = 2 ^ 8 from rfl, Nat.testBit_mod_two_pow, decide_eq_true hi, Bool.true_and, Nat.testBit_div_two_pow, Nat.add_comm]
    have w3 : mb_cn (fun i => n.testBit (8 + (8 + i))) 8 = mb_cn c.testBit 8 := mb_cn_c fun i hi => by
      rw [ec, show 256 = 2 ^ 8 from rfl, show 65536 = 2 ^ 16 from rfl, Nat.testBit_mod_two_pow, decide_eq_true hi, Bool.true_and, Nat.testBit_div_two_pow, show 8 + (8 + i) = i + 16 by omega]
    have w4 : mb_cn (fun i => n.testBit (8 + (8 + (8 + i)))) 8 = mb_cn d.testBit 8 := mb_cn_c fun i hi => by
      rw [ed, show 16777216 = 2 ^ 24 from rfl, Nat.testBit_div_two_pow, show 8 + (8 + (8 + i)) = i + 24 by omega]
    rw [w1, w2, w3, w4]
    omega
  refine ⟨?_, ?_, ?_, ?_, ?_⟩
  · rw [q1]; omega
  · unfold mp_A; omega
  · rw [hB]; omega
  · rw [hC']; omega
  · rw [q5, z1]
theorem mp_md (x : Nat) : nI x = nI (x % 4294967296) := by
  apply Int32.toBitVec_inj.1
  apply BitVec.eq_of_toNat_eq
  show x % 2 ^ 32 = x % 4294967296 % 2 ^ 32
  omega
theorem mp_bt {n i : Nat} (hi : i < 32) : bt (nI n) i = n.testBit i := by
  show (BitVec.ofNat 32 n).getLsbD i = _
  rw [BitVec.getLsbD_ofNat, decide_eq_true hi, Bool.true_and]
section
variable {xnc xfn xel xlm xwm xtc xsu xco xvi xlv xes : Int32} {xdO xpA xab xbe xrb xfO xeO xic xcu xcm xwr xst xac xpr xbb xdr xok xon xoa xgn xgm xh xni xhn xho xhb xwn xwd xwf xwt xbk xre : Nat → Int32}
theorem mx_bitCount {post : Int32 → Prop} (m : Int32) (h : post (nI (mb_cn (bt m) 32))) : wpX_bitCount post (xnc, xfn, xel, xlm, xwm, xtc, xsu, xco, xvi, xlv, xes, xdO, xpA, xab, xbe, xrb, xfO, xeO, xic, xcu, xcm, xwr, xst, xac, xpr, xbb, xdr, xok, xon, xoa, xgn, xgm, xh, xni, xhn, xho, xhb, xwn, xwd, xwf, xwt, xbk, xre) m := by
  obtain ⟨n, hn, rfl⟩ := wb_of32 m
  obtain ⟨h1, h2, h3, h4, h5⟩ := mp_all hn
  have e1 : nI n - (((nI n).toUInt32 >>> ((1 : Int32).toUInt32 &&& Int32.toUInt32 31)).toInt32 &&& 1431655765) = nI (mp_A n) := by
    rw [pk_ushrN hn 1 1 (by decide)]
    show nI n - (nI (n / 2 ^ 1) &&& nI 1431655765) = _
    rw [nx_and, pk_sub h1]; rfl
  have e2 : (nI (mp_A n) &&& 858993459) + (((nI (mp_A n)).toUInt32 >>> ((2 : Int32).toUInt32 &&& Int32.toUInt32 31)).toInt32 &&& 858993459) = nI (mp_B (mp_A n)) := by
    rw [pk_ushrN h2 2 2 (by decide)]
    show (nI (mp_A n) &&& nI 858993459) + (nI (mp_A n / 2 ^ 2) &&& nI 858993459) = _
    rw [nx_and, nx_and, nI_add]; rfl
  have e3 : (nI (mp_B (mp_A n)) + (((nI (mp_B (mp_A n))).toUInt32 >>> ((4 : Int32).toUInt32 &&& Int32.toUInt32 31)).toInt32)) &&& 252645135 = nI (mp_C (mp_B (mp_A n))) := by
    rw [pk_ushrN h3 4 4 (by decide), nI_add]
    show nI _ &&& nI 252645135 = _
    rw [nx_and]; rfl
  have e4 : ((nI (mp_C (mp_B (mp_A n))) * 16843009).toUInt32 >>> ((24 : Int32).toUInt32 &&& Int32.toUInt32 31)).toInt32 = nI (mb_cn (bt (nI n)) 32) := by
    have e : nI (mp_C (mp_B (mp_A n))) * 16843009 = nI (mp_C (mp_B (mp_A n)) * 16843009 % 4294967296) := by
      show nI _ * nI 16843009 = _
      rw [pk_mul, ← mp_md]
    rw [e, pk_ushrN (Nat.mod_lt _ (by decide)) 24 24 (by decide), show (2 : Nat) ^ 24 = 16777216 from rfl, h5]
    exact congrArg nI (mb_cn_c fun i hi => (mp_bt hi).symm)
  exact nm_r e1 (nm_r e2 (nm_r e3 (by rw [e4]; exact h)))
end
end
section
/-! modes: join, intention, compatible -/
def mm_jn (a b : Int32) : Int32 := if (a = 2 ∧ b = 3) ∨ (a = 3 ∧ b = 2) then 4 else if a ≤ b then b else a
def mm_it (m : Int32) : Int32 := if m = 1 ∨ m = 3 then 1 else 2
def mm_cp (a b : Int32) : Bool := decide (a = 0 ∨ b = 0 ∨ (a ≠ 5 ∧ b ≠ 5 ∧ (a = 1 ∨ b = 1 ∨ (a = 2 ∧ b = 2) ∨ (a = 3 ∧ b = 3))))
def mm_md (x : Int32) : Prop := ∃ m, m < 6 ∧ x = nI m
def mm_m1 (x : Int32) : Prop := ∃ m, 0 < m ∧ m < 6 ∧ x = nI m
theorem mm_idem' : ∀ a, a < 6 → ∀ b, b < 6 → mm_jn (mm_jn (nI a) (nI b)) (nI b) = mm_jn (nI a) (nI b) := by decide +kernel
theorem mm_rng' : ∀ a, a < 6 → ∀ b, b < 6 → mm_jn (nI a) (nI b) = 0 ∨ mm_jn (nI a) (nI b) = 1 ∨ mm_jn (nI a) (nI b) = 2 ∨ mm_jn (nI a) (nI b) = 3 ∨ mm_jn (nI a) (nI b) = 4 ∨ mm_jn (nI a) (nI b) = 5 := by decide +kernel
theorem mm_nz' : ∀ a, a < 6 → ∀ b, b < 6 → 0 < b → ¬ mm_jn (nI a) (nI b) = 0 := by decide +kernel
theorem mm_idem {a b : Int32} (ha : mm_md a) (hb : mm_md b) : mm_jn (mm_jn a b) b = mm_jn a b := by
  obtain ⟨m, h1, rfl⟩ := ha
  obtain ⟨k, h2, rfl⟩ := hb
  exact mm_idem' m h1 k h2
theorem mm_jn_md {a b : Int32} (ha : mm_md a) (hb : mm_md b) : mm_md (mm_jn a b) := by
  obtain ⟨m, h1, rfl⟩ := ha
  obtain ⟨k, h2, rfl⟩ := hb
  rcases mm_rng' m h1 k h2 with e | e | e | e | e | e <;> rw [e]
  · exact ⟨0, by omega, rfl⟩
  · exact ⟨1, by omega, rfl⟩
  · exact ⟨2, by omega, rfl⟩
  · exact ⟨3, by omega, rfl⟩
  · exact ⟨4, by omega, rfl⟩
  · exact ⟨5, by omega, rfl⟩
theorem mm_m1_md {a : Int32} (h : mm_m1 a) : mm_md a := by
  obtain ⟨m, _, h2, h3⟩ := h
  exact ⟨m, h2, h3⟩
theorem mm_jn_m1 {a b : Int32} (ha : mm_md a) (hb : mm_m1 b) : mm_m1 (mm_jn a b) := by
  obtain ⟨k, h1, h2⟩ := mm_jn_md ha (mm_m1_md hb)
  obtain ⟨m, h3, rfl⟩ := ha
  obtain ⟨j, h4, h5, rfl⟩ := hb
  refine ⟨k, ?_, h1, h2⟩
  have := mm_nz' m h3 j h5 h4
  rw [h2] at this
  rcases Nat.eq_zero_or_pos k with z | z
  · subst z; exact absurd rfl this
  · exact z
theorem mm_it_m1 (m : Int32) : mm_m1 (mm_it m) := by
  unfold mm_it
  split
  · exact ⟨1, by omega, by omega, rfl⟩
  · exact ⟨2, by omega, by omega, rfl⟩
theorem mm_cp0 (w : Int32) : mm_cp 0 w = true := by unfold mm_cp; simp
theorem mm_m1_ne {a : Int32} (h : mm_m1 a) : ¬ a = 0 := by
  obtain ⟨m, h1, h2, rfl⟩ := h
  exact nI_ne0 h1 (by omega)
theorem mm_md0 : mm_md 0 := ⟨0, by omega, rfl⟩
theorem mm_md_m1 {a : Int32} (h : mm_md a) (n : ¬ a = 0) : mm_m1 a := by
  obtain ⟨m, h1, rfl⟩ := h
  refine ⟨m, ?_, h1, rfl⟩
  rcases Nat.eq_zero_or_pos m with z | z
  · subst z; exact absurd rfl n
  · exact z
section
variable {xnc xfn xel xlm xwm xtc xsu xco xvi xlv xes : Int32} {xdO xpA xab xbe xrb xfO xeO xic xcu xcm xwr xst xac xpr xbb xdr xok xon xoa xgn xgm xh xni xhn xho xhb xwn xwd xwf xwt xbk xre : Nat → Int32}
theorem mx_join {post : Int32 → Prop} {a b : Int32} (h : post (mm_jn a b)) : wpX_join post (xnc, xfn, xel, xlm, xwm, xtc, xsu, xco, xvi, xlv, xes, xdO, xpA, xab, xbe, xrb, xfO, xeO, xic, xcu, xcm, xwr, xst, xac, xpr, xbb, xdr, xok, xon, xoa, xgn, xgm, xh, xni, xhn, xho, xhb, xwn, xwd, xwf, xwt, xbk, xre) a b := by
  have h22 : ¬ ((a = 2 ∧ b = 3) ∨ (a = 3 ∧ b = 2)) → wX_join_22 post a b xnc xfn xel xlm xwm xtc xsu xco xvi xlv xes xdO xpA xab xbe xrb xfO xeO xic xcu xcm xwr xst xac xpr xbb xdr xok xon xoa xgn xgm xh xni xhn xho xhb xwn xwd xwf xwt xbk xre := fun n => by
    rw [mm_jn, if_neg n] at h
    exact br_c (fun z => by rw [if_pos z] at h; exact h) (fun z => by rw [if_neg z] at h; exact h)
  have h4 : (a = 2 ∧ b = 3) ∨ (a = 3 ∧ b = 2) → post 4 := fun n => by
    rw [mm_jn, if_pos n] at h; exact h
  have h10 : ¬ (a = 2 ∧ b = 3) → wX_join_10 post a b xnc xfn xel xlm xwm xtc xsu xco xvi xlv xes xdO xpA xab xbe xrb xfO xeO xic xcu xcm xwr xst xac xpr xbb xdr xok xon xoa xgn xgm xh xni xhn xho xhb xwn xwd xwf xwt xbk xre := fun n =>
    br_c (fun z => br_c (fun z2 => h4 (Or.inr ⟨z, z2⟩)) (fun z2 => h22 fun q => q.elim n fun q => z2 q.2)) (fun z => h22 fun q => q.elim n fun q => z q.1)
  exact br_c (fun z => br_c (fun z2 => h4 (Or.inl ⟨z, z2⟩)) (fun z2 => h10 fun q => z2 q.2)) (fun z => h10 fun q => z q.1)
theorem mx_intent {post : Int32 → Prop} {m : Int32} (h : post (mm_it m)) : wpX_intent post (xnc, xfn, xel, xlm, xwm, xtc, xsu, xco, xvi, xlv, xes, xdO, xpA, xab, xbe, xrb, xfO, xeO, xic, xcu, xcm, xwr, xst, xac, xpr, xbb, xdr, xok, xon, xoa, xgn, xgm, xh, xni, xhn, xho, xhb, xwn, xwd, xwf, xwt, xbk, xre) m := by
  have h1 : m = 1 ∨ m = 3 → post 1 := fun n => by rw [mm_it, if_pos n] at h; exact h
  have h2 : ¬ (m = 1 ∨ m = 3) → post 2 := fun n => by rw [mm_it, if_neg n] at h; exact h
  exact br_c (fun z => h1 (Or.inl z)) (fun z => br_c (fun y => h1 (Or.inr y)) (fun y => h2 fun q => q.elim z y))
theorem mx_isTxn {post : Int32 → Prop} {t : Int32} (h : post (mb_01 (¬ t < 0 ∧ ¬ 8 ≤ t))) : wpX_isTxn post (xnc, xfn, xel, xlm, xwm, xtc, xsu, xco, xvi, xlv, xes, xdO, xpA, xab, xbe, xrb, xfO, xeO, xic, xcu, xcm, xwr, xst, xac, xpr, xbb, xdr, xok, xon, xoa, xgn, xgm, xh, xni, xhn, xho, xhb, xwn, xwd, xwf, xwt, xbk, xre) t := by
  have T : ¬ t < 0 ∧ ¬ 8 ≤ t → post 1 := fun z => by rw [mb_t z] at h; exact h
  have Fa : ¬ (¬ t < 0 ∧ ¬ 8 ≤ t) → post 0 := fun z => by rw [mb_f z] at h; exact h
  exact br_c (fun z => Fa fun q => q.1 z) (fun z => br_c (fun y => Fa fun q => q.2 y) (fun y => T ⟨z, y⟩))
theorem mx_isNode {post : Int32 → Prop} {t : Int32} (h : post (mb_01 (¬ t < 0 ∧ ¬ xnc ≤ t))) : wpX_isNode post (xnc, xfn, xel, xlm, xwm, xtc, xsu, xco, xvi, xlv, xes, xdO, xpA, xab, xbe, xrb, xfO, xeO, xic, xcu, xcm, xwr, xst, xac, xpr, xbb, xdr, xok, xon, xoa, xgn, xgm, xh, xni, xhn, xho, xhb, xwn, xwd, xwf, xwt, xbk, xre) t := by
  have T : ¬ t < 0 ∧ ¬ xnc ≤ t → post 1 := fun z => by rw [mb_t z] at h; exact h
  have Fa : ¬ (¬ t < 0 ∧ ¬ xnc ≤ t) → post 0 := fun z => by rw [mb_f z] at h; exact h
  exact br_c (fun z => Fa fun q => q.1 z) (fun z => br_c (fun y => Fa fun q => q.2 y) (fun y => T ⟨z, y⟩))
theorem mx_isRow {post : Int32 → Prop} {t : Int32} (h : post (mb_01 (¬ t < xfn ∧ ¬ xnc ≤ t))) : wpX_isRow post (xnc, xfn, xel, xlm, xwm, xtc, xsu, xco, xvi, xlv, xes, xdO, xpA, xab, xbe, xrb, xfO, xeO, xic, xcu, xcm, xwr, xst, xac, xpr, xbb, xdr, xok, xon, xoa, xgn, xgm, xh, xni, xhn, xho, xhb, xwn, xwd, xwf, xwt, xbk, xre) t := by
  have T : ¬ t < xfn ∧ ¬ xnc ≤ t → post 1 := fun z => by rw [mb_t z] at h; exact h
  have Fa : ¬ (¬ t < xfn ∧ ¬ xnc ≤ t) → post 0 := fun z => by rw [mb_f z] at h; exact h
  exact br_c (fun z => Fa fun q => q.1 z) (fun z => br_c (fun y => Fa fun q => q.2 y) (fun y => T ⟨z, y⟩))
theorem mx_isLive {post : Int32 → Prop} {t : Int32} (h : post (mb_01 ((¬ t < 0 ∧ ¬ 8 ≤ t) ∧ ¬ (xlm &&& ((1 : Int32) <<< (t &&& 31))) = 0))) : wpX_isLive post (xnc, xfn, xel, xlm, xwm, xtc, xsu, xco, xvi, xlv, xes, xdO, xpA, xab, xbe, xrb, xfO, xeO, xic, xcu, xcm, xwr, xst, xac, xpr, xbb, xdr, xok, xon, xoa, xgn, xgm, xh, xni, xhn, xho, xhb, xwn, xwd, xwf, xwt, xbk, xre) t := by
  have T : ((¬ t < 0 ∧ ¬ 8 ≤ t) ∧ ¬ (xlm &&& ((1 : Int32) <<< (t &&& 31))) = 0) → post 1 := fun z => by rw [mb_t z] at h; exact h
  have Fa : ¬ ((¬ t < 0 ∧ ¬ 8 ≤ t) ∧ ¬ (xlm &&& ((1 : Int32) <<< (t &&& 31))) = 0) → post 0 := fun z => by rw [mb_f z] at h; exact h
  exact br_c (fun z => Fa fun q => q.1.1 z) (fun z => br_c (fun y => Fa fun q => q.1.2 y) (fun y => br_c (fun w => Fa fun q => q.2 w) (fun w => T ⟨⟨z, y⟩, w⟩)))
end
section
variable {xfn xnc xel : Int32} {ynB ynW : Int64} {xco xvi xlv xes : Int32} {ypa xcu xcm xwr xh xst xac xpr : Nat → Int32} {ybg : Nat → Int64} {ykd xon xoa xgn xgm xwn xwd : Nat → Int32} {ywb : Nat → Int64} {yld : Nat → Int32}
theorem my_join {post : Int32 → Prop} {a b : Int32} (h : post (mm_jn a b)) : wpY_join post (xfn, xnc, xel, ynB, ynW, xco, xvi, xlv, xes, ypa, xcu, xcm, xwr, xh, xst, xac, xpr, ybg, ykd, xon, xoa, xgn, xgm, xwn, xwd, ywb, yld) a b := by
  have h22 : ¬ ((a = 2 ∧ b = 3) ∨ (a = 3 ∧ b = 2)) → wY_join_22 post a b xfn xnc xel ynB ynW xco xvi xlv xes ypa xcu xcm xwr xh xst xac xpr ybg ykd xon xoa xgn xgm xwn xwd ywb yld := fun n => by
    rw [mm_jn, if_neg n] at h
    exact br_c (fun z => by rw [if_pos z] at h; exact h) (fun z => by rw [if_neg z] at h; exact h)
  have h4 : (a = 2 ∧ b = 3) ∨ (a = 3 ∧ b = 2) → post 4 := fun n => by
    rw [mm_jn, if_pos n] at h; exact h
  have h10 : ¬ (a = 2 ∧ b = 3) → wY_join_10 post a b xfn xnc xel ynB ynW xco xvi xlv xes ypa xcu xcm xwr xh xst xac xpr ybg ykd xon xoa xgn xgm xwn xwd ywb yld := fun n =>
    br_c (fun z => br_c (fun z2 => h4 (Or.inr ⟨z, z2⟩)) (fun z2 => h22 fun q => q.elim n fun q => z2 q.2)) (fun z => h22 fun q => q.elim n fun q => z q.1)
  exact br_c (fun z => br_c (fun z2 => h4 (Or.inl ⟨z, z2⟩)) (fun z2 => h10 fun q => z2 q.2)) (fun z => h10 fun q => z q.1)
theorem my_intention {post : Int32 → Prop} {m : Int32} (h : post (mm_it m)) : wpY_intention post (xfn, xnc, xel, ynB, ynW, xco, xvi, xlv, xes, ypa, xcu, xcm, xwr, xh, xst, xac, xpr, ybg, ykd, xon, xoa, xgn, xgm, xwn, xwd, ywb, yld) m := by
  have h1 : m = 1 ∨ m = 3 → post 1 := fun n => by rw [mm_it, if_pos n] at h; exact h
  have h2 : ¬ (m = 1 ∨ m = 3) → post 2 := fun n => by rw [mm_it, if_neg n] at h; exact h
  exact br_c (fun z => h1 (Or.inl z)) (fun z => br_c (fun y => h1 (Or.inr y)) (fun y => h2 fun q => q.elim z y))
theorem my_isTxn {post : Int32 → Prop} {t : Int32} (h : post (mb_01 (¬ t < 0 ∧ ¬ 8 ≤ t))) : wpY_isTxn post (xfn, xnc, xel, ynB, ynW, xco, xvi, xlv, xes, ypa, xcu, xcm, xwr, xh, xst, xac, xpr, ybg, ykd, xon, xoa, xgn, xgm, xwn, xwd, ywb, yld) t := by
  have T : ¬ t < 0 ∧ ¬ 8 ≤ t → post 1 := fun z => by rw [mb_t z] at h; exact h
  have Fa : ¬ (¬ t < 0 ∧ ¬ 8 ≤ t) → post 0 := fun z => by rw [mb_f z] at h; exact h
  exact br_c (fun z => Fa fun q => q.1 z) (fun z => br_c (fun y => Fa fun q => q.2 y) (fun y => T ⟨z, y⟩))
theorem my_isNode {post : Int32 → Prop} {t : Int32} (h : post (mb_01 (¬ t < 0 ∧ ¬ xnc ≤ t))) : wpY_isNode post (xfn, xnc, xel, ynB, ynW, xco, xvi, xlv, xes, ypa, xcu, xcm, xwr, xh, xst, xac, xpr, ybg, ykd, xon, xoa, xgn, xgm, xwn, xwd, ywb, yld) t := by
  have T : ¬ t < 0 ∧ ¬ xnc ≤ t → post 1 := fun z => by rw [mb_t z] at h; exact h
  have Fa : ¬ (¬ t < 0 ∧ ¬ xnc ≤ t) → post 0 := fun z => by rw [mb_f z] at h; exact h
  exact br_c (fun z => Fa fun q => q.1 z) (fun z => br_c (fun y => Fa fun q => q.2 y) (fun y => T ⟨z, y⟩))
theorem my_isRow {post : Int32 → Prop} {t : Int32} (h : post (mb_01 (¬ t < xfn ∧ ¬ xnc ≤ t))) : wpY_isRow post (xfn, xnc, xel, ynB, ynW, xco, xvi, xlv, xes, ypa, xcu, xcm, xwr, xh, xst, xac, xpr, ybg, ykd, xon, xoa, xgn, xgm, xwn, xwd, ywb, yld) t := by
  have T : ¬ t < xfn ∧ ¬ xnc ≤ t → post 1 := fun z => by rw [mb_t z] at h; exact h
  have Fa : ¬ (¬ t < xfn ∧ ¬ xnc ≤ t) → post 0 := fun z => by rw [mb_f z] at h; exact h
  exact br_c (fun z => Fa fun q => q.1 z) (fun z => br_c (fun y => Fa fun q => q.2 y) (fun y => T ⟨z, y⟩))
theorem my_live {post : Int32 → Prop} {t : Nat} (ht : t < 8) (h : post (mb_01 (xst t = 1 ∨ xst t = 2))) : wpY_live post (xfn, xnc, xel, ynB, ynW, xco, xvi, xlv, xes, ypa, xcu, xcm, xwr, xh, xst, xac, xpr, ybg, ykd, xon, xoa, xgn, xgm, xwn, xwd, ywb, yld) (nI t) := by
  have T : (xst t = 1 ∨ xst t = 2) → post 1 := fun z => by rw [mb_t z] at h; exact h
  have Fa : ¬ (xst t = 1 ∨ xst t = 2) → post 0 := fun z => by rw [mb_f z] at h; exact h
  have c : (nI t).toNatClampNeg = t := mb_c (by omega)
  refine ⟨mb_v8 ht, ?_⟩
  rw [c]
  exact br_c (fun z => T (Or.inl z)) (fun z => ⟨mb_v8 ht, br_c (fun y => T (Or.inr y)) (fun y => Fa fun q => q.elim z y)⟩)
theorem my_compat {post : Int32 → Prop} {a b : Int32} (h : post (mb_01 (mm_cp a b = true))) : wpY_compatible post (xfn, xnc, xel, ynB, ynW, xco, xvi, xlv, xes, ypa, xcu, xcm, xwr, xh, xst, xac, xpr, ybg, ykd, xon, xoa, xgn, xgm, xwn, xwd, ywb, yld) a b := by
  have T : mm_cp a b = true → post 1 := fun z => by rw [mb_t z] at h; exact h
  have Fa : ¬ mm_cp a b = true → post 0 := fun z => by rw [mb_f z] at h; exact h
  simp only [mm_cp, decide_eq_true_eq] at T Fa
  have h44 : ¬ a = 0 → ¬ b = 0 → a ≠ 5 → b ≠ 5 → ¬ a = 1 → ¬ b = 1 → ¬ (a = 2 ∧ b = 2) → wY_compatible_44 post a b xfn xnc xel ynB ynW xco xvi xlv xes ypa xcu xcm xwr xh xst xac xpr ybg ykd xon xoa xgn xgm xwn xwd ywb yld := fun z0 z1 z2 z3 z4 z5 n22 =>
    br_c (fun z8 => br_c (fun z9 => T (Or.inr (Or.inr ⟨z2, z3, Or.inr (Or.inr (Or.inr ⟨z8, z9⟩))⟩))) (fun z9 => Fa fun q => q.elim z0 fun q => q.elim z1 fun q => q.2.2.elim z4 fun q => q.elim z5 fun q => q.elim n22 fun q => z9 q.2)) (fun z8 => Fa fun q => q.elim z0 fun q => q.elim z1 fun q => q.2.2.elim z4 fun q => q.elim z5 fun q => q.elim n22 fun q => z8 q.1)
  exact br_c (fun z0 => T (Or.inl z0)) (fun z0 => br_c (fun z1 => T (Or.inr (Or.inl z1))) (fun z1 => br_c (fun z2 => Fa fun q => q.elim z0 fun q => q.elim z1 fun q => q.1 z2) (fun z2 => br_c (fun z3 => Fa fun q => q.elim z0 fun q => q.elim z1 fun q => q.2.1 z3) (fun z3 => br_c (fun z4 => T (Or.inr (Or.inr ⟨z2, z3, Or.inl z4⟩))) (fun z4 => br_c (fun z5 => T (Or.inr (Or.inr ⟨z2, z3, Or.inr (Or.inl z5)⟩))) (fun z5 => br_c (fun z6 => br_c (fun z7 => T (Or.inr (Or.inr ⟨z2, z3, Or.inr (Or.inr (Or.inl ⟨z6, z7⟩))⟩))) (fun z7 => h44 z0 z1 z2 z3 z4 z5 fun q => z7 q.2)) (fun z6 => h44 z0 z1 z2 z3 z4 z5 fun q => z6 q.1)))))))
end
end
section
/-! the tree: what the relation says of it; Y's below, rowOf -/
def mt_bl (dp : Nat → Nat) (pt : Nat → Nat → Nat) (n a : Nat) : Bool := (List.range (dp n)).any fun d => pt n d == a
theorem mt_bl_iff {dp : Nat → Nat} {pt : Nat → Nat → Nat} {n a : Nat} : mt_bl dp pt n a = true ↔ ∃ d, d < dp n ∧ pt n d = a := by
  unfold mt_bl
  simp [List.any_eq_true]
def mt_T (N F : Nat) (dp : Nat → Nat) (pt : Nat → Nat → Nat) (fr er : Nat → Nat) (xnc xfn : Int32) (xdO xpA xab xbe xrb xfO xeO xic ypa : Nat → Int32) : Prop :=
  (xnc = nI N ∧ xfn = nI F ∧ N ≤ 31 ∧ F < N ∧ 0 < F) ∧
  (∀ n, n < N → dp n ≤ 3 ∧ (dp n = 3 ↔ F ≤ n) ∧ pt n (dp n) = n ∧ xdO n = nI (dp n)) ∧
  (∀ n d, n < N → d ≤ dp n → pt n d < N ∧ dp (pt n d) = d ∧ xpA (n * 4 + d) = nI (pt n d) ∧ (d < dp n → pt n d < n)) ∧
  (∀ n d e, n < N → d ≤ dp n → e ≤ d → pt (pt n d) e = pt n e) ∧
  (∀ n a, n < N → bt (xab n) a = mt_bl dp pt n a) ∧
  (∀ n a, a < N → (bt (xbe a) n = true ↔ n < N ∧ mt_bl dp pt n a = true)) ∧
  (∀ n r, n < N → (bt (xrb n) r = true ↔ r < N ∧ F ≤ r ∧ (r = n ∨ mt_bl dp pt r n = true))) ∧
  (∀ n, n < N → xfO n = nI (fr n) ∧ xeO n = nI (er n) ∧ fr n ≤ er n ∧ er n ≤ N ∧ ∀ r, r < N → ((fr n ≤ r ∧ r < er n) ↔ (F ≤ r ∧ (r = n ∨ mt_bl dp pt r n = true)))) ∧
  (∀ n, n < N → (0 < dp n → ypa n = nI (pt n (dp n - 1))) ∧ (dp n = 0 → ypa n = -1)) ∧
  (∀ w m, 0 < w → w < 6 → 0 < m → m < 6 → bt (xic w) m = !mm_cp (nI m) (nI w))
def mi_H (N : Nat) (xh xni xhn xho xhb : Nat → Int32) : Prop :=
  (∀ t n, t < 8 → n < 31 → mm_md (xh (t * 31 + n))) ∧
  (∀ t n, t < 8 → N ≤ n → n < 31 → xh (t * 31 + n) = 0) ∧
  (∀ t m n, t < 8 → 0 < m → m < 6 → (bt (xni (t * 6 + m)) n = true ↔ n < 31 ∧ xh (t * 31 + n) = nI m)) ∧
  (∀ n m t, n < 31 → 0 < m → m < 6 → (bt (xho (n * 6 + m)) t = true ↔ t < 8 ∧ xh (t * 31 + n) = nI m)) ∧
  (∀ t n, t < 8 → (bt (xhn t) n = true ↔ n < 31 ∧ xh (t * 31 + n) ≠ 0)) ∧
  (∀ n t, n < 31 → (bt (xhb n) t = true ↔ t < 8 ∧ xh (t * 31 + n) ≠ 0))
section
variable {N F : Nat} {dp : Nat → Nat} {pt : Nat → Nat → Nat} {fr er : Nat → Nat} {nb nw : Nat} {xnc xfn xel xlm xwm xtc xsu xco xvi xlv xes : Int32} {xdO xpA xab xbe xrb xfO xeO xic xcu xcm xwr xst xac xpr xbb xdr xok xon xoa xgn xgm xh xni xhn xho xhb xwn xwd xwf xwt xbk xre : Nat → Int32} {ynB ynW : Int64} {ypa : Nat → Int32} {ybg : Nat → Int64} {ykd : Nat → Int32} {ywb : Nat → Int64} {yld : Nat → Int32}
theorem mt_N (T : (mt_T N F dp pt fr er xnc xfn xdO xpA xab xbe xrb xfO xeO xic ypa)) : N ≤ 31 := T.1.2.2.1
theorem mt_blN (T : (mt_T N F dp pt fr er xnc xfn xdO xpA xab xbe xrb xfO xeO xic ypa)) {g a : Nat} (hg : g < N) (h : mt_bl dp pt g a = true) : a < N ∧ a < g ∧ dp a < dp g := by
  obtain ⟨d, h1, h2⟩ := mt_bl_iff.mp h
  obtain ⟨k1, k2, k3, k4⟩ := T.2.2.1 g d hg (by omega)
  rw [h2] at k1 k2 k4
  exact ⟨k1, k4 h1, by omega⟩
theorem mt_up (T : (mt_T N F dp pt fr er xnc xfn xdO xpA xab xbe xrb xfO xeO xic ypa)) {m a k : Nat} (hm : m < N) (hk : dp m = k + 1) (ne : pt m k ≠ a) : mt_bl dp pt m a = true ↔ mt_bl dp pt (pt m k) a = true := by
  rw [mt_bl_iff, mt_bl_iff]
  obtain ⟨k1, k2, k3, k4⟩ := T.2.2.1 m k hm (by omega)
  constructor
  · rintro ⟨d, h1, h2⟩
    have : d ≠ k := fun z => ne (by rw [← z]; exact h2)
    exact ⟨d, by omega, by rw [T.2.2.2.1 m k d hm (by omega) (by omega)]; exact h2⟩
  · rintro ⟨d, h1, h2⟩
    rw [k2] at h1
    exact ⟨d, by omega, by rw [T.2.2.2.1 m k d hm (by omega) (by omega)] at h2; exact h2⟩
theorem my_below10 (T : (mt_T N F dp pt fr er xnc xfn xdO xpA xab xbe xrb xfO xeO xic ypa)) {post : Int32 → Prop} {a : Nat} (ha : a < 2 ^ 31) : ∀ (k m i n : Nat), m < N → dp m = k → i + k ≤ 3 → k < n → post (mb_01 (mt_bl dp pt m a = true)) → wY_below_10 post (nI a) xfn xnc xel ynB ynW xco xvi xlv xes ypa xcu xcm xwr xh xst xac xpr ybg ykd xon xoa xgn xgm xwn xwd ywb yld n (ypa m) (nI i) := by
  intro k
  induction k with
  | zero =>
    intro m i n hm hk hi hn h
    obtain ⟨n, rfl⟩ : ∃ j, n = j + 1 := ⟨n - 1, by omega⟩
    have z : ¬ mt_bl dp pt m a = true := fun z => by
      obtain ⟨d, h1, _⟩ := mt_bl_iff.mp z
      omega
    rw [mb_f z] at h
    rw [(T.2.2.2.2.2.2.2.2.1 m hm).2 hk, wY_below_10]
    exact br_c (fun _ => h) (fun _ => br_t (by decide) h)
  | succ k ih =>
    intro m i n hm hk hi hn h
    obtain ⟨n, rfl⟩ : ∃ j, n = j + 1 := ⟨n - 1, by omega⟩
    have e := (T.2.2.2.2.2.2.2.2.1 m hm).1 (by omega)
    rw [hk, Nat.add_sub_cancel] at e
    have hN := mt_N T
    obtain ⟨k1, k2, k3, k4⟩ := T.2.2.1 m k hm (by omega)
    rw [e, wY_below_10]
    refine br_f (nI_ge (b := 3) (by omega) (by decide)) (br_f (nI_pos (by omega)) (br_c (fun z => ?_) (fun z => ?_)))
    · have z := mb_inj (by omega) ha z
      have b : mt_bl dp pt m a = true := mt_bl_iff.mpr ⟨k, by omega, z⟩
      rw [mb_t b] at h
      exact h
    · have z : pt m k ≠ a := fun q => z (by rw [q])
      refine ⟨mb_n31 (by omega), nm_r (e' := ypa (pt m k)) (by rw [mb_c (by omega)]) (nm_r (nI_1 i) (ih (pt m k) (i + 1) n k1 k2 (by omega) (by omega) ?_))⟩
      rw [← mb_cg (mt_up T hm hk z)]
      exact h
theorem my_below (T : (mt_T N F dp pt fr er xnc xfn xdO xpA xab xbe xrb xfO xeO xic ypa)) {post : Int32 → Prop} {m a : Nat} (hm : m < N) (ha : a < 2 ^ 31) (h : post (mb_01 (mt_bl dp pt m a = true))) : wpY_below post (xfn, xnc, xel, ynB, ynW, xco, xvi, xlv, xes, ypa, xcu, xcm, xwr, xh, xst, xac, xpr, ybg, ykd, xon, xoa, xgn, xgm, xwn, xwd, ywb, yld) (nI m) (nI a) := by
  have hN := mt_N T
  have d3 := (T.2.1 m hm).1
  exact ⟨mb_n31 (by omega), nm_r (e' := ypa m) (by rw [mb_c (by omega)]) ⟨4, my_below10 T ha (dp m) m 0 4 hm rfl (by omega) (by omega) h⟩⟩
theorem my_rowOf (T : (mt_T N F dp pt fr er xnc xfn xdO xpA xab xbe xrb xfO xeO xic ypa)) {post : Int32 → Prop} {r n : Nat} (hr : r < N) (hn : n < N) (h : post (mb_01 (fr n ≤ r ∧ r < er n))) : wpY_rowOf post (xfn, xnc, xel, ynB, ynW, xco, xvi, xlv, xes, ypa, xcu, xcm, xwr, xh, xst, xac, xpr, ybg, ykd, xon, xoa, xgn, xgm, xwn, xwd, ywb, yld) (nI r) (nI n) := by
  have hN := mt_N T
  obtain ⟨e1, e2, e3, e4, e5⟩ := T.2.2.2.2.2.2.2.1 n hn
  rw [mb_cg (e5 r hr)] at h
  obtain ⟨q1, q2, q3, q4, q5⟩ := T.1
  have T1 : (F ≤ r ∧ (r = n ∨ mt_bl dp pt r n = true)) → post 1 := fun z => by rw [mb_t z] at h; exact h
  have F0 : ¬ (F ≤ r ∧ (r = n ∨ mt_bl dp pt r n = true)) → post 0 := fun z => by rw [mb_f z] at h; exact h
  refine br_c (fun z => F0 fun q => ?_) (fun z => br_c (fun y => T1 ⟨?_, Or.inl ?_⟩) (fun y => my_below T hr (by omega) (mb_br (fun w => F0 fun q => q.2.elim (fun v => y (by rw [v])) w) (fun w => T1 ⟨?_, Or.inr w⟩))))
  · rw [q2, nI_ltI (by omega) (by omega)] at z; omega
  · rw [q2, nI_ltI (by omega) (by omega)] at z; omega
  · exact mb_inj (by omega) (by omega) y
  · rw [q2, nI_ltI (by omega) (by omega)] at z; omega
end
end
section
/-! goals: satisfied, step node, step mode -/
def mt_sat (N : Nat) (dp : Nat → Nat) (pt : Nat → Nat → Nat) (xh : Nat → Int32) (t g : Nat) (m : Int32) : Prop :=
  mm_jn (xh (t * 31 + g)) m = xh (t * 31 + g) ∨ ∃ a, a < N ∧ mt_bl dp pt g a = true ∧ (xh (t * 31 + a) = 5 ∨ ((m = 1 ∨ m = 3) ∧ (xh (t * 31 + a) = 3 ∨ xh (t * 31 + a) = 4)))
/-- s is the node of the next step -/
def mt_sn (dp : Nat → Nat) (pt : Nat → Nat → Nat) (xh : Nat → Int32) (t g : Nat) (m : Int32) (s : Nat) : Prop :=
  ∃ d, d ≤ dp g ∧ s = pt g d ∧ (∀ e, e < d → mm_jn (xh (t * 31 + pt g e)) (mm_it m) = xh (t * 31 + pt g e)) ∧ (d < dp g → ¬ mm_jn (xh (t * 31 + pt g d)) (mm_it m) = xh (t * 31 + pt g d))
/-- the wanted mode of the step -/
def mt_sm (xh : Nat → Int32) (t g : Nat) (m : Int32) (s : Nat) : Int32 := mm_jn (xh (t * 31 + s)) (if s = g then m else mm_it m)
section
variable {N F : Nat} {dp : Nat → Nat} {pt : Nat → Nat → Nat} {fr er : Nat → Nat} {nb nw : Nat} {xnc xfn xel xlm xwm xtc xsu xco xvi xlv xes : Int32} {xdO xpA xab xbe xrb xfO xeO xic xcu xcm xwr xst xac xpr xbb xdr xok xon xoa xgn xgm xh xni xhn xho xhb xwn xwd xwf xwt xbk xre : Nat → Int32} {ynB ynW : Int64} {ypa : Nat → Int32} {ybg : Nat → Int64} {ykd : Nat → Int32} {ywb : Nat → Int64} {yld : Nat → Int32}
theorem mx_ni (T : (mt_T N F dp pt fr er xnc xfn xdO xpA xab xbe xrb xfO xeO xic ypa)) (H : (mi_H N xh xni xhn xho xhb)) {t g m : Nat} (ht : t < 8) (hg : g < N) (hm : 0 < m) (hm6 : m < 6) : (xni (t * 6 + m) &&& xab g) = 0 ↔ ¬ ∃ a, a < N ∧ mt_bl dp pt g a = true ∧ xh (t * 31 + a) = nI m := by
  rw [mb_eq0]
  have hN := mt_N T
  constructor
  · rintro h ⟨a, h1, h2, h3⟩
    refine h a ?_
    rw [mb_and, H.2.2.1 t m a ht hm hm6, T.2.2.2.2.1 g a hg]
    exact ⟨⟨by omega, h3⟩, h2⟩
  · intro h a z
    rw [mb_and, H.2.2.1 t m a ht hm hm6, T.2.2.2.2.1 g a hg] at z
    exact h ⟨a, (mt_blN T hg z.2).1, z.2, z.1.2⟩
theorem mx_ni2 (T : (mt_T N F dp pt fr er xnc xfn xdO xpA xab xbe xrb xfO xeO xic ypa)) (H : (mi_H N xh xni xhn xho xhb)) {t g : Nat} (ht : t < 8) (hg : g < N) : ((xni (t * 6 + 3) ||| xni (t * 6 + 4)) &&& xab g) = 0 ↔ ¬ ∃ a, a < N ∧ mt_bl dp pt g a = true ∧ (xh (t * 31 + a) = 3 ∨ xh (t * 31 + a) = 4) := by
  rw [mb_eq0]
  have hN := mt_N T
  constructor
  · rintro h ⟨a, h1, h2, h3⟩
    refine h a ?_
    rw [mb_and, mb_or, H.2.2.1 t 3 a ht (by omega) (by omega), H.2.2.1 t 4 a ht (by omega) (by omega), T.2.2.2.2.1 g a hg]
    exact ⟨h3.elim (fun z => Or.inl ⟨by omega, z⟩) (fun z => Or.inr ⟨by omega, z⟩), h2⟩
  · intro h a z
    rw [mb_and, mb_or, H.2.2.1 t 3 a ht (by omega) (by omega), H.2.2.1 t 4 a ht (by omega) (by omega), T.2.2.2.2.1 g a hg] at z
    exact h ⟨a, (mt_blN T hg z.2).1, z.2, z.1.elim (fun q => Or.inl q.2) (fun q => Or.inr q.2)⟩
theorem mx_i5 (t : Nat) (ht : t < 8) : (nI (t * 6) + 5).toNatClampNeg = t * 6 + 5 := by
  show (nI (t * 6) + nI 5).toNatClampNeg = _
  rw [nI_add, nI_clamp (by omega)]
theorem mx_i3 (t : Nat) (ht : t < 8) : (nI (t * 6) + 3).toNatClampNeg = t * 6 + 3 := by
  show (nI (t * 6) + nI 3).toNatClampNeg = _
  rw [nI_add, nI_clamp (by omega)]
theorem mx_i4 (t : Nat) (ht : t < 8) : (nI (t * 6) + 4).toNatClampNeg = t * 6 + 4 := by
  show (nI (t * 6) + nI 4).toNatClampNeg = _
  rw [nI_add, nI_clamp (by omega)]
theorem mx_v5 (t : Nat) (ht : t < 8) : vp_in (nI (t * 6) + 5) 48 := by
  show vp_in (nI (t * 6) + nI 5) 48
  rw [nI_add]; exact vp_in_nI (by omega) (by omega)
theorem mx_v3 (t : Nat) (ht : t < 8) : vp_in (nI (t * 6) + 3) 48 := by
  show vp_in (nI (t * 6) + nI 3) 48
  rw [nI_add]; exact vp_in_nI (by omega) (by omega)
theorem mx_v4 (t : Nat) (ht : t < 8) : vp_in (nI (t * 6) + 4) 48 := by
  show vp_in (nI (t * 6) + nI 4) 48
  rw [nI_add]; exact vp_in_nI (by omega) (by omega)
theorem mx_goalMet (T : (mt_T N F dp pt fr er xnc xfn xdO xpA xab xbe xrb xfO xeO xic ypa)) (H : (mi_H N xh xni xhn xho xhb)) {post : Int32 → Prop} {t g : Nat} {m : Int32} (ht : t < 8) (hg : g < N) (eg : xgn t = nI g) (em : xgm t = m) (h : post (mb_01 (mt_sat N dp pt xh t g m))) : wpX_goalMet post (xnc, xfn, xel, xlm, xwm, xtc, xsu, xco, xvi, xlv, xes, xdO, xpA, xab, xbe, xrb, xfO, xeO, xic, xcu, xcm, xwr, xst, xac, xpr, xbb, xdr, xok, xon, xoa, xgn, xgm, xh, xni, xhn, xho, xhb, xwn, xwd, xwf, xwt, xbk, xre) (nI t) := by
  have hN := mt_N T
  have c : (nI t).toNatClampNeg = t := mb_c (by omega)
  have cg : (nI g).toNatClampNeg = g := mb_c (by omega)
  have T1 : mt_sat N dp pt xh t g m → post 1 := fun z => by rw [mb_t z] at h; exact h
  have F0 : ¬ mt_sat N dp pt xh t g m → post 0 := fun z => by rw [mb_f z] at h; exact h
  have h80 : (m = 1 ∨ m = 3) → ¬ mm_jn (xh (t * 31 + g)) m = xh (t * 31 + g) → (¬ ∃ a, a < N ∧ mt_bl dp pt g a = true ∧ xh (t * 31 + a) = 5) → wX_goalMet_80 post (nI g) (nI (t * 6)) xnc xfn xel xlm xwm xtc xsu xco xvi xlv xes xdO xpA xab xbe xrb xfO xeO xic xcu xcm xwr xst xac xpr xbb xdr xok xon xoa xgn xgm xh xni xhn xho xhb xwn xwd xwf xwt xbk xre := fun m13 nj n5 => by
    refine ⟨mx_v3 t ht, mx_v4 t ht, mb_n31 (by omega), ?_⟩
    rw [mx_i3 t ht, mx_i4 t ht, cg]
    refine br_c (fun z => F0 fun q => ?_) (fun z => T1 (Or.inr ?_))
    · rw [mx_ni2 T H ht hg] at z
      exact q.elim nj fun ⟨a, k1, k2, k3⟩ => k3.elim (fun k => n5 ⟨a, k1, k2, k⟩) (fun k => z ⟨a, k1, k2, k.2⟩)
    · rw [mx_ni2 T H ht hg] at z
      obtain ⟨a, k1, k2, k3⟩ := Classical.not_not.mp z
      exact ⟨a, k1, k2, Or.inr ⟨m13, k3⟩⟩
  refine ⟨mb_v8 ht, nm_r (e' := nI g) (by rw [c, eg]) ⟨mb_v8 ht, nm_r (e' := m) (by rw [c, em]) ⟨mb_v31 ht (by omega), nm_r (e' := xh (t * 31 + g)) (by rw [mb_c31 ht (by omega)]) (mx_join (br_c (fun z => T1 (Or.inl z)) (fun nj => nm_r (mb_m6 t) ⟨mx_v5 t ht, mb_n31 (by omega), ?_⟩)))⟩⟩⟩
  rw [mx_i5 t ht, cg]
  refine br_c (fun z => ?_) (fun z => T1 (Or.inr ?_))
  · rw [mx_ni T H ht hg (by omega) (by omega)] at z
    exact br_c (fun m1 => h80 (Or.inl m1) nj z) (fun m1 => br_c (fun m3 => h80 (Or.inr m3) nj z) (fun m3 => F0 fun q => q.elim nj fun ⟨a, k1, k2, k3⟩ => k3.elim (fun k => z ⟨a, k1, k2, k⟩) (fun k => k.1.elim m1 m3)))
  · rw [mx_ni T H ht hg (by omega) (by omega)] at z
    obtain ⟨a, k1, k2, k3⟩ := Classical.not_not.mp z
    exact ⟨a, k1, k2, Or.inl k3⟩
theorem my_satisfied (T : (mt_T N F dp pt fr er xnc xfn xdO xpA xab xbe xrb xfO xeO xic ypa)) {post : Int32 → Prop} {t g : Nat} {m : Int32} (ht : t < 8) (hg : g < N) (h : post (mb_01 (mt_sat N dp pt xh t g m))) : wpY_satisfied post (xfn, xnc, xel, ynB, ynW, xco, xvi, xlv, xes, ypa, xcu, xcm, xwr, xh, xst, xac, xpr, ybg, ykd, xon, xoa, xgn, xgm, xwn, xwd, ywb, yld) (nI t) (nI g) m := by
  have hN := mt_N T
  obtain ⟨q1, q2, _⟩ := T.1
  have T1 : mt_sat N dp pt xh t g m → post 1 := fun z => by rw [mb_t z] at h; exact h
  have F0 : ¬ mt_sat N dp pt xh t g m → post 0 := fun z => by rw [mb_f z] at h; exact h
  have L : ¬ mm_jn (xh (t * 31 + g)) m = xh (t * 31 + g) → ∀ (d i n : Nat), i + d = N → d < n → (∀ a, a < i → ¬ (mt_bl dp pt g a = true ∧ (xh (t * 31 + a) = 5 ∨ ((m = 1 ∨ m = 3) ∧ (xh (t * 31 + a) = 3 ∨ xh (t * 31 + a) = 4))))) → wY_satisfied_30 post (nI t) (nI g) m xfn xnc xel ynB ynW xco xvi xlv xes ypa xcu xcm xwr xh xst xac xpr ybg ykd xon xoa xgn xgm xwn xwd ywb yld n (nI i) := by
    intro nj d
    induction d with
    | zero =>
      intro i n hi hn hq
      obtain ⟨n, rfl⟩ : ∃ j, n = j + 1 := ⟨n - 1, by omega⟩
      rw [wY_satisfied_30]
      exact br_t (by rw [q1]; exact nI_le (by omega) (by omega)) (F0 fun z => z.elim nj fun ⟨a, k1, k2⟩ => hq a (by omega) k2)
    | succ d ih =>
      intro i n hi hn hq
      obtain ⟨n, rfl⟩ : ∃ j, n = j + 1 := ⟨n - 1, by omega⟩
      rw [wY_satisfied_30]
      have nx : ¬ (mt_bl dp pt g i = true ∧ (xh (t * 31 + i) = 5 ∨ ((m = 1 ∨ m = 3) ∧ (xh (t * 31 + i) = 3 ∨ xh (t * 31 + i) = 4)))) → wY_satisfied_30 post (nI t) (nI g) m xfn xnc xel ynB ynW xco xvi xlv xes ypa xcu xcm xwr xh xst xac xpr ybg ykd xon xoa xgn xgm xwn xwd ywb yld n (nI (i + 1)) := fun z =>
        ih (i + 1) n (by omega) (by omega) fun a ha => by
          rcases Nat.lt_or_ge a i with k | k
          · exact hq a k
          · rw [show a = i by omega]; exact z
      have h81 : mt_bl dp pt g i = true → (m = 1 ∨ m = 3) → ¬ xh (t * 31 + i) = 5 → wY_satisfied_81 post (wY_satisfied_30 post (nI t) (nI g) m xfn xnc xel ynB ynW xco xvi xlv xes ypa xcu xcm xwr xh xst xac xpr ybg ykd xon xoa xgn xgm xwn xwd ywb yld n) (nI t) (nI g) m (nI i) (xh (t * 31 + i)) xfn xnc xel ynB ynW xco xvi xlv xes ypa xcu xcm xwr xh xst xac xpr ybg ykd xon xoa xgn xgm xwn xwd ywb yld := fun b m13 n5 =>
        br_c (fun z => T1 (Or.inr ⟨i, by omega, b, Or.inr ⟨m13, Or.inl z⟩⟩)) (fun z => br_c (fun y => T1 (Or.inr ⟨i, by omega, b, Or.inr ⟨m13, Or.inr y⟩⟩)) (fun y => nm_r (nI_1 i) (nx fun k => k.2.elim n5 fun k => k.2.elim z y)))
      exact br_f (by rw [q1]; exact nI_ge (by omega) (by omega)) (my_below T hg (by omega) (mb_br (fun b => nm_r (nI_1 i) (nx fun k => b k.1)) (fun b => ⟨mb_v31 ht (by omega), nm_r (e' := xh (t * 31 + i)) (by rw [mb_c31 ht (by omega)]) (br_c (fun z => T1 (Or.inr ⟨i, by omega, b, Or.inl z⟩)) (fun n5 => br_c (fun m1 => h81 b (Or.inl m1) n5) (fun m1 => br_c (fun m3 => h81 b (Or.inr m3) n5) (fun m3 => nm_r (nI_1 i) (nx fun k => k.2.elim n5 fun k => k.1.elim m1 m3)))))⟩)))
  exact ⟨mb_v31 ht (by omega), nm_r (e' := xh (t * 31 + g)) (by rw [mb_c31 ht (by omega)]) (my_join (br_c (fun z => T1 (Or.inl z)) (fun nj => ⟨N + 1, L nj N 0 (N + 1) (by omega) (by omega) fun a ha => by omega⟩)))⟩
theorem mx_stepNode (T : (mt_T N F dp pt fr er xnc xfn xdO xpA xab xbe xrb xfO xeO xic ypa)) {post : Int32 → Prop} {t g : Nat} {m : Int32} (ht : t < 8) (hg : g < N) (eg : xgn t = nI g) (em : xgm t = m) (h : ∀ s, mt_sn dp pt xh t g m s → post (nI s)) : wpX_stepNode post (xnc, xfn, xel, xlm, xwm, xtc, xsu, xco, xvi, xlv, xes, xdO, xpA, xab, xbe, xrb, xfO, xeO, xic, xcu, xcm, xwr, xst, xac, xpr, xbb, xdr, xok, xon, xoa, xgn, xgm, xh, xni, xhn, xho, xhb, xwn, xwd, xwf, xwt, xbk, xre) (nI t) := by
  have hN := mt_N T
  have c : (nI t).toNatClampNeg = t := mb_c (by omega)
  have cg : (nI g).toNatClampNeg = g := mb_c (by omega)
  have d3 := T.2.1 g hg
  have L : ∀ (d i n : Nat), i + d = dp g → d < n → (∀ e, e < i → mm_jn (xh (t * 31 + pt g e)) (mm_it m) = xh (t * 31 + pt g e)) → wX_stepNode_29 post (nI t) (nI g) (mm_it m) (nI (dp g)) xnc xfn xel xlm xwm xtc xsu xco xvi xlv xes xdO xpA xab xbe xrb xfO xeO xic xcu xcm xwr xst xac xpr xbb xdr xok xon xoa xgn xgm xh xni xhn xho xhb xwn xwd xwf xwt xbk xre n (nI i) := by
    intro d
    induction d with
    | zero =>
      intro i n hi hn hq
      obtain ⟨n, rfl⟩ : ∃ j, n = j + 1 := ⟨n - 1, by omega⟩
      rw [wX_stepNode_29]
      exact br_t (nI_le (by omega) (by omega)) (h g ⟨i, by omega, by rw [show i = dp g by omega, d3.2.2.1], hq, fun z => by omega⟩)
    | succ d ih =>
      intro i n hi hn hq
      obtain ⟨n, rfl⟩ : ∃ j, n = j + 1 := ⟨n - 1, by omega⟩
      rw [wX_stepNode_29]
      obtain ⟨k1, k2, k3, k4⟩ := T.2.2.1 g i hg (by omega)
      refine br_f (nI_ge (by omega) (by omega)) ⟨mb_v4 (by omega) (by omega), nm_r (e' := nI (pt g i)) (by rw [mb_c4 (by omega) (by omega), k3]) ⟨mb_v31 ht (by omega), nm_r (e' := xh (t * 31 + pt g i)) (by rw [mb_c31 ht (by omega)]) (mx_join (br_c (fun z => nm_r (nI_1 i) (ih (i + 1) n (by omega) (by omega) fun e he => ?_)) (fun z => h (pt g i) ⟨i, by omega, rfl, hq, fun _ => z⟩)))⟩⟩
      rcases Nat.lt_or_ge e i with k | k
      · exact hq e k
      · rw [show e = i by omega]; exact z
  refine ⟨mb_v8 ht, nm_r (e' := nI g) (by rw [c, eg]) ⟨mb_v8 ht, ?_⟩⟩
  rw [c, em]
  exact mx_intent ⟨mb_n31 (by omega), nm_r (e' := nI (dp g)) (by rw [cg, d3.2.2.2]) ⟨dp g + 1, L (dp g) 0 (dp g + 1) (by omega) (by omega) fun e he => by omega⟩⟩
theorem my_stepNode (T : (mt_T N F dp pt fr er xnc xfn xdO xpA xab xbe xrb xfO xeO xic ypa)) {post : Int32 → Prop} {t g s : Nat} {m : Int32} (ht : t < 8) (hg : g < N) (hs : mt_sn dp pt xh t g m s) (h : post (nI s)) : wpY_stepNode post (xfn, xnc, xel, ynB, ynW, xco, xvi, xlv, xes, ypa, xcu, xcm, xwr, xh, xst, xac, xpr, ybg, ykd, xon, xoa, xgn, xgm, xwn, xwd, ywb, yld) (nI t) (nI g) m := by
  have hN := mt_N T
  obtain ⟨d, h1, h2, h3, h4⟩ := hs
  obtain ⟨k1, k2, k3, k4⟩ := T.2.2.1 g d hg h1
  have e3 := (T.2.1 g hg).2.2.1
  have lo : ∀ i, i < s → mt_bl dp pt g i = true → mm_jn (xh (t * 31 + i)) (mm_it m) = xh (t * 31 + i) := by
    intro i hi b
    obtain ⟨e, p1, p2⟩ := mt_bl_iff.mp b
    have : e < d := by
      rcases Nat.lt_or_ge e d with z | z
      · exact z
      · exfalso
        have w := T.2.2.2.1 g e d hg (by omega) z
        obtain ⟨r1, r2, r3, r4⟩ := T.2.2.1 g e hg (by omega)
        rcases Nat.lt_or_ge d e with z2 | z2
        · obtain ⟨s1, s2, s3, s4⟩ := T.2.2.1 (pt g e) d r1 (by omega)
          have := s4 (by omega)
          omega
        · rw [show e = d by omega] at p2
          omega
    rw [← p2]
    exact h3 e this
  have L : ∀ (j i n : Nat), i + j = s → j < n → wY_stepNode_10 post (nI t) (nI g) (mm_it m) xfn xnc xel ynB ynW xco xvi xlv xes ypa xcu xcm xwr xh xst xac xpr ybg ykd xon xoa xgn xgm xwn xwd ywb yld n (nI i) := by
    intro j
    induction j with
    | zero =>
      intro i n hi hn
      obtain ⟨n, rfl⟩ : ∃ j, n = j + 1 := ⟨n - 1, by omega⟩
      rw [wY_stepNode_10]
      rcases Nat.lt_or_ge d (dp g) with z | z
      · have lt := k4 z
        have b : mt_bl dp pt g i = true := mt_bl_iff.mpr ⟨d, z, by omega⟩
        have nj : ¬ mm_jn (xh (t * 31 + i)) (mm_it m) = xh (t * 31 + i) := by rw [show i = pt g d by omega]; exact h4 z
        refine br_f (nI_ge (by omega) (by omega)) ⟨mb_v31 ht (by omega), nm_r (e' := xh (t * 31 + i)) (by rw [mb_c31 ht (by omega)]) (my_below T hg (by omega) (mb_br (fun q => absurd b q) (fun _ => my_join (br_f nj ?_))))⟩
        rw [show i = s by omega]; exact h
      · have : s = g := by rw [h2, show d = dp g by omega, e3]
        rw [show i = s by omega, this]
        rw [this] at h
        exact br_t (nI_le (by omega) (by omega)) h
    | succ j ih =>
      intro i n hi hn
      obtain ⟨n, rfl⟩ : ∃ j, n = j + 1 := ⟨n - 1, by omega⟩
      rw [wY_stepNode_10]
      have sg : s ≤ g := by
        rcases Nat.lt_or_ge d (dp g) with z | z
        · have := k4 z; omega
        · rw [h2, show d = dp g by omega, e3]; omega
      exact br_f (nI_ge (by omega) (by omega)) ⟨mb_v31 ht (by omega), nm_r (e' := xh (t * 31 + i)) (by rw [mb_c31 ht (by omega)]) (my_below T hg (by omega) (mb_br (fun _ => nm_r (nI_1 i) (ih (i + 1) n (by omega) (by omega))) (fun b => my_join (br_t (lo i (by omega) b) (nm_r (nI_1 i) (ih (i + 1) n (by omega) (by omega))))))) ⟩
  unfold wpY_stepNode
  refine my_intention ?_
  exact ⟨s + 1, L s 0 (s + 1) (by omega) (by omega)⟩
theorem mx_stepMode (T : (mt_T N F dp pt fr er xnc xfn xdO xpA xab xbe xrb xfO xeO xic ypa)) {post : Int32 → Prop} {t g s : Nat} {m : Int32} (ht : t < 8) (hg : g < N) (hs : s < N) (eg : xgn t = nI g) (em : xgm t = m) (h : post (mt_sm xh t g m s)) : wpX_stepMode post (xnc, xfn, xel, xlm, xwm, xtc, xsu, xco, xvi, xlv, xes, xdO, xpA, xab, xbe, xrb, xfO, xeO, xic, xcu, xcm, xwr, xst, xac, xpr, xbb, xdr, xok, xon, xoa, xgn, xgm, xh, xni, xhn, xho, xhb, xwn, xwd, xwf, xwt, xbk, xre) (nI t) (nI s) := by
  have hN := mt_N T
  have c : (nI t).toNatClampNeg = t := mb_c (by omega)
  refine ⟨mb_v8 ht, nm_r (e' := m) (by rw [c, em]) ⟨mb_v8 ht, ?_⟩⟩
  rw [c, eg]
  refine br_c (fun z => ?_) (fun z => mx_intent ?_)
  · have z := mb_inj (by omega) (by omega) z
    refine ⟨mb_v31 ht (by omega), mx_join ?_⟩
    rw [mb_c31 ht (by omega)]
    rw [mt_sm, if_pos z] at h
    exact h
  · have z : ¬ s = g := fun q => z (by rw [q])
    refine ⟨mb_v31 ht (by omega), mx_join ?_⟩
    rw [mb_c31 ht (by omega)]
    rw [mt_sm, if_neg z] at h
    exact h
theorem my_stepMode (T : (mt_T N F dp pt fr er xnc xfn xdO xpA xab xbe xrb xfO xeO xic ypa)) {post : Int32 → Prop} {t g s : Nat} {m : Int32} (ht : t < 8) (hg : g < N) (hs : s < N) (h : post (mt_sm xh t g m s)) : wpY_stepMode post (xfn, xnc, xel, ynB, ynW, xco, xvi, xlv, xes, ypa, xcu, xcm, xwr, xh, xst, xac, xpr, ybg, ykd, xon, xoa, xgn, xgm, xwn, xwd, ywb, yld) (nI t) (nI s) (nI g) m := by
  have hN := mt_N T
  refine br_c (fun z => ?_) (fun z => my_intention ?_)
  · have z := mb_inj (by omega) (by omega) z
    refine ⟨mb_v31 ht (by omega), my_join ?_⟩
    rw [mb_c31 ht (by omega)]
    rw [mt_sm, if_pos z] at h
    exact h
  · have z : ¬ s = g := fun q => z (by rw [q])
    refine ⟨mb_v31 ht (by omega), my_join ?_⟩
    rw [mb_c31 ht (by omega)]
    rw [mt_sm, if_neg z] at h
    exact h
end
end
section
/-! held modes: setHeld, releaseNodes, grant -/
def mh_tc (tc : Int32) (h : Nat → Int32) (tc' : Int32) (h' : Nat → Int32) : Prop :=
  (∀ i, bt tc i = true → bt tc' i = true) ∧ (∀ i, i < 31 → bt tc' i = true ∨ ∀ u, u < 8 → h' (u * 31 + i) = h (u * 31 + i))
theorem mh_tc_r (tc : Int32) (h : Nat → Int32) : mh_tc tc h tc h := ⟨fun _ z => z, fun _ _ => Or.inr fun _ _ => rfl⟩
theorem mh_tc_t {tc tc' tc'' : Int32} {h h' h'' : Nat → Int32} (a : mh_tc tc h tc' h') (b : mh_tc tc' h' tc'' h'') : mh_tc tc h tc'' h'' := by
  refine ⟨fun i z => b.1 i (a.1 i z), fun i hi => ?_⟩
  rcases a.2 i hi with z | z
  · exact Or.inl (b.1 i z)
  · rcases b.2 i hi with y | y
    · exact Or.inl y
    · exact Or.inr fun u hu => (y u hu).trans (z u hu)
section
variable {N : Nat} {xh xni xhn xho xhb : Nat → Int32}
theorem mh_n1 (H : (mi_H N xh xni xhn xho xhb)) {t n m0 : Nat} (ht : t < 8) (hn : n < 31) (p0 : 0 < m0) (l0 : m0 < 6) (e0 : xh (t * 31 + n) = nI m0) :
    ∀ t' m n', t' < 8 → 0 < m → m < 6 → (bt (upd xni (t * 6 + m0) (xni (t * 6 + m0) &&& (((1 : Int32) <<< (nI n &&& 31)) ^^^ (-1))) (t' * 6 + m)) n' = true ↔ n' < 31 ∧ xh (t' * 31 + n') = nI m ∧ ¬ (t' = t ∧ n' = n)) := by
  intro t' m n' h1 h2 h3
  by_cases e : t' = t ∧ m = m0
  · obtain ⟨rfl, rfl⟩ := e
    rw [pk_us, mb_clr (by omega), H.2.2.1 t' m n' h1 h2 h3]
    exact ⟨fun q => ⟨q.1.1, q.1.2, fun z => q.2 z.2⟩, fun q => ⟨⟨q.1, q.2.1⟩, fun z => q.2.2 ⟨rfl, z⟩⟩⟩
  · rw [pk_un (fun z => e ((mb_si (by omega) (by omega)).mp z)), H.2.2.1 t' m n' h1 h2 h3]
    refine ⟨fun q => ⟨q.1, q.2, fun z => e ⟨z.1, ?_⟩⟩, fun q => ⟨q.1, q.2.1⟩⟩
    rw [z.1, z.2, e0] at q
    exact (mb_inj (by omega) (by omega) q.2).symm
theorem mh_o1 (H : (mi_H N xh xni xhn xho xhb)) {t n m0 : Nat} (ht : t < 8) (hn : n < 31) (p0 : 0 < m0) (l0 : m0 < 6) (e0 : xh (t * 31 + n) = nI m0) :
    ∀ n' m t', n' < 31 → 0 < m → m < 6 → (bt (upd xho (n * 6 + m0) (xho (n * 6 + m0) &&& (((1 : Int32) <<< (nI t &&& 31)) ^^^ (-1))) (n' * 6 + m)) t' = true ↔ t' < 8 ∧ xh (t' * 31 + n') = nI m ∧ ¬ (t' = t ∧ n' = n)) := by
  intro n' m t' h1 h2 h3
  by_cases e : n' = n ∧ m = m0
  · obtain ⟨rfl, rfl⟩ := e
    rw [pk_us, mb_clr (by omega), H.2.2.2.1 n' m t' h1 h2 h3]
    exact ⟨fun q => ⟨q.1.1, q.1.2, fun z => q.2 z.1⟩, fun q => ⟨⟨q.1, q.2.1⟩, fun z => q.2.2 ⟨z, rfl⟩⟩⟩
  · rw [pk_un (fun z => e ((mb_si (by omega) (by omega)).mp z)), H.2.2.2.1 n' m t' h1 h2 h3]
    refine ⟨fun q => ⟨q.1, q.2, fun z => e ⟨z.2, ?_⟩⟩, fun q => ⟨q.1, q.2.1⟩⟩
    rw [z.1, z.2, e0] at q
    exact (mb_inj (by omega) (by omega) q.2).symm
theorem mh_put {t n : Nat} {w : Int32} (t' n' : Nat) (hn : n < 31) (hn' : n' < 31) : (t' = t ∧ n' = n ∧ upd xh (t * 31 + n) w (t' * 31 + n') = w) ∨ (¬ (t' = t ∧ n' = n) ∧ upd xh (t * 31 + n) w (t' * 31 + n') = xh (t' * 31 + n')) := by
  by_cases e : t' = t ∧ n' = n
  · exact Or.inl ⟨e.1, e.2, by rw [e.1, e.2, pk_us]⟩
  · exact Or.inr ⟨e, pk_un fun z => e ((mb_ti hn' hn).mp z)⟩
/-- the masks behind a change of one held mode -/
theorem mh_fin (H : (mi_H N xh xni xhn xho xhb)) {t n : Nat} {w : Int32} {ni1 ho1 hn1 hb1 : Nat → Int32} (ht : t < 8) (hn : n < 31) (hw : mm_md w) (hz : N ≤ n → w = 0)
    (a1 : ∀ t' m n', t' < 8 → 0 < m → m < 6 → (bt (ni1 (t' * 6 + m)) n' = true ↔ n' < 31 ∧ ((xh (t' * 31 + n') = nI m ∧ ¬ (t' = t ∧ n' = n)) ∨ (t' = t ∧ n' = n ∧ w = nI m))))
    (a2 : ∀ n' m t', n' < 31 → 0 < m → m < 6 → (bt (ho1 (n' * 6 + m)) t' = true ↔ t' < 8 ∧ ((xh (t' * 31 + n') = nI m ∧ ¬ (t' = t ∧ n' = n)) ∨ (t' = t ∧ n' = n ∧ w = nI m))))
    (a3 : ∀ t' n', t' < 8 → (bt (hn1 t') n' = true ↔ n' < 31 ∧ ((xh (t' * 31 + n') ≠ 0 ∧ ¬ (t' = t ∧ n' = n)) ∨ (t' = t ∧ n' = n ∧ w ≠ 0))))
    (a4 : ∀ n' t', n' < 31 → (bt (hb1 n') t' = true ↔ t' < 8 ∧ ((xh (t' * 31 + n') ≠ 0 ∧ ¬ (t' = t ∧ n' = n)) ∨ (t' = t ∧ n' = n ∧ w ≠ 0)))) :
    (mi_H N (upd xh (t * 31 + n) w) ni1 hn1 ho1 hb1) := by
  have key : ∀ (t' n' : Nat) (Q : Int32 → Prop), n' < 31 → ((Q (xh (t' * 31 + n')) ∧ ¬ (t' = t ∧ n' = n)) ∨ (t' = t ∧ n' = n ∧ Q w) ↔ Q (upd xh (t * 31 + n) w (t' * 31 + n'))) := by
    intro t' n' Q hn'
    rcases mh_put (xh := xh) (w := w) t' n' hn hn' with ⟨e1, e2, e3⟩ | ⟨e1, e2⟩
    · rw [e3]
      exact ⟨fun q => q.elim (fun q => absurd ⟨e1, e2⟩ q.2) (fun q => q.2.2), fun q => Or.inr ⟨e1, e2, q⟩⟩
    · rw [e2]
      exact ⟨fun q => q.elim (fun q => q.1) (fun q => absurd ⟨q.1, q.2.1⟩ e1), fun q => Or.inl ⟨q, e1⟩⟩
  refine ⟨fun t' n' h1 h2 => ?_, fun t' n' h1 h2 h3 => ?_, fun t' m n' h1 h2 h3 => ?_, fun n' m t' h1 h2 h3 => ?_, fun t' n' h1 => ?_, fun n' t' h1 => ?_⟩
  · rcases mh_put (xh := xh) (w := w) t' n' hn h2 with ⟨_, _, e3⟩ | ⟨_, e2⟩
    · rw [e3]; exact hw
    · rw [e2]; exact H.1 t' n' h1 h2
  · rcases mh_put (xh := xh) (w := w) t' n' hn h3 with ⟨_, e2, e3⟩ | ⟨_, e2⟩
    · rw [e3]; exact hz (by omega)
    · rw [e2]; exact H.2.1 t' n' h1 h2 h3
  · rw [a1 t' m n' h1 h2 h3]
    exact ⟨fun q => ⟨q.1, (key t' n' (fun z => z = nI m) q.1).mp q.2⟩, fun q => ⟨q.1, (key t' n' (fun z => z = nI m) q.1).mpr q.2⟩⟩
  · rw [a2 n' m t' h1 h2 h3]
    exact ⟨fun q => ⟨q.1, (key t' n' (fun z => z = nI m) h1).mp q.2⟩, fun q => ⟨q.1, (key t' n' (fun z => z = nI m) h1).mpr q.2⟩⟩
  · rw [a3 t' n' h1]
    exact ⟨fun q => ⟨q.1, (key t' n' (fun z => z ≠ 0) q.1).mp q.2⟩, fun q => ⟨q.1, (key t' n' (fun z => z ≠ 0) q.1).mpr q.2⟩⟩
  · rw [a4 n' t' h1]
    exact ⟨fun q => ⟨q.1, (key t' n' (fun z => z ≠ 0) h1).mp q.2⟩, fun q => ⟨q.1, (key t' n' (fun z => z ≠ 0) h1).mpr q.2⟩⟩
end
section
variable {N F : Nat} {dp : Nat → Nat} {pt : Nat → Nat → Nat} {fr er : Nat → Nat} {nb nw : Nat} {xnc xfn xel xlm xwm xtc xsu xco xvi xlv xes : Int32} {xdO xpA xab xbe xrb xfO xeO xic xcu xcm xwr xst xac xpr xbb xdr xok xon xoa xgn xgm xh xni xhn xho xhb xwn xwd xwf xwt xbk xre : Nat → Int32} {ynB ynW : Int64} {ypa : Nat → Int32} {ybg : Nat → Int64} {ykd : Nat → Int32} {ywb : Nat → Int64} {yld : Nat → Int32}
theorem mx_setHeld (H : (mi_H N xh xni xhn xho xhb)) {post : SX → Prop} {t n : Nat} {w : Int32} (ht : t < 8) (hn : n < 31) (hw : mm_md w) (hz : N ≤ n → w = 0)
    (h : ∀ (xtc' : Int32) (xni' xhn' xho' xhb' : Nat → Int32), (mi_H N (upd xh (t * 31 + n) w) xni' xhn' xho' xhb') → mh_tc xtc xh xtc' (upd xh (t * 31 + n) w) → post (xnc, xfn, xel, xlm, xwm, xtc', xsu, xco, xvi, xlv, xes, xdO, xpA, xab, xbe, xrb, xfO, xeO, xic, xcu, xcm, xwr, xst, xac, xpr, xbb, xdr, xok, xon, xoa, xgn, xgm, upd xh (t * 31 + n) w, xni', xhn', xho', xhb', xwn, xwd, xwf, xwt, xbk, xre)) :
    wpX_setHeld post (xnc, xfn, xel, xlm, xwm, xtc, xsu, xco, xvi, xlv, xes, xdO, xpA, xab, xbe, xrb, xfO, xeO, xic, xcu, xcm, xwr, xst, xac, xpr, xbb, xdr, xok, xon, xoa, xgn, xgm, xh, xni, xhn, xho, xhb, xwn, xwd, xwf, xwt, xbk, xre) (nI t) (nI n) w := by
  have c : (nI t).toNatClampNeg = t := mb_c (by omega)
  have cn : (nI n).toNatClampNeg = n := mb_c (by omega)
  have ck : (nI (t * 31 + n)).toNatClampNeg = t * 31 + n := nI_clamp (by omega)
  have vk : vp_in (nI (t * 31 + n)) 248 := vp_in_nI (by omega) (by omega)
  obtain ⟨m0, l0, e0⟩ := H.1 t n ht hn
  have h77 : ∀ ni1 ho1 : Nat → Int32, ¬ nI m0 = w →
      (∀ t' m n', t' < 8 → 0 < m → m < 6 → (bt (ni1 (t' * 6 + m)) n' = true ↔ n' < 31 ∧ xh (t' * 31 + n') = nI m ∧ ¬ (t' = t ∧ n' = n))) →
      (∀ n' m t', n' < 31 → 0 < m → m < 6 → (bt (ho1 (n' * 6 + m)) t' = true ↔ t' < 8 ∧ xh (t' * 31 + n') = nI m ∧ ¬ (t' = t ∧ n' = n))) →
      wX_setHeld_77 post (nI t) (nI n) w (nI (t * 31 + n)) ((1 : Int32) <<< (nI n &&& 31)) ((1 : Int32) <<< (nI t &&& 31)) xnc xfn xel xlm xwm xtc xsu xco xvi xlv xes xdO xpA xab xbe xrb xfO xeO xic xcu xcm xwr xst xac xpr xbb xdr xok xon xoa xgn xgm xh ni1 xhn ho1 xhb xwn xwd xwf xwt xbk xre := by
    intro ni1 ho1 ne b1 b2
    have tc : mh_tc xtc xh (xtc ||| ((1 : Int32) <<< (nI n &&& 31))) (upd xh (t * 31 + n) w) := by
      refine ⟨fun i z => (mb_set (by omega) i).mpr (Or.inl z), fun i hi => ?_⟩
      by_cases e : i = n
      · exact Or.inl ((mb_set (by omega) i).mpr (Or.inr e))
      · exact Or.inr fun u hu => pk_un fun z => e ((mb_ti hi hn).mp z).2
    refine br_c (fun z => ?_) (fun z => ?_)
    · subst z
      refine ⟨mb_v8 ht, mb_v8 ht, nm_r (e' := upd xhn t (xhn t &&& (((1 : Int32) <<< (nI n &&& 31)) ^^^ (-1)))) (by rw [c]) ⟨mb_n31 hn, mb_n31 hn, nm_r (e' := upd xhb n (xhb n &&& (((1 : Int32) <<< (nI t &&& 31)) ^^^ (-1)))) (by rw [cn]) ⟨vk, nm_r (e' := upd xh (t * 31 + n) 0) (by rw [ck]) (nm_e (h _ _ _ _ _ (mh_fin H ht hn hw hz ?_ ?_ ?_ ?_) tc))⟩⟩⟩
      · intro t' m n' h1 h2 h3
        rw [b1 t' m n' h1 h2 h3]
        exact ⟨fun q => ⟨q.1, Or.inl q.2⟩, fun q => ⟨q.1, q.2.elim id fun q => absurd q.2.2.symm (nI_ne0 h2 (by omega))⟩⟩
      · intro n' m t' h1 h2 h3
        rw [b2 n' m t' h1 h2 h3]
        exact ⟨fun q => ⟨q.1, Or.inl q.2⟩, fun q => ⟨q.1, q.2.elim id fun q => absurd q.2.2.symm (nI_ne0 h2 (by omega))⟩⟩
      · intro t' n' h1
        by_cases e : t' = t
        · subst e
          rw [pk_us, mb_clr (by omega), H.2.2.2.2.1 t' n' h1]
          exact ⟨fun q => ⟨q.1.1, Or.inl ⟨q.1.2, fun z => q.2 z.2⟩⟩, fun q => q.2.elim (fun k => ⟨⟨q.1, k.1⟩, fun z => k.2 ⟨rfl, z⟩⟩) (fun k => absurd rfl k.2.2)⟩
        · rw [pk_un e, H.2.2.2.2.1 t' n' h1]
          exact ⟨fun q => ⟨q.1, Or.inl ⟨q.2, fun z => e z.1⟩⟩, fun q => ⟨q.1, q.2.elim (fun k => k.1) (fun k => absurd k.1 e)⟩⟩
      · intro n' t' h1
        by_cases e : n' = n
        · subst e
          rw [pk_us, mb_clr (by omega), H.2.2.2.2.2 n' t' h1]
          exact ⟨fun q => ⟨q.1.1, Or.inl ⟨q.1.2, fun z => q.2 z.1⟩⟩, fun q => q.2.elim (fun k => ⟨⟨q.1, k.1⟩, fun z => k.2 ⟨z, rfl⟩⟩) (fun k => absurd rfl k.2.2)⟩
        · rw [pk_un e, H.2.2.2.2.2 n' t' h1]
          exact ⟨fun q => ⟨q.1, Or.inl ⟨q.2, fun z => e z.2⟩⟩, fun q => ⟨q.1, q.2.elim (fun k => k.1) (fun k => absurd k.2.1 e)⟩⟩
    · obtain ⟨k, k0, k6, rfl⟩ := mm_md_m1 hw z
      refine ⟨mb_v6t ht k6, mb_v6t ht k6, nm_r (e' := upd ni1 (t * 6 + k) (ni1 (t * 6 + k) ||| ((1 : Int32) <<< (nI n &&& 31)))) (by rw [mb_c6 (by omega) k6]) ⟨mb_v6n hn k6, mb_v6n hn k6, nm_r (e' := upd ho1 (n * 6 + k) (ho1 (n * 6 + k) ||| ((1 : Int32) <<< (nI t &&& 31)))) (by rw [mb_c6 hn k6]) ⟨mb_v8 ht, mb_v8 ht, nm_r (e' := upd xhn t (xhn t ||| ((1 : Int32) <<< (nI n &&& 31)))) (by rw [c]) ⟨mb_n31 hn, mb_n31 hn, nm_r (e' := upd xhb n (xhb n ||| ((1 : Int32) <<< (nI t &&& 31)))) (by rw [cn]) ⟨vk, nm_r (e' := upd xh (t * 31 + n) (nI k)) (by rw [ck]) (nm_e (h _ _ _ _ _ (mh_fin H ht hn hw hz ?_ ?_ ?_ ?_) tc))⟩⟩⟩⟩⟩
      · intro t' m n' h1 h2 h3
        by_cases e : t' = t ∧ m = k
        · obtain ⟨rfl, rfl⟩ := e
          rw [pk_us, mb_set (by omega), b1 t' m n' h1 h2 h3]
          exact ⟨fun q => q.elim (fun q => ⟨q.1, Or.inl q.2⟩) (fun q => ⟨by omega, Or.inr ⟨rfl, q, rfl⟩⟩), fun q => q.2.elim (fun k => Or.inl ⟨q.1, k⟩) (fun k => Or.inr k.2.1)⟩
        · rw [pk_un (fun z => e ((mb_si (by omega) (by omega)).mp z)), b1 t' m n' h1 h2 h3]
          exact ⟨fun q => ⟨q.1, Or.inl q.2⟩, fun q => ⟨q.1, q.2.elim id fun q => absurd ⟨q.1, (mb_inj (by omega) (by omega) q.2.2).symm⟩ e⟩⟩
      · intro n' m t' h1 h2 h3
        by_cases e : n' = n ∧ m = k
        · obtain ⟨rfl, rfl⟩ := e
          rw [pk_us, mb_set (by omega), b2 n' m t' h1 h2 h3]
          exact ⟨fun q => q.elim (fun q => ⟨q.1, Or.inl q.2⟩) (fun q => ⟨by omega, Or.inr ⟨q, rfl, rfl⟩⟩), fun q => q.2.elim (fun k => Or.inl ⟨q.1, k⟩) (fun k => Or.inr k.1)⟩
        · rw [pk_un (fun z => e ((mb_si (by omega) (by omega)).mp z)), b2 n' m t' h1 h2 h3]
          exact ⟨fun q => ⟨q.1, Or.inl q.2⟩, fun q => ⟨q.1, q.2.elim id fun q => absurd ⟨q.2.1, (mb_inj (by omega) (by omega) q.2.2).symm⟩ e⟩⟩
      · intro t' n' h1
        by_cases e : t' = t
        · subst e
          rw [pk_us, mb_set (by omega), H.2.2.2.2.1 t' n' h1]
          refine ⟨fun q => q.elim (fun q => ⟨q.1, ?_⟩) (fun q => ⟨by omega, Or.inr ⟨rfl, q, z⟩⟩), fun q => q.2.elim (fun k => Or.inl ⟨q.1, k.1⟩) (fun k => Or.inr k.2.1)⟩
          by_cases e2 : n' = n
          · exact Or.inr ⟨rfl, e2, z⟩
          · exact Or.inl ⟨q.2, fun k => e2 k.2⟩
        · rw [pk_un e, H.2.2.2.2.1 t' n' h1]
          exact ⟨fun q => ⟨q.1, Or.inl ⟨q.2, fun z => e z.1⟩⟩, fun q => ⟨q.1, q.2.elim (fun k => k.1) (fun k => absurd k.1 e)⟩⟩
      · intro n' t' h1
        by_cases e : n' = n
        · subst e
          rw [pk_us, mb_set (by omega), H.2.2.2.2.2 n' t' h1]
          refine ⟨fun q => q.elim (fun q => ⟨q.1, ?_⟩) (fun q => ⟨by omega, Or.inr ⟨q, rfl, z⟩⟩), fun q => q.2.elim (fun k => Or.inl ⟨q.1, k.1⟩) (fun k => Or.inr k.1)⟩
          by_cases e2 : t' = t
          · exact Or.inr ⟨e2, rfl, z⟩
          · exact Or.inl ⟨q.2, fun k => e2 k.1⟩
        · rw [pk_un e, H.2.2.2.2.2 n' t' h1]
          exact ⟨fun q => ⟨q.1, Or.inl ⟨q.2, fun z => e z.2⟩⟩, fun q => ⟨q.1, q.2.elim (fun k => k.1) (fun k => absurd k.2.1 e)⟩⟩
  refine nm_r (mb_i31 t n) ⟨vk, nm_r (e' := nI m0) (by rw [ck, e0]) (br_c (fun z => ?_) (fun z => nm_e (nm_e (br_c (fun z0 => ?_) (fun z0 => ?_)))))⟩
  · have e := mb_ud (f := xh) (k := t * 31 + n) (x := w) (by rw [e0, z])
    have K := h xtc xni xhn xho xhb
    rw [e] at K
    exact K H (mh_tc_r _ _)
  · refine h77 xni xho z (fun t' m n' h1 h2 h3 => ?_) (fun n' m t' h1 h2 h3 => ?_)
    · rw [H.2.2.1 t' m n' h1 h2 h3]
      refine ⟨fun q => ⟨q.1, q.2, fun k => ?_⟩, fun q => ⟨q.1, q.2.1⟩⟩
      rw [k.1, k.2, e0, z0] at q
      exact nI_ne0 h2 (by omega) q.2.symm
    · rw [H.2.2.2.1 n' m t' h1 h2 h3]
      refine ⟨fun q => ⟨q.1, q.2, fun k => ?_⟩, fun q => ⟨q.1, q.2.1⟩⟩
      rw [k.1, k.2, e0, z0] at q
      exact nI_ne0 h2 (by omega) q.2.symm
  · have p0 : 0 < m0 := Nat.pos_of_ne_zero fun q => z0 (by rw [q]; rfl)
    exact ⟨mb_v6t ht l0, mb_v6t ht l0, nm_r (e' := upd xni (t * 6 + m0) (xni (t * 6 + m0) &&& (((1 : Int32) <<< (nI n &&& 31)) ^^^ (-1)))) (by rw [mb_c6 (by omega) l0]) ⟨mb_v6n hn l0, mb_v6n hn l0, nm_r (e' := upd xho (n * 6 + m0) (xho (n * 6 + m0) &&& (((1 : Int32) <<< (nI t &&& 31)) ^^^ (-1)))) (by rw [mb_c6 hn l0]) (h77 _ _ z (mh_n1 H ht hn p0 l0 e0) (mh_o1 H ht hn p0 l0 e0))⟩⟩
end
end
section
/-! releaseNodes, grant -/
def mh_rl (h : Nat → Int32) (t : Nat) (M : Int32) (i : Nat) : Nat → Int32 := fun j => if t * 31 + i ≤ j ∧ j < t * 31 + 31 ∧ bt M (j - t * 31) = true then 0 else h j
theorem mh_rl_31 (h : Nat → Int32) (t : Nat) (M : Int32) : mh_rl h t M 31 = h := by
  funext j
  unfold mh_rl
  rw [if_neg (by omega)]
theorem mh_rl_s0 {h : Nat → Int32} {t : Nat} {M : Int32} {i : Nat} (hb : ¬ bt M i = true) : mh_rl h t M (i + 1) = mh_rl h t M i := by
  funext j
  unfold mh_rl
  by_cases e : j = t * 31 + i
  · rw [if_neg (by omega), if_neg]
    rintro ⟨_, _, k⟩
    rw [e, Nat.add_sub_cancel_left] at k
    exact hb k
  · by_cases k : t * 31 + (i + 1) ≤ j ∧ j < t * 31 + 31 ∧ bt M (j - t * 31) = true
    · rw [if_pos k, if_pos ⟨by omega, k.2⟩]
    · rw [if_neg k, if_neg fun q => k ⟨by omega, q.2⟩]
theorem mh_rl_s1 {h : Nat → Int32} {t : Nat} {M : Int32} {i : Nat} (hi : i < 31) (hb : bt M i = true) : mh_rl (upd h (t * 31 + i) 0) t M (i + 1) = mh_rl h t M i := by
  funext j
  unfold mh_rl
  by_cases e : j = t * 31 + i
  · rw [if_neg (by omega), if_pos ⟨by omega, by omega, by rw [e, Nat.add_sub_cancel_left]; exact hb⟩, e, pk_us]
  · by_cases k : t * 31 + (i + 1) ≤ j ∧ j < t * 31 + 31 ∧ bt M (j - t * 31) = true
    · rw [if_pos k, if_pos ⟨by omega, k.2⟩]
    · rw [if_neg k, if_neg fun q => k ⟨by omega, q.2⟩, pk_un e]
theorem mh_rl_0 (h : Nat → Int32) (t : Nat) (i : Nat) : mh_rl h t 0 i = h := by
  funext j
  unfold mh_rl
  rw [if_neg]
  rintro ⟨_, _, k⟩
  rw [b_0] at k
  exact absurd k (by decide)
/-- the modes of t behind a grant of w on a, up to node i -/
def mh_gi (dp : Nat → Nat) (pt : Nat → Nat → Nat) (h : Nat → Int32) (t a : Nat) (w : Int32) (i : Nat) : Nat → Int32 :=
  fun j => if t * 31 ≤ j ∧ j < t * 31 + i ∧ mt_bl dp pt (j - t * 31) a = true ∧ (w = 5 ∨ ((w = 3 ∨ w = 4) ∧ (h j = 1 ∨ h j = 3))) then 0 else h j
def mh_gr (N : Nat) (dp : Nat → Nat) (pt : Nat → Nat → Nat) (h : Nat → Int32) (t a : Nat) (w : Int32) : Nat → Int32 := mh_gi dp pt (upd h (t * 31 + a) w) t a w N
section
variable {dp : Nat → Nat} {pt : Nat → Nat → Nat} {h : Nat → Int32} {t a i : Nat} {w : Int32}
theorem mh_gi_0 : mh_gi dp pt h t a w 0 = h := by
  funext j
  unfold mh_gi
  rw [if_neg (by omega)]
theorem mh_gi_at : mh_gi dp pt h t a w i (t * 31 + i) = h (t * 31 + i) := by
  unfold mh_gi
  rw [if_neg (by omega)]
theorem mh_gi_s0 (hb : ¬ (mt_bl dp pt i a = true ∧ (w = 5 ∨ ((w = 3 ∨ w = 4) ∧ (h (t * 31 + i) = 1 ∨ h (t * 31 + i) = 3))))) : mh_gi dp pt h t a w (i + 1) = mh_gi dp pt h t a w i := by
  funext j
  unfold mh_gi
  by_cases e : j = t * 31 + i
  · rw [e, Nat.add_sub_cancel_left, if_neg fun q => hb q.2.2, if_neg fun q => hb q.2.2]
  · by_cases k : t * 31 ≤ j ∧ j < t * 31 + i ∧ mt_bl dp pt (j - t * 31) a = true ∧ (w = 5 ∨ ((w = 3 ∨ w = 4) ∧ (h j = 1 ∨ h j = 3)))
    · rw [if_pos k, if_pos ⟨k.1, by omega, k.2.2⟩]
    · rw [if_neg k, if_neg fun q => k ⟨q.1, by omega, q.2.2⟩]
theorem mh_gi_s1 (hb : mt_bl dp pt i a = true ∧ (w = 5 ∨ ((w = 3 ∨ w = 4) ∧ (h (t * 31 + i) = 1 ∨ h (t * 31 + i) = 3)))) : upd (mh_gi dp pt h t a w i) (t * 31 + i) 0 = mh_gi dp pt h t a w (i + 1) := by
  funext j
  by_cases e : j = t * 31 + i
  · rw [e, pk_us]
    unfold mh_gi
    rw [if_pos ⟨by omega, by omega, by rw [Nat.add_sub_cancel_left]; exact hb⟩]
  · rw [pk_un e]
    unfold mh_gi
    by_cases k : t * 31 ≤ j ∧ j < t * 31 + i ∧ mt_bl dp pt (j - t * 31) a = true ∧ (w = 5 ∨ ((w = 3 ∨ w = 4) ∧ (h j = 1 ∨ h j = 3)))
    · rw [if_pos k, if_pos ⟨k.1, by omega, k.2.2⟩]
    · rw [if_neg k, if_neg fun q => k ⟨q.1, by omega, q.2.2⟩]
end
section
variable {N F : Nat} {dp : Nat → Nat} {pt : Nat → Nat → Nat} {fr er : Nat → Nat} {nb nw : Nat} {xnc xfn xel xlm xwm xtc xsu xco xvi xlv xes : Int32} {xdO xpA xab xbe xrb xfO xeO xic xcu xcm xwr xst xac xpr xbb xdr xok xon xoa xgn xgm xh xni xhn xho xhb xwn xwd xwf xwt xbk xre : Nat → Int32} {ynB ynW : Int64} {ypa : Nat → Int32} {ybg : Nat → Int64} {ykd : Nat → Int32} {ywb : Nat → Int64} {yld : Nat → Int32}
theorem mx_rel7 {post : SX → Prop} {t : Nat} {M : Int32} (ht : t < 8) : ∀ (d i n : Nat) (xtc : Int32) (xh xni xhn xho xhb : Nat → Int32), i + d = 31 → d < n → (mi_H N xh xni xhn xho xhb) →
    (∀ (xtc' : Int32) (xni' xhn' xho' xhb' : Nat → Int32), (mi_H N (mh_rl xh t M i) xni' xhn' xho' xhb') → mh_tc xtc xh xtc' (mh_rl xh t M i) → post (xnc, xfn, xel, xlm, xwm, xtc', xsu, xco, xvi, xlv, xes, xdO, xpA, xab, xbe, xrb, xfO, xeO, xic, xcu, xcm, xwr, xst, xac, xpr, xbb, xdr, xok, xon, xoa, xgn, xgm, mh_rl xh t M i, xni', xhn', xho', xhb', xwn, xwd, xwf, xwt, xbk, xre)) →
    wX_releaseNodes_7 post (nI t) M n (nI i) xnc xfn xel xlm xwm xtc xsu xco xvi xlv xes xdO xpA xab xbe xrb xfO xeO xic xcu xcm xwr xst xac xpr xbb xdr xok xon xoa xgn xgm xh xni xhn xho xhb xwn xwd xwf xwt xbk xre := by
  intro d
  induction d with
  | zero =>
    intro i n xtc xh xni xhn xho xhb hi hn H h
    obtain ⟨n, rfl⟩ : ∃ j, n = j + 1 := ⟨n - 1, by omega⟩
    obtain rfl : i = 31 := by omega
    rw [wX_releaseNodes_7]
    have K := h xtc xni xhn xho xhb
    rw [mh_rl_31] at K
    exact br_t (nI_le (a := 31) (by omega) (by omega)) (K H (mh_tc_r _ _))
  | succ d ih =>
    intro i n xtc xh xni xhn xho xhb hi hn H h
    obtain ⟨n, rfl⟩ : ∃ j, n = j + 1 := ⟨n - 1, by omega⟩
    rw [wX_releaseNodes_7]
    refine br_f (nI_ge (b := 31) (by omega) (by decide)) (br_c (fun z => nm_r (nI_1 i) ?_) (fun z => ?_))
    · have z : ¬ bt M i = true := by rw [mb_and0 (by omega)] at z; rw [z]; decide
      refine ih (i + 1) n xtc xh xni xhn xho xhb (by omega) (by omega) H ?_
      rw [mh_rl_s0 z]
      exact h
    · have z : bt M i = true := (mb_and1 (by omega)).mp z
      refine mx_setHeld H ht (by omega) mm_md0 (fun _ => rfl) ?_
      intro xtc' xni' xhn' xho' xhb' H' tc'
      refine nm_r (nI_1 i) (ih (i + 1) n xtc' _ xni' xhn' xho' xhb' (by omega) (by omega) H' ?_)
      rw [mh_rl_s1 (by omega) z]
      intro xtc'' xni'' xhn'' xho'' xhb'' H'' tc''
      exact h _ _ _ _ _ H'' (mh_tc_t tc' tc'')
theorem mx_release (H : (mi_H N xh xni xhn xho xhb)) {post : SX → Prop} {t : Nat} {M : Int32} (ht : t < 8)
    (h : ∀ (xtc' : Int32) (xni' xhn' xho' xhb' : Nat → Int32), (mi_H N (mh_rl xh t M 0) xni' xhn' xho' xhb') → mh_tc xtc xh xtc' (mh_rl xh t M 0) → post (xnc, xfn, xel, xlm, xwm, xtc', xsu, xco, xvi, xlv, xes, xdO, xpA, xab, xbe, xrb, xfO, xeO, xic, xcu, xcm, xwr, xst, xac, xpr, xbb, xdr, xok, xon, xoa, xgn, xgm, mh_rl xh t M 0, xni', xhn', xho', xhb', xwn, xwd, xwf, xwt, xbk, xre)) :
    wpX_releaseNodes post (xnc, xfn, xel, xlm, xwm, xtc, xsu, xco, xvi, xlv, xes, xdO, xpA, xab, xbe, xrb, xfO, xeO, xic, xcu, xcm, xwr, xst, xac, xpr, xbb, xdr, xok, xon, xoa, xgn, xgm, xh, xni, xhn, xho, xhb, xwn, xwd, xwf, xwt, xbk, xre) (nI t) M := by
  refine br_c (fun z => ?_) (fun z => ⟨32, mx_rel7 ht 31 0 32 xtc xh xni xhn xho xhb (by omega) (by omega) H h⟩)
  subst z
  have K := h xtc xni xhn xho xhb
  rw [mh_rl_0] at K
  exact K H (mh_tc_r _ _)
theorem mh_same (T : (mt_T N F dp pt fr er xnc xfn xdO xpA xab xbe xrb xfO xeO xic ypa)) (H : (mi_H N xh xni xhn xho xhb)) {t a : Nat} {w M : Int32} (ht : t < 8) (ha : a < N)
    (hM : ∀ n, n < N → mt_bl dp pt n a = true → (bt M n = true ↔ (w = 5 ∧ xh (t * 31 + n) ≠ 0) ∨ ((w = 3 ∨ w = 4) ∧ (xh (t * 31 + n) = 1 ∨ xh (t * 31 + n) = 3)))) :
    mh_rl xh t (M &&& xbe a) 0 = mh_gi dp pt xh t a w N := by
  have hN := mt_N T
  funext j
  unfold mh_rl mh_gi
  by_cases k : t * 31 ≤ j ∧ j < t * 31 + N ∧ mt_bl dp pt (j - t * 31) a = true
  · obtain ⟨n, rfl⟩ : ∃ n, j = t * 31 + n := ⟨j - t * 31, by omega⟩
    rw [Nat.add_sub_cancel_left] at k ⊢
    have b : bt (xbe a) n = true := (T.2.2.2.2.2.1 n a ha).mpr ⟨by omega, k.2.2⟩
    have m := hM n (by omega) k.2.2
    by_cases c : w = 5 ∨ ((w = 3 ∨ w = 4) ∧ (xh (t * 31 + n) = 1 ∨ xh (t * 31 + n) = 3))
    · rw [if_pos (c := t * 31 ≤ t * 31 + n ∧ _) ⟨k.1, k.2.1, k.2.2, c⟩]
      by_cases z : xh (t * 31 + n) = 0
      · split
        · rfl
        · exact z
      · rw [if_pos ⟨by omega, by omega, (mb_and n).mpr ⟨m.mpr (c.elim (fun q => Or.inl ⟨q, z⟩) Or.inr), b⟩⟩]
    · rw [if_neg (c := t * 31 ≤ t * 31 + n ∧ _) fun q => c q.2.2.2, if_neg]
      rintro ⟨_, _, q⟩
      exact c ((m.mp ((mb_and n).mp q).1).elim (fun z => Or.inl z.1) Or.inr)
  · rw [if_neg (c := t * 31 ≤ j ∧ _) fun q => k ⟨q.1, q.2.1, q.2.2.1⟩, if_neg]
    rintro ⟨q1, q2, q3⟩
    have := (T.2.2.2.2.2.1 _ a ha).mp ((mb_and _).mp q3).2
    exact k ⟨by omega, by omega, this.2⟩
theorem mx_grant (T : (mt_T N F dp pt fr er xnc xfn xdO xpA xab xbe xrb xfO xeO xic ypa)) (H : (mi_H N xh xni xhn xho xhb)) {post : SX → Prop} {t a : Nat} {w : Int32} (ht : t < 8) (ha : a < N) (hw : mm_md w)
    (h : ∀ (xtc' : Int32) (xni' xhn' xho' xhb' : Nat → Int32), (mi_H N (mh_gr N dp pt xh t a w) xni' xhn' xho' xhb') → mh_tc xtc xh xtc' (mh_gr N dp pt xh t a w) → post (xnc, xfn, xel, xlm, xwm, xtc', xsu, xco, xvi, xlv, xes, xdO, xpA, xab, xbe, xrb, xfO, xeO, xic, xcu, xcm, xwr, xst, xac, xpr, xbb, xdr, xok, xon, xoa, xgn, xgm, mh_gr N dp pt xh t a w, xni', xhn', xho', xhb', xwn, xwd, xwf, xwt, xbk, xre)) :
    wpX_grant post (xnc, xfn, xel, xlm, xwm, xtc, xsu, xco, xvi, xlv, xes, xdO, xpA, xab, xbe, xrb, xfO, xeO, xic, xcu, xcm, xwr, xst, xac, xpr, xbb, xdr, xok, xon, xoa, xgn, xgm, xh, xni, xhn, xho, xhb, xwn, xwd, xwf, xwt, xbk, xre) (nI t) (nI a) w := by
  have hN := mt_N T
  have c : (nI t).toNatClampNeg = t := mb_c (by omega)
  have ca : (nI a).toNatClampNeg = a := mb_c (by omega)
  unfold wpX_grant
  refine mx_setHeld H ht (by omega) hw (fun _ => by omega) ?_
  intro xtc' xni' xhn' xho' xhb' H' tc'
  have h61 : ∀ M : Int32, (∀ n, n < N → mt_bl dp pt n a = true → (bt M n = true ↔ (w = 5 ∧ upd xh (t * 31 + a) w (t * 31 + n) ≠ 0) ∨ ((w = 3 ∨ w = 4) ∧ (upd xh (t * 31 + a) w (t * 31 + n) = 1 ∨ upd xh (t * 31 + a) w (t * 31 + n) = 3)))) →
      wX_grant_61 post (nI t) (nI a) M xnc xfn xel xlm xwm xtc' xsu xco xvi xlv xes xdO xpA xab xbe xrb xfO xeO xic xcu xcm xwr xst xac xpr xbb xdr xok xon xoa xgn xgm (upd xh (t * 31 + a) w) xni' xhn' xho' xhb' xwn xwd xwf xwt xbk xre := by
    intro M hM
    refine ⟨mb_n31 (by omega), ?_⟩
    rw [ca]
    refine mx_release H' ht ?_
    rw [mh_same T H' ht ha hM]
    intro xtc'' xni'' xhn'' xho'' xhb'' H'' tc''
    exact h _ _ _ _ _ H'' (mh_tc_t tc' tc'')
  have c1 : (nI t * 6 + 1).toNatClampNeg = t * 6 + 1 := mb_c6 (t := t) (n := 1) (by omega) (by omega)
  have c3 : (nI t * 6 + 3).toNatClampNeg = t * 6 + 3 := mb_c6 (t := t) (n := 3) (by omega) (by omega)
  have v1 : vp_in (nI t * 6 + 1) 48 := mb_v6t (t := t) (n := 1) (by omega) (by omega)
  have v3 : vp_in (nI t * 6 + 3) 48 := mb_v6t (t := t) (n := 3) (by omega) (by omega)
  have h36 : ¬ w = 5 → (w = 3 ∨ w = 4) → wX_grant_36 post (nI t) (nI a) xnc xfn xel xlm xwm xtc' xsu xco xvi xlv xes xdO xpA xab xbe xrb xfO xeO xic xcu xcm xwr xst xac xpr xbb xdr xok xon xoa xgn xgm (upd xh (t * 31 + a) w) xni' xhn' xho' xhb' xwn xwd xwf xwt xbk xre := by
    intro n5 w34
    refine ⟨v1, v3, nm_r (e' := xni' (t * 6 + 1) ||| xni' (t * 6 + 3)) (by rw [c1, c3]) (h61 _ fun n hn b => ?_)⟩
    rw [mb_or, H'.2.2.1 t 1 n ht (by omega) (by omega), H'.2.2.1 t 3 n ht (by omega) (by omega)]
    exact ⟨fun q => Or.inr ⟨w34, q.elim (fun z => Or.inl z.2) (fun z => Or.inr z.2)⟩, fun q => q.elim (fun z => absurd z.1 n5) (fun z => z.2.elim (fun y => Or.inl ⟨by omega, y⟩) (fun y => Or.inr ⟨by omega, y⟩))⟩
  refine br_c (fun z => ⟨mb_v8 ht, nm_r (e' := xhn' t) (by rw [c]) (h61 _ fun n hn b => ?_)⟩) (fun z5 => br_c (fun z3 => h36 z5 (Or.inl z3)) (fun z3 => br_c (fun z4 => h36 z5 (Or.inr z4)) (fun z4 => h61 _ fun n hn b => ?_)))
  · rw [H'.2.2.2.2.1 t n ht]
    exact ⟨fun q => Or.inl ⟨z, q.2⟩, fun q => q.elim (fun y => ⟨by omega, y.2⟩) (fun y => by
      refine ⟨by omega, fun k => ?_⟩
      rw [k] at y
      exact y.2.elim (fun e => absurd e (by decide)) (fun e => absurd e (by decide)))⟩
  · rw [b_0]
    exact ⟨fun q => absurd q (by decide), fun q => q.elim (fun y => absurd y.1 z5) (fun y => y.1.elim (fun e => absurd e z3) (fun e => absurd e z4))⟩
theorem my_grant (T : (mt_T N F dp pt fr er xnc xfn xdO xpA xab xbe xrb xfO xeO xic ypa)) {post : SY → Prop} {t a : Nat} {w : Int32} (ht : t < 8) (ha : a < N)
    (h : post (xfn, xnc, xel, ynB, ynW, xco, xvi, xlv, xes, ypa, xcu, xcm, xwr, mh_gr N dp pt xh t a w, xst, xac, xpr, ybg, ykd, xon, xoa, xgn, xgm, xwn, xwd, ywb, yld)) : wpY_grant post (xfn, xnc, xel, ynB, ynW, xco, xvi, xlv, xes, ypa, xcu, xcm, xwr, xh, xst, xac, xpr, ybg, ykd, xon, xoa, xgn, xgm, xwn, xwd, ywb, yld) (nI t) (nI a) w := by
  have hN := mt_N T
  obtain ⟨q1, q2, _⟩ := T.1
  have L : ∀ (d i n : Nat), i + d = N → d < n → wY_grant_15 post (nI t) (nI a) w xfn xnc xel ynB ynW xco xvi xlv xes n (nI i) ypa xcu xcm xwr (mh_gi dp pt (upd xh (t * 31 + a) w) t a w i) xst xac xpr ybg ykd xon xoa xgn xgm xwn xwd ywb yld := by
    intro d
    induction d with
    | zero =>
      intro i n hi hn
      obtain ⟨n, rfl⟩ : ∃ j, n = j + 1 := ⟨n - 1, by omega⟩
      rw [wY_grant_15]
      refine br_t (by rw [q1]; exact nI_le (by omega) (by omega)) ?_
      rw [show i = N by omega]
      exact h
    | succ d ih =>
      intro i n hi hn
      obtain ⟨n, rfl⟩ : ∃ j, n = j + 1 := ⟨n - 1, by omega⟩
      rw [wY_grant_15]
      have nx := ih (i + 1) n (by omega) (by omega)
      have h75 : (mt_bl dp pt i a = true ∧ (w = 5 ∨ ((w = 3 ∨ w = 4) ∧ (upd xh (t * 31 + a) w (t * 31 + i) = 1 ∨ upd xh (t * 31 + a) w (t * 31 + i) = 3)))) → wY_grant_75 post (wY_grant_15 post (nI t) (nI a) w xfn xnc xel ynB ynW xco xvi xlv xes n) (nI t) (nI a) w (nI i) xfn xnc xel ynB ynW xco xvi xlv xes ypa xcu xcm xwr (mh_gi dp pt (upd xh (t * 31 + a) w) t a w i) xst xac xpr ybg ykd xon xoa xgn xgm xwn xwd ywb yld := fun b =>
        ⟨mb_v31 ht (by omega), nm_r (e' := mh_gi dp pt (upd xh (t * 31 + a) w) t a w (i + 1)) (by rw [mb_c31 ht (by omega), mh_gi_s1 b]) (nm_r (nI_1 i) nx)⟩
      have n0 : ¬ (mt_bl dp pt i a = true ∧ (w = 5 ∨ ((w = 3 ∨ w = 4) ∧ (upd xh (t * 31 + a) w (t * 31 + i) = 1 ∨ upd xh (t * 31 + a) w (t * 31 + i) = 3)))) → wY_grant_15 post (nI t) (nI a) w xfn xnc xel ynB ynW xco xvi xlv xes n (nI (i + 1)) ypa xcu xcm xwr (mh_gi dp pt (upd xh (t * 31 + a) w) t a w i) xst xac xpr ybg ykd xon xoa xgn xgm xwn xwd ywb yld := fun b => by
        rw [mh_gi_s0 b] at nx; exact nx
      have h63 : mt_bl dp pt i a = true → ¬ w = 5 → (w = 3 ∨ w = 4) → wY_grant_63 post (wY_grant_15 post (nI t) (nI a) w xfn xnc xel ynB ynW xco xvi xlv xes n) (nI t) (nI a) w (nI i) (upd xh (t * 31 + a) w (t * 31 + i)) xfn xnc xel ynB ynW xco xvi xlv xes ypa xcu xcm xwr (mh_gi dp pt (upd xh (t * 31 + a) w) t a w i) xst xac xpr ybg ykd xon xoa xgn xgm xwn xwd ywb yld := fun b n5 w34 =>
        br_c (fun z => h75 ⟨b, Or.inr ⟨w34, Or.inl z⟩⟩) (fun z => br_c (fun y => h75 ⟨b, Or.inr ⟨w34, Or.inr y⟩⟩) (fun y => nm_r (nI_1 i) (n0 fun k => k.2.elim n5 fun k => k.2.elim z y)))
      exact br_f (by rw [q1]; exact nI_ge (by omega) (by omega)) (my_below T (by omega) (by omega) (mb_br (fun b => nm_r (nI_1 i) (n0 fun k => b k.1)) (fun b => ⟨mb_v31 ht (by omega), nm_r (e' := upd xh (t * 31 + a) w (t * 31 + i)) (by rw [mb_c31 ht (by omega), mh_gi_at]) (br_c (fun z => h75 ⟨b, Or.inl z⟩) (fun n5 => br_c (fun z => h63 b n5 (Or.inl z)) (fun n3 => br_c (fun z => h63 b n5 (Or.inr z)) (fun n4 => nm_r (nI_1 i) (n0 fun k => k.2.elim n5 fun k => k.1.elim n3 n4)))))⟩)))
  have L0 := L N 0 (N + 1) (by omega) (by omega)
  rw [mh_gi_0] at L0
  exact ⟨mb_v31 ht (by omega), nm_r (e' := upd xh (t * 31 + a) w) (by rw [mb_c31 ht (by omega)]) ⟨N + 1, L0⟩⟩
end
end
section
/-! waits: the relation of blocking, blockersOf, blocks, free -/
def mw_bk (xh xst xwn xwd : Nat → Int32) (ywb : Nat → Int64) (t a : Nat) (w : Int32) (s : Int64) (u : Nat) : Prop :=
  t ≠ u ∧ (mm_cp (xh (u * 31 + a)) w = false ∨ (xh (t * 31 + a) = 0 ∧ xst u = 2 ∧ xwn u = nI a ∧ mm_cp (xwd u) w = false ∧ (xh (u * 31 + a) ≠ 0 ∨ ywb u < s)))
def mi_W (N nw : Nat) (xwm : Int32) (xst xwn xwd xwf xwt : Nat → Int32) (ynW : Int64) (ywb : Nat → Int64) : Prop :=
  (ynW = lN nw ∧ nw < 2 ^ 31) ∧
  (∀ t, bt xwm t = true ↔ t < 8 ∧ xst t = 2) ∧
  (∀ t, t < 8 → xst t = 2 → (∃ a, a < N ∧ xwn t = nI a) ∧ mm_m1 (xwd t) ∧ (ywb t).toInt < nw ∧ ∀ u, bt (xwf t) u = true ↔ u < 8 ∧ xst u = 2 ∧ ywb u < ywb t) ∧
  (∀ n m t, n < 31 → 0 < m → m < 6 → (bt (xwt (n * 6 + m)) t = true ↔ t < 8 ∧ xst t = 2 ∧ xwn t = nI n ∧ xwd t = nI m)) ∧
  (∀ t u, t < 8 → u < 8 → xst t = 2 → xst u = 2 → ywb t = ywb u → t = u)
def mi_Z (xst xh : Nat → Int32) : Prop :=
  (∀ t, t < 8 → xst t = 0 ∨ xst t = 1 ∨ xst t = 2 ∨ xst t = 3) ∧ (∀ t n, t < 8 → n < 31 → xst t ≠ 1 → xst t ≠ 2 → xh (t * 31 + n) = 0)
section
variable {N F : Nat} {dp : Nat → Nat} {pt : Nat → Nat → Nat} {fr er : Nat → Nat} {nb nw : Nat} {xnc xfn xel xlm xwm xtc xsu xco xvi xlv xes : Int32} {xdO xpA xab xbe xrb xfO xeO xic xcu xcm xwr xst xac xpr xbb xdr xok xon xoa xgn xgm xh xni xhn xho xhb xwn xwd xwf xwt xbk xre : Nat → Int32} {ynB ynW : Int64} {ypa : Nat → Int32} {ybg : Nat → Int64} {ykd : Nat → Int32} {ywb : Nat → Int64} {yld : Nat → Int32}
theorem mx_bOf23 (T : (mt_T N F dp pt fr er xnc xfn xdO xpA xab xbe xrb xfO xeO xic ypa)) (H : (mi_H N xh xni xhn xho xhb)) (W : (mi_W N nw xwm xst xwn xwd xwf xwt ynW ywb)) {post : Int32 → Prop} {t a k : Nat} {E : Int32} {s : Int64} (ht : t < 8) (ha : a < N) (k0 : 0 < k) (k6 : k < 6)
    (hE : ∀ u, u < 8 → xst u = 2 → (bt E u = true ↔ ywb u < s))
    (h : ∀ M, (∀ u, bt M u = true ↔ u < 8 ∧ mw_bk xh xst xwn xwd ywb t a (nI k) s u) → post M) :
    ∀ (d i n : Nat) (hd qd : Int32), 0 < i → i + d = 6 → d < n →
      (∀ u, bt hd u = true ↔ u < 8 ∧ ∃ m, 0 < m ∧ m < i ∧ mm_cp (nI m) (nI k) = false ∧ xh (u * 31 + a) = nI m) →
      (∀ u, bt qd u = true ↔ u < 8 ∧ xst u = 2 ∧ xwn u = nI a ∧ ∃ m, 0 < m ∧ m < i ∧ mm_cp (nI m) (nI k) = false ∧ xwd u = nI m) →
      wX_blockersOf_23 post (nI t) (nI a) E (xic k) (nI (a * 6)) xnc xfn xel xlm xwm xtc xsu xco xvi xlv xes xdO xpA xab xbe xrb xfO xeO xic xcu xcm xwr xst xac xpr xbb xdr xok xon xoa xgn xgm xh xni xhn xho xhb xwn xwd xwf xwt xbk xre n hd qd (nI i) := by
  have hN := mt_N T
  intro d
  induction d with
  | zero =>
    intro i n hd qd i0 hi hn ih iq
    obtain ⟨n, rfl⟩ : ∃ j, n = j + 1 := ⟨n - 1, by omega⟩
    obtain rfl : i = 6 := by omega
    have e1 : ∀ u, bt hd u = true ↔ u < 8 ∧ mm_cp (xh (u * 31 + a)) (nI k) = false := by
      intro u
      rw [ih u]
      constructor
      · rintro ⟨h1, m, h2, h3, h4, h5⟩
        exact ⟨h1, by rw [h5]; exact h4⟩
      · rintro ⟨h1, h2⟩
        obtain ⟨m, h3, h4⟩ := H.1 u a h1 (by omega)
        rw [h4] at h2
        refine ⟨h1, m, Nat.pos_of_ne_zero fun z => ?_, h3, h2, h4⟩
        rw [z] at h2
        exact absurd ((mm_cp0 (nI k)).symm.trans h2) (by decide)
    have e2 : ∀ u, bt qd u = true ↔ u < 8 ∧ xst u = 2 ∧ xwn u = nI a ∧ mm_cp (xwd u) (nI k) = false := by
      intro u
      rw [iq u]
      constructor
      · rintro ⟨h1, h2, h3, m, h4, h5, h6, h7⟩
        exact ⟨h1, h2, h3, by rw [h7]; exact h6⟩
      · rintro ⟨h1, h2, h3, h4⟩
        obtain ⟨_, ⟨m, h5, h6, h7⟩, _⟩ := W.2.2.1 u h1 h2
        rw [h7] at h4
        exact ⟨h1, h2, h3, m, h5, h6, h4, h7⟩
    rw [wX_blockersOf_23]
    refine br_t (nI_lt (a := 5) (by omega) (by decide)) ⟨mb_v31 ht (by omega), ?_⟩
    rw [mb_c31 ht (by omega)]
    refine br_c (fun z => ⟨mb_n31 (by omega), nm_e (h _ fun u => ?_)⟩) (fun z => h _ fun u => ?_)
    · rw [mb_c (by omega), mb_clr (by omega), mb_or, mb_and, mb_or, e1, e2, H.2.2.2.2.2 a u (by omega)]
      constructor
      · rintro ⟨q | ⟨q, p⟩, ne⟩
        · exact ⟨q.1, fun z => ne z.symm, Or.inl q.2⟩
        · refine ⟨q.1, fun z => ne z.symm, Or.inr ⟨z, q.2.1, q.2.2.1, q.2.2.2, ?_⟩⟩
          rcases p with p | p
          · exact Or.inl p.2
          · exact Or.inr ((hE u q.1 q.2.1).mp p)
      · rintro ⟨q, ne, p | p⟩
        · exact ⟨Or.inl ⟨q, p⟩, fun z => ne z.symm⟩
        · refine ⟨Or.inr ⟨⟨q, p.2.1, p.2.2.1, p.2.2.2.1⟩, ?_⟩, fun z => ne z.symm⟩
          rcases p.2.2.2.2 with r | r
          · exact Or.inl ⟨q, r⟩
          · exact Or.inr ((hE u q p.2.1).mpr r)
    · rw [mb_clr (by omega), e1]
      constructor
      · rintro ⟨q, ne⟩
        exact ⟨q.1, fun z => ne z.symm, Or.inl q.2⟩
      · rintro ⟨q, ne, p | p⟩
        · exact ⟨⟨q, p⟩, fun z => ne z.symm⟩
        · exact absurd p.1 z
  | succ d hyp =>
    intro i n hd qd i0 hi hn ih iq
    obtain ⟨n, rfl⟩ : ∃ j, n = j + 1 := ⟨n - 1, by omega⟩
    rw [wX_blockersOf_23]
    have ec : (nI (a * 6) + nI i).toNatClampNeg = a * 6 + i := by rw [nI_add, nI_clamp (by omega)]
    have ev : vp_in (nI (a * 6) + nI i) 186 := by rw [nI_add]; exact vp_in_nI (by omega) (by omega)
    have bad := T.2.2.2.2.2.2.2.2.2 k i k0 k6 i0 (by omega)
    refine br_f (nI_nlt (a := 5) (b := i) (by omega) (by omega)) (br_c (fun z => nm_r (nI_1 i) (hyp (i + 1) n hd qd (by omega) (by omega) (by omega) (fun u => ?_) (fun u => ?_))) (fun z => ⟨ev, nm_r (e' := hd ||| xho (a * 6 + i)) (by rw [ec]) ⟨ev, nm_r (e' := qd ||| xwt (a * 6 + i)) (by rw [ec]) (nm_r (nI_1 i) (hyp (i + 1) n _ _ (by omega) (by omega) (by omega) (fun u => ?_) (fun u => ?_)))⟩⟩))
    · rw [mb_and0 (by omega), bad, Bool.not_eq_false'] at z
      rw [ih u]
      constructor
      · rintro ⟨h1, m, h2, h3, h4⟩
        exact ⟨h1, m, h2, by omega, h4⟩
      · rintro ⟨h1, m, h2, h3, h4⟩
        refine ⟨h1, m, h2, ?_, h4⟩
        rcases Nat.lt_or_ge m i with q | q
        · exact q
        · rw [show m = i by omega, z] at h4
          exact absurd h4.1 (by decide)
    · rw [mb_and0 (by omega), bad, Bool.not_eq_false'] at z
      rw [iq u]
      constructor
      · rintro ⟨h1, r1, r2, m, h2, h3, h4⟩
        exact ⟨h1, r1, r2, m, h2, by omega, h4⟩
      · rintro ⟨h1, r1, r2, m, h2, h3, h4⟩
        refine ⟨h1, r1, r2, m, h2, ?_, h4⟩
        rcases Nat.lt_or_ge m i with q | q
        · exact q
        · rw [show m = i by omega, z] at h4
          exact absurd h4.1 (by decide)
    · rw [mb_and1 (by omega), bad, Bool.not_eq_true'] at z
      rw [mb_or, ih u, H.2.2.2.1 a i u (by omega) i0 (by omega)]
      constructor
      · rintro (⟨h1, m, h2, h3, h4⟩ | ⟨h1, h2⟩)
        · exact ⟨h1, m, h2, by omega, h4⟩
        · exact ⟨h1, i, i0, by omega, z, h2⟩
      · rintro ⟨h1, m, h2, h3, h4⟩
        rcases Nat.lt_or_ge m i with q | q
        · exact Or.inl ⟨h1, m, h2, q, h4⟩
        · rw [show m = i by omega] at h4
          exact Or.inr ⟨h1, h4.2⟩
    · rw [mb_and1 (by omega), bad, Bool.not_eq_true'] at z
      rw [mb_or, iq u, W.2.2.2.1 a i u (by omega) i0 (by omega)]
      constructor
      · rintro (⟨h1, r1, r2, m, h2, h3, h4⟩ | ⟨h1, r1, r2, h2⟩)
        · exact ⟨h1, r1, r2, m, h2, by omega, h4⟩
        · exact ⟨h1, r1, r2, i, i0, by omega, z, h2⟩
      · rintro ⟨h1, r1, r2, m, h2, h3, h4⟩
        rcases Nat.lt_or_ge m i with q | q
        · exact Or.inl ⟨h1, r1, r2, m, h2, q, h4⟩
        · rw [show m = i by omega] at h4
          exact Or.inr ⟨h1, r1, r2, h4.2⟩
theorem mx_blockersOf (T : (mt_T N F dp pt fr er xnc xfn xdO xpA xab xbe xrb xfO xeO xic ypa)) (H : (mi_H N xh xni xhn xho xhb)) (W : (mi_W N nw xwm xst xwn xwd xwf xwt ynW ywb)) {post : Int32 → Prop} {t a : Nat} {w E : Int32} {s : Int64} (ht : t < 8) (ha : a < N) (hw : mm_m1 w)
    (hE : ∀ u, u < 8 → xst u = 2 → (bt E u = true ↔ ywb u < s))
    (h : ∀ M, (∀ u, bt M u = true ↔ u < 8 ∧ mw_bk xh xst xwn xwd ywb t a w s u) → post M) : wpX_blockersOf post (xnc, xfn, xel, xlm, xwm, xtc, xsu, xco, xvi, xlv, xes, xdO, xpA, xab, xbe, xrb, xfO, xeO, xic, xcu, xcm, xwr, xst, xac, xpr, xbb, xdr, xok, xon, xoa, xgn, xgm, xh, xni, xhn, xho, xhb, xwn, xwd, xwf, xwt, xbk, xre) (nI t) (nI a) w E := by
  have hN := mt_N T
  obtain ⟨k, k0, k6, rfl⟩ := hw
  refine ⟨vp_in_nI k6 (by omega), nm_r (e' := xic k) (by rw [nI_clamp (by omega)]) (nm_r (mb_m6 a) ⟨6, mx_bOf23 T H W ht ha k0 k6 hE h 5 1 6 0 0 (by omega) (by omega) (by omega) (fun u => ?_) (fun u => ?_)⟩)⟩
  · rw [b_0]
    exact ⟨fun q => absurd q (by decide), fun ⟨_, m, h1, h2, _⟩ => by omega⟩
  · rw [b_0]
    exact ⟨fun q => absurd q (by decide), fun ⟨_, _, _, m, h1, h2, _⟩ => by omega⟩
theorem my_blocks (T : (mt_T N F dp pt fr er xnc xfn xdO xpA xab xbe xrb xfO xeO xic ypa)) (Z : (mi_Z xst xh)) {post : Int32 → Prop} {t a u : Nat} {w : Int32} {s : Int64} (ht : t < 8) (hu : u < 8) (ha : a < N)
    (h : post (mb_01 (mw_bk xh xst xwn xwd ywb t a w s u))) : wpY_blocks post (xfn, xnc, xel, ynB, ynW, xco, xvi, xlv, xes, ypa, xcu, xcm, xwr, xh, xst, xac, xpr, ybg, ykd, xon, xoa, xgn, xgm, xwn, xwd, ywb, yld) (nI t) (nI a) w s (nI u) := by
  have hN := mt_N T
  have cu : (nI u).toNatClampNeg = u := mb_c (by omega)
  have T1 : mw_bk xh xst xwn xwd ywb t a w s u → post 1 := fun z => by rw [mb_t z] at h; exact h
  have F0 : ¬ mw_bk xh xst xwn xwd ywb t a w s u → post 0 := fun z => by rw [mb_f z] at h; exact h
  refine br_c (fun z => F0 fun q => q.1 (mb_inj (by omega) (by omega) z)) (fun ne => my_live hu (mb_br (fun nl => F0 fun q => ?_) (fun lv => ⟨mb_v31 hu (by omega), nm_r (e' := xh (u * 31 + a)) (by rw [mb_c31 hu (by omega)]) (my_compat (mb_br (fun c => T1 ⟨fun z => ne (by rw [z]), Or.inl (ts_nt c)⟩) (fun c => ⟨mb_v31 ht (by omega), ?_⟩)))⟩)))
  · have z := Z.2 u a hu (by omega) (fun e => nl (Or.inl e)) (fun e => nl (Or.inr e))
    rcases q.2 with k | k
    · rw [z, mm_cp0] at k
      exact absurd k (by decide)
    · exact nl (Or.inr k.2.1)
  · have c' : ¬ mm_cp (xh (u * 31 + a)) w = false := fun z => by rw [c] at z; exact absurd z (by decide)
    rw [mb_c31 ht (by omega), cu]
    refine br_c (fun h0 => ⟨mb_v8 hu, br_c (fun s2 => ⟨mb_v8 hu, br_c (fun wn => ⟨mb_v8 hu, my_compat (mb_br (fun c2 => br_c (fun x0 => ⟨mb_v8 hu, br_c (fun le => F0 fun q => ?_) (fun le => T1 ⟨fun z => ne (by rw [z]), Or.inr ⟨h0, s2, wn, ts_nt c2, Or.inr (Int64.not_le.mp le)⟩⟩)⟩) (fun x0 => T1 ⟨fun z => ne (by rw [z]), Or.inr ⟨h0, s2, wn, ts_nt c2, Or.inl x0⟩⟩)) (fun c2 => F0 fun q => ?_))⟩) (fun wn => F0 fun q => q.2.elim c' fun k => wn k.2.2.1)⟩) (fun s2 => F0 fun q => q.2.elim c' fun k => s2 k.2.1)⟩) (fun h0 => F0 fun q => q.2.elim c' fun k => h0 k.1)
    · exact q.2.elim c' fun k => k.2.2.2.2.elim (fun z => z x0) (fun z => Int64.not_le.mpr z le)
    · exact q.2.elim c' fun k => by rw [c2] at k; exact absurd k.2.2.2.1 (by decide)
theorem my_free (T : (mt_T N F dp pt fr er xnc xfn xdO xpA xab xbe xrb xfO xeO xic ypa)) (Z : (mi_Z xst xh)) {post : Int32 → Prop} {t a : Nat} {w : Int32} {s : Int64} (ht : t < 8) (ha : a < N)
    (h : post (mb_01 (∀ u, u < 8 → ¬ mw_bk xh xst xwn xwd ywb t a w s u))) : wpY_free post (xfn, xnc, xel, ynB, ynW, xco, xvi, xlv, xes, ypa, xcu, xcm, xwr, xh, xst, xac, xpr, ybg, ykd, xon, xoa, xgn, xgm, xwn, xwd, ywb, yld) (nI t) (nI a) w s := by
  have T1 : (∀ u, u < 8 → ¬ mw_bk xh xst xwn xwd ywb t a w s u) → post 1 := fun z => by rw [mb_t z] at h; exact h
  have F0 : ¬ (∀ u, u < 8 → ¬ mw_bk xh xst xwn xwd ywb t a w s u) → post 0 := fun z => by rw [mb_f z] at h; exact h
  have L : ∀ (d i n : Nat), i + d = 8 → d < n → (∀ u, u < i → ¬ mw_bk xh xst xwn xwd ywb t a w s u) → wY_free_3 post (nI t) (nI a) w s xfn xnc xel ynB ynW xco xvi xlv xes ypa xcu xcm xwr xh xst xac xpr ybg ykd xon xoa xgn xgm xwn xwd ywb yld n (nI i) := by
    intro d
    induction d with
    | zero =>
      intro i n hi hn hq
      obtain ⟨n, rfl⟩ : ∃ j, n = j + 1 := ⟨n - 1, by omega⟩
      rw [wY_free_3]
      exact br_t (nI_le (a := 8) (by omega) (by omega)) (T1 fun u hu => hq u (by omega))
    | succ d ih =>
      intro i n hi hn hq
      obtain ⟨n, rfl⟩ : ∃ j, n = j + 1 := ⟨n - 1, by omega⟩
      rw [wY_free_3]
      refine br_f (nI_ge (b := 8) (by omega) (by decide)) (my_blocks T Z ht (by omega) ha (mb_br (fun z => nm_r (nI_1 i) (ih (i + 1) n (by omega) (by omega) fun u hu => ?_)) (fun z => F0 fun q => q i (by omega) z)))
      rcases Nat.lt_or_ge u i with k | k
      · exact hq u k
      · rw [show u = i by omega]; exact z
  exact ⟨9, L 8 0 9 (by omega) (by omega) fun u hu => by omega⟩
end
end
section
/-! begin and end of a wait -/
section
variable {N F : Nat} {dp : Nat → Nat} {pt : Nat → Nat → Nat} {fr er : Nat → Nat} {nb nw : Nat} {xnc xfn xel xlm xwm xtc xsu xco xvi xlv xes : Int32} {xdO xpA xab xbe xrb xfO xeO xic xcu xcm xwr xst xac xpr xbb xdr xok xon xoa xgn xgm xh xni xhn xho xhb xwn xwd xwf xwt xbk xre : Nat → Int32} {ynB ynW : Int64} {ypa : Nat → Int32} {ybg : Nat → Int64} {ykd : Nat → Int32} {ywb : Nat → Int64} {yld : Nat → Int32}
theorem mx_beginWait {post : SX → Prop} {t a k : Nat} (ht : t < 8) (ha : a < 31) (k6 : k < 6)
    (h : post (xnc, xfn, xel, xlm, xwm ||| ((1 : Int32) <<< (nI t &&& 31)), xtc ||| ((1 : Int32) <<< (nI a &&& 31)), xsu, xco, xvi, xlv, xes, xdO, xpA, xab, xbe, xrb, xfO, xeO, xic, xcu, xcm, xwr, upd xst t 2, xac, xpr, xbb, xdr, xok, xon, xoa, xgn, xgm, xh, xni, xhn, xho, xhb, upd xwn t (nI a), upd xwd t (nI k), upd xwf t xwm, upd xwt (a * 6 + k) (xwt (a * 6 + k) ||| ((1 : Int32) <<< (nI t &&& 31))), xbk, xre)) :
    wpX_beginWait post (xnc, xfn, xel, xlm, xwm, xtc, xsu, xco, xvi, xlv, xes, xdO, xpA, xab, xbe, xrb, xfO, xeO, xic, xcu, xcm, xwr, xst, xac, xpr, xbb, xdr, xok, xon, xoa, xgn, xgm, xh, xni, xhn, xho, xhb, xwn, xwd, xwf, xwt, xbk, xre) (nI t) (nI a) (nI k) := by
  have c : (nI t).toNatClampNeg = t := mb_c (by omega)
  exact nm_e ⟨mb_v8 ht, nm_r (e' := upd xst t 2) (by rw [c]) ⟨mb_v8 ht, nm_r (e' := upd xwn t (nI a)) (by rw [c]) ⟨mb_v8 ht, nm_r (e' := upd xwd t (nI k)) (by rw [c]) ⟨mb_v8 ht, nm_r (e' := upd xwf t xwm) (by rw [c]) (nm_e ⟨mb_v6n ha k6, mb_v6n ha k6, nm_r (e' := upd xwt (a * 6 + k) (xwt (a * 6 + k) ||| ((1 : Int32) <<< (nI t &&& 31)))) (by rw [mb_c6 ha k6]) (nm_e h)⟩)⟩⟩⟩⟩
theorem mw_begin (W : (mi_W N nw xwm xst xwn xwd xwf xwt ynW ywb)) {t a k : Nat} (hN : N ≤ 31) (ht : t < 8) (ha : a < N) (k0 : 0 < k) (k6 : k < 6) (ns : ¬ xst t = 2) (hnw : nw + 1 < 2 ^ 31) :
    (mi_W N (nw + 1) (xwm ||| ((1 : Int32) <<< (nI t &&& 31))) (upd xst t 2) (upd xwn t (nI a)) (upd xwd t (nI k)) (upd xwf t xwm) (upd xwt (a * 6 + k) (xwt (a * 6 + k) ||| ((1 : Int32) <<< (nI t &&& 31)))) (ynW + 1) (vp_updL ywb t ynW)) := by
  obtain ⟨⟨e1, e2⟩, W2, W3, W4, W5⟩ := W
  have nwi : ynW.toInt = nw := by rw [e1, lN_toInt e2]
  have wt0 : ¬ bt xwm t = true := fun z => ns ((W2 t).mp z).2
  refine ⟨⟨by rw [e1, lN_1], hnw⟩, fun u => ?_, fun u hu hs => ?_, fun n m u h1 h2 h3 => ?_, fun u v hu hv su sv e => ?_⟩
  · rw [mb_set (by omega), W2 u]
    by_cases z : u = t
    · subst z; rw [pk_us]; exact ⟨fun _ => ⟨ht, rfl⟩, fun _ => Or.inr rfl⟩
    · rw [pk_un z]; exact ⟨fun q => q.elim id fun q => absurd q z, Or.inl⟩
  · by_cases z : u = t
    · subst z
      refine ⟨⟨a, ha, pk_us⟩, by rw [pk_us]; exact ⟨k, k0, k6, rfl⟩, by rw [pk_uLs, nwi]; omega, fun v => ?_⟩
      rw [pk_us, pk_uLs, W2 v]
      by_cases y : v = u
      · subst y
        exact ⟨fun q => absurd q.2 ns, fun q => by
          have := q.2.2
          rw [pk_uLs, Int64.lt_iff_toInt_lt] at this
          omega⟩
      · rw [pk_un y, pk_uLn y]
        refine ⟨fun q => ⟨q.1, q.2, ?_⟩, fun q => ⟨q.1, q.2.1⟩⟩
        rw [Int64.lt_iff_toInt_lt, nwi]
        exact (W3 v q.1 q.2).2.2.1
    · rw [pk_un z] at hs
      obtain ⟨r1, r2, r3, r4⟩ := W3 u hu hs
      rw [pk_un z, pk_un z, pk_uLn z, pk_un z]
      refine ⟨r1, r2, by omega, fun v => ?_⟩
      rw [r4 v]
      by_cases y : v = t
      · subst y
        refine ⟨fun q => absurd q.2.1 ns, fun q => ?_⟩
        have := q.2.2
        rw [pk_uLs, Int64.lt_iff_toInt_lt] at this
        omega
      · rw [pk_un y, pk_uLn y]
  · by_cases z : n = a ∧ m = k
    · obtain ⟨rfl, rfl⟩ := z
      rw [pk_us, mb_set (by omega), W4 n m u h1 h2 h3]
      by_cases y : u = t
      · subst y
        rw [pk_us, pk_us, pk_us]
        exact ⟨fun _ => ⟨ht, rfl, rfl, rfl⟩, fun _ => Or.inr rfl⟩
      · rw [pk_un y, pk_un y, pk_un y]
        exact ⟨fun q => q.elim id fun q => absurd q y, Or.inl⟩
    · rw [pk_un (fun q => z ((mb_si (by omega) (by omega)).mp q)), W4 n m u h1 h2 h3]
      by_cases y : u = t
      · subst y
        rw [pk_us, pk_us, pk_us]
        refine ⟨fun q => absurd q.2.1 ns, fun q => absurd ⟨?_, ?_⟩ z⟩
        · exact (mb_inj (by omega) (by omega) q.2.2.1).symm
        · exact (mb_inj (by omega) (by omega) q.2.2.2).symm
      · rw [pk_un y, pk_un y, pk_un y]
  · by_cases z : u = t
    · by_cases y : v = t
      · rw [z, y]
      · rw [pk_un y] at sv
        rw [z, pk_uLs, pk_uLn y] at e
        have := (W3 v hv sv).2.2.1
        rw [← e, nwi] at this
        omega
    · rw [pk_un z] at su
      by_cases y : v = t
      · rw [y, pk_uLs, pk_uLn z] at e
        have := (W3 u hu su).2.2.1
        rw [e, nwi] at this
        omega
      · rw [pk_un y] at sv
        rw [pk_uLn z, pk_uLn y] at e
        exact W5 u v hu hv su sv e
theorem mx_end76 {post : SX → Prop} {a : Nat} {Q : Int32} (h : ∀ wf' : Nat → Int32, (∀ u, u < 8 → wf' u = xwf u &&& Q) → post (xnc, xfn, xel, xlm, xwm, xtc ||| ((1 : Int32) <<< (nI a &&& 31)), xsu, xco, xvi, xlv, xes, xdO, xpA, xab, xbe, xrb, xfO, xeO, xic, xcu, xcm, xwr, xst, xac, xpr, xbb, xdr, xok, xon, xoa, xgn, xgm, xh, xni, xhn, xho, xhb, xwn, xwd, wf', xwt, xbk, xre)) :
    ∀ (d i n : Nat) (wf : Nat → Int32), i + d = 8 → d < n → (∀ u, u < i → wf u = xwf u &&& Q) → (∀ u, i ≤ u → wf u = xwf u) → wX_endWait_76 post (nI a) Q xnc xfn xel xlm xwm xtc xsu xco xvi xlv xes n (nI i) xdO xpA xab xbe xrb xfO xeO xic xcu xcm xwr xst xac xpr xbb xdr xok xon xoa xgn xgm xh xni xhn xho xhb xwn xwd wf xwt xbk xre := by
  intro d
  induction d with
  | zero =>
    intro i n wf hi hn h1 h2
    obtain ⟨n, rfl⟩ : ∃ j, n = j + 1 := ⟨n - 1, by omega⟩
    rw [wX_endWait_76]
    exact br_t (nI_le (a := 8) (by omega) (by omega)) (nm_e (h wf fun u hu => h1 u (by omega)))
  | succ d ih =>
    intro i n wf hi hn h1 h2
    obtain ⟨n, rfl⟩ : ∃ j, n = j + 1 := ⟨n - 1, by omega⟩
    rw [wX_endWait_76]
    refine br_f (nI_ge (b := 8) (by omega) (by decide)) ⟨mb_v8 (by omega), mb_v8 (by omega), nm_r (e' := upd wf i (xwf i &&& Q)) (by rw [mb_c (by omega), h2 i (by omega)]) (nm_r (nI_1 i) (ih (i + 1) n _ (by omega) (by omega) (fun u hu => ?_) (fun u hu => ?_)))⟩
    · by_cases z : u = i
      · rw [z, pk_us]
      · rw [pk_un z]; exact h1 u (by omega)
    · rw [pk_un (by omega)]; exact h2 u (by omega)
theorem mx_endWait {post : SX → Prop} {t a k : Nat} (ht : t < 8) (ha : a < 31) (k6 : k < 6) (ea : xwn t = nI a) (ek : xwd t = nI k)
    (h : ∀ wf' : Nat → Int32, (∀ u, u < 8 → wf' u = upd xwf t 0 u &&& (((1 : Int32) <<< (nI t &&& 31)) ^^^ (-1))) →
      post (xnc, xfn, xel, xlm, xwm &&& (((1 : Int32) <<< (nI t &&& 31)) ^^^ (-1)), xtc ||| ((1 : Int32) <<< (nI a &&& 31)), xsu &&& (((1 : Int32) <<< (nI t &&& 31)) ^^^ (-1)), xco, xvi, xlv, xes, xdO, xpA, xab, xbe, xrb, xfO, xeO, xic, xcu, xcm, xwr, xst, xac, xpr, xbb, xdr, xok, xon, xoa, xgn, xgm, xh, xni, xhn, xho, xhb, xwn, xwd, wf', upd xwt (a * 6 + k) (xwt (a * 6 + k) &&& (((1 : Int32) <<< (nI t &&& 31)) ^^^ (-1))), upd xbk t 0, xre)) :
    wpX_endWait post (xnc, xfn, xel, xlm, xwm, xtc, xsu, xco, xvi, xlv, xes, xdO, xpA, xab, xbe, xrb, xfO, xeO, xic, xcu, xcm, xwr, xst, xac, xpr, xbb, xdr, xok, xon, xoa, xgn, xgm, xh, xni, xhn, xho, xhb, xwn, xwd, xwf, xwt, xbk, xre) (nI t) := by
  have c : (nI t).toNatClampNeg = t := mb_c (by omega)
  exact ⟨mb_v8 ht, nm_r (e' := nI a) (by rw [c, ea]) ⟨mb_v8 ht, nm_r (e' := nI k) (by rw [c, ek]) (nm_e ⟨mb_v6n ha k6, mb_v6n ha k6, nm_r (e' := upd xwt (a * 6 + k) (xwt (a * 6 + k) &&& (((1 : Int32) <<< (nI t &&& 31)) ^^^ (-1)))) (by rw [mb_c6 ha k6]) (nm_e (nm_e ⟨mb_v8 ht, nm_r (e' := upd xbk t 0) (by rw [c]) ⟨mb_v8 ht, nm_r (e' := upd xwf t 0) (by rw [c]) ⟨9, mx_end76 h 8 0 9 _ (by omega) (by omega) (fun u hu => by omega) (fun u _ => rfl)⟩⟩⟩))⟩)⟩⟩
theorem mw_end (W : (mi_W N nw xwm xst xwn xwd xwf xwt ynW ywb)) {t a k : Nat} {x : Int32} {wf' : Nat → Int32} (hN : N ≤ 31) (ht : t < 8) (ha : a < N) (k0 : 0 < k) (k6 : k < 6) (ea : xwn t = nI a) (ek : xwd t = nI k) (hx : ¬ x = 2)
    (hf : ∀ u, u < 8 → wf' u = upd xwf t 0 u &&& (((1 : Int32) <<< (nI t &&& 31)) ^^^ (-1))) :
    (mi_W N nw (xwm &&& (((1 : Int32) <<< (nI t &&& 31)) ^^^ (-1))) (upd xst t x) xwn xwd wf' (upd xwt (a * 6 + k) (xwt (a * 6 + k) &&& (((1 : Int32) <<< (nI t &&& 31)) ^^^ (-1)))) ynW ywb) := by
  obtain ⟨W1, W2, W3, W4, W5⟩ := W
  have st' : ∀ u, upd xst t x u = 2 ↔ xst u = 2 ∧ u ≠ t := by
    intro u
    by_cases z : u = t
    · subst z; rw [pk_us]; exact ⟨fun q => absurd q hx, fun q => absurd rfl q.2⟩
    · rw [pk_un z]; exact ⟨fun q => ⟨q, z⟩, fun q => q.1⟩
  refine ⟨W1, fun u => ?_, fun u hu hs => ?_, fun n m u h1 h2 h3 => ?_, fun u v hu hv su sv e => W5 u v hu hv ((st' u).mp su).1 ((st' v).mp sv).1 e⟩
  · rw [mb_clr (by omega), W2 u, st' u]
    exact ⟨fun q => ⟨q.1.1, q.1.2, q.2⟩, fun q => ⟨⟨q.1, q.2.1⟩, q.2.2⟩⟩
  · obtain ⟨s1, s2⟩ := (st' u).mp hs
    obtain ⟨r1, r2, r3, r4⟩ := W3 u hu s1
    refine ⟨r1, r2, r3, fun v => ?_⟩
    rw [hf u hu, pk_un s2, mb_clr (by omega), r4 v, st' v]
    exact ⟨fun q => ⟨q.1.1, ⟨q.1.2.1, q.2⟩, q.1.2.2⟩, fun q => ⟨⟨q.1, q.2.1.1, q.2.2⟩, q.2.1.2⟩⟩
  · rw [st' u]
    by_cases z : n = a ∧ m = k
    · obtain ⟨rfl, rfl⟩ := z
      rw [pk_us, mb_clr (by omega), W4 n m u h1 h2 h3]
      exact ⟨fun q => ⟨q.1.1, ⟨q.1.2.1, q.2⟩, q.1.2.2⟩, fun q => ⟨⟨q.1, q.2.1.1, q.2.2⟩, q.2.1.2⟩⟩
    · rw [pk_un (fun q => z ((mb_si (by omega) (by omega)).mp q)), W4 n m u h1 h2 h3]
      refine ⟨fun q => ⟨q.1, ⟨q.2.1, fun y => z ?_⟩, q.2.2⟩, fun q => ⟨q.1, q.2.1.1, q.2.2⟩⟩
      subst y
      exact ⟨mb_inj (by omega) (by omega) (q.2.2.1.symm.trans ea), mb_inj (by omega) (by omega) (q.2.2.2.symm.trans ek)⟩
end
end
section
/-! the cached links: refresh, unblocked, longestWaiting, firstFree -/
def mi_B (xtc : Int32) (xh xst xwn xwd xbk : Nat → Int32) (ywb : Nat → Int64) : Prop :=
  (∀ t, t < 8 → xst t ≠ 2 → xbk t = 0) ∧
  (∀ t a, t < 8 → a < 31 → xst t = 2 → xwn t = nI a → bt xtc a = true ∨ ∀ u, bt (xbk t) u = true ↔ u < 8 ∧ mw_bk xh xst xwn xwd ywb t a (xwd t) (ywb t) u)
def mi_S (xsu : Int32) (xbk : Nat → Int32) : Prop :=
  ∀ t, ¬ Relation.TransGen (fun x y => x < 8 ∧ bt (xbk x) y = true ∧ bt xsu x = false) t t
theorem mi_tg {R Q : Nat → Nat → Prop} (h : ∀ x y, R x y → Q x y) {a b : Nat} (z : Relation.TransGen R a b) : Relation.TransGen Q a b := by
  induction z with
  | single p => exact Relation.TransGen.single (h _ _ p)
  | tail _ p ih => exact Relation.TransGen.tail ih (h _ _ p)
theorem mi_S_m {xsu xsu' : Int32} {xbk xbk' : Nat → Int32} (S : mi_S xsu xbk) (h : ∀ x y, x < 8 → bt (xbk' x) y = true → bt xsu' x = false → bt (xbk x) y = true ∧ bt xsu x = false) : mi_S xsu' xbk' :=
  fun t z => S t (mi_tg (fun x y q => ⟨q.1, h x y q.1 q.2.1 q.2.2⟩) z)
theorem mi_S_e {xsu : Int32} {xbk : Nat → Int32} {t : Nat} (S : mi_S xsu xbk) (ht : t < 8) : mi_S (xsu &&& (((1 : Int32) <<< (nI t &&& 31)) ^^^ (-1))) (upd xbk t 0) := by
  refine mi_S_m S fun x y h1 h2 h3 => ?_
  by_cases z : x = t
  · rw [z, pk_us, b_0] at h2; exact absurd h2 (by decide)
  · rw [pk_un z] at h2
    refine ⟨h2, ?_⟩
    rw [mb_bf, mb_clr (by omega)] at h3
    exact mb_bf.mpr fun q => h3 ⟨q, z⟩
section
variable {N F : Nat} {dp : Nat → Nat} {pt : Nat → Nat → Nat} {fr er : Nat → Nat} {nb nw : Nat} {xnc xfn xel xlm xwm xtc xsu xco xvi xlv xes : Int32} {xdO xpA xab xbe xrb xfO xeO xic xcu xcm xwr xst xac xpr xbb xdr xok xon xoa xgn xgm xh xni xhn xho xhb xwn xwd xwf xwt xbk xre : Nat → Int32} {ynB ynW : Int64} {ypa : Nat → Int32} {ybg : Nat → Int64} {ykd : Nat → Int32} {ywb : Nat → Int64} {yld : Nat → Int32}
theorem mx_refresh10 (T : (mt_T N F dp pt fr er xnc xfn xdO xpA xab xbe xrb xfO xeO xic ypa)) (H : (mi_H N xh xni xhn xho xhb)) (W : (mi_W N nw xwm xst xwn xwd xwf xwt ynW ywb)) {post : SX → Prop}
    (h : ∀ (xsu' : Int32) (xbk' : Nat → Int32), (mi_B 0 xh xst xwn xwd xbk' ywb) → (mi_S xsu' xbk') → post (xnc, xfn, xel, xlm, xwm, 0, xsu', xco, xvi, xlv, xes, xdO, xpA, xab, xbe, xrb, xfO, xeO, xic, xcu, xcm, xwr, xst, xac, xpr, xbb, xdr, xok, xon, xoa, xgn, xgm, xh, xni, xhn, xho, xhb, xwn, xwd, xwf, xwt, xbk', xre)) :
    ∀ (d i n : Nat) (su : Int32) (bk : Nat → Int32), i + d = 8 → d < n → (mi_S su bk) → (∀ t, t < 8 → xst t ≠ 2 → bk t = 0) →
      (∀ t a, t < 8 → a < 31 → xst t = 2 → xwn t = nI a → (i ≤ t ∧ bt xtc a = true) ∨ ∀ u, bt (bk t) u = true ↔ u < 8 ∧ mw_bk xh xst xwn xwd ywb t a (xwd t) (ywb t) u) →
      wX_refresh_10 post xnc xfn xel xlm xwm xtc xco xvi xlv xes n (nI i) su xdO xpA xab xbe xrb xfO xeO xic xcu xcm xwr xst xac xpr xbb xdr xok xon xoa xgn xgm xh xni xhn xho xhb xwn xwd xwf xwt bk xre := by
  have hN := mt_N T
  intro d
  induction d with
  | zero =>
    intro i n su bk hi hn S B1 B2
    obtain ⟨n, rfl⟩ : ∃ j, n = j + 1 := ⟨n - 1, by omega⟩
    rw [wX_refresh_10]
    exact br_t (nI_le (a := 8) (by omega) (by omega)) (h su bk ⟨B1, fun t a h1 h2 h3 h4 => (B2 t a h1 h2 h3 h4).elim (fun q => by omega) Or.inr⟩ S)
  | succ d ih =>
    intro i n su bk hi hn S B1 B2
    obtain ⟨n, rfl⟩ : ∃ j, n = j + 1 := ⟨n - 1, by omega⟩
    rw [wX_refresh_10]
    have i8 : i < 8 := by omega
    have c : (nI i).toNatClampNeg = i := mb_c (by omega)
    refine br_f (nI_ge (b := 8) (by omega) (by decide)) (nm_e (br_c (fun z => nm_r (nI_1 i) (ih (i + 1) n su bk (by omega) (by omega) S B1 ?_)) (fun z => ⟨mb_v8 i8, ?_⟩)))
    · rw [mb_and0 (by omega)] at z
      intro t a h1 h2 h3 h4
      rcases B2 t a h1 h2 h3 h4 with q | q
      · refine Or.inl ⟨?_, q.2⟩
        by_cases e : t = i
        · rw [← e, mb_bf, W.2.1 t] at z
          exact absurd ⟨h1, h3⟩ z
        · omega
      · exact Or.inr q
    · rw [mb_and1 (by omega), W.2.1 i] at z
      obtain ⟨⟨a, ha, ea⟩, hwd, _, hwf⟩ := W.2.2.1 i i8 z.2
      rw [c, ea]
      refine br_c (fun y => nm_r (nI_1 i) (ih (i + 1) n su bk (by omega) (by omega) S B1 ?_)) (fun y => ⟨mb_v8 i8, mb_v8 i8, mb_v8 i8, ?_⟩)
      · rw [mb_and0 (by omega)] at y
        intro t b h1 h2 h3 h4
        rcases B2 t b h1 h2 h3 h4 with q | q
        · refine Or.inl ⟨?_, q.2⟩
          by_cases e : t = i
          · rw [e, ea] at h4
            have := mb_inj (by omega) (by omega) h4
            rw [← this, y] at q
            exact absurd q.2 (by decide)
          · omega
        · exact Or.inr q
      · refine mx_blockersOf (s := ywb i) T H W i8 ha hwd (fun u hu su' => ?_) fun M hM => ⟨mb_v8 i8, ?_⟩
        · rw [hwf u]
          exact ⟨fun q => q.2.2, fun q => ⟨hu, su', q⟩⟩
        · have B1' : ∀ t, t < 8 → xst t ≠ 2 → upd bk i M t = 0 := fun t h1 h2 => by
            rw [pk_un fun e => h2 (by rw [e]; exact z.2)]; exact B1 t h1 h2
          have B2' : ∀ t b, t < 8 → b < 31 → xst t = 2 → xwn t = nI b → (i + 1 ≤ t ∧ bt xtc b = true) ∨ ∀ u, bt (upd bk i M t) u = true ↔ u < 8 ∧ mw_bk xh xst xwn xwd ywb t b (xwd t) (ywb t) u := by
            intro t b h1 h2 h3 h4
            by_cases e : t = i
            · rw [e, ea] at h4
              have := mb_inj (by omega) (by omega) h4
              subst this
              rw [e, pk_us]
              exact Or.inr hM
            · rw [pk_un e]
              exact (B2 t b h1 h2 h3 h4).elim (fun q => Or.inl ⟨by omega, q.2⟩) Or.inr
          refine br_c (fun v => ⟨mb_v8 i8, nm_e (nm_r (nI_1 i) (ih (i + 1) n su (upd bk i M) (by omega) (by omega) ?_ B1' B2'))⟩) (fun v => nm_e ⟨mb_v8 i8, nm_e (nm_r (nI_1 i) (ih (i + 1) n _ (upd bk i M) (by omega) (by omega) ?_ B1' B2'))⟩)
          · refine mi_S_m S fun x y h1 h2 h3 => ⟨?_, h3⟩
            by_cases e : x = i
            · rw [e, pk_us] at h2
              rw [e]
              exact mb_sub.mp v y h2
            · rw [pk_un e] at h2; exact h2
          · refine mi_S_m S fun x y h1 h2 h3 => ?_
            rw [mb_bf, mb_set (by omega)] at h3
            by_cases e : x = i
            · exact absurd (Or.inr e) h3
            · rw [pk_un e] at h2
              exact ⟨h2, mb_bf.mpr fun q => h3 (Or.inl q)⟩
theorem mx_refresh (T : (mt_T N F dp pt fr er xnc xfn xdO xpA xab xbe xrb xfO xeO xic ypa)) (H : (mi_H N xh xni xhn xho xhb)) (W : (mi_W N nw xwm xst xwn xwd xwf xwt ynW ywb)) (B : (mi_B xtc xh xst xwn xwd xbk ywb)) (S : (mi_S xsu xbk)) {post : SX → Prop}
    (h : ∀ (xsu' : Int32) (xbk' : Nat → Int32), (mi_B 0 xh xst xwn xwd xbk' ywb) → (mi_S xsu' xbk') → post (xnc, xfn, xel, xlm, xwm, 0, xsu', xco, xvi, xlv, xes, xdO, xpA, xab, xbe, xrb, xfO, xeO, xic, xcu, xcm, xwr, xst, xac, xpr, xbb, xdr, xok, xon, xoa, xgn, xgm, xh, xni, xhn, xho, xhb, xwn, xwd, xwf, xwt, xbk', xre)) : wpX_refresh post (xnc, xfn, xel, xlm, xwm, xtc, xsu, xco, xvi, xlv, xes, xdO, xpA, xab, xbe, xrb, xfO, xeO, xic, xcu, xcm, xwr, xst, xac, xpr, xbb, xdr, xok, xon, xoa, xgn, xgm, xh, xni, xhn, xho, xhb, xwn, xwd, xwf, xwt, xbk, xre) := by
  refine br_c (fun z => ?_) (fun z => ⟨9, mx_refresh10 T H W h 8 0 9 xsu xbk (by omega) (by omega) S B.1 fun t a h1 h2 h3 h4 => (B.2 t a h1 h2 h3 h4).elim (fun q => Or.inl ⟨by omega, q⟩) Or.inr⟩)
  subst z
  exact h xsu xbk B S
theorem mx_unblocked (W : (mi_W N nw xwm xst xwn xwd xwf xwt ynW ywb)) {post : Int32 → Prop} (h : ∀ M, (∀ t, bt M t = true ↔ t < 8 ∧ xst t = 2 ∧ xbk t = 0) → post M) : wpX_unblocked post (xnc, xfn, xel, xlm, xwm, xtc, xsu, xco, xvi, xlv, xes, xdO, xpA, xab, xbe, xrb, xfO, xeO, xic, xcu, xcm, xwr, xst, xac, xpr, xbb, xdr, xok, xon, xoa, xgn, xgm, xh, xni, xhn, xho, xhb, xwn, xwd, xwf, xwt, xbk, xre) := by
  have L : ∀ (d i n : Nat) (M : Int32), i + d = 8 → d < n → (∀ t, bt M t = true ↔ t < i ∧ xst t = 2 ∧ xbk t = 0) → wX_unblocked_4 post xnc xfn xel xlm xwm xtc xsu xco xvi xlv xes xdO xpA xab xbe xrb xfO xeO xic xcu xcm xwr xst xac xpr xbb xdr xok xon xoa xgn xgm xh xni xhn xho xhb xwn xwd xwf xwt xbk xre n M (nI i) := by
    intro d
    induction d with
    | zero =>
      intro i n M hi hn hM
      obtain ⟨n, rfl⟩ : ∃ j, n = j + 1 := ⟨n - 1, by omega⟩
      rw [wX_unblocked_4]
      obtain rfl : i = 8 := by omega
      exact br_t (nI_le (a := 8) (by omega) (by omega)) (h M hM)
    | succ d ih =>
      intro i n M hi hn hM
      obtain ⟨n, rfl⟩ : ∃ j, n = j + 1 := ⟨n - 1, by omega⟩
      rw [wX_unblocked_4]
      have nx : ¬ (xst i = 2 ∧ xbk i = 0) → wX_unblocked_4 post xnc xfn xel xlm xwm xtc xsu xco xvi xlv xes xdO xpA xab xbe xrb xfO xeO xic xcu xcm xwr xst xac xpr xbb xdr xok xon xoa xgn xgm xh xni xhn xho xhb xwn xwd xwf xwt xbk xre n M (nI (i + 1)) := fun z => ih (i + 1) n M (by omega) (by omega) fun t => by
        rw [hM t]
        refine ⟨fun q => ⟨by omega, q.2⟩, fun q => ⟨?_, q.2⟩⟩
        rcases Nat.lt_or_ge t i with k | k
        · exact k
        · rw [show t = i by omega] at q; exact absurd q.2 z
      have c : (nI i).toNatClampNeg = i := mb_c (by omega)
      refine br_f (nI_ge (b := 8) (by omega) (by decide)) (br_c (fun z => nm_r (nI_1 i) (nx fun q => ?_)) (fun z => ⟨mb_v8 (by omega), ?_⟩))
      · rw [mb_and0 (by omega), mb_bf, W.2.1 i] at z
        exact z ⟨by omega, q.1⟩
      · rw [c]
        rw [mb_and1 (by omega), W.2.1 i] at z
        refine br_c (fun y => nm_e (nm_r (nI_1 i) (ih (i + 1) n _ (by omega) (by omega) fun t => ?_))) (fun y => nm_r (nI_1 i) (nx fun q => y q.2))
        rw [mb_set (by omega), hM t]
        constructor
        · rintro (q | q)
          · exact ⟨by omega, q.2⟩
          · rw [q]; exact ⟨by omega, z.2, y⟩
        · rintro ⟨q, r⟩
          rcases Nat.lt_or_ge t i with k | k
          · exact Or.inl ⟨k, r⟩
          · exact Or.inr (by omega)
  exact ⟨9, L 8 0 9 0 (by omega) (by omega) fun t => by rw [b_0]; exact ⟨fun q => absurd q (by decide), fun q => by omega⟩⟩
/-- of a non-empty set below n one that is least -/
theorem mw_min {P : Nat → Prop} (f : Nat → Int64) : ∀ n, (∃ t, t < n ∧ P t) → ∃ t, t < n ∧ P t ∧ ∀ u, u < n → P u → ¬ f u < f t := by
  intro n
  induction n with
  | zero => rintro ⟨t, h, _⟩; omega
  | succ n ih =>
    rintro ⟨t, h1, h2⟩
    rcases Classical.em (∃ t, t < n ∧ P t) with z | z
    · obtain ⟨s, a1, a2, a3⟩ := ih z
      rcases Classical.em (P n ∧ f n < f s) with y | y
      · refine ⟨n, by omega, y.1, fun u hu pu k => ?_⟩
        rcases Nat.lt_or_ge u n with l | l
        · refine a3 u l pu ?_
          have := y.2
          rw [Int64.lt_iff_toInt_lt] at k this ⊢
          omega
        · rw [show u = n by omega, Int64.lt_iff_toInt_lt] at k; omega
      · refine ⟨s, by omega, a2, fun u hu pu k => ?_⟩
        rcases Nat.lt_or_ge u n with l | l
        · exact a3 u l pu k
        · rw [show u = n by omega] at k pu; exact y ⟨pu, k⟩
    · have : t = n := by
        rcases Nat.lt_or_ge t n with l | l
        · exact absurd ⟨t, l, h2⟩ z
        · omega
      subst this
      refine ⟨t, by omega, h2, fun u hu pu k => ?_⟩
      rcases Nat.lt_or_ge u t with l | l
      · exact z ⟨u, l, pu⟩
      · rw [show u = t by omega, Int64.lt_iff_toInt_lt] at k; omega
/-- t is the one of P whose wait began first -/
def mw_ff (P : Nat → Prop) (f : Nat → Int64) (t : Nat) : Prop := t < 8 ∧ P t ∧ ∀ u, u < 8 → P u → ¬ f u < f t
theorem mw_ff_u (W : (mi_W N nw xwm xst xwn xwd xwf xwt ynW ywb)) {P : Nat → Prop} {t u : Nat} (hP : ∀ t, P t → xst t = 2) (a : mw_ff P ywb t) (b : mw_ff P ywb u) : t = u := by
  refine W.2.2.2.2 t u a.1 b.1 (hP t a.2.1) (hP u b.2.1) (Int64.toInt_inj.mp ?_)
  have h1 := a.2.2 u b.1 b.2.1
  have h2 := b.2.2 t a.1 a.2.1
  rw [Int64.lt_iff_toInt_lt] at h1 h2
  omega
theorem mx_longest (W : (mi_W N nw xwm xst xwn xwd xwf xwt ynW ywb)) {post : Int32 → Prop} {P : Nat → Prop} {M : Int32} (hP : ∀ t, P t → xst t = 2) (hM : ∀ t, bt M t = true ↔ t < 8 ∧ P t) (ne : ¬ M = 0)
    (h : ∀ t, mw_ff P ywb t → post (nI t)) : wpX_longestWaiting post (xnc, xfn, xel, xlm, xwm, xtc, xsu, xco, xvi, xlv, xes, xdO, xpA, xab, xbe, xrb, xfO, xeO, xic, xcu, xcm, xwr, xst, xac, xpr, xbb, xdr, xok, xon, xoa, xgn, xgm, xh, xni, xhn, xho, xhb, xwn, xwd, xwf, xwt, xbk, xre) M := by
  obtain ⟨t0, F⟩ : ∃ t, mw_ff P ywb t := by
    obtain ⟨i, hi⟩ := mb_ne0.mp ne
    exact mw_min ywb 8 ⟨i, (hM i).mp hi⟩
  have L : ∀ (d i n : Nat) (x : Int32), i + d = 8 → d < n → (t0 < i → x = nI t0) → wX_longestWaiting_4 post M xnc xfn xel xlm xwm xtc xsu xco xvi xlv xes xdO xpA xab xbe xrb xfO xeO xic xcu xcm xwr xst xac xpr xbb xdr xok xon xoa xgn xgm xh xni xhn xho xhb xwn xwd xwf xwt xbk xre n x (nI i) := by
    intro d
    induction d with
    | zero =>
      intro i n x hi hn hx
      obtain ⟨n, rfl⟩ : ∃ j, n = j + 1 := ⟨n - 1, by omega⟩
      rw [wX_longestWaiting_4]
      refine br_t (nI_le (a := 8) (by omega) (by omega)) ?_
      have := F.1
      rw [hx (by omega)]
      exact h t0 F
    | succ d ih =>
      intro i n x hi hn hx
      obtain ⟨n, rfl⟩ : ∃ j, n = j + 1 := ⟨n - 1, by omega⟩
      rw [wX_longestWaiting_4]
      have c : (nI i).toNatClampNeg = i := mb_c (by omega)
      have nx : t0 ≠ i → wX_longestWaiting_4 post M xnc xfn xel xlm xwm xtc xsu xco xvi xlv xes xdO xpA xab xbe xrb xfO xeO xic xcu xcm xwr xst xac xpr xbb xdr xok xon xoa xgn xgm xh xni xhn xho xhb xwn xwd xwf xwt xbk xre n x (nI (i + 1)) := fun z => ih (i + 1) n x (by omega) (by omega) fun q => hx (by omega)
      have key : P i → ((xwf i &&& M) = 0 ↔ mw_ff P ywb i) := by
        intro pi
        rw [mb_eq0]
        constructor
        · intro q
          refine ⟨by omega, pi, fun u hu pu k => q u ?_⟩
          rw [mb_and, (W.2.2.1 i (by omega) (hP i pi)).2.2.2 u, hM u]
          exact ⟨⟨hu, hP u pu, k⟩, hu, pu⟩
        · intro q u k
          rw [mb_and, (W.2.2.1 i (by omega) (hP i pi)).2.2.2 u, hM u] at k
          exact q.2.2 u k.1.1 k.2.2 k.1.2.2
      refine br_f (nI_ge (b := 8) (by omega) (by decide)) (br_c (fun z => nm_r (nI_1 i) (nx fun q => ?_)) (fun z => ⟨mb_v8 (by omega), ?_⟩))
      · rw [mb_and0 (by omega), mb_bf, hM i] at z
        rw [q] at F
        exact z ⟨F.1, F.2.1⟩
      · rw [c]
        rw [mb_and1 (by omega), hM i] at z
        refine br_c (fun y => nm_r (nI_1 i) (ih (i + 1) n _ (by omega) (by omega) fun q => ?_)) (fun y => nm_r (nI_1 i) (nx fun q => ?_))
        · rw [mw_ff_u W hP F ((key z.2).mp y)]
        · rw [q] at F
          exact y ((key z.2).mpr F)
  exact ⟨9, L 8 0 9 0 (by omega) (by omega) fun q => by omega⟩
theorem my_firstFree (T : (mt_T N F dp pt fr er xnc xfn xdO xpA xab xbe xrb xfO xeO xic ypa)) (Z : (mi_Z xst xh)) (W : (mi_W N nw xwm xst xwn xwd xwf xwt ynW ywb)) {post : Int32 → Prop} {P : Nat → Prop}
    (hP : ∀ t a, t < 8 → xst t = 2 → xwn t = nI a → a < N → (P t ↔ ∀ u, u < 8 → ¬ mw_bk xh xst xwn xwd ywb t a (xwd t) (ywb t) u)) (hS : ∀ t, P t → xst t = 2)
    (h0 : (∀ t, t < 8 → ¬ P t) → post (-1)) (h1 : ∀ t, mw_ff P ywb t → post (nI t)) : wpY_firstFree post (xfn, xnc, xel, ynB, ynW, xco, xvi, xlv, xes, ypa, xcu, xcm, xwr, xh, xst, xac, xpr, ybg, ykd, xon, xoa, xgn, xgm, xwn, xwd, ywb, yld) := by
  have L : ∀ (d i n : Nat) (x : Int32), i + d = 8 → d < n → ((x = -1 ∧ ∀ t, t < i → ¬ P t) ∨ ∃ b, b < i ∧ x = nI b ∧ P b ∧ ∀ u, u < i → P u → ¬ ywb u < ywb b) → wY_firstFree_4 post xfn xnc xel ynB ynW xco xvi xlv xes ypa xcu xcm xwr xh xst xac xpr ybg ykd xon xoa xgn xgm xwn xwd ywb yld n x (nI i) := by
    intro d
    induction d with
    | zero =>
      intro i n x hi hn hx
      obtain ⟨n, rfl⟩ : ∃ j, n = j + 1 := ⟨n - 1, by omega⟩
      rw [wY_firstFree_4]
      obtain rfl : i = 8 := by omega
      refine br_t (nI_le (a := 8) (by omega) (by omega)) ?_
      rcases hx with ⟨rfl, q⟩ | ⟨b, b1, rfl, b2, b3⟩
      · exact h0 q
      · exact h1 b ⟨b1, b2, b3⟩
    | succ d ih =>
      intro i n x hi hn hx
      obtain ⟨n, rfl⟩ : ∃ j, n = j + 1 := ⟨n - 1, by omega⟩
      rw [wY_firstFree_4]
      have i8 : i < 8 := by omega
      have c : (nI i).toNatClampNeg = i := mb_c (by omega)
      have nx : ¬ P i → wY_firstFree_4 post xfn xnc xel ynB ynW xco xvi xlv xes ypa xcu xcm xwr xh xst xac xpr ybg ykd xon xoa xgn xgm xwn xwd ywb yld n x (nI (i + 1)) := fun z => ih (i + 1) n x (by omega) (by omega) (hx.elim (fun q => Or.inl ⟨q.1, fun t ht => by
          rcases Nat.lt_or_ge t i with k | k
          · exact q.2 t k
          · rw [show t = i by omega]; exact z⟩) (fun ⟨b, b1, b2, b3, b4⟩ => Or.inr ⟨b, by omega, b2, b3, fun u hu pu => by
          rcases Nat.lt_or_ge u i with k | k
          · exact b4 u k pu
          · rw [show u = i by omega] at pu; exact absurd pu z⟩))
      refine br_f (nI_ge (b := 8) (by omega) (by decide)) ⟨mb_v8 i8, ?_⟩
      rw [c]
      refine br_c (fun z => ⟨mb_v8 i8, mb_v8 i8, mb_v8 i8, ?_⟩) (fun z => nm_r (nI_1 i) (nx fun q => z (hS i q)))
      obtain ⟨⟨a, ha, ea⟩, _, _, _⟩ := W.2.2.1 i i8 z
      rw [ea]
      have key := hP i a i8 z ea ha
      refine my_free T Z i8 ha (mb_br (fun q => nm_r (nI_1 i) (nx fun k => q (key.mp k))) (fun q => ?_))
      have pi : P i := key.mpr q
      rcases hx with ⟨rfl, q⟩ | ⟨b, b1, rfl, b2, b3⟩
      · refine br_t (by decide) (nm_r (nI_1 i) (ih (i + 1) n _ (by omega) (by omega) (Or.inr ⟨i, by omega, rfl, pi, fun u hu pu k => ?_⟩)))
        rcases Nat.lt_or_ge u i with l | l
        · exact q u l pu
        · rw [show u = i by omega, Int64.lt_iff_toInt_lt] at k; omega
      · refine br_f (nI_pos (by omega)) ⟨mb_v8 i8, mb_v8 (by omega), ?_⟩
        rw [mb_c (by omega)]
        refine br_c (fun y => nm_r (nI_1 i) (ih (i + 1) n _ (by omega) (by omega) (Or.inr ⟨b, by omega, rfl, b2, fun u hu pu k => ?_⟩))) (fun y => nm_r (nI_1 i) (ih (i + 1) n _ (by omega) (by omega) (Or.inr ⟨i, by omega, rfl, pi, fun u hu pu k => ?_⟩)))
        · rcases Nat.lt_or_ge u i with l | l
          · exact b3 u l pu k
          · rw [show u = i by omega] at k; exact Int64.not_le.mpr k y
        · rcases Nat.lt_or_ge u i with l | l
          · refine b3 u l pu ?_
            have y := Int64.not_le.mp y
            rw [Int64.lt_iff_toInt_lt] at k y ⊢
            omega
          · rw [show u = i by omega, Int64.lt_iff_toInt_lt] at k; omega
  exact ⟨9, L 8 0 9 (-1) (by omega) (by omega) (Or.inl ⟨rfl, fun t ht => by omega⟩)⟩
end
end
section
/-! cycles: Warshall on both sides -/
def mc_r (xbk : Nat → Int32) (x y : Nat) : Prop := x < 8 ∧ bt (xbk x) y = true
def mc_q (xbk : Nat → Int32) (C : Int32) (x y : Nat) : Prop := x < 8 ∧ bt C x = true ∧ bt C y = true ∧ bt (xbk x) y = true
theorem mc_res {Q Q' : Nat → Nat → Prop} {C : Nat → Prop} (h1 : ∀ x y, Q x y → C x) (h2 : ∀ x y, Q x y → C x → C y → Q' x y) {x y : Nat} (z : Relation.TransGen Q x y) (hy : C y) : Relation.TransGen Q' x y := by
  induction z with
  | single p => exact Relation.TransGen.single (h2 _ _ p (h1 _ _ p) hy)
  | tail q p ih => exact Relation.TransGen.tail (ih (h1 _ _ p)) (h2 _ _ p (h1 _ _ p) hy)
theorem mc_src {Q : Nat → Nat → Prop} {x y : Nat} (z : Relation.TransGen Q x y) : ∃ w, Q x w := by
  induction z with
  | single p => exact ⟨_, p⟩
  | tail _ _ ih => exact ih
theorem mc_cyc {Q Q' : Nat → Nat → Prop} {C : Nat → Prop} (h1 : ∀ x y, Q x y → C x) (h2 : ∀ x y, Q x y → C x → C y → Q' x y) {x : Nat} (z : Relation.TransGen Q x x) : Relation.TransGen Q' x x := by
  obtain ⟨w, hw⟩ := mc_src z
  exact mc_res h1 h2 z (h1 _ _ hw)
def mc_wa (M : Nat → Nat → Prop) : Nat → Nat → Nat → Prop
  | 0 => M
  | k + 1 => fun x y => mc_wa M k x y ∨ (mc_wa M k x k ∧ mc_wa M k k y)
theorem mc_wa_in {M : Nat → Nat → Prop} {x y : Nat} (h : M x y) : ∀ k, mc_wa M k x y
  | 0 => h
  | k + 1 => Or.inl (mc_wa_in h k)
theorem mc_wa_s {M : Nat → Nat → Prop} : ∀ k x y, mc_wa M k x y → Relation.TransGen M x y
  | 0, _, _, h => Relation.TransGen.single h
  | k + 1, x, y, h => h.elim (mc_wa_s k x y) fun q => (mc_wa_s k x k q.1).trans (mc_wa_s k k y q.2)
theorem mc_wa_t {M : Nat → Nat → Prop} : ∀ k i, i < k → ∀ x y, mc_wa M k x i → mc_wa M k i y → mc_wa M k x y := by
  intro k
  induction k with
  | zero => intro i hi; omega
  | succ k ih =>
    intro i hi x y a b
    have A : mc_wa M k x i ∨ (mc_wa M k x k ∧ mc_wa M k k i) := a
    have B : mc_wa M k i y ∨ (mc_wa M k i k ∧ mc_wa M k k y) := b
    show mc_wa M k x y ∨ (mc_wa M k x k ∧ mc_wa M k k y)
    rcases Nat.lt_or_ge i k with l | l
    · rcases A with A | A
      · rcases B with B | B
        · exact Or.inl (ih i l x y A B)
        · exact Or.inr ⟨ih i l x k A B.1, B.2⟩
      · rcases B with B | B
        · exact Or.inr ⟨A.1, ih i l k y A.2 B⟩
        · exact Or.inr ⟨A.1, B.2⟩
    · obtain rfl : i = k := by omega
      have A' : mc_wa M i x i := A.elim id fun q => q.1
      have B' : mc_wa M i i y := B.elim id fun q => q.2
      exact Or.inr ⟨A', B'⟩
theorem mc_wa_c {M : Nat → Nat → Prop} {n : Nat} (h : ∀ x y, M x y → x < n) {x y : Nat} (z : Relation.TransGen M x y) : mc_wa M n x y := by
  induction z with
  | single p => exact mc_wa_in p n
  | tail _ p ih => exact mc_wa_t n _ (h _ _ p) _ _ ih (mc_wa_in p n)
theorem mc_wa_i {M : Nat → Nat → Prop} {n : Nat} (h : ∀ x y, M x y → x < n) {x y : Nat} : mc_wa M n x y ↔ Relation.TransGen M x y := ⟨mc_wa_s n x y, mc_wa_c h⟩
section
variable {N F : Nat} {dp : Nat → Nat} {pt : Nat → Nat → Nat} {fr er : Nat → Nat} {nb nw : Nat} {xnc xfn xel xlm xwm xtc xsu xco xvi xlv xes : Int32} {xdO xpA xab xbe xrb xfO xeO xic xcu xcm xwr xst xac xpr xbb xdr xok xon xoa xgn xgm xh xni xhn xho xhb xwn xwd xwf xwt xbk xre : Nat → Int32} {ynB ynW : Int64} {ypa : Nat → Int32} {ybg : Nat → Int64} {ykd : Nat → Int32} {ywb : Nat → Int64} {yld : Nat → Int32}
theorem mx_prune18 {post : Int32 → Prop} {J : Int32 → Int32 → Prop} {p : Int32} {b : Int32}
    (hp : ∀ C, (∀ x, Relation.TransGen (mc_r xbk) x x → Relation.TransGen (mc_q xbk C) x x) → post C)
    (hJ : ∀ C, (∀ x, Relation.TransGen (mc_r xbk) x x → Relation.TransGen (mc_q xbk C) x x) → J C (p + 1)) :
    ∀ (d i n : Nat) (C : Int32), i + d = 8 → d < n → (∀ x, Relation.TransGen (mc_r xbk) x x → Relation.TransGen (mc_q xbk C) x x) → wX_pruneSinks_18 post J p b xnc xfn xel xlm xwm xtc xsu xco xvi xlv xes xdO xpA xab xbe xrb xfO xeO xic xcu xcm xwr xst xac xpr xbb xdr xok xon xoa xgn xgm xh xni xhn xho xhb xwn xwd xwf xwt xbk xre n C (nI i) := by
  intro d
  induction d with
  | zero =>
    intro i n C hi hn hC
    obtain ⟨n, rfl⟩ : ∃ j, n = j + 1 := ⟨n - 1, by omega⟩
    rw [wX_pruneSinks_18]
    exact br_t (nI_le (a := 8) (by omega) (by omega)) (br_c (fun _ => hp C hC) (fun _ => nm_e (hJ C hC)))
  | succ d ih =>
    intro i n C hi hn hC
    obtain ⟨n, rfl⟩ : ∃ j, n = j + 1 := ⟨n - 1, by omega⟩
    rw [wX_pruneSinks_18]
    refine br_f (nI_ge (b := 8) (by omega) (by decide)) ⟨mb_v8 (by omega), ?_⟩
    rw [mb_c (by omega)]
    refine br_c (fun z => nm_e (nm_r (nI_1 i) (ih (i + 1) n _ (by omega) (by omega) fun x q => ?_))) (fun z => nm_r (nI_1 i) (ih (i + 1) n C (by omega) (by omega) hC))
    rw [mb_eq0] at z
    refine mc_cyc (C := fun y => y ≠ i) (fun x y q e => z y ?_) (fun x y q hx hy => ⟨q.1, ?_, ?_, q.2.2.2⟩) (hC x q)
    · rw [mb_and, ← e]; exact ⟨q.2.2.2, q.2.2.1⟩
    · exact (mb_clr (by omega) x).mpr ⟨q.2.1, hx⟩
    · exact (mb_clr (by omega) y).mpr ⟨q.2.2.1, hy⟩
theorem mx_prune7 {post : Int32 → Prop} (hp : ∀ C, (∀ x, Relation.TransGen (mc_r xbk) x x → Relation.TransGen (mc_q xbk C) x x) → post C) :
    ∀ (d i n : Nat) (C : Int32), i + d = 8 → d < n → (∀ x, Relation.TransGen (mc_r xbk) x x → Relation.TransGen (mc_q xbk C) x x) → wX_pruneSinks_7 post xnc xfn xel xlm xwm xtc xsu xco xvi xlv xes xdO xpA xab xbe xrb xfO xeO xic xcu xcm xwr xst xac xpr xbb xdr xok xon xoa xgn xgm xh xni xhn xho xhb xwn xwd xwf xwt xbk xre n C (nI i) := by
  intro d
  induction d with
  | zero =>
    intro i n C hi hn hC
    obtain ⟨n, rfl⟩ : ∃ j, n = j + 1 := ⟨n - 1, by omega⟩
    rw [wX_pruneSinks_7]
    exact br_t (nI_le (a := 8) (by omega) (by omega)) (hp C hC)
  | succ d ih =>
    intro i n C hi hn hC
    obtain ⟨n, rfl⟩ : ∃ j, n = j + 1 := ⟨n - 1, by omega⟩
    rw [wX_pruneSinks_7]
    refine br_f (nI_ge (b := 8) (by omega) (by decide)) ⟨9, mx_prune18 hp (fun C' hC' => ?_) 8 0 9 C (by omega) (by omega) hC⟩
    rw [nI_1]
    exact ih (i + 1) n C' (by omega) (by omega) hC'
theorem mx_prune {post : Int32 → Prop} (hb : ∀ t y, t < 8 → bt (xbk t) y = true → bt xwm t = true) (hp : ∀ C, (∀ x, Relation.TransGen (mc_r xbk) x x → Relation.TransGen (mc_q xbk C) x x) → post C) : wpX_pruneSinks post (xnc, xfn, xel, xlm, xwm, xtc, xsu, xco, xvi, xlv, xes, xdO, xpA, xab, xbe, xrb, xfO, xeO, xic, xcu, xcm, xwr, xst, xac, xpr, xbb, xdr, xok, xon, xoa, xgn, xgm, xh, xni, xhn, xho, xhb, xwn, xwd, xwf, xwt, xbk, xre) :=
  ⟨9, mx_prune7 hp 8 0 9 xwm (by omega) (by omega) fun x q => mc_cyc (C := fun y => bt xwm y = true) (fun x y q => hb x y q.1 q.2) (fun x y q hx hy => ⟨q.1, hx, hy, q.2⟩) q⟩
theorem mx_close53 {post : SX → Prop} {J : Int32 → (Nat → Int32) → (Nat → Int32) → (Nat → Int32) → (Nat → Int32) → (Nat → Int32) → (Nat → Int32) → (Nat → Int32) → (Nat → Int32) → (Nat → Int32) → (Nat → Int32) → (Nat → Int32) → (Nat → Int32) → (Nat → Int32) → (Nat → Int32) → (Nat → Int32) → (Nat → Int32) → (Nat → Int32) → (Nat → Int32) → (Nat → Int32) → (Nat → Int32) → (Nat → Int32) → (Nat → Int32) → (Nat → Int32) → (Nat → Int32) → (Nat → Int32) → (Nat → Int32) → (Nat → Int32) → (Nat → Int32) → (Nat → Int32) → (Nat → Int32) → (Nat → Int32) → (Nat → Int32) → Prop} {k : Nat} (hk : k < 8) {M : Nat → Nat → Prop}
    (hJ : ∀ re : Nat → Int32, (∀ x y, x < 8 → (bt (re x) y = true ↔ M x y ∨ (M x k ∧ M k y))) → J (nI (k + 1)) xdO xpA xab xbe xrb xfO xeO xic xcu xcm xwr xst xac xpr xbb xdr xok xon xoa xgn xgm xh xni xhn xho xhb xwn xwd xwf xwt xbk re) :
    ∀ (d i n : Nat) (re : Nat → Int32), i + d = 8 → d < n → (∀ x y, x < 8 → (bt (re x) y = true ↔ M x y ∨ (x < i ∧ M x k ∧ M k y))) → wX_closeReach_53 post J (nI k) xnc xfn xel xlm xwm xtc xsu xco xvi xlv xes n (nI i) xdO xpA xab xbe xrb xfO xeO xic xcu xcm xwr xst xac xpr xbb xdr xok xon xoa xgn xgm xh xni xhn xho xhb xwn xwd xwf xwt xbk re := by
  intro d
  induction d with
  | zero =>
    intro i n re hi hn hr
    obtain ⟨n, rfl⟩ : ∃ j, n = j + 1 := ⟨n - 1, by omega⟩
    rw [wX_closeReach_53]
    refine br_t (nI_le (a := 8) (by omega) (by omega)) (nm_r (nI_1 k) (hJ re fun x y hx => ?_))
    rw [hr x y hx]
    exact ⟨fun q => q.elim Or.inl fun q => Or.inr q.2, fun q => q.elim Or.inl fun q => Or.inr ⟨by omega, q⟩⟩
  | succ d ih =>
    intro i n re hi hn hr
    obtain ⟨n, rfl⟩ : ∃ j, n = j + 1 := ⟨n - 1, by omega⟩
    rw [wX_closeReach_53]
    have ci : (nI i).toNatClampNeg = i := mb_c (by omega)
    have ck : (nI k).toNatClampNeg = k := mb_c (by omega)
    have rk : ∀ y, bt (re k) y = true ↔ M k y := fun y => by
      rw [hr k y hk]; exact ⟨fun q => q.elim id fun q => q.2.2, Or.inl⟩
    have ri : ∀ y, bt (re i) y = true ↔ M i y := fun y => by
      rw [hr i y (by omega)]; exact ⟨fun q => q.elim id fun q => by omega, Or.inl⟩
    refine br_f (nI_ge (b := 8) (by omega) (by decide)) ⟨mb_v8 (by omega), ?_⟩
    rw [ci]
    refine br_c (fun z => nm_r (nI_1 i) (ih (i + 1) n re (by omega) (by omega) fun x y hx => ?_)) (fun z => ⟨mb_v8 (by omega), mb_v8 hk, mb_v8 (by omega), nm_r (e' := upd re i (re i ||| re k)) (by rw [ck]) (nm_r (nI_1 i) (ih (i + 1) n _ (by omega) (by omega) fun x y hx => ?_))⟩)
    · rw [mb_and0 (by omega), mb_bf, ri k] at z
      rw [hr x y hx]
      refine ⟨fun q => q.elim Or.inl fun q => Or.inr ⟨by omega, q.2⟩, fun q => q.elim Or.inl fun q => ?_⟩
      by_cases e : x = i
      · rw [e] at q; exact absurd q.2.1 z
      · exact Or.inr ⟨by omega, q.2⟩
    · rw [mb_and1 (by omega), ri k] at z
      by_cases e : x = i
      · rw [e, pk_us, mb_or, ri y, rk y]
        exact ⟨fun q => q.elim Or.inl fun q => Or.inr ⟨by omega, z, q⟩, fun q => q.elim Or.inl fun q => Or.inr q.2.2⟩
      · rw [pk_un e, hr x y hx]
        exact ⟨fun q => q.elim Or.inl fun q => Or.inr ⟨by omega, q.2⟩, fun q => q.elim Or.inl fun q => Or.inr ⟨by omega, q.2⟩⟩
theorem mx_close45 {post : SX → Prop} {M : Nat → Nat → Prop} (h : ∀ re : Nat → Int32, (∀ x y, x < 8 → (bt (re x) y = true ↔ mc_wa M 8 x y)) → post (xnc, xfn, xel, xlm, xwm, xtc, xsu, xco, xvi, xlv, xes, xdO, xpA, xab, xbe, xrb, xfO, xeO, xic, xcu, xcm, xwr, xst, xac, xpr, xbb, xdr, xok, xon, xoa, xgn, xgm, xh, xni, xhn, xho, xhb, xwn, xwd, xwf, xwt, xbk, re)) :
    ∀ (d k n : Nat) (re : Nat → Int32), k + d = 8 → d < n → (∀ x y, x < 8 → (bt (re x) y = true ↔ mc_wa M k x y)) → wX_closeReach_45 post xnc xfn xel xlm xwm xtc xsu xco xvi xlv xes n (nI k) xdO xpA xab xbe xrb xfO xeO xic xcu xcm xwr xst xac xpr xbb xdr xok xon xoa xgn xgm xh xni xhn xho xhb xwn xwd xwf xwt xbk re := by
  intro d
  induction d with
  | zero =>
    intro k n re hi hn hr
    obtain ⟨n, rfl⟩ : ∃ j, n = j + 1 := ⟨n - 1, by omega⟩
    rw [wX_closeReach_45]
    obtain rfl : k = 8 := by omega
    exact br_t (nI_le (a := 8) (by omega) (by omega)) (h re hr)
  | succ d ih =>
    intro k n re hi hn hr
    obtain ⟨n, rfl⟩ : ∃ j, n = j + 1 := ⟨n - 1, by omega⟩
    rw [wX_closeReach_45]
    refine br_f (nI_ge (b := 8) (by omega) (by decide)) ⟨9, mx_close53 (M := mc_wa M k) (by omega) (fun re' hr' => ih (k + 1) n re' (by omega) (by omega) hr') 8 0 9 re (by omega) (by omega) fun x y hx => ?_⟩
    rw [hr x y hx]
    exact ⟨Or.inl, fun q => q.elim id fun q => by omega⟩
theorem mx_close {post : SX → Prop} {C : Int32} (h : ∀ re : Nat → Int32, (∀ x y, x < 8 → (bt (re x) y = true ↔ Relation.TransGen (mc_q xbk C) x y)) → post (xnc, xfn, xel, xlm, xwm, xtc, xsu, xco, xvi, xlv, xes, xdO, xpA, xab, xbe, xrb, xfO, xeO, xic, xcu, xcm, xwr, xst, xac, xpr, xbb, xdr, xok, xon, xoa, xgn, xgm, xh, xni, xhn, xho, xhb, xwn, xwd, xwf, xwt, xbk, re)) : wpX_closeReach post (xnc, xfn, xel, xlm, xwm, xtc, xsu, xco, xvi, xlv, xes, xdO, xpA, xab, xbe, xrb, xfO, xeO, xic, xcu, xcm, xwr, xst, xac, xpr, xbb, xdr, xok, xon, xoa, xgn, xgm, xh, xni, xhn, xho, xhb, xwn, xwd, xwf, xwt, xbk, xre) C := by
  have L : ∀ (d i n : Nat) (re : Nat → Int32), i + d = 8 → d < n → (∀ x y, x < i → (bt (re x) y = true ↔ mc_q xbk C x y)) → wX_closeReach_2 post C xnc xfn xel xlm xwm xtc xsu xco xvi xlv xes n (nI i) xdO xpA xab xbe xrb xfO xeO xic xcu xcm xwr xst xac xpr xbb xdr xok xon xoa xgn xgm xh xni xhn xho xhb xwn xwd xwf xwt xbk re := by
    intro d
    induction d with
    | zero =>
      intro i n re hi hn hr
      obtain ⟨n, rfl⟩ : ∃ j, n = j + 1 := ⟨n - 1, by omega⟩
      rw [wX_closeReach_2]
      obtain rfl : i = 8 := by omega
      refine br_t (nI_le (a := 8) (by omega) (by omega)) ⟨9, mx_close45 (M := mc_q xbk C) (fun re' hr' => h re' fun x y hx => ?_) 8 0 9 re (by omega) (by omega) hr⟩
      rw [hr' x y hx]
      exact mc_wa_i fun x y q => q.1
    | succ d ih =>
      intro i n re hi hn hr
      obtain ⟨n, rfl⟩ : ∃ j, n = j + 1 := ⟨n - 1, by omega⟩
      rw [wX_closeReach_2]
      have ci : (nI i).toNatClampNeg = i := mb_c (by omega)
      refine br_f (nI_ge (b := 8) (by omega) (by decide)) ⟨mb_v8 (by omega), nm_r (e' := upd re i 0) (by rw [ci]) (br_c (fun z => nm_r (nI_1 i) (ih (i + 1) n _ (by omega) (by omega) fun x y hx => ?_)) (fun z => ⟨mb_v8 (by omega), mb_v8 (by omega), nm_r (e' := upd (upd re i 0) i (xbk i &&& C)) (by rw [ci]) (nm_r (nI_1 i) (ih (i + 1) n _ (by omega) (by omega) fun x y hx => ?_))⟩))⟩
      · rw [mb_and0 (by omega), mb_bf] at z
        by_cases e : x = i
        · rw [e, pk_us, b_0]
          exact ⟨fun q => absurd q (by decide), fun q => absurd q.2.1 z⟩
        · rw [pk_un e]; exact hr x y (by omega)
      · rw [mb_and1 (by omega)] at z
        by_cases e : x = i
        · rw [e, pk_us, mb_and]
          exact ⟨fun q => ⟨by omega, z, q.2, q.1⟩, fun q => ⟨q.2.2.2, q.2.2.1⟩⟩
        · rw [pk_un e, pk_un e]; exact hr x y (by omega)
  exact ⟨9, L 8 0 9 xre (by omega) (by omega) fun x y hx => by omega⟩
theorem mx_cycle (S : (mi_S xsu xbk)) {post : Int32 → SX → Prop} (hb : ∀ t y, t < 8 → bt (xbk t) y = true → bt xwm t = true)
    (h : ∀ (M xsu' : Int32) (xre' : Nat → Int32), (∀ t, bt M t = true ↔ t < 8 ∧ Relation.TransGen (mc_r xbk) t t) → ((M = 0 ∧ xsu' = 0) ∨ (¬ M = 0 ∧ xsu' = xsu)) → post M (xnc, xfn, xel, xlm, xwm, xtc, xsu', xco, xvi, xlv, xes, xdO, xpA, xab, xbe, xrb, xfO, xeO, xic, xcu, xcm, xwr, xst, xac, xpr, xbb, xdr, xok, xon, xoa, xgn, xgm, xh, xni, xhn, xho, xhb, xwn, xwd, xwf, xwt, xbk, xre')) : wpX_cycleMembers post (xnc, xfn, xel, xlm, xwm, xtc, xsu, xco, xvi, xlv, xes, xdO, xpA, xab, xbe, xrb, xfO, xeO, xic, xcu, xcm, xwr, xst, xac, xpr, xbb, xdr, xok, xon, xoa, xgn, xgm, xh, xni, xhn, xho, xhb, xwn, xwd, xwf, xwt, xbk, xre) := by
  have nocyc : (∀ t, ¬ Relation.TransGen (mc_r xbk) t t) → ∀ re : Nat → Int32, post 0 (xnc, xfn, xel, xlm, xwm, xtc, 0, xco, xvi, xlv, xes, xdO, xpA, xab, xbe, xrb, xfO, xeO, xic, xcu, xcm, xwr, xst, xac, xpr, xbb, xdr, xok, xon, xoa, xgn, xgm, xh, xni, xhn, xho, xhb, xwn, xwd, xwf, xwt, xbk, re) := fun z re =>
    h 0 0 re (fun t => by rw [b_0]; exact ⟨fun q => absurd q (by decide), fun q => absurd q.2 (z t)⟩) (Or.inl ⟨rfl, rfl⟩)
  refine br_c (fun z => nocyc (fun t q => ?_) xre) (fun z => mx_prune hb fun C hC => br_c (fun y => nocyc (fun t q => ?_) xre) (fun y => mx_close fun re hr => ?_))
  · rw [mb_eq0] at z
    refine S t (mi_tg (fun x y k => ⟨k.1, k.2, mb_bf.mpr fun w => z x ((mb_and x).mpr ⟨w, hb x y k.1 k.2⟩)⟩) q)
  · obtain ⟨w, hw⟩ := mc_src (hC t q)
    rw [y] at hw
    have := hw.2.1
    rw [b_0] at this
    exact absurd this (by decide)
  · have key : ∀ x, x < 8 → (bt (re x) x = true ↔ Relation.TransGen (mc_r xbk) x x) := fun x hx => by
      rw [hr x x hx]
      exact ⟨fun q => mi_tg (fun a b k => ⟨k.1, k.2.2.2⟩) q, hC x⟩
    have L : ∀ (d i n : Nat) (M : Int32), i + d = 8 → d < n → (∀ t, bt M t = true ↔ t < i ∧ Relation.TransGen (mc_r xbk) t t) → wX_cycleMembers_44 post xnc xfn xel xlm xwm xtc xsu xco xvi xlv xes xdO xpA xab xbe xrb xfO xeO xic xcu xcm xwr xst xac xpr xbb xdr xok xon xoa xgn xgm xh xni xhn xho xhb xwn xwd xwf xwt xbk re n M (nI i) := by
      intro d
      induction d with
      | zero =>
        intro i n M hi hn hM
        obtain ⟨n, rfl⟩ : ∃ j, n = j + 1 := ⟨n - 1, by omega⟩
        rw [wX_cycleMembers_44]
        obtain rfl : i = 8 := by omega
        refine br_t (nI_le (a := 8) (by omega) (by omega)) (br_c (fun v => ?_) (fun v => h M xsu re hM (Or.inr ⟨v, rfl⟩)))
        exact h M 0 re hM (Or.inl ⟨v, rfl⟩)
      | succ d ih =>
        intro i n M hi hn hM
        obtain ⟨n, rfl⟩ : ∃ j, n = j + 1 := ⟨n - 1, by omega⟩
        rw [wX_cycleMembers_44]
        refine br_f (nI_ge (b := 8) (by omega) (by decide)) ⟨mb_v8 (by omega), nm_r (e' := M ||| (re i &&& ((1 : Int32) <<< (nI i &&& 31)))) (by rw [mb_c (by omega)]) (nm_r (nI_1 i) (ih (i + 1) n _ (by omega) (by omega) fun t => ?_))⟩
        rw [mb_or, mb_and, mb_bit (by omega), decide_eq_true_eq, hM t]
        constructor
        · rintro (q | ⟨q, e⟩)
          · exact ⟨by omega, q.2⟩
          · subst e; exact ⟨by omega, (key t (by omega)).mp q⟩
        · rintro ⟨q, e⟩
          rcases Nat.lt_or_ge t i with l | l
          · exact Or.inl ⟨l, e⟩
          · obtain rfl : t = i := by omega
            exact Or.inr ⟨(key t (by omega)).mpr e, rfl⟩
    exact ⟨9, L 8 0 9 0 (by omega) (by omega) fun t => by rw [b_0]; exact ⟨fun q => absurd q (by decide), fun q => by omega⟩⟩
end
end
section
/-! the victim: dirty counts, comparison, choice; Y's closure -/
def mi_D (N F : Nat) (xwr xdr : Nat → Int32) : Prop :=
  (∀ n, n < N → xwr n = -1 ∨ ∃ t, t < 8 ∧ xwr n = nI t ∧ F ≤ n) ∧ (∀ t n, t < 8 → (bt (xdr t) n = true ↔ n < N ∧ F ≤ n ∧ xwr n = nI t))
def mi_L (nb : Nat) (xlm : Int32) (xst xbb : Nat → Int32) (ynB : Int64) (ybg : Nat → Int64) : Prop :=
  (ynB = lN nb ∧ nb < 2 ^ 31) ∧
  (∀ t, bt xlm t = true ↔ t < 8 ∧ (xst t = 1 ∨ xst t = 2)) ∧
  (∀ t, t < 8 → (xst t = 1 ∨ xst t = 2) → (ybg t).toInt < nb ∧ ∀ u, bt (xbb t) u = true ↔ u < 8 ∧ (xst u = 1 ∨ xst u = 2) ∧ ybg u < ybg t)
theorem mv_nar (P : Prop) : vp_nar .boolean (mb_01 P) = mb_01 P := mb_01c (q := fun x => vp_nar .boolean x = x) (fun _ => rfl) (fun _ => rfl)
theorem mv_narrow (P : Prop) : narrow .boolean (.int (mb_01 P)) = .int (mb_01 P) := mb_01c (q := fun x => narrow .boolean (.int x) = .int x) (fun _ => rfl) (fun _ => rfl)
theorem mb_cn_e {p : Nat → Bool} {m : Nat} : ∀ d, (∀ i, m ≤ i → i < m + d → p i = false) → mb_cn p (m + d) = mb_cn p m
  | 0, _ => rfl
  | d + 1, h => by
    rw [← Nat.add_assoc, mb_cn, mb_cn_e d (fun i h1 h2 => h i h1 (by omega)), h (m + d) (by omega) (by omega)]
    rfl
theorem mb_cn_0 {p : Nat → Bool} {m : Nat} (h : ∀ i, i < m → p i = false) : mb_cn p m = 0 := by
  have := mb_cn_e (p := p) (m := 0) m (fun i _ hi => h i (by omega))
  rw [Nat.zero_add] at this
  rw [this]; rfl
/-- whether t is to be the victim rather than u -/
def mv_ra (xpr xdr : Nat → Int32) (ybg : Nat → Int64) (t u : Nat) : Prop :=
  (xpr t ≠ xpr u ∧ xpr t < xpr u) ∨ (xpr t = xpr u ∧ ((mb_cn (bt (xdr t)) 32 ≠ mb_cn (bt (xdr u)) 32 ∧ mb_cn (bt (xdr t)) 32 < mb_cn (bt (xdr u)) 32) ∨ (mb_cn (bt (xdr t)) 32 = mb_cn (bt (xdr u)) 32 ∧ ybg u < ybg t)))
noncomputable def mv_b (mem : Nat → Prop) (ra : Nat → Nat → Prop) : Nat → Option Nat
  | 0 => none
  | n + 1 => @ite _ (mem n) (Classical.propDecidable _) (match mv_b mem ra n with | none => some n | some b => @ite _ (ra n b) (Classical.propDecidable _) (some n) (some b)) (mv_b mem ra n)
def mv_i : Option Nat → Int32
  | none => -1
  | some b => nI b
section
variable {mem : Nat → Prop} {ra : Nat → Nat → Prop} {n b : Nat}
theorem mv_b0 (h : ¬ mem n) : mv_b mem ra (n + 1) = mv_b mem ra n := by rw [mv_b, if_neg h]
theorem mv_b1 (h : mem n) (e : mv_b mem ra n = none) : mv_b mem ra (n + 1) = some n := by rw [mv_b, if_pos h, e]
theorem mv_b2 (h : mem n) (e : mv_b mem ra n = some b) (r : ra n b) : mv_b mem ra (n + 1) = some n := by rw [mv_b, if_pos h, e]; exact if_pos r
theorem mv_b3 (h : mem n) (e : mv_b mem ra n = some b) (r : ¬ ra n b) : mv_b mem ra (n + 1) = some b := by rw [mv_b, if_pos h, e]; exact if_neg r
theorem mv_bs : ∀ n b, mv_b mem ra n = some b → b < n ∧ mem b := by
  intro n
  induction n with
  | zero => intro b e; rw [mv_b] at e; exact nomatch e
  | succ n ih =>
    intro b e
    rcases Classical.em (mem n) with h | h
    · cases q : mv_b mem ra n with
      | none => rw [mv_b1 h q] at e; cases e; exact ⟨by omega, h⟩
      | some c =>
        rcases Classical.em (ra n c) with r | r
        · rw [mv_b2 h q r] at e; cases e; exact ⟨by omega, h⟩
        · rw [mv_b3 h q r] at e; cases e; have := ih b q; exact ⟨by omega, this.2⟩
    · rw [mv_b0 h] at e; have := ih b e; exact ⟨by omega, this.2⟩
theorem mv_bn : ∀ n, mv_b mem ra n = none → ∀ t, t < n → ¬ mem t := by
  intro n
  induction n with
  | zero => intro _ t ht; omega
  | succ n ih =>
    intro e t ht
    rcases Classical.em (mem n) with h | h
    · exfalso
      cases q : mv_b mem ra n with
      | none => rw [mv_b1 h q] at e; exact nomatch e
      | some c =>
        rcases Classical.em (ra n c) with r | r
        · rw [mv_b2 h q r] at e; exact nomatch e
        · rw [mv_b3 h q r] at e; exact nomatch e
    · rw [mv_b0 h] at e
      rcases Nat.lt_or_ge t n with l | l
      · exact ih e t l
      · rw [show t = n by omega]; exact h
end
section
variable {N F : Nat} {dp : Nat → Nat} {pt : Nat → Nat → Nat} {fr er : Nat → Nat} {nb nw : Nat} {xnc xfn xel xlm xwm xtc xsu xco xvi xlv xes : Int32} {xdO xpA xab xbe xrb xfO xeO xic xcu xcm xwr xst xac xpr xbb xdr xok xon xoa xgn xgm xh xni xhn xho xhb xwn xwd xwf xwt xbk xre : Nat → Int32} {ynB ynW : Int64} {ypa : Nat → Int32} {ybg : Nat → Int64} {ykd : Nat → Int32} {ywb : Nat → Int64} {yld : Nat → Int32}
theorem my_dirty (T : (mt_T N F dp pt fr er xnc xfn xdO xpA xab xbe xrb xfO xeO xic ypa)) (D : (mi_D N F xwr xdr)) {post : Int32 → Prop} {t : Nat} (ht : t < 8) (h : post (nI (mb_cn (bt (xdr t)) 32))) : wpY_dirty post (xfn, xnc, xel, ynB, ynW, xco, xvi, xlv, xes, ypa, xcu, xcm, xwr, xh, xst, xac, xpr, ybg, ykd, xon, xoa, xgn, xgm, xwn, xwd, ywb, yld) (nI t) := by
  obtain ⟨q1, q2, q3, q4, q5⟩ := T.1
  have lo : mb_cn (bt (xdr t)) F = 0 := mb_cn_0 fun i hi => by
    rw [mb_bf, D.2 t i ht]; intro q; omega
  have hi32 : mb_cn (bt (xdr t)) 32 = mb_cn (bt (xdr t)) N := by
    rw [show 32 = N + (32 - N) by omega]
    exact mb_cn_e _ fun i h1 h2 => by rw [mb_bf, D.2 t i ht]; intro q; omega
  have L : ∀ (d i n : Nat), i + d = N → d < n → F ≤ i → wY_dirty_17 post (nI t) xfn xnc xel ynB ynW xco xvi xlv xes ypa xcu xcm xwr xh xst xac xpr ybg ykd xon xoa xgn xgm xwn xwd ywb yld n (nI (mb_cn (bt (xdr t)) i)) (nI i) := by
    intro d
    induction d with
    | zero =>
      intro i n hi hn hf
      obtain ⟨n, rfl⟩ : ∃ j, n = j + 1 := ⟨n - 1, by omega⟩
      rw [wY_dirty_17]
      refine br_t (by rw [q1]; exact nI_le (by omega) (by omega)) ?_
      rw [show i = N by omega, ← hi32]
      exact h
    | succ d ih =>
      intro i n hi hn hf
      obtain ⟨n, rfl⟩ : ∃ j, n = j + 1 := ⟨n - 1, by omega⟩
      rw [wY_dirty_17]
      have nx := ih (i + 1) n (by omega) (by omega) (by omega)
      refine br_f (by rw [q1]; exact nI_ge (by omega) (by omega)) ⟨mb_n31 (by omega), ?_⟩
      rw [mb_c (by omega)]
      refine br_c (fun z => nm_r (nI_1 _) (nm_r (nI_1 i) ?_)) (fun z => nm_r (nI_1 i) ?_)
      · rw [mb_cn, if_pos ((D.2 t i ht).mpr ⟨by omega, hf, z⟩)] at nx
        exact nx
      · rw [mb_cn, if_neg fun q => z ((D.2 t i ht).mp q).2.2] at nx
        exact nx
  have L0 := L (N - F) F (N + 1) (by omega) (by omega) (by omega)
  rw [lo] at L0
  unfold wpY_dirty
  refine my_isTxn (mb_br (fun z => absurd ⟨nI_pos (by omega), nI_ge (b := 8) ht (by decide)⟩ z) (fun _ => ⟨N + 1, ?_⟩))
  rw [q2]
  rw [q2] at L0
  exact L0
theorem mx_cheaper (L : (mi_L nb xlm xst xbb ynB ybg)) {post : Int32 → Prop} {t u : Nat} (ht : t < 8) (hu : u < 8) (lt : xst t = 1 ∨ xst t = 2) (lu : xst u = 1 ∨ xst u = 2)
    (h : post (mb_01 (mv_ra xpr xdr ybg t u))) : wpX_isCheaper post (xnc, xfn, xel, xlm, xwm, xtc, xsu, xco, xvi, xlv, xes, xdO, xpA, xab, xbe, xrb, xfO, xeO, xic, xcu, xcm, xwr, xst, xac, xpr, xbb, xdr, xok, xon, xoa, xgn, xgm, xh, xni, xhn, xho, xhb, xwn, xwd, xwf, xwt, xbk, xre) (nI t) (nI u) := by
  have ct : (nI t).toNatClampNeg = t := mb_c (by omega)
  have cu : (nI u).toNatClampNeg = u := mb_c (by omega)
  have l1 := mb_cn_le (bt (xdr t)) 32
  have l2 := mb_cn_le (bt (xdr u)) 32
  have T1 : mv_ra xpr xdr ybg t u → post 1 := fun z => by rw [mb_t z] at h; exact h
  have F0 : ¬ mv_ra xpr xdr ybg t u → post 0 := fun z => by rw [mb_f z] at h; exact h
  refine ⟨mb_v8 ht, mb_v8 hu, ?_⟩
  rw [ct, cu]
  refine br_c (fun e => ⟨mb_v8 ht, mx_bitCount _ ⟨mb_v8 hu, mx_bitCount _ (br_c (fun z => ⟨mb_v8 ht, br_c (fun y => F0 fun q => ?_) (fun y => T1 (Or.inr ⟨e, Or.inr ⟨?_, ?_⟩⟩))⟩) (fun z => br_c (fun y => F0 fun q => ?_) (fun y => T1 (Or.inr ⟨e, Or.inl ⟨fun k => z (by rw [k]), ?_⟩⟩))))⟩⟩) (fun e => ⟨mb_v8 ht, mb_v8 hu, br_c (fun z => F0 fun q => ?_) (fun z => T1 (Or.inl ⟨e, Int32.not_le.mp z⟩))⟩)
  · have z := mb_inj (by omega) (by omega) z
    rw [mb_and0 (by omega), mb_bf, (L.2.2 t ht lt).2 u] at y
    exact q.elim (fun k => k.1 e) fun k => k.2.elim (fun k => k.1 z) fun k => y ⟨hu, lu, k.2⟩
  · exact mb_inj (by omega) (by omega) z
  · rw [mb_and1 (by omega), (L.2.2 t ht lt).2 u] at y
    exact y.2.2
  · rw [nI_leI (by omega) (by omega)] at y
    exact q.elim (fun k => k.1 e) fun k => k.2.elim (fun k => by omega) fun k => z (by rw [k.1])
  · rw [nI_leI (by omega) (by omega)] at y
    omega
  · exact q.elim (fun k => Int32.not_le.mpr k.2 z) fun k => e k.1
theorem my_rather (T : (mt_T N F dp pt fr er xnc xfn xdO xpA xab xbe xrb xfO xeO xic ypa)) (D : (mi_D N F xwr xdr)) {post : Int32 → Prop} {t u : Nat} (ht : t < 8) (hu : u < 8)
    (h : post (mb_01 (mv_ra xpr xdr ybg t u))) : wpY_rather post (xfn, xnc, xel, ynB, ynW, xco, xvi, xlv, xes, ypa, xcu, xcm, xwr, xh, xst, xac, xpr, ybg, ykd, xon, xoa, xgn, xgm, xwn, xwd, ywb, yld) (nI t) (nI u) := by
  have ct : (nI t).toNatClampNeg = t := mb_c (by omega)
  have cu : (nI u).toNatClampNeg = u := mb_c (by omega)
  have l1 := mb_cn_le (bt (xdr t)) 32
  have l2 := mb_cn_le (bt (xdr u)) 32
  have T1 : mv_ra xpr xdr ybg t u → post 1 := fun z => by rw [mb_t z] at h; exact h
  have F0 : ¬ mv_ra xpr xdr ybg t u → post 0 := fun z => by rw [mb_f z] at h; exact h
  refine ⟨mb_v8 ht, mb_v8 hu, ?_⟩
  rw [ct, cu]
  refine br_c (fun e => my_dirty T D ht (my_dirty T D hu (br_c (fun z => ⟨mb_v8 ht, mb_v8 hu, br_c (fun y => F0 fun q => ?_) (fun y => T1 (Or.inr ⟨e, Or.inr ⟨?_, Int64.not_le.mp y⟩⟩))⟩) (fun z => br_c (fun y => F0 fun q => ?_) (fun y => T1 (Or.inr ⟨e, Or.inl ⟨fun k => z (by rw [k]), ?_⟩⟩)))))) (fun e => ⟨mb_v8 ht, mb_v8 hu, br_c (fun z => F0 fun q => ?_) (fun z => T1 (Or.inl ⟨e, Int32.not_le.mp z⟩))⟩)
  · have z := mb_inj (by omega) (by omega) z
    exact q.elim (fun k => k.1 e) fun k => k.2.elim (fun k => k.1 z) fun k => Int64.not_le.mpr k.2 y
  · exact mb_inj (by omega) (by omega) z
  · rw [nI_leI (by omega) (by omega)] at y
    exact q.elim (fun k => k.1 e) fun k => k.2.elim (fun k => by omega) fun k => z (by rw [k.1])
  · rw [nI_leI (by omega) (by omega)] at y
    omega
  · exact q.elim (fun k => Int32.not_le.mpr k.2 z) fun k => e k.1
theorem mx_pick (L : (mi_L nb xlm xst xbb ynB ybg)) {post : Int32 → Prop} {M : Int32} {mem : Nat → Prop} (hM : ∀ t, t < 8 → (bt M t = true ↔ mem t)) (hm : ∀ t, t < 8 → mem t → xst t = 1 ∨ xst t = 2)
    (h : post (mv_i (mv_b mem (mv_ra xpr xdr ybg) 8))) : wpX_pickVictim post (xnc, xfn, xel, xlm, xwm, xtc, xsu, xco, xvi, xlv, xes, xdO, xpA, xab, xbe, xrb, xfO, xeO, xic, xcu, xcm, xwr, xst, xac, xpr, xbb, xdr, xok, xon, xoa, xgn, xgm, xh, xni, xhn, xho, xhb, xwn, xwd, xwf, xwt, xbk, xre) M := by
  have K : ∀ (d i n : Nat), i + d = 8 → d < n → wX_pickVictim_4 post M xnc xfn xel xlm xwm xtc xsu xco xvi xlv xes xdO xpA xab xbe xrb xfO xeO xic xcu xcm xwr xst xac xpr xbb xdr xok xon xoa xgn xgm xh xni xhn xho xhb xwn xwd xwf xwt xbk xre n (mv_i (mv_b mem (mv_ra xpr xdr ybg) i)) (nI i) := by
    intro d
    induction d with
    | zero =>
      intro i n hi hn
      obtain ⟨n, rfl⟩ : ∃ j, n = j + 1 := ⟨n - 1, by omega⟩
      rw [wX_pickVictim_4]
      obtain rfl : i = 8 := by omega
      exact br_t (nI_le (a := 8) (by omega) (by omega)) h
    | succ d ih =>
      intro i n hi hn
      obtain ⟨n, rfl⟩ : ∃ j, n = j + 1 := ⟨n - 1, by omega⟩
      rw [wX_pickVictim_4]
      have nx := ih (i + 1) n (by omega) (by omega)
      refine br_f (nI_ge (b := 8) (by omega) (by decide)) (br_c (fun z => nm_r (nI_1 i) ?_) (fun z => ?_))
      · rw [mb_and0 (by omega), mb_bf, hM i (by omega)] at z
        rw [mv_b0 z] at nx
        exact nx
      · rw [mb_and1 (by omega), hM i (by omega)] at z
        cases e : mv_b mem (mv_ra xpr xdr ybg) i with
        | none =>
          rw [mv_b1 z e] at nx
          exact br_f (show ¬ (0 : Int32) ≤ -1 by decide) (nm_r (nI_1 i) nx)
        | some b =>
          obtain ⟨b1, b2⟩ := mv_bs i b e
          refine br_t (nI_pos' (by omega)) (mx_cheaper L (by omega) (by omega) (hm i (by omega) z) (hm b (by omega) b2) (mb_br (fun r => nm_r (nI_1 i) ?_) (fun r => nm_r (nI_1 i) ?_)))
          · rw [mv_b3 z e r] at nx; exact nx
          · rw [mv_b2 z e r] at nx; exact nx
  exact ⟨9, K 8 0 9 (by omega) (by omega)⟩
/-- t waits for u -/
def mw_wf (N : Nat) (xh xst xwn xwd : Nat → Int32) (ywb : Nat → Int64) (t u : Nat) : Prop := xst t = 2 ∧ ∃ a, a < N ∧ xwn t = nI a ∧ mw_bk xh xst xwn xwd ywb t a (xwd t) (ywb t) u
theorem my_waitsFor (T : (mt_T N F dp pt fr er xnc xfn xdO xpA xab xbe xrb xfO xeO xic ypa)) (Z : (mi_Z xst xh)) (W : (mi_W N nw xwm xst xwn xwd xwf xwt ynW ywb)) {post : Int32 → Prop} {t u : Nat} (ht : t < 8) (hu : u < 8) (h : post (mb_01 (mw_wf N xh xst xwn xwd ywb t u))) : wpY_waitsFor post (xfn, xnc, xel, ynB, ynW, xco, xvi, xlv, xes, ypa, xcu, xcm, xwr, xh, xst, xac, xpr, ybg, ykd, xon, xoa, xgn, xgm, xwn, xwd, ywb, yld) (nI t) (nI u) := by
  have hN := mt_N T
  have ct : (nI t).toNatClampNeg = t := mb_c (by omega)
  have F0 : ¬ mw_wf N xh xst xwn xwd ywb t u → post 0 := fun z => by rw [mb_f z] at h; exact h
  unfold wpY_waitsFor
  refine my_isTxn (mb_br (fun z => absurd ⟨nI_pos (by omega), nI_ge (b := 8) ht (by decide)⟩ z) (fun _ => my_isTxn (mb_br (fun z => absurd ⟨nI_pos (by omega), nI_ge (b := 8) hu (by decide)⟩ z) (fun _ => br_c (fun z => F0 fun q => ?_) (fun z => ⟨mb_v8 ht, ?_⟩)))))
  · obtain ⟨_, a, _, _, k⟩ := q
    exact k.1 (mb_inj (by omega) (by omega) z)
  · rw [ct]
    refine br_c (fun y => ⟨mb_v8 ht, mb_v8 ht, mb_v8 ht, ?_⟩) (fun y => F0 fun q => y q.1)
    obtain ⟨⟨a, ha, ea⟩, _⟩ := W.2.2.1 t ht y
    rw [ea]
    have e : mw_bk xh xst xwn xwd ywb t a (xwd t) (ywb t) u ↔ mw_wf N xh xst xwn xwd ywb t u := by
      refine ⟨fun k => ⟨y, a, ha, ea, k⟩, fun ⟨_, b, hb, eb, k⟩ => ?_⟩
      rw [ea] at eb
      have := mb_inj (by omega) (by omega) eb
      subst this
      exact k
    refine my_blocks T Z ht hu ha ⟨mv_narrow _, ?_⟩
    rw [mb_cg e]
    exact h
end
end
section
/-! Y's chooseVictim -/
def mc_ld (ld : Nat → Int32) (M : Nat → Nat → Prop) : Prop := ∀ t u, t < 8 → u < 8 → ld (t * 8 + u) = mb_01 (M t u)
theorem mc_ld_c {ld : Nat → Int32} {M M' : Nat → Nat → Prop} (h : mc_ld ld M) (e : ∀ x y, x < 8 → y < 8 → (M x y ↔ M' x y)) : mc_ld ld M' := fun t u ht hu => by
  rw [h t u ht hu, mb_cg (e t u ht hu)]
theorem mc_ld_u {ld : Nat → Int32} {M M' : Nat → Nat → Prop} {t u : Nat} {P : Prop} (ht : t < 8) (hu : u < 8) (h : mc_ld ld M) (e : ∀ x y, x < 8 → y < 8 → ¬ (x = t ∧ y = u) → (M x y ↔ M' x y)) (p : M' t u ↔ P) : mc_ld (upd ld (t * 8 + u) (mb_01 P)) M' := fun x y hx hy => by
  by_cases z : x = t ∧ y = u
  · obtain ⟨rfl, rfl⟩ := z
    rw [pk_us, mb_cg p]
  · rw [pk_un (by omega), h x y hx hy, mb_cg (e x y hx hy z)]
theorem mb_v64 {t u : Nat} (ht : t < 8) (hu : u < 8) : vp_in (nI t * 8 + nI u) 64 := by
  rw [mb_i8]; exact vp_in_nI (by omega) (by omega)
theorem mb_c64 {t u : Nat} (ht : t < 8) (hu : u < 8) : (nI t * 8 + nI u).toNatClampNeg = t * 8 + u := by
  rw [mb_i8]; exact nI_clamp (by omega)
section
variable {N F : Nat} {dp : Nat → Nat} {pt : Nat → Nat → Nat} {fr er : Nat → Nat} {nb nw : Nat} {xnc xfn xel xlm xwm xtc xsu xco xvi xlv xes : Int32} {xdO xpA xab xbe xrb xfO xeO xic xcu xcm xwr xst xac xpr xbb xdr xok xon xoa xgn xgm xh xni xhn xho xhb xwn xwd xwf xwt xbk xre : Nat → Int32} {ynB ynW : Int64} {ypa : Nat → Int32} {ybg : Nat → Int64} {ykd : Nat → Int32} {ywb : Nat → Int64} {yld : Nat → Int32}
theorem my_cv63 {post : Int32 → SY → Prop} {J47 J55 : Int32 → (Nat → Int32) → (Nat → Int32) → (Nat → Int32) → (Nat → Int32) → (Nat → Int32) → (Nat → Int32) → (Nat → Int32) → (Nat → Int32) → (Nat → Int64) → (Nat → Int32) → (Nat → Int32) → (Nat → Int32) → (Nat → Int32) → (Nat → Int32) → (Nat → Int32) → (Nat → Int32) → (Nat → Int64) → (Nat → Int32) → Prop} {k t : Nat} (hk : k < 8) (ht : t < 8) {M : Nat → Nat → Prop}
    (hJ : ∀ ld : Nat → Int32, mc_ld ld (fun x y => M x y ∨ (x < t + 1 ∧ M x k ∧ M k y)) → J55 (nI (t + 1)) ypa xcu xcm xwr xh xst xac xpr ybg ykd xon xoa xgn xgm xwn xwd ywb ld) :
    ∀ (d i n : Nat) (ld : Nat → Int32), i + d = 8 → d < n → mc_ld ld (fun x y => M x y ∨ ((x < t ∨ (x = t ∧ y < i)) ∧ M x k ∧ M k y)) → wY_chooseVictim_63 post J47 J55 (nI k) (nI t) xfn xnc xel ynB ynW xco xvi xlv xes n (nI i) ypa xcu xcm xwr xh xst xac xpr ybg ykd xon xoa xgn xgm xwn xwd ywb ld := by
  intro d
  induction d with
  | zero =>
    intro i n ld hi hn hl
    obtain ⟨n, rfl⟩ : ∃ j, n = j + 1 := ⟨n - 1, by omega⟩
    rw [wY_chooseVictim_63]
    refine br_t (nI_le (a := 8) (by omega) (by omega)) (nm_r (nI_1 t) (hJ ld (mc_ld_c hl fun x y hx hy => ?_)))
    exact ⟨fun q => q.elim Or.inl fun q => Or.inr ⟨by omega, q.2⟩, fun q => q.elim Or.inl fun q => Or.inr ⟨by omega, q.2⟩⟩
  | succ d ih =>
    intro i n ld hi hn hl
    obtain ⟨n, rfl⟩ : ∃ j, n = j + 1 := ⟨n - 1, by omega⟩
    rw [wY_chooseVictim_63]
    have i8 : i < 8 := by omega
    have e1 : ld (t * 8 + k) = mb_01 (M t k) := by
      rw [hl t k ht hk]
      exact mb_cg ⟨fun q => q.elim id fun q => q.2.1, Or.inl⟩
    have e2 : ld (k * 8 + i) = mb_01 (M k i) := by
      rw [hl k i hk i8]
      exact mb_cg ⟨fun q => q.elim id fun q => q.2.2, Or.inl⟩
    have same : ¬ (M t k ∧ M k i) → mc_ld ld (fun x y => M x y ∨ ((x < t ∨ (x = t ∧ y < i + 1)) ∧ M x k ∧ M k y)) := fun z => mc_ld_c hl fun x y hx hy => by
      refine ⟨fun q => q.elim Or.inl fun q => Or.inr ⟨by omega, q.2⟩, fun q => q.elim Or.inl fun q => ?_⟩
      by_cases w : x = t ∧ y = i
      · obtain ⟨rfl, rfl⟩ := w; exact absurd q.2 z
      · exact Or.inr ⟨by omega, q.2⟩
    refine br_f (nI_ge (b := 8) (by omega) (by decide)) ⟨mb_v64 ht hk, ?_⟩
    rw [mb_c64 ht hk, e1]
    refine mb_br (fun z => nm_r (nI_1 i) (ih (i + 1) n ld (by omega) (by omega) (same fun q => z q.1))) (fun z => ⟨mb_v64 hk i8, ?_⟩)
    rw [mb_c64 hk i8, e2]
    refine mb_br (fun y => nm_r (nI_1 i) (ih (i + 1) n ld (by omega) (by omega) (same fun q => y q.2))) (fun y => ⟨mb_v64 ht i8, nm_r (e' := upd ld (t * 8 + i) (mb_01 True)) (by rw [mb_c64 ht i8, mb_t trivial]; rfl) (nm_r (nI_1 i) (ih (i + 1) n _ (by omega) (by omega) (mc_ld_u ht i8 hl (fun a b ha hb w => ?_) ?_)))⟩)
    · exact ⟨fun q => q.elim Or.inl fun q => Or.inr ⟨by omega, q.2⟩, fun q => q.elim Or.inl fun q => Or.inr ⟨by omega, q.2⟩⟩
    · exact ⟨fun _ => trivial, fun _ => Or.inr ⟨Or.inr ⟨rfl, by omega⟩, z, y⟩⟩
theorem my_cv55 {post : Int32 → SY → Prop} {J47 : Int32 → (Nat → Int32) → (Nat → Int32) → (Nat → Int32) → (Nat → Int32) → (Nat → Int32) → (Nat → Int32) → (Nat → Int32) → (Nat → Int32) → (Nat → Int64) → (Nat → Int32) → (Nat → Int32) → (Nat → Int32) → (Nat → Int32) → (Nat → Int32) → (Nat → Int32) → (Nat → Int32) → (Nat → Int64) → (Nat → Int32) → Prop} {k : Nat} (hk : k < 8) {M : Nat → Nat → Prop}
    (hJ : ∀ ld : Nat → Int32, mc_ld ld (fun x y => M x y ∨ (M x k ∧ M k y)) → J47 (nI (k + 1)) ypa xcu xcm xwr xh xst xac xpr ybg ykd xon xoa xgn xgm xwn xwd ywb ld) :
    ∀ (d t n : Nat) (ld : Nat → Int32), t + d = 8 → d < n → mc_ld ld (fun x y => M x y ∨ (x < t ∧ M x k ∧ M k y)) → wY_chooseVictim_55 post J47 (nI k) xfn xnc xel ynB ynW xco xvi xlv xes n (nI t) ypa xcu xcm xwr xh xst xac xpr ybg ykd xon xoa xgn xgm xwn xwd ywb ld := by
  intro d
  induction d with
  | zero =>
    intro t n ld hi hn hl
    obtain ⟨n, rfl⟩ : ∃ j, n = j + 1 := ⟨n - 1, by omega⟩
    rw [wY_chooseVictim_55]
    refine br_t (nI_le (a := 8) (by omega) (by omega)) (nm_r (nI_1 k) (hJ ld (mc_ld_c hl fun x y hx hy => ?_)))
    exact ⟨fun q => q.elim Or.inl fun q => Or.inr q.2, fun q => q.elim Or.inl fun q => Or.inr ⟨by omega, q⟩⟩
  | succ d ih =>
    intro t n ld hi hn hl
    obtain ⟨n, rfl⟩ : ∃ j, n = j + 1 := ⟨n - 1, by omega⟩
    rw [wY_chooseVictim_55]
    refine br_f (nI_ge (b := 8) (by omega) (by decide)) ⟨9, my_cv63 (M := M) hk (by omega) (fun ld' hl' => ih (t + 1) n ld' (by omega) (by omega) hl') 8 0 9 ld (by omega) (by omega) (mc_ld_c hl fun x y hx hy => ?_)⟩
    exact ⟨fun q => q.elim Or.inl fun q => Or.inr ⟨Or.inl q.1, q.2⟩, fun q => q.elim Or.inl fun q => Or.inr ⟨by omega, q.2⟩⟩
theorem my_cv131 (T : (mt_T N F dp pt fr er xnc xfn xdO xpA xab xbe xrb xfO xeO xic ypa)) (D : (mi_D N F xwr xdr)) {post : Int32 → SY → Prop} {mem : Nat → Prop} {ld : Nat → Int32} (hm : ∀ t, t < 8 → ld (t * 8 + t) = mb_01 (mem t))
    (h : post (mv_i (mv_b mem (mv_ra xpr xdr ybg) 8)) (xfn, xnc, xel, ynB, ynW, xco, xvi, xlv, xes, ypa, xcu, xcm, xwr, xh, xst, xac, xpr, ybg, ykd, xon, xoa, xgn, xgm, xwn, xwd, ywb, ld)) :
    ∀ (d i n : Nat), i + d = 8 → d < n → wY_chooseVictim_131 post xfn xnc xel ynB ynW xco xvi xlv xes ypa xcu xcm xwr xh xst xac xpr ybg ykd xon xoa xgn xgm xwn xwd ywb ld n (mv_i (mv_b mem (mv_ra xpr xdr ybg) i)) (nI i) := by
  intro d
  induction d with
  | zero =>
    intro i n hi hn
    obtain ⟨n, rfl⟩ : ∃ j, n = j + 1 := ⟨n - 1, by omega⟩
    rw [wY_chooseVictim_131]
    obtain rfl : i = 8 := by omega
    exact br_t (nI_le (a := 8) (by omega) (by omega)) h
  | succ d ih =>
    intro i n hi hn
    obtain ⟨n, rfl⟩ : ∃ j, n = j + 1 := ⟨n - 1, by omega⟩
    rw [wY_chooseVictim_131]
    have i8 : i < 8 := by omega
    have nx := ih (i + 1) n (by omega) (by omega)
    refine br_f (nI_ge (b := 8) (by omega) (by decide)) ⟨mb_v64 i8 i8, ?_⟩
    rw [mb_c64 i8 i8, hm i i8]
    refine mb_br (fun z => nm_r (nI_1 i) ?_) (fun z => ?_)
    · rw [mv_b0 z] at nx; exact nx
    · cases e : mv_b mem (mv_ra xpr xdr ybg) i with
      | none =>
        rw [mv_b1 z e] at nx
        exact br_t (show (-1 : Int32) < 0 by decide) (nm_r (nI_1 i) nx)
      | some b =>
        obtain ⟨b1, b2⟩ := mv_bs i b e
        refine br_f (nI_pos (by omega)) (my_rather T D i8 (by omega) (mb_br (fun r => nm_r (nI_1 i) ?_) (fun r => nm_r (nI_1 i) ?_)))
        · rw [mv_b3 z e r] at nx; exact nx
        · rw [mv_b2 z e r] at nx; exact nx
theorem my_cv47 (T : (mt_T N F dp pt fr er xnc xfn xdO xpA xab xbe xrb xfO xeO xic ypa)) (D : (mi_D N F xwr xdr)) {post : Int32 → SY → Prop} {M : Nat → Nat → Prop} (hM : ∀ x y, M x y → x < 8)
    (h : ∀ ld : Nat → Int32, post (mv_i (mv_b (fun t => Relation.TransGen M t t) (mv_ra xpr xdr ybg) 8)) (xfn, xnc, xel, ynB, ynW, xco, xvi, xlv, xes, ypa, xcu, xcm, xwr, xh, xst, xac, xpr, ybg, ykd, xon, xoa, xgn, xgm, xwn, xwd, ywb, ld)) :
    ∀ (d k n : Nat) (ld : Nat → Int32), k + d = 8 → d < n → mc_ld ld (mc_wa M k) → wY_chooseVictim_47 post xfn xnc xel ynB ynW xco xvi xlv xes n (nI k) ypa xcu xcm xwr xh xst xac xpr ybg ykd xon xoa xgn xgm xwn xwd ywb ld := by
  intro d
  induction d with
  | zero =>
    intro k n ld hi hn hl
    obtain ⟨n, rfl⟩ : ∃ j, n = j + 1 := ⟨n - 1, by omega⟩
    rw [wY_chooseVictim_47]
    obtain rfl : k = 8 := by omega
    exact br_t (nI_le (a := 8) (by omega) (by omega)) ⟨9, my_cv131 T D (fun t ht => by rw [hl t t ht ht, mb_cg (mc_wa_i hM)]) (h ld) 8 0 9 (by omega) (by omega)⟩
  | succ d ih =>
    intro k n ld hi hn hl
    obtain ⟨n, rfl⟩ : ∃ j, n = j + 1 := ⟨n - 1, by omega⟩
    rw [wY_chooseVictim_47]
    refine br_f (nI_ge (b := 8) (by omega) (by decide)) ⟨9, my_cv55 (M := mc_wa M k) (by omega) (fun ld' hl' => ih (k + 1) n ld' (by omega) (by omega) hl') 8 0 9 ld (by omega) (by omega) (mc_ld_c hl fun x y hx hy => ?_)⟩
    exact ⟨Or.inl, fun q => q.elim id fun q => by omega⟩
theorem my_cv10 (T : (mt_T N F dp pt fr er xnc xfn xdO xpA xab xbe xrb xfO xeO xic ypa)) (Z : (mi_Z xst xh)) (W : (mi_W N nw xwm xst xwn xwd xwf xwt ynW ywb)) {post : Int32 → SY → Prop} {J2 : Int32 → (Nat → Int32) → (Nat → Int32) → (Nat → Int32) → (Nat → Int32) → (Nat → Int32) → (Nat → Int32) → (Nat → Int32) → (Nat → Int32) → (Nat → Int64) → (Nat → Int32) → (Nat → Int32) → (Nat → Int32) → (Nat → Int32) → (Nat → Int32) → (Nat → Int32) → (Nat → Int32) → (Nat → Int64) → (Nat → Int32) → Prop} {t : Nat} (ht : t < 8)
    (hJ : ∀ ld : Nat → Int32, (∀ x y, x < t + 1 → y < 8 → ld (x * 8 + y) = mb_01 (mw_wf N xh xst xwn xwd ywb x y)) → J2 (nI (t + 1)) ypa xcu xcm xwr xh xst xac xpr ybg ykd xon xoa xgn xgm xwn xwd ywb ld) :
    ∀ (d i n : Nat) (ld : Nat → Int32), i + d = 8 → d < n → (∀ x y, (x < t ∨ (x = t ∧ y < i)) → y < 8 → ld (x * 8 + y) = mb_01 (mw_wf N xh xst xwn xwd ywb x y)) → wY_chooseVictim_10 post J2 (nI t) xfn xnc xel ynB ynW xco xvi xlv xes n (nI i) ypa xcu xcm xwr xh xst xac xpr ybg ykd xon xoa xgn xgm xwn xwd ywb ld := by
  intro d
  induction d with
  | zero =>
    intro i n ld hi hn hl
    obtain ⟨n, rfl⟩ : ∃ j, n = j + 1 := ⟨n - 1, by omega⟩
    rw [wY_chooseVictim_10]
    exact br_t (nI_le (a := 8) (by omega) (by omega)) (nm_r (nI_1 t) (hJ ld fun x y hx hy => hl x y (by omega) hy))
  | succ d ih =>
    intro i n ld hi hn hl
    obtain ⟨n, rfl⟩ : ∃ j, n = j + 1 := ⟨n - 1, by omega⟩
    rw [wY_chooseVictim_10]
    have i8 : i < 8 := by omega
    refine br_f (nI_ge (b := 8) (by omega) (by decide)) (my_waitsFor T Z W ht i8 ⟨mb_v64 ht i8, nm_r (e' := upd ld (t * 8 + i) (mb_01 (mw_wf N xh xst xwn xwd ywb t i))) (by rw [mb_c64 ht i8, mv_nar]) (nm_r (nI_1 i) (ih (i + 1) n _ (by omega) (by omega) fun x y hx hy => ?_))⟩)
    by_cases w : x = t ∧ y = i
    · obtain ⟨rfl, rfl⟩ := w
      rw [pk_us]
    · rw [pk_un (by omega)]
      exact hl x y (by omega) hy
theorem my_cv2 (T : (mt_T N F dp pt fr er xnc xfn xdO xpA xab xbe xrb xfO xeO xic ypa)) (Z : (mi_Z xst xh)) (W : (mi_W N nw xwm xst xwn xwd xwf xwt ynW ywb)) (D : (mi_D N F xwr xdr)) {post : Int32 → SY → Prop} {M : Nat → Nat → Prop} (hM : ∀ x y, M x y → x < 8) (hw : ∀ x y, x < 8 → y < 8 → (mw_wf N xh xst xwn xwd ywb x y ↔ M x y))
    (h : ∀ ld : Nat → Int32, post (mv_i (mv_b (fun t => Relation.TransGen M t t) (mv_ra xpr xdr ybg) 8)) (xfn, xnc, xel, ynB, ynW, xco, xvi, xlv, xes, ypa, xcu, xcm, xwr, xh, xst, xac, xpr, ybg, ykd, xon, xoa, xgn, xgm, xwn, xwd, ywb, ld)) :
    ∀ (d t n : Nat) (ld : Nat → Int32), t + d = 8 → d < n → (∀ x y, x < t → y < 8 → ld (x * 8 + y) = mb_01 (mw_wf N xh xst xwn xwd ywb x y)) → wY_chooseVictim_2 post xfn xnc xel ynB ynW xco xvi xlv xes n (nI t) ypa xcu xcm xwr xh xst xac xpr ybg ykd xon xoa xgn xgm xwn xwd ywb ld := by
  intro d
  induction d with
  | zero =>
    intro t n ld hi hn hl
    obtain ⟨n, rfl⟩ : ∃ j, n = j + 1 := ⟨n - 1, by omega⟩
    rw [wY_chooseVictim_2]
    exact br_t (nI_le (a := 8) (by omega) (by omega)) ⟨9, my_cv47 T D hM h 8 0 9 ld (by omega) (by omega) fun x y hx hy => by rw [hl x y (by omega) hy, mb_cg (hw x y hx hy)]; rfl⟩
  | succ d ih =>
    intro t n ld hi hn hl
    obtain ⟨n, rfl⟩ : ∃ j, n = j + 1 := ⟨n - 1, by omega⟩
    rw [wY_chooseVictim_2]
    exact br_f (nI_ge (b := 8) (by omega) (by decide)) ⟨9, my_cv10 T Z W (by omega) (fun ld' hl' => ih (t + 1) n ld' (by omega) (by omega) hl') 8 0 9 ld (by omega) (by omega) fun x y hx hy => hl x y (by omega) hy⟩
theorem my_choose (T : (mt_T N F dp pt fr er xnc xfn xdO xpA xab xbe xrb xfO xeO xic ypa)) (Z : (mi_Z xst xh)) (W : (mi_W N nw xwm xst xwn xwd xwf xwt ynW ywb)) (D : (mi_D N F xwr xdr)) {post : Int32 → SY → Prop} {M : Nat → Nat → Prop} (hM : ∀ x y, M x y → x < 8) (hw : ∀ x y, x < 8 → y < 8 → (mw_wf N xh xst xwn xwd ywb x y ↔ M x y))
    (h : ∀ ld : Nat → Int32, post (mv_i (mv_b (fun t => Relation.TransGen M t t) (mv_ra xpr xdr ybg) 8)) (xfn, xnc, xel, ynB, ynW, xco, xvi, xlv, xes, ypa, xcu, xcm, xwr, xh, xst, xac, xpr, ybg, ykd, xon, xoa, xgn, xgm, xwn, xwd, ywb, ld)) : wpY_chooseVictim post (xfn, xnc, xel, ynB, ynW, xco, xvi, xlv, xes, ypa, xcu, xcm, xwr, xh, xst, xac, xpr, ybg, ykd, xon, xoa, xgn, xgm, xwn, xwd, ywb, yld) :=
  ⟨9, my_cv2 T Z W D hM hw h 8 0 9 yld (by omega) (by omega) fun x y hx => by omega⟩
end
end
section
/-! the rows: perform, closeRows -/
def mr_nv (k arg acc c : Int32) : Int32 := if k = 3 then arg else if k = 4 then acc + arg else if k = 5 then c + arg else c
def mr_cu (cu : Nat → Int32) (k arg acc : Int32) (f e i : Nat) : Nat → Int32 := fun j => if f ≤ j ∧ j < e ∧ j < i then mr_nv k arg acc (cu j) else cu j
def mr_wr (wr : Nat → Int32) (k : Int32) (t f e i : Nat) : Nat → Int32 := fun j => if f ≤ j ∧ j < e ∧ j < i ∧ (k = 3 ∨ k = 4 ∨ k = 5) then nI t else wr j
def mr_su (cu : Nat → Int32) (f e : Nat) : Nat → Int32
  | 0 => 0
  | i + 1 => if f ≤ i ∧ i < e then mr_su cu f e i + cu i else mr_su cu f e i
def mr_ac (ac cu : Nat → Int32) (k : Int32) (t f e i : Nat) : Nat → Int32 := if k = 2 then upd ac t (ac t * 31 + mr_su cu f e i) else ac
section
variable {cu wr : Nat → Int32} {k arg acc : Int32} {t f e i : Nat}
theorem mr_cu_at : mr_cu cu k arg acc f e i i = cu i := by unfold mr_cu; rw [if_neg (by omega)]
theorem mr_cu_0 (h : i ≤ f) : mr_cu cu k arg acc f e i = cu := by funext j; unfold mr_cu; rw [if_neg (by omega)]
theorem mr_cu_e (h : e ≤ i) {i' : Nat} (h' : e ≤ i') : mr_cu cu k arg acc f e i = mr_cu cu k arg acc f e i' := by
  funext j; unfold mr_cu
  by_cases z : f ≤ j ∧ j < e ∧ j < i
  · rw [if_pos z, if_pos ⟨z.1, z.2.1, by omega⟩]
  · rw [if_neg z, if_neg (by omega)]
theorem mr_cu_s0 (h : ¬ (f ≤ i ∧ i < e)) : mr_cu cu k arg acc f e (i + 1) = mr_cu cu k arg acc f e i := by
  funext j; unfold mr_cu
  by_cases z : f ≤ j ∧ j < e ∧ j < i
  · rw [if_pos z, if_pos ⟨z.1, z.2.1, by omega⟩]
  · rw [if_neg z, if_neg (by omega)]
theorem mr_cu_s1 (h : f ≤ i ∧ i < e) : upd (mr_cu cu k arg acc f e i) i (mr_nv k arg acc (cu i)) = mr_cu cu k arg acc f e (i + 1) := by
  funext j
  by_cases z : j = i
  · rw [z, pk_us]; unfold mr_cu; rw [if_pos ⟨h.1, h.2, by omega⟩]
  · rw [pk_un z]; unfold mr_cu
    by_cases y : f ≤ j ∧ j < e ∧ j < i
    · rw [if_pos y, if_pos ⟨y.1, y.2.1, by omega⟩]
    · rw [if_neg y, if_neg (by omega)]
theorem mr_cu_n (h : ¬ (k = 3 ∨ k = 4 ∨ k = 5)) : mr_cu cu k arg acc f e i = cu := by
  funext j; unfold mr_cu mr_nv
  rw [if_neg fun q => h (Or.inl q), if_neg fun q => h (Or.inr (Or.inl q)), if_neg fun q => h (Or.inr (Or.inr q))]
  exact ite_self _
theorem mr_wr_n (h : ¬ (k = 3 ∨ k = 4 ∨ k = 5)) : mr_wr wr k t f e i = wr := by
  funext j; unfold mr_wr; rw [if_neg fun q => h q.2.2.2]
theorem mr_wr_0 (h : i ≤ f) : mr_wr wr k t f e i = wr := by funext j; unfold mr_wr; rw [if_neg (by omega)]
theorem mr_wr_e (h : e ≤ i) {i' : Nat} (h' : e ≤ i') : mr_wr wr k t f e i = mr_wr wr k t f e i' := by
  funext j; unfold mr_wr
  by_cases z : f ≤ j ∧ j < e ∧ j < i ∧ (k = 3 ∨ k = 4 ∨ k = 5)
  · rw [if_pos z, if_pos ⟨z.1, z.2.1, by omega, z.2.2.2⟩]
  · rw [if_neg z, if_neg fun q => z ⟨q.1, q.2.1, by omega, q.2.2.2⟩]
theorem mr_wr_s0 (h : ¬ (f ≤ i ∧ i < e ∧ (k = 3 ∨ k = 4 ∨ k = 5))) : mr_wr wr k t f e (i + 1) = mr_wr wr k t f e i := by
  funext j; unfold mr_wr
  by_cases z : f ≤ j ∧ j < e ∧ j < i ∧ (k = 3 ∨ k = 4 ∨ k = 5)
  · rw [if_pos z, if_pos ⟨z.1, z.2.1, by omega, z.2.2.2⟩]
  · rw [if_neg z, if_neg]
    rintro ⟨q1, q2, q3, q4⟩
    by_cases y : j = i
    · rw [y] at q1 q2; exact h ⟨q1, q2, q4⟩
    · exact z ⟨q1, q2, by omega, q4⟩
theorem mr_wr_s1 (h : f ≤ i ∧ i < e ∧ (k = 3 ∨ k = 4 ∨ k = 5)) : upd (mr_wr wr k t f e i) i (nI t) = mr_wr wr k t f e (i + 1) := by
  funext j
  by_cases z : j = i
  · rw [z, pk_us]; unfold mr_wr; rw [if_pos ⟨h.1, h.2.1, by omega, h.2.2⟩]
  · rw [pk_un z]; unfold mr_wr
    by_cases y : f ≤ j ∧ j < e ∧ j < i ∧ (k = 3 ∨ k = 4 ∨ k = 5)
    · rw [if_pos y, if_pos ⟨y.1, y.2.1, by omega, y.2.2.2⟩]
    · rw [if_neg y, if_neg fun q => y ⟨q.1, q.2.1, by omega, q.2.2.2⟩]
theorem mr_su_0 : ∀ i, i ≤ f → mr_su cu f e i = 0
  | 0, _ => rfl
  | i + 1, h => by rw [mr_su, if_neg (by omega), mr_su_0 i (by omega)]
theorem mr_su_e : ∀ d, mr_su cu f e (e + d) = mr_su cu f e e
  | 0 => rfl
  | d + 1 => by rw [← Nat.add_assoc, mr_su, if_neg (by omega), mr_su_e d]
theorem mr_su_s1 (h : f ≤ i ∧ i < e) : mr_su cu f e i + cu i = mr_su cu f e (i + 1) := by rw [mr_su, if_pos h]
theorem mr_su_s0 (h : ¬ (f ≤ i ∧ i < e)) : mr_su cu f e (i + 1) = mr_su cu f e i := by rw [mr_su, if_neg h]
end
theorem mr_D1 {N F : Nat} {wr dr dr' : Nat → Int32} {t i : Nat} (D : mi_D N F wr dr) (ht : t < 8) (hi : i < N) (hF : F ≤ i) (i32 : i < 32)
    (h : ∀ t' n, t' < 8 → (bt (dr' t') n = true ↔ n < N ∧ F ≤ n ∧ wr n = nI t' ∧ n ≠ i)) : mi_D N F (upd wr i (nI t)) (upd dr' t (dr' t ||| ((1 : Int32) <<< (nI i &&& 31)))) := by
  refine ⟨fun n hn => ?_, fun t' n ht' => ?_⟩
  · by_cases z : n = i
    · rw [z, pk_us]; exact Or.inr ⟨t, ht, rfl, hF⟩
    · rw [pk_un z]; exact D.1 n hn
  · by_cases z : t' = t
    · subst z
      rw [pk_us, mb_set i32, h t' n ht']
      by_cases y : n = i
      · subst y; rw [pk_us]; exact ⟨fun _ => ⟨hi, hF, rfl⟩, fun _ => Or.inr rfl⟩
      · rw [pk_un y]; exact ⟨fun q => q.elim (fun q => ⟨q.1, q.2.1, q.2.2.1⟩) (fun q => absurd q y), fun q => Or.inl ⟨q.1, q.2.1, q.2.2, y⟩⟩
    · rw [pk_un z, h t' n ht']
      by_cases y : n = i
      · subst y; rw [pk_us]
        exact ⟨fun q => absurd rfl q.2.2.2, fun q => absurd (mb_inj (by omega) (by omega) q.2.2).symm z⟩
      · rw [pk_un y]; exact ⟨fun q => ⟨q.1, q.2.1, q.2.2.1⟩, fun q => ⟨q.1, q.2.1, q.2.2, y⟩⟩
section
variable {N F : Nat} {dp : Nat → Nat} {pt : Nat → Nat → Nat} {fr er : Nat → Nat} {nb nw : Nat} {xnc xfn xel xlm xwm xtc xsu xco xvi xlv xes : Int32} {xdO xpA xab xbe xrb xfO xeO xic xcu xcm xwr xst xac xpr xbb xdr xok xon xoa xgn xgm xh xni xhn xho xhb xwn xwd xwf xwt xbk xre : Nat → Int32} {ynB ynW : Int64} {ypa : Nat → Int32} {ybg : Nat → Int64} {ykd : Nat → Int32} {ywb : Nat → Int64} {yld : Nat → Int32}
theorem my_perform (T : (mt_T N F dp pt fr er xnc xfn xdO xpA xab xbe xrb xfO xeO xic ypa)) {post : SY → Prop} {t o : Nat} {k : Int32} (ht : t < 8) (ho : o < N) (eo : xon t = nI o) (ek : ykd t = k)
    (h : post (xfn, xnc, xel, ynB, ynW, xco, xvi, xlv, xes, ypa, mr_cu xcu k (xoa t) (xac t) (fr o) (er o) N, xcm, mr_wr xwr k t (fr o) (er o) N, xh, xst, mr_ac xac xcu k t (fr o) (er o) N, xpr, ybg, ykd, xon, xoa, xgn, xgm, xwn, xwd, ywb, yld)) : wpY_perform post (xfn, xnc, xel, ynB, ynW, xco, xvi, xlv, xes, ypa, xcu, xcm, xwr, xh, xst, xac, xpr, ybg, ykd, xon, xoa, xgn, xgm, xwn, xwd, ywb, yld) (nI t) := by
  have hN := mt_N T
  obtain ⟨q1, q2, q3, q4, q5⟩ := T.1
  have ct : (nI t).toNatClampNeg = t := mb_c (by omega)
  have L : ∀ (d i n : Nat), i + d = N → d < n → wY_perform_12 post (nI t) k xfn xnc xel ynB ynW xco xvi xlv xes n (mr_su xcu (fr o) (er o) i) (nI i) ypa (mr_cu xcu k (xoa t) (xac t) (fr o) (er o) i) xcm (mr_wr xwr k t (fr o) (er o) i) xh xst xac xpr ybg ykd xon xoa xgn xgm xwn xwd ywb yld := by
    intro d
    induction d with
    | zero =>
      intro i n hi hn
      obtain ⟨n, rfl⟩ : ∃ j, n = j + 1 := ⟨n - 1, by omega⟩
      rw [wY_perform_12]
      obtain rfl : i = N := by omega
      refine br_t (by rw [q1]; exact nI_le (by omega) (by omega)) (br_c (fun z => ⟨mb_v8 ht, mb_v8 ht, nm_r (e' := upd xac t (xac t * 31 + mr_su xcu (fr o) (er o) i)) (by rw [ct]) ?_⟩) (fun z => ?_))
      · rw [mr_ac, if_pos z] at h; exact h
      · rw [mr_ac, if_neg z] at h; exact h
    | succ d ih =>
      intro i n hi hn
      obtain ⟨n, rfl⟩ : ∃ j, n = j + 1 := ⟨n - 1, by omega⟩
      rw [wY_perform_12]
      have iN : i < N := by omega
      have ci : (nI i).toNatClampNeg = i := mb_c (by omega)
      have nx := ih (i + 1) n (by omega) (by omega)
      refine br_f (by rw [q1]; exact nI_ge (by omega) (by omega)) ⟨mb_v8 ht, ?_⟩
      rw [ct, eo]
      refine my_rowOf T iN ho (mb_br (fun z => nm_r (nI_1 i) ?_) (fun z => ⟨mb_n31 (by omega), nm_r (e' := mr_su xcu (fr o) (er o) (i + 1)) (by rw [ci, mr_cu_at, mr_su_s1 z]) ?_⟩))
      · rw [mr_cu_s0 z, mr_wr_s0 (fun q => z ⟨q.1, q.2.1⟩), mr_su_s0 z] at nx
        exact nx
      · have j1 : (k = 3 ∨ k = 4 ∨ k = 5) → wY_perform_121 post (wY_perform_12 post (nI t) k xfn xnc xel ynB ynW xco xvi xlv xes n) (nI t) k (mr_su xcu (fr o) (er o) (i + 1)) (nI i) xfn xnc xel ynB ynW xco xvi xlv xes ypa (mr_cu xcu k (xoa t) (xac t) (fr o) (er o) (i + 1)) xcm (mr_wr xwr k t (fr o) (er o) i) xh xst xac xpr ybg ykd xon xoa xgn xgm xwn xwd ywb yld := by
          intro k345
          have st : vp_in (nI i) 31 ∧ ∀ a, a = upd (mr_wr xwr k t (fr o) (er o) i) (nI i).toNatClampNeg (nI t) → ∀ x, x = nI i + 1 → wY_perform_12 post (nI t) k xfn xnc xel ynB ynW xco xvi xlv xes n (mr_su xcu (fr o) (er o) (i + 1)) x ypa (mr_cu xcu k (xoa t) (xac t) (fr o) (er o) (i + 1)) xcm a xh xst xac xpr ybg ykd xon xoa xgn xgm xwn xwd ywb yld :=
            ⟨mb_n31 (by omega), nm_r (e' := mr_wr xwr k t (fr o) (er o) (i + 1)) (by rw [ci, mr_wr_s1 ⟨z.1, z.2, k345⟩]) (nm_r (nI_1 i) nx)⟩
          exact br_c (fun _ => st) (fun n3 => br_c (fun _ => st) (fun n4 => br_c (fun _ => st) (fun n5 => absurd k345 fun q => q.elim n3 fun q => q.elim n4 n5)))
        refine br_c (fun k3 => ⟨mb_v8 ht, mb_n31 (by omega), nm_r (e' := mr_cu xcu k (xoa t) (xac t) (fr o) (er o) (i + 1)) ?_ (j1 (Or.inl k3))⟩) (fun k3 => br_c (fun k4 => ⟨mb_v8 ht, mb_v8 ht, mb_n31 (by omega), nm_r (e' := mr_cu xcu k (xoa t) (xac t) (fr o) (er o) (i + 1)) ?_ (j1 (Or.inr (Or.inl k4)))⟩) (fun k4 => br_c (fun k5 => ⟨mb_n31 (by omega), mb_v8 ht, mb_n31 (by omega), nm_r (e' := mr_cu xcu k (xoa t) (xac t) (fr o) (er o) (i + 1)) ?_ (j1 (Or.inr (Or.inr k5)))⟩) (fun k5 => br_f k3 (br_f k4 (br_f k5 (nm_r (nI_1 i) ?_))))))
        · rw [ci, ← mr_cu_s1 z, mr_nv, if_pos k3]
        · rw [ci, ← mr_cu_s1 z, mr_nv, if_neg k3, if_pos k4]
        · rw [ci, ← mr_cu_s1 z, mr_nv, if_neg k3, if_neg k4, if_pos k5, mr_cu_at]
        · have nk : ¬ (k = 3 ∨ k = 4 ∨ k = 5) := fun q => q.elim k3 fun q => q.elim k4 k5
          rw [mr_cu_n nk, mr_wr_n nk]
          rw [mr_cu_n nk, mr_wr_n nk] at nx
          exact nx
  have L0 := L N 0 (N + 1) (by omega) (by omega)
  rw [mr_cu_0 (by omega), mr_wr_0 (by omega)] at L0
  exact ⟨mb_v8 ht, nm_r (e' := k) (by rw [ct, ek]) ⟨N + 1, L0⟩⟩
end
end
section
/-! X's perform -/
section
variable {N F : Nat} {dp : Nat → Nat} {pt : Nat → Nat → Nat} {fr er : Nat → Nat} {nb nw : Nat} {xnc xfn xel xlm xwm xtc xsu xco xvi xlv xes : Int32} {xdO xpA xab xbe xrb xfO xeO xic xcu xcm xwr xst xac xpr xbb xdr xok xon xoa xgn xgm xh xni xhn xho xhb xwn xwd xwf xwt xbk xre : Nat → Int32} {ynB ynW : Int64} {ypa : Nat → Int32} {ybg : Nat → Int64} {ykd : Nat → Int32} {ywb : Nat → Int64} {yld : Nat → Int32}
theorem mx_readRows (T : (mt_T N F dp pt fr er xnc xfn xdO xpA xab xbe xrb xfO xeO xic ypa)) {post : SX → Prop} {t o : Nat} (ht : t < 8) (ho : o < N) (eo : xon t = nI o)
    (h : post (xnc, xfn, xel, xlm, xwm, xtc, xsu, xco, xvi, xlv, xes, xdO, xpA, xab, xbe, xrb, xfO, xeO, xic, xcu, xcm, xwr, xst, upd xac t (xac t * 31 + mr_su xcu (fr o) (er o) N), xpr, xbb, xdr, xok, xon, xoa, xgn, xgm, xh, xni, xhn, xho, xhb, xwn, xwd, xwf, xwt, xbk, xre)) : wpX_readRows post (xnc, xfn, xel, xlm, xwm, xtc, xsu, xco, xvi, xlv, xes, xdO, xpA, xab, xbe, xrb, xfO, xeO, xic, xcu, xcm, xwr, xst, xac, xpr, xbb, xdr, xok, xon, xoa, xgn, xgm, xh, xni, xhn, xho, xhb, xwn, xwd, xwf, xwt, xbk, xre) (nI t) := by
  have hN := mt_N T
  have ct : (nI t).toNatClampNeg = t := mb_c (by omega)
  have co : (nI o).toNatClampNeg = o := mb_c (by omega)
  obtain ⟨e1, e2, e3, e4, e5⟩ := T.2.2.2.2.2.2.2.1 o ho
  have L : ∀ (d i n : Nat), i + d = er o → d < n → fr o ≤ i → wX_readRows_25 post (nI t) (nI (er o)) xnc xfn xel xlm xwm xtc xsu xco xvi xlv xes xdO xpA xab xbe xrb xfO xeO xic xcu xcm xwr xst xac xpr xbb xdr xok xon xoa xgn xgm xh xni xhn xho xhb xwn xwd xwf xwt xbk xre n (mr_su xcu (fr o) (er o) i) (nI i) := by
    intro d
    induction d with
    | zero =>
      intro i n hi hn hf
      obtain ⟨n, rfl⟩ : ∃ j, n = j + 1 := ⟨n - 1, by omega⟩
      rw [wX_readRows_25]
      refine br_t (nI_le (by omega) (by omega)) ⟨mb_v8 ht, mb_v8 ht, nm_r (e' := upd xac t (xac t * 31 + mr_su xcu (fr o) (er o) N)) ?_ h⟩
      rw [ct, show i = er o by omega, show N = er o + (N - er o) by omega, mr_su_e]
    | succ d ih =>
      intro i n hi hn hf
      obtain ⟨n, rfl⟩ : ∃ j, n = j + 1 := ⟨n - 1, by omega⟩
      rw [wX_readRows_25]
      exact br_f (nI_ge (by omega) (by omega)) ⟨mb_n31 (by omega), nm_r (e' := mr_su xcu (fr o) (er o) (i + 1)) (by rw [mb_c (by omega), mr_su_s1 ⟨hf, by omega⟩]) (nm_r (nI_1 i) (ih (i + 1) n (by omega) (by omega) (by omega)))⟩
  have L0 := L (er o - fr o) (fr o) (er o + 1) (by omega) (by omega) (by omega)
  rw [mr_su_0 _ (Nat.le_refl _)] at L0
  exact ⟨mb_v8 ht, nm_r (e' := nI o) (by rw [ct, eo]) ⟨mb_n31 (by omega), nm_r (e' := nI (er o)) (by rw [co, e2]) ⟨mb_n31 (by omega), nm_r (e' := nI (fr o)) (by rw [co, e1]) ⟨_, L0⟩⟩⟩⟩
theorem mx_change47 (T : (mt_T N F dp pt fr er xnc xfn xdO xpA xab xbe xrb xfO xeO xic ypa)) {post : SX → Prop} {t o : Nat} {k op : Int32} (ht : t < 8) (ho : o < N) (k345 : k = 3 ∨ k = 4 ∨ k = 5) (hop : ∀ c, mr_nv k (xoa t) (xac t) c = if k = 5 then c + op else op)
    (h : ∀ dr : Nat → Int32, (mi_D N F (mr_wr xwr k t (fr o) (er o) N) dr) → post (xnc, xfn, xel, xlm, xwm, xtc, xsu, xco, xvi, xlv, xes, xdO, xpA, xab, xbe, xrb, xfO, xeO, xic, mr_cu xcu k (xoa t) (xac t) (fr o) (er o) N, xcm, mr_wr xwr k t (fr o) (er o) N, xst, xac, xpr, xbb, dr, xok, xon, xoa, xgn, xgm, xh, xni, xhn, xho, xhb, xwn, xwd, xwf, xwt, xbk, xre)) :
    ∀ (d i n : Nat) (dr : Nat → Int32), i + d = er o → d < n → fr o ≤ i → (mi_D N F (mr_wr xwr k t (fr o) (er o) i) dr) → wX_changeRows_47 post (nI t) k (nI (er o)) op xnc xfn xel xlm xwm xtc xsu xco xvi xlv xes n (nI i) xdO xpA xab xbe xrb xfO xeO xic (mr_cu xcu k (xoa t) (xac t) (fr o) (er o) i) xcm (mr_wr xwr k t (fr o) (er o) i) xst xac xpr xbb dr xok xon xoa xgn xgm xh xni xhn xho xhb xwn xwd xwf xwt xbk xre := by
  have hN := mt_N T
  have ct : (nI t).toNatClampNeg = t := mb_c (by omega)
  obtain ⟨e1, e2, e3, e4, e5⟩ := T.2.2.2.2.2.2.2.1 o ho
  intro d
  induction d with
  | zero =>
    intro i n dr hi hn hf D
    obtain ⟨n, rfl⟩ : ∃ j, n = j + 1 := ⟨n - 1, by omega⟩
    rw [wX_changeRows_47]
    rw [mr_wr_e (i' := N) (by omega) e4] at D
    have K := h dr D
    refine br_t (nI_le (by omega) (by omega)) ?_
    rw [mr_cu_e (i := i) (i' := N) (by omega) e4, mr_wr_e (i := i) (i' := N) (by omega) e4]
    exact K
  | succ d ih =>
    intro i n dr hi hn hf D
    obtain ⟨n, rfl⟩ : ∃ j, n = j + 1 := ⟨n - 1, by omega⟩
    rw [wX_changeRows_47]
    have ci : (nI i).toNatClampNeg = i := mb_c (by omega)
    have iF : F ≤ i := ((e5 i (by omega)).mp ⟨hf, by omega⟩).1
    have s1 := mr_wr_s1 (wr := xwr) (k := k) (t := t) (f := fr o) (e := er o) (i := i) ⟨hf, by omega, k345⟩
    have j113 : ∀ dr' : Nat → Int32, (∀ t' n, t' < 8 → (bt (dr' t') n = true ↔ n < N ∧ F ≤ n ∧ mr_wr xwr k t (fr o) (er o) i n = nI t' ∧ n ≠ i)) → wX_changeRows_113 post (wX_changeRows_47 post (nI t) k (nI (er o)) op xnc xfn xel xlm xwm xtc xsu xco xvi xlv xes n) (nI t) k (nI (er o)) op (nI i) xnc xfn xel xlm xwm xtc xsu xco xvi xlv xes xdO xpA xab xbe xrb xfO xeO xic (mr_cu xcu k (xoa t) (xac t) (fr o) (er o) (i + 1)) xcm (mr_wr xwr k t (fr o) (er o) i) xst xac xpr xbb dr' xok xon xoa xgn xgm xh xni xhn xho xhb xwn xwd xwf xwt xbk xre := by
      intro dr' hd
      have D' := mr_D1 D ht (by omega) iF (by omega) hd
      rw [s1] at D'
      exact ⟨mb_n31 (by omega), nm_r (e' := mr_wr xwr k t (fr o) (er o) (i + 1)) (by rw [ci, s1]) ⟨mb_v8 ht, mb_v8 ht, nm_r (e' := upd dr' t (dr' t ||| ((1 : Int32) <<< (nI i &&& 31)))) (by rw [ct]) (nm_r (nI_1 i) (ih (i + 1) n _ (by omega) (by omega) (by omega) D'))⟩⟩
    have j83 : wX_changeRows_83 post (wX_changeRows_47 post (nI t) k (nI (er o)) op xnc xfn xel xlm xwm xtc xsu xco xvi xlv xes n) (nI t) k (nI (er o)) op (nI i) xnc xfn xel xlm xwm xtc xsu xco xvi xlv xes xdO xpA xab xbe xrb xfO xeO xic (mr_cu xcu k (xoa t) (xac t) (fr o) (er o) (i + 1)) xcm (mr_wr xwr k t (fr o) (er o) i) xst xac xpr xbb dr xok xon xoa xgn xgm xh xni xhn xho xhb xwn xwd xwf xwt xbk xre := by
      refine ⟨mb_n31 (by omega), ?_⟩
      rw [ci]
      rcases D.1 i (by omega) with z | ⟨s, s8, z, _⟩
      · refine nm_r z (br_t (by decide) (j113 dr fun t' n ht' => ?_))
        rw [D.2 t' n ht']
        refine ⟨fun q => ⟨q.1, q.2.1, q.2.2, fun y => ?_⟩, fun q => ⟨q.1, q.2.1, q.2.2.1⟩⟩
        rw [y, z] at q
        have := q.2.2
        have p : ¬ (-1 : Int32) < 0 := by rw [this]; exact nI_pos (by omega)
        exact p (by decide)
      · refine nm_r z (br_f (nI_pos (by omega)) ⟨mb_v8 s8, mb_v8 s8, nm_r (e' := upd dr s (dr s &&& (((1 : Int32) <<< (nI i &&& 31)) ^^^ (-1)))) (by rw [mb_c (by omega)]) (j113 _ fun t' n ht' => ?_)⟩)
        by_cases y : t' = s
        · subst y
          rw [pk_us, mb_clr (by omega), D.2 t' n ht']
          exact ⟨fun q => ⟨q.1.1, q.1.2.1, q.1.2.2, q.2⟩, fun q => ⟨⟨q.1, q.2.1, q.2.2.1⟩, q.2.2.2⟩⟩
        · rw [pk_un y, D.2 t' n ht']
          refine ⟨fun q => ⟨q.1, q.2.1, q.2.2, fun w => ?_⟩, fun q => ⟨q.1, q.2.1, q.2.2.1⟩⟩
          rw [w, z] at q
          exact y (mb_inj (by omega) (by omega) q.2.2).symm
    refine br_f (nI_ge (by omega) (by omega)) (br_c (fun z => ⟨mb_n31 (by omega), mb_n31 (by omega), nm_r (e' := mr_cu xcu k (xoa t) (xac t) (fr o) (er o) (i + 1)) ?_ j83⟩) (fun z => ⟨mb_n31 (by omega), nm_r (e' := mr_cu xcu k (xoa t) (xac t) (fr o) (er o) (i + 1)) ?_ j83⟩))
    · rw [ci, ← mr_cu_s1 ⟨hf, by omega⟩, hop, if_pos z, mr_cu_at]
    · rw [ci, ← mr_cu_s1 ⟨hf, by omega⟩, hop, if_neg z]
theorem mx_changeRows (T : (mt_T N F dp pt fr er xnc xfn xdO xpA xab xbe xrb xfO xeO xic ypa)) (D : (mi_D N F xwr xdr)) {post : SX → Prop} {t o : Nat} {k : Int32} (ht : t < 8) (ho : o < N) (eo : xon t = nI o) (k345 : k = 3 ∨ k = 4 ∨ k = 5)
    (h : ∀ dr : Nat → Int32, (mi_D N F (mr_wr xwr k t (fr o) (er o) N) dr) → post (xnc, xfn, xel, xlm, xwm, xtc, xsu, xco, xvi, xlv, xes, xdO, xpA, xab, xbe, xrb, xfO, xeO, xic, mr_cu xcu k (xoa t) (xac t) (fr o) (er o) N, xcm, mr_wr xwr k t (fr o) (er o) N, xst, xac, xpr, xbb, dr, xok, xon, xoa, xgn, xgm, xh, xni, xhn, xho, xhb, xwn, xwd, xwf, xwt, xbk, xre)) : wpX_changeRows post (xnc, xfn, xel, xlm, xwm, xtc, xsu, xco, xvi, xlv, xes, xdO, xpA, xab, xbe, xrb, xfO, xeO, xic, xcu, xcm, xwr, xst, xac, xpr, xbb, xdr, xok, xon, xoa, xgn, xgm, xh, xni, xhn, xho, xhb, xwn, xwd, xwf, xwt, xbk, xre) (nI t) k := by
  have hN := mt_N T
  have ct : (nI t).toNatClampNeg = t := mb_c (by omega)
  have co : (nI o).toNatClampNeg = o := mb_c (by omega)
  obtain ⟨e1, e2, e3, e4, e5⟩ := T.2.2.2.2.2.2.2.1 o ho
  have go : ∀ op, (∀ c, mr_nv k (xoa t) (xac t) c = if k = 5 then c + op else op) → wX_changeRows_47 post (nI t) k (nI (er o)) op xnc xfn xel xlm xwm xtc xsu xco xvi xlv xes (er o + 1) (nI (fr o)) xdO xpA xab xbe xrb xfO xeO xic xcu xcm xwr xst xac xpr xbb xdr xok xon xoa xgn xgm xh xni xhn xho xhb xwn xwd xwf xwt xbk xre := by
    intro op hop
    have L0 := mx_change47 T ht ho k345 hop h (er o - fr o) (fr o) (er o + 1) xdr (by omega) (by omega) (by omega)
    rw [mr_cu_0 (by omega), mr_wr_0 (by omega)] at L0
    exact L0 D
  refine ⟨mb_v8 ht, nm_r (e' := nI o) (by rw [ct, eo]) ⟨mb_n31 (by omega), nm_r (e' := nI (er o)) (by rw [co, e2]) ⟨mb_v8 ht, nm_r (e' := xoa t) (by rw [ct]) (br_c (fun z => ⟨mb_v8 ht, nm_r (e' := xoa t + xac t) (by rw [ct]) ⟨mb_n31 (by omega), nm_r (e' := nI (fr o)) (by rw [co, e1]) ⟨_, go _ fun c => ?_⟩⟩⟩) (fun z => ⟨mb_n31 (by omega), nm_r (e' := nI (fr o)) (by rw [co, e1]) ⟨_, go _ fun c => ?_⟩⟩))⟩⟩⟩
  · rw [z, mr_nv, if_neg (by decide), if_pos rfl, if_neg (by decide), Int32.add_comm]
  · rw [mr_nv, if_neg z]
    rcases k345 with q | q | q
    · rw [q]; rfl
    · exact absurd q z
    · rw [q, if_neg (by decide), if_pos rfl]; rfl
theorem mx_perform (T : (mt_T N F dp pt fr er xnc xfn xdO xpA xab xbe xrb xfO xeO xic ypa)) (D : (mi_D N F xwr xdr)) {post : SX → Prop} {t o : Nat} {k : Int32} (ht : t < 8) (ho : o < N) (eo : xon t = nI o) (ek : xok t = k)
    (h : ∀ dr : Nat → Int32, (mi_D N F (mr_wr xwr k t (fr o) (er o) N) dr) → post (xnc, xfn, xel, xlm, xwm, xtc, xsu, xco, xvi, xlv, xes, xdO, xpA, xab, xbe, xrb, xfO, xeO, xic, mr_cu xcu k (xoa t) (xac t) (fr o) (er o) N, xcm, mr_wr xwr k t (fr o) (er o) N, xst, mr_ac xac xcu k t (fr o) (er o) N, xpr, xbb, dr, xok, xon, xoa, xgn, xgm, xh, xni, xhn, xho, xhb, xwn, xwd, xwf, xwt, xbk, xre)) : wpX_perform post (xnc, xfn, xel, xlm, xwm, xtc, xsu, xco, xvi, xlv, xes, xdO, xpA, xab, xbe, xrb, xfO, xeO, xic, xcu, xcm, xwr, xst, xac, xpr, xbb, xdr, xok, xon, xoa, xgn, xgm, xh, xni, xhn, xho, xhb, xwn, xwd, xwf, xwt, xbk, xre) (nI t) := by
  have ct : (nI t).toNatClampNeg = t := mb_c (by omega)
  have h35 : (k = 3 ∨ k = 4 ∨ k = 5) → ¬ k = 2 → wX_perform_35 post (nI t) k xnc xfn xel xlm xwm xtc xsu xco xvi xlv xes xdO xpA xab xbe xrb xfO xeO xic xcu xcm xwr xst xac xpr xbb xdr xok xon xoa xgn xgm xh xni xhn xho xhb xwn xwd xwf xwt xbk xre := by
    intro k345 k2
    rw [mr_ac, if_neg k2] at h
    unfold wX_perform_35
    exact mx_changeRows T D ht ho eo k345 fun dr D' => h dr D'
  have hno : ¬ (k = 3 ∨ k = 4 ∨ k = 5) → post (xnc, xfn, xel, xlm, xwm, xtc, xsu, xco, xvi, xlv, xes, xdO, xpA, xab, xbe, xrb, xfO, xeO, xic, xcu, xcm, xwr, xst, mr_ac xac xcu k t (fr o) (er o) N, xpr, xbb, xdr, xok, xon, xoa, xgn, xgm, xh, xni, xhn, xho, xhb, xwn, xwd, xwf, xwt, xbk, xre) := by
    intro nk
    have K := h xdr
    rw [mr_cu_n nk, mr_wr_n nk] at K
    exact K D
  refine ⟨mb_v8 ht, nm_r (e' := k) (by rw [ct, ek]) (br_c (fun z => ?_) (fun k2 => br_c (fun z => h35 (Or.inl z) k2) (fun k3 => br_c (fun z => h35 (Or.inr (Or.inl z)) k2) (fun k4 => br_c (fun z => h35 (Or.inr (Or.inr z)) k2) (fun k5 => ?_)))))⟩
  · have K := hno (by rw [z]; decide)
    rw [mr_ac, if_pos z] at K
    exact mx_readRows T ht ho eo K
  · have K := hno fun q => q.elim k3 fun q => q.elim k4 k5
    rw [mr_ac, if_neg k2] at K
    exact K
end
end
section
/-! the end of a transaction: rows and locks -/
def mr_k (A B wr : Nat → Int32) (t i : Nat) : Nat → Int32 := fun j => if j < i ∧ wr j = nI t then A j else B j
def mr_w (wr : Nat → Int32) (t i : Nat) : Nat → Int32 := fun j => if j < i ∧ wr j = nI t then -1 else wr j
def mr_h (h : Nat → Int32) (t i : Nat) : Nat → Int32 := fun j => if t * 31 ≤ j ∧ j < t * 31 + i then 0 else h j
theorem mr_m1 {t : Nat} (h : t < 2 ^ 31) : ¬ nI t = -1 := fun z => by
  have p : ¬ (-1 : Int32) < 0 := by rw [← z]; exact nI_pos h
  exact p (by decide)
section
variable {A B wr h : Nat → Int32} {t i : Nat}
theorem mr_k_0 (z : ∀ j, j < i → ¬ wr j = nI t) : mr_k A B wr t i = B := by
  funext j; unfold mr_k
  rw [if_neg fun q => z j q.1 q.2]
theorem mr_k_s0 (z : ¬ wr i = nI t) : mr_k A B wr t (i + 1) = mr_k A B wr t i := by
  funext j; unfold mr_k
  by_cases y : j < i ∧ wr j = nI t
  · rw [if_pos y, if_pos ⟨by omega, y.2⟩]
  · rw [if_neg y, if_neg]
    rintro ⟨q1, q2⟩
    by_cases w : j = i
    · rw [w] at q2; exact z q2
    · exact y ⟨by omega, q2⟩
theorem mr_k_s1 (z : wr i = nI t) : upd (mr_k A B wr t i) i (A i) = mr_k A B wr t (i + 1) := by
  funext j
  by_cases w : j = i
  · rw [w, pk_us]; unfold mr_k; rw [if_pos ⟨by omega, z⟩]
  · rw [pk_un w]; unfold mr_k
    by_cases y : j < i ∧ wr j = nI t
    · rw [if_pos y, if_pos ⟨by omega, y.2⟩]
    · rw [if_neg y, if_neg fun q => y ⟨by omega, q.2⟩]
theorem mr_k_at : mr_k A B wr t i i = B i := by unfold mr_k; rw [if_neg (by omega)]
theorem mr_w_at : mr_w wr t i i = wr i := by unfold mr_w; rw [if_neg (by omega)]
theorem mr_w_0 (z : ∀ j, j < i → ¬ wr j = nI t) : mr_w wr t i = wr := by
  funext j; unfold mr_w
  rw [if_neg fun q => z j q.1 q.2]
theorem mr_w_s0 (z : ¬ wr i = nI t) : mr_w wr t (i + 1) = mr_w wr t i := by
  funext j; unfold mr_w
  by_cases y : j < i ∧ wr j = nI t
  · rw [if_pos y, if_pos ⟨by omega, y.2⟩]
  · rw [if_neg y, if_neg]
    rintro ⟨q1, q2⟩
    by_cases w : j = i
    · rw [w] at q2; exact z q2
    · exact y ⟨by omega, q2⟩
theorem mr_w_s1 (z : wr i = nI t) : upd (mr_w wr t i) i (-1) = mr_w wr t (i + 1) := by
  funext j
  by_cases w : j = i
  · rw [w, pk_us]; unfold mr_w; rw [if_pos ⟨by omega, z⟩]
  · rw [pk_un w]; unfold mr_w
    by_cases y : j < i ∧ wr j = nI t
    · rw [if_pos y, if_pos ⟨by omega, y.2⟩]
    · rw [if_neg y, if_neg fun q => y ⟨by omega, q.2⟩]
theorem mr_h_0 : mr_h h t 0 = h := by funext j; unfold mr_h; rw [if_neg (by omega)]
theorem mr_h_s : upd (mr_h h t i) (t * 31 + i) 0 = mr_h h t (i + 1) := by
  funext j
  by_cases w : j = t * 31 + i
  · rw [w, pk_us]; unfold mr_h; rw [if_pos (by omega)]
  · rw [pk_un w]; unfold mr_h
    by_cases y : t * 31 ≤ j ∧ j < t * 31 + i
    · rw [if_pos y, if_pos (by omega)]
    · rw [if_neg y, if_neg (by omega)]
theorem mr_w_D {N F : Nat} {dr : Nat → Int32} (D : mi_D N F wr dr) (ht : t < 8) : mi_D N F (mr_w wr t N) (upd dr t 0) := by
  refine ⟨fun n hn => ?_, fun t' n ht' => ?_⟩
  · unfold mr_w
    by_cases z : n < N ∧ wr n = nI t
    · rw [if_pos z]; exact Or.inl rfl
    · rw [if_neg z]; exact D.1 n hn
  · have e : n < N → (mr_w wr t N n = nI t' ↔ wr n = nI t' ∧ t' ≠ t) := by
      intro hn
      unfold mr_w
      by_cases z : n < N ∧ wr n = nI t
      · rw [if_pos z]
        refine ⟨fun q => absurd q.symm (mr_m1 (by omega)), fun q => absurd ?_ q.2⟩
        exact mb_inj (by omega) (by omega) (q.1.symm.trans z.2)
      · rw [if_neg z]
        exact ⟨fun q => ⟨q, fun w => z ⟨hn, by rw [← w]; exact q⟩⟩, fun q => q.1⟩
    by_cases w : t' = t
    · rw [w, pk_us, b_0]
      refine ⟨fun q => absurd q (by decide), fun q => ?_⟩
      rw [w] at e
      exact absurd rfl ((e q.1).mp q.2.2).2
    · rw [pk_un w, D.2 t' n ht']
      exact ⟨fun q => ⟨q.1, q.2.1, (e q.1).mpr ⟨q.2.2, w⟩⟩, fun q => ⟨q.1, q.2.1, ((e q.1).mp q.2.2).1⟩⟩
end
section
variable {N F : Nat} {dp : Nat → Nat} {pt : Nat → Nat → Nat} {fr er : Nat → Nat} {nb nw : Nat} {xnc xfn xel xlm xwm xtc xsu xco xvi xlv xes : Int32} {xdO xpA xab xbe xrb xfO xeO xic xcu xcm xwr xst xac xpr xbb xdr xok xon xoa xgn xgm xh xni xhn xho xhb xwn xwd xwf xwt xbk xre : Nat → Int32} {ynB ynW : Int64} {ypa : Nat → Int32} {ybg : Nat → Int64} {ykd : Nat → Int32} {ywb : Nat → Int64} {yld : Nat → Int32}
theorem mr_h_rl (H : (mi_H N xh xni xhn xho xhb)) (hN : N ≤ 31) {t : Nat} (ht : t < 8) : mh_rl xh t (xhn t) 0 = mr_h xh t N := by
  funext j
  unfold mh_rl mr_h
  by_cases k : t * 31 ≤ j ∧ j < t * 31 + 31
  · obtain ⟨n, rfl⟩ : ∃ n, j = t * 31 + n := ⟨j - t * 31, by omega⟩
    rw [Nat.add_sub_cancel_left]
    have b := H.2.2.2.2.1 t n ht
    by_cases z : xh (t * 31 + n) = 0
    · rw [if_neg fun q => (b.mp q.2.2).2 z, z]; exact (ite_self _).symm
    · have nN : n < N := by
        rcases Nat.lt_or_ge n N with l | l
        · exact l
        · exact absurd (H.2.1 t n ht l (by omega)) z
      rw [if_pos ⟨by omega, by omega, b.mpr ⟨by omega, z⟩⟩, if_pos (by omega)]
  · rw [if_neg (by omega), if_neg (by omega)]
theorem mx_close18a (T : (mt_T N F dp pt fr er xnc xfn xdO xpA xab xbe xrb xfO xeO xic ypa)) (D : (mi_D N F xwr xdr)) {post : SX → Prop} {t : Nat} (ht : t < 8)
    (h : post (xnc, xfn, xel, xlm, xwm, xtc, xsu, xco, xvi, xlv, xes, xdO, xpA, xab, xbe, xrb, xfO, xeO, xic, mr_k xcm xcu xwr t N, xcm, mr_w xwr t N, xst, xac, xpr, xbb, upd xdr t 0, xok, xon, xoa, xgn, xgm, xh, xni, xhn, xho, xhb, xwn, xwd, xwf, xwt, xbk, xre)) :
    ∀ (d i n : Nat), i + d = N → d < n → F ≤ i → wX_closeRows_18 post (nI t) 0 (xdr t) xnc xfn xel xlm xwm xtc xsu xco xvi xlv xes n (nI i) xdO xpA xab xbe xrb xfO xeO xic (mr_k xcm xcu xwr t i) xcm (mr_w xwr t i) xst xac xpr xbb xdr xok xon xoa xgn xgm xh xni xhn xho xhb xwn xwd xwf xwt xbk xre := by
  obtain ⟨q1, q2, q3, q4, q5⟩ := T.1
  intro d
  induction d with
  | zero =>
    intro i n hi hn hf
    obtain ⟨n, rfl⟩ : ∃ j, n = j + 1 := ⟨n - 1, by omega⟩
    rw [wX_closeRows_18]
    obtain rfl : i = N := by omega
    exact br_t (by rw [q1]; exact nI_le (by omega) (by omega)) ⟨mb_v8 ht, nm_r (e' := upd xdr t 0) (by rw [mb_c (by omega)]) h⟩
  | succ d ih =>
    intro i n hi hn hf
    obtain ⟨n, rfl⟩ : ∃ j, n = j + 1 := ⟨n - 1, by omega⟩
    rw [wX_closeRows_18]
    have ci : (nI i).toNatClampNeg = i := mb_c (by omega)
    have nx := ih (i + 1) n (by omega) (by omega) (by omega)
    refine br_f (by rw [q1]; exact nI_ge (by omega) (by omega)) (br_c (fun z => nm_r (nI_1 i) ?_) (fun z => br_t rfl ⟨mb_n31 (by omega), mb_n31 (by omega), nm_r (e' := mr_k xcm xcu xwr t (i + 1)) ?_ ⟨mb_n31 (by omega), nm_r (e' := mr_w xwr t (i + 1)) ?_ (nm_r (nI_1 i) nx)⟩⟩))
    · rw [mb_and0 (by omega), mb_bf, D.2 t i ht] at z
      have w : ¬ xwr i = nI t := fun w => z ⟨by omega, hf, w⟩
      rw [mr_k_s0 w, mr_w_s0 w] at nx
      exact nx
    · rw [mb_and1 (by omega), D.2 t i ht] at z
      rw [ci, mr_k_s1 z.2.2]
    · rw [mb_and1 (by omega), D.2 t i ht] at z
      rw [ci, mr_w_s1 z.2.2]
theorem mx_close18c (T : (mt_T N F dp pt fr er xnc xfn xdO xpA xab xbe xrb xfO xeO xic ypa)) (D : (mi_D N F xwr xdr)) {post : SX → Prop} {t : Nat} (ht : t < 8)
    (h : post (xnc, xfn, xel, xlm, xwm, xtc, xsu, xco, xvi, xlv, xes, xdO, xpA, xab, xbe, xrb, xfO, xeO, xic, xcu, mr_k xcu xcm xwr t N, mr_w xwr t N, xst, xac, xpr, xbb, upd xdr t 0, xok, xon, xoa, xgn, xgm, xh, xni, xhn, xho, xhb, xwn, xwd, xwf, xwt, xbk, xre)) :
    ∀ (d i n : Nat), i + d = N → d < n → F ≤ i → wX_closeRows_18 post (nI t) 1 (xdr t) xnc xfn xel xlm xwm xtc xsu xco xvi xlv xes n (nI i) xdO xpA xab xbe xrb xfO xeO xic xcu (mr_k xcu xcm xwr t i) (mr_w xwr t i) xst xac xpr xbb xdr xok xon xoa xgn xgm xh xni xhn xho xhb xwn xwd xwf xwt xbk xre := by
  obtain ⟨q1, q2, q3, q4, q5⟩ := T.1
  intro d
  induction d with
  | zero =>
    intro i n hi hn hf
    obtain ⟨n, rfl⟩ : ∃ j, n = j + 1 := ⟨n - 1, by omega⟩
    rw [wX_closeRows_18]
    obtain rfl : i = N := by omega
    exact br_t (by rw [q1]; exact nI_le (by omega) (by omega)) ⟨mb_v8 ht, nm_r (e' := upd xdr t 0) (by rw [mb_c (by omega)]) h⟩
  | succ d ih =>
    intro i n hi hn hf
    obtain ⟨n, rfl⟩ : ∃ j, n = j + 1 := ⟨n - 1, by omega⟩
    rw [wX_closeRows_18]
    have ci : (nI i).toNatClampNeg = i := mb_c (by omega)
    have nx := ih (i + 1) n (by omega) (by omega) (by omega)
    refine br_f (by rw [q1]; exact nI_ge (by omega) (by omega)) (br_c (fun z => nm_r (nI_1 i) ?_) (fun z => br_f (by decide) ⟨mb_n31 (by omega), mb_n31 (by omega), nm_r (e' := mr_k xcu xcm xwr t (i + 1)) ?_ ⟨mb_n31 (by omega), nm_r (e' := mr_w xwr t (i + 1)) ?_ (nm_r (nI_1 i) nx)⟩⟩))
    · rw [mb_and0 (by omega), mb_bf, D.2 t i ht] at z
      have w : ¬ xwr i = nI t := fun w => z ⟨by omega, hf, w⟩
      rw [mr_k_s0 w, mr_w_s0 w] at nx
      exact nx
    · rw [mb_and1 (by omega), D.2 t i ht] at z
      rw [ci, mr_k_s1 z.2.2]
    · rw [mb_and1 (by omega), D.2 t i ht] at z
      rw [ci, mr_w_s1 z.2.2]
theorem mr_lo (D : (mi_D N F xwr xdr)) {t : Nat} (ht : t < 8) (hF : F < N) : ∀ j, j < F → ¬ xwr j = nI t := fun j hj z => by
  rcases D.1 j (by omega) with q | ⟨s, _, _, q⟩
  · exact mr_m1 (t := t) (by omega) (z.symm.trans q)
  · omega
theorem mr_all (D : (mi_D N F xwr xdr)) {t : Nat} (ht : t < 8) (e : xdr t = 0) (hF : F < N) : ∀ j, j < N → ¬ xwr j = nI t := fun j hj z => by
  rcases Nat.lt_or_ge j F with l | l
  · exact mr_lo D ht hF j l z
  · have := (D.2 t j ht).mpr ⟨hj, l, z⟩
    rw [e, b_0] at this
    exact absurd this (by decide)
theorem mx_closeA (T : (mt_T N F dp pt fr er xnc xfn xdO xpA xab xbe xrb xfO xeO xic ypa)) (D : (mi_D N F xwr xdr)) {post : SX → Prop} {t : Nat} (ht : t < 8)
    (h : post (xnc, xfn, xel, xlm, xwm, xtc, xsu, xco, xvi, xlv, xes, xdO, xpA, xab, xbe, xrb, xfO, xeO, xic, mr_k xcm xcu xwr t N, xcm, mr_w xwr t N, xst, xac, xpr, xbb, upd xdr t 0, xok, xon, xoa, xgn, xgm, xh, xni, xhn, xho, xhb, xwn, xwd, xwf, xwt, xbk, xre)) : wpX_closeRows post (xnc, xfn, xel, xlm, xwm, xtc, xsu, xco, xvi, xlv, xes, xdO, xpA, xab, xbe, xrb, xfO, xeO, xic, xcu, xcm, xwr, xst, xac, xpr, xbb, xdr, xok, xon, xoa, xgn, xgm, xh, xni, xhn, xho, xhb, xwn, xwd, xwf, xwt, xbk, xre) (nI t) 0 := by
  obtain ⟨q1, q2, q3, q4, q5⟩ := T.1
  have ct : (nI t).toNatClampNeg = t := mb_c (by omega)
  refine ⟨mb_v8 ht, nm_r (e' := xdr t) (by rw [ct]) (br_c (fun z => ?_) (fun z => ⟨N + 1, ?_⟩))⟩
  · rw [mr_k_0 (mr_all D ht z q4), mr_w_0 (mr_all D ht z q4), mb_ud z] at h
    exact h
  · have L0 := mx_close18a T D ht h (N - F) F (N + 1) (by omega) (by omega) (by omega)
    rw [mr_k_0 (mr_lo D ht q4), mr_w_0 (mr_lo D ht q4), ← q2] at L0
    exact L0
theorem mx_closeC (T : (mt_T N F dp pt fr er xnc xfn xdO xpA xab xbe xrb xfO xeO xic ypa)) (D : (mi_D N F xwr xdr)) {post : SX → Prop} {t : Nat} (ht : t < 8)
    (h : post (xnc, xfn, xel, xlm, xwm, xtc, xsu, xco, xvi, xlv, xes, xdO, xpA, xab, xbe, xrb, xfO, xeO, xic, xcu, mr_k xcu xcm xwr t N, mr_w xwr t N, xst, xac, xpr, xbb, upd xdr t 0, xok, xon, xoa, xgn, xgm, xh, xni, xhn, xho, xhb, xwn, xwd, xwf, xwt, xbk, xre)) : wpX_closeRows post (xnc, xfn, xel, xlm, xwm, xtc, xsu, xco, xvi, xlv, xes, xdO, xpA, xab, xbe, xrb, xfO, xeO, xic, xcu, xcm, xwr, xst, xac, xpr, xbb, xdr, xok, xon, xoa, xgn, xgm, xh, xni, xhn, xho, xhb, xwn, xwd, xwf, xwt, xbk, xre) (nI t) 1 := by
  obtain ⟨q1, q2, q3, q4, q5⟩ := T.1
  have ct : (nI t).toNatClampNeg = t := mb_c (by omega)
  refine ⟨mb_v8 ht, nm_r (e' := xdr t) (by rw [ct]) (br_c (fun z => ?_) (fun z => ⟨N + 1, ?_⟩))⟩
  · rw [mr_k_0 (mr_all D ht z q4), mr_w_0 (mr_all D ht z q4), mb_ud z] at h
    exact h
  · have L0 := mx_close18c T D ht h (N - F) F (N + 1) (by omega) (by omega) (by omega)
    rw [mr_k_0 (mr_lo D ht q4), mr_w_0 (mr_lo D ht q4), ← q2] at L0
    exact L0
theorem my_undo (T : (mt_T N F dp pt fr er xnc xfn xdO xpA xab xbe xrb xfO xeO xic ypa)) {post : SY → Prop} {t : Nat} (ht : t < 8)
    (h : post (xfn, xnc, xel, ynB, ynW, xco, xvi, xlv, xes, ypa, mr_k xcm xcu xwr t N, xcm, mr_w xwr t N, mr_h xh t N, xst, upd xac t 0, xpr, ybg, ykd, xon, xoa, xgn, xgm, xwn, xwd, ywb, yld)) : wpY_undo post (xfn, xnc, xel, ynB, ynW, xco, xvi, xlv, xes, ypa, xcu, xcm, xwr, xh, xst, xac, xpr, ybg, ykd, xon, xoa, xgn, xgm, xwn, xwd, ywb, yld) (nI t) := by
  obtain ⟨q1, q2, q3, q4, q5⟩ := T.1
  have L : ∀ (d i n : Nat), i + d = N → d < n → wY_undo_2 post (nI t) xfn xnc xel ynB ynW xco xvi xlv xes n (nI i) ypa (mr_k xcm xcu xwr t i) xcm (mr_w xwr t i) (mr_h xh t i) xst xac xpr ybg ykd xon xoa xgn xgm xwn xwd ywb yld := by
    intro d
    induction d with
    | zero =>
      intro i n hi hn
      obtain ⟨n, rfl⟩ : ∃ j, n = j + 1 := ⟨n - 1, by omega⟩
      rw [wY_undo_2]
      obtain rfl : i = N := by omega
      exact br_t (by rw [q1]; exact nI_le (by omega) (by omega)) ⟨mb_v8 ht, nm_r (e' := upd xac t 0) (by rw [mb_c (by omega)]) h⟩
    | succ d ih =>
      intro i n hi hn
      obtain ⟨n, rfl⟩ : ∃ j, n = j + 1 := ⟨n - 1, by omega⟩
      rw [wY_undo_2]
      have ci : (nI i).toNatClampNeg = i := mb_c (by omega)
      have nx := ih (i + 1) n (by omega) (by omega)
      refine br_f (by rw [q1]; exact nI_ge (by omega) (by omega)) ⟨mb_n31 (by omega), ?_⟩
      rw [ci, mr_w_at]
      refine br_c (fun z => ⟨mb_n31 (by omega), mb_n31 (by omega), nm_r (e' := mr_k xcm xcu xwr t (i + 1)) (by rw [mr_k_s1 z]) ⟨mb_n31 (by omega), nm_r (e' := mr_w xwr t (i + 1)) (by rw [mr_w_s1 z]) ⟨mb_v31 ht (by omega), nm_r (e' := mr_h xh t (i + 1)) (by rw [mb_c31 ht (by omega), mr_h_s]) (nm_r (nI_1 i) nx)⟩⟩⟩) (fun z => ⟨mb_v31 ht (by omega), nm_r (e' := mr_h xh t (i + 1)) (by rw [mb_c31 ht (by omega), mr_h_s]) (nm_r (nI_1 i) ?_)⟩)
      rw [mr_k_s0 z, mr_w_s0 z] at nx
      exact nx
  have L0 := L N 0 (N + 1) (by omega) (by omega)
  rw [mr_k_0 (fun j hj => by omega), mr_w_0 (fun j hj => by omega), mr_h_0] at L0
  exact ⟨N + 1, L0⟩
theorem my_commit (T : (mt_T N F dp pt fr er xnc xfn xdO xpA xab xbe xrb xfO xeO xic ypa)) {post : Int32 → SY → Prop} {t : Nat} {xfn' xnc' xel' : Int32} {ynB' ynW' : Int64} {xco' xvi' xlv' xes' : Int32} {ypa' xcu' xcm' xwr' xh' xst' xac' xpr' : Nat → Int32} {ybg' : Nat → Int64} {ykd' xon' xoa' xgn' xgm' xwn' xwd' : Nat → Int32} {ywb' : Nat → Int64} (ht : t < 8) (s1 : xst t = 1)
    (h : ∀ P : SY → Prop, (∀ ld : Nat → Int32, P (xfn', xnc', xel', ynB', ynW', xco', xvi', xlv', xes', ypa', xcu', xcm', xwr', xh', xst', xac', xpr', ybg', ykd', xon', xoa', xgn', xgm', xwn', xwd', ywb', ld)) → wpY_settle P (xfn, xnc, xel, ynB, ynW, xco + 1, xvi, xlv, xes, ypa, xcu, mr_k xcu xcm xwr t N, mr_w xwr t N, mr_h xh t N, upd xst t 0, xac, xpr, ybg, ykd, xon, xoa, xgn, xgm, xwn, xwd, ywb, yld)) (hp : ∀ ld : Nat → Int32, post 1 (xfn', xnc', xel', ynB', ynW', xco', xvi', xlv', xes', ypa', xcu', xcm', xwr', xh', xst', xac', xpr', ybg', ykd', xon', xoa', xgn', xgm', xwn', xwd', ywb', ld)) : wpY_commit post (xfn, xnc, xel, ynB, ynW, xco, xvi, xlv, xes, ypa, xcu, xcm, xwr, xh, xst, xac, xpr, ybg, ykd, xon, xoa, xgn, xgm, xwn, xwd, ywb, yld) (nI t) := by
  obtain ⟨q1, q2, q3, q4, q5⟩ := T.1
  have ct : (nI t).toNatClampNeg = t := mb_c (by omega)
  have L : ∀ (d i n : Nat), i + d = N → d < n → wY_commit_26 post (nI t) xfn xnc xel ynB ynW xco xvi xlv xes n (nI i) ypa xcu (mr_k xcu xcm xwr t i) (mr_w xwr t i) (mr_h xh t i) xst xac xpr ybg ykd xon xoa xgn xgm xwn xwd ywb yld := by
    intro d
    induction d with
    | zero =>
      intro i n hi hn
      obtain ⟨n, rfl⟩ : ∃ j, n = j + 1 := ⟨n - 1, by omega⟩
      rw [wY_commit_26]
      obtain rfl : i = N := by omega
      exact br_t (by rw [q1]; exact nI_le (by omega) (by omega)) ⟨mb_v8 ht, nm_r (e' := upd xst t 0) (by rw [ct]) (nm_e (h _ hp))⟩
    | succ d ih =>
      intro i n hi hn
      obtain ⟨n, rfl⟩ : ∃ j, n = j + 1 := ⟨n - 1, by omega⟩
      rw [wY_commit_26]
      have ci : (nI i).toNatClampNeg = i := mb_c (by omega)
      have nx := ih (i + 1) n (by omega) (by omega)
      refine br_f (by rw [q1]; exact nI_ge (by omega) (by omega)) ⟨mb_n31 (by omega), ?_⟩
      rw [ci, mr_w_at]
      refine br_c (fun z => ⟨mb_n31 (by omega), mb_n31 (by omega), nm_r (e' := mr_k xcu xcm xwr t (i + 1)) (by rw [mr_k_s1 z]) ⟨mb_n31 (by omega), nm_r (e' := mr_w xwr t (i + 1)) (by rw [mr_w_s1 z]) ⟨mb_v31 ht (by omega), nm_r (e' := mr_h xh t (i + 1)) (by rw [mb_c31 ht (by omega), mr_h_s]) (nm_r (nI_1 i) nx)⟩⟩⟩) (fun z => ⟨mb_v31 ht (by omega), nm_r (e' := mr_h xh t (i + 1)) (by rw [mb_c31 ht (by omega), mr_h_s]) (nm_r (nI_1 i) ?_)⟩)
      rw [mr_k_s0 z, mr_w_s0 z] at nx
      exact nx
  have L0 := L N 0 (N + 1) (by omega) (by omega)
  rw [mr_k_0 (fun j hj => by omega), mr_w_0 (fun j hj => by omega), mr_h_0] at L0
  unfold wpY_commit
  refine my_isTxn (mb_br (fun z => absurd ⟨nI_pos (by omega), nI_ge (b := 8) ht (by decide)⟩ z) (fun _ => ⟨mb_v8 ht, ?_⟩))
  rw [ct]
  exact br_t s1 ⟨N + 1, L0⟩
end
end
section
/-! escalation; retire and the live set -/
def me_g (m ht : Int32) : Int32 := if m = 5 ∨ ht = 2 ∨ ht = 4 then 5 else 3
def me_e (N F : Nat) (dp : Nat → Nat) (pt : Nat → Nat → Nat) (xel : Int32) (xh xhn xrb : Nat → Int32) (t o : Nat) (m : Int32) : Prop :=
  F ≤ o ∧ xh (t * 31 + o) = 0 ∧ ¬ nI (mb_cn (bt (xhn t &&& xrb (pt o 1))) 32) < xel ∧ ¬ mt_sat N dp pt xh t o m
section
variable {N F : Nat} {dp : Nat → Nat} {pt : Nat → Nat → Nat} {fr er : Nat → Nat} {nb nw : Nat} {xnc xfn xel xlm xwm xtc xsu xco xvi xlv xes : Int32} {xdO xpA xab xbe xrb xfO xeO xic xcu xcm xwr xst xac xpr xbb xdr xok xon xoa xgn xgm xh xni xhn xho xhb xwn xwd xwf xwt xbk xre : Nat → Int32} {ynB ynW : Int64} {ypa : Nat → Int32} {ybg : Nat → Int64} {ykd : Nat → Int32} {ywb : Nat → Int64} {yld : Nat → Int32}
theorem mx_escalate (T : (mt_T N F dp pt fr er xnc xfn xdO xpA xab xbe xrb xfO xeO xic ypa)) (H : (mi_H N xh xni xhn xho xhb)) {post : SX → Prop} {t o : Nat} {m : Int32} (ht : t < 8) (ho : o < N) (eo : xon t = nI o) (eg : xgn t = nI o) (em : xgm t = m)
    (h0 : ¬ me_e N F dp pt xel xh xhn xrb t o m → post (xnc, xfn, xel, xlm, xwm, xtc, xsu, xco, xvi, xlv, xes, xdO, xpA, xab, xbe, xrb, xfO, xeO, xic, xcu, xcm, xwr, xst, xac, xpr, xbb, xdr, xok, xon, xoa, xgn, xgm, xh, xni, xhn, xho, xhb, xwn, xwd, xwf, xwt, xbk, xre))
    (h1 : me_e N F dp pt xel xh xhn xrb t o m → post (xnc, xfn, xel, xlm, xwm, xtc, xsu, xco, xvi, xlv, xes + 1, xdO, xpA, xab, xbe, xrb, xfO, xeO, xic, xcu, xcm, xwr, xst, xac, xpr, xbb, xdr, xok, xon, xoa, upd xgn t (nI (pt o 1)), upd xgm t (me_g m (xh (t * 31 + pt o 1))), xh, xni, xhn, xho, xhb, xwn, xwd, xwf, xwt, xbk, xre)) : wpX_escalate post (xnc, xfn, xel, xlm, xwm, xtc, xsu, xco, xvi, xlv, xes, xdO, xpA, xab, xbe, xrb, xfO, xeO, xic, xcu, xcm, xwr, xst, xac, xpr, xbb, xdr, xok, xon, xoa, xgn, xgm, xh, xni, xhn, xho, xhb, xwn, xwd, xwf, xwt, xbk, xre) (nI t) := by
  have hN := mt_N T
  obtain ⟨q1, q2, q3, q4, q5⟩ := T.1
  have ct : (nI t).toNatClampNeg = t := mb_c (by omega)
  refine ⟨mb_v8 ht, nm_r (e' := nI o) (by rw [ct, eo]) (br_c (fun z => h0 fun q => ?_) (fun z => ⟨mb_v31 ht (by omega), ?_⟩))⟩
  · rw [q2, nI_ltI (by omega) (by omega)] at z
    have := q.1
    omega
  · rw [q2, nI_ltI (by omega) (by omega)] at z
    have d3 : dp o = 3 := (T.2.1 o ho).2.1.mpr (by omega)
    obtain ⟨k1, k2, k3, k4⟩ := T.2.2.1 o 1 ho (by omega)
    rw [mb_c31 ht (by omega)]
    have v41 : vp_in (nI o * 4 + 1) 124 := mb_v4 (t := o) (n := 1) (by omega) (by omega)
    have c41 : (nI o * 4 + 1).toNatClampNeg = o * 4 + 1 := mb_c4 (t := o) (n := 1) (by omega) (by omega)
    refine br_c (fun zh => ⟨v41, nm_r (e' := nI (pt o 1)) (by rw [c41, k3]) ⟨mb_v8 ht, mb_n31 (by omega), ?_⟩⟩) (fun zh => h0 fun q => zh q.2.1)
    rw [ct, mb_c (t := pt o 1) (by omega)]
    refine mx_bitCount _ (br_c (fun zc => h0 fun q => q.2.2.1 zc) (fun zc => mx_goalMet T H ht ho eg em (mb_br (fun ns => ⟨mb_v31 ht (by omega), nm_r (e' := xh (t * 31 + pt o 1)) (by rw [mb_c31 ht (by omega)]) ⟨mb_v8 ht, ?_⟩⟩) (fun s => h0 fun q => q.2.2.2 s))))
    rw [em]
    have K := h1 ⟨by omega, zh, zc, ns⟩
    have h130 : ∀ g, g = me_g m (xh (t * 31 + pt o 1)) → wX_escalate_130 post (nI t) (nI (pt o 1)) xnc xfn xel xlm xwm xtc xsu xco xvi xlv xes xdO xpA xab xbe xrb xfO xeO xic xcu xcm xwr xst xac xpr xbb xdr xok xon xoa xgn (upd xgm t g) xh xni xhn xho xhb xwn xwd xwf xwt xbk xre := fun g eg' => by
      subst eg'
      exact ⟨mb_v8 ht, nm_r (e' := upd xgn t (nI (pt o 1))) (by rw [ct]) (nm_e K)⟩
    have h113 : (m = 5 ∨ xh (t * 31 + pt o 1) = 2 ∨ xh (t * 31 + pt o 1) = 4) → wX_escalate_113 post (nI t) (nI (pt o 1)) xnc xfn xel xlm xwm xtc xsu xco xvi xlv xes xdO xpA xab xbe xrb xfO xeO xic xcu xcm xwr xst xac xpr xbb xdr xok xon xoa xgn xgm xh xni xhn xho xhb xwn xwd xwf xwt xbk xre := fun q =>
      ⟨mb_v8 ht, nm_r (e' := upd xgm t 5) (by rw [ct]) (h130 5 (by rw [me_g, if_pos q]))⟩
    exact br_c (fun z5 => h113 (Or.inl z5)) (fun z5 => br_c (fun z2 => h113 (Or.inr (Or.inl z2))) (fun z2 => br_c (fun z4 => h113 (Or.inr (Or.inr z4))) (fun z4 => ⟨mb_v8 ht, nm_e (h130 3 (by rw [me_g, if_neg fun q => q.elim z5 fun q => q.elim z2 z4]))⟩)))
theorem my_escalate (T : (mt_T N F dp pt fr er xnc xfn xdO xpA xab xbe xrb xfO xeO xic ypa)) (H : (mi_H N xh xni xhn xho xhb)) {post : SY → Prop} {t o : Nat} {m : Int32} (ht : t < 8) (ho : o < N) (eo : xon t = nI o) (em : xgm t = m)
    (h0 : ¬ me_e N F dp pt xel xh xhn xrb t o m → post (xfn, xnc, xel, ynB, ynW, xco, xvi, xlv, xes, ypa, xcu, xcm, xwr, xh, xst, xac, xpr, ybg, ykd, xon, xoa, xgn, xgm, xwn, xwd, ywb, yld))
    (h1 : me_e N F dp pt xel xh xhn xrb t o m → post (xfn, xnc, xel, ynB, ynW, xco, xvi, xlv, xes + 1, ypa, xcu, xcm, xwr, xh, xst, xac, xpr, ybg, ykd, xon, xoa, upd xgn t (nI (pt o 1)), upd xgm t (me_g m (xh (t * 31 + pt o 1))), xwn, xwd, ywb, yld)) : wpY_escalate post (xfn, xnc, xel, ynB, ynW, xco, xvi, xlv, xes, ypa, xcu, xcm, xwr, xh, xst, xac, xpr, ybg, ykd, xon, xoa, xgn, xgm, xwn, xwd, ywb, yld) (nI t) := by
  have hN := mt_N T
  obtain ⟨q1, q2, q3, q4, q5⟩ := T.1
  have ct : (nI t).toNatClampNeg = t := mb_c (by omega)
  refine ⟨mb_v8 ht, nm_r (e' := nI o) (by rw [ct, eo]) ⟨mb_v8 ht, nm_r (e' := m) (by rw [ct, em]) (br_c (fun z => h0 fun q => ?_) (fun z => my_satisfied T ht ho (mb_br (fun ns => ⟨mb_v31 ht (by omega), ?_⟩) (fun s => h0 fun q => q.2.2.2 s))))⟩⟩
  · rw [q2, nI_ltI (by omega) (by omega)] at z
    have := q.1
    omega
  · rw [q2, nI_ltI (by omega) (by omega)] at z
    have d3 : dp o = 3 := (T.2.1 o ho).2.1.mpr (by omega)
    obtain ⟨k1, k2, k3, k4⟩ := T.2.2.1 o 1 ho (by omega)
    obtain ⟨j1, j2, j3, j4⟩ := T.2.2.1 o 2 ho (by omega)
    have p1 := (T.2.2.2.2.2.2.2.2.1 o ho).1 (by omega)
    have p2 := (T.2.2.2.2.2.2.2.2.1 (pt o 2) j1).1 (by omega)
    rw [d3, show 3 - 1 = 2 from rfl] at p1
    rw [j2, T.2.2.2.1 o 2 1 ho (by omega) (by omega)] at p2
    rw [mb_c31 ht (by omega)]
    refine br_c (fun zh => ⟨mb_n31 (by omega), ?_⟩) (fun zh => h0 fun q => zh q.2.1)
    rw [mb_c (t := o) (by omega), p1]
    refine ⟨mb_n31 (by omega), nm_r (e' := nI (pt o 1)) (by rw [mb_c (by omega), p2]) ?_⟩
    have tbF : pt o 1 < F := by
      rcases Nat.lt_or_ge (pt o 1) F with l | l
      · exact l
      · have := (T.2.1 (pt o 1) k1).2.1.mpr l
        omega
    have bit : ∀ r, bt (xhn t &&& xrb (pt o 1)) r = true ↔ r < N ∧ F ≤ r ∧ mt_bl dp pt r (pt o 1) = true ∧ xh (t * 31 + r) ≠ 0 := by
      intro r
      rw [mb_and, H.2.2.2.2.1 t r ht, T.2.2.2.2.2.2.1 (pt o 1) r k1]
      exact ⟨fun q => ⟨q.2.1, q.2.2.1, q.2.2.2.elim (fun w => by omega) id, q.1.2⟩, fun q => ⟨⟨by omega, q.2.2.2⟩, q.1, q.2.1, Or.inr q.2.2.1⟩⟩
    have lo : mb_cn (bt (xhn t &&& xrb (pt o 1))) F = 0 := mb_cn_0 fun i hi => by
      rw [mb_bf, bit i]; intro q; omega
    have hi32 : mb_cn (bt (xhn t &&& xrb (pt o 1))) 32 = mb_cn (bt (xhn t &&& xrb (pt o 1))) N := by
      rw [show 32 = N + (32 - N) by omega]
      exact mb_cn_e _ fun i h1 h2 => by rw [mb_bf, bit i]; intro q; omega
    have L : ∀ (d i n : Nat), i + d = N → d < n → F ≤ i → wY_escalate_69 post (nI t) m (nI (pt o 1)) xfn xnc xel ynB ynW xco xvi xlv xes ypa xcu xcm xwr xh xst xac xpr ybg ykd xon xoa xgn xgm xwn xwd ywb yld n (nI (mb_cn (bt (xhn t &&& xrb (pt o 1))) i)) (nI i) := by
      intro d
      induction d with
      | zero =>
        intro i n hi hn hf
        obtain ⟨n, rfl⟩ : ∃ j, n = j + 1 := ⟨n - 1, by omega⟩
        rw [wY_escalate_69]
        refine br_t (by rw [q1]; exact nI_le (by omega) (by omega)) ?_
        rw [show i = N by omega, ← hi32]
        refine br_c (fun zc => h0 fun q => q.2.2.1 zc) (fun zc => ⟨mb_v31 ht (by omega), nm_r (e' := xh (t * 31 + pt o 1)) (by rw [mb_c31 ht (by omega)]) ⟨mb_v8 ht, nm_r (e' := upd xgn t (nI (pt o 1))) (by rw [ct]) ?_⟩⟩)
        have K := h1 ⟨by omega, zh, zc, ns⟩
        have h171 : ∀ g, g = me_g m (xh (t * 31 + pt o 1)) → wY_escalate_171 post g (nI t) xfn xnc xel ynB ynW xco xvi xlv xes ypa xcu xcm xwr xh xst xac xpr ybg ykd xon xoa (upd xgn t (nI (pt o 1))) xgm xwn xwd ywb yld := fun g eg' => by
          subst eg'
          exact ⟨mb_v8 ht, nm_r (e' := upd xgm t (me_g m (xh (t * 31 + pt o 1)))) (by rw [ct]) (nm_e K)⟩
        have h166 : (m = 5 ∨ xh (t * 31 + pt o 1) = 2 ∨ xh (t * 31 + pt o 1) = 4) → wY_escalate_166 post (nI t) xfn xnc xel ynB ynW xco xvi xlv xes ypa xcu xcm xwr xh xst xac xpr ybg ykd xon xoa (upd xgn t (nI (pt o 1))) xgm xwn xwd ywb yld := fun q =>
          h171 5 (by rw [me_g, if_pos q])
        exact br_c (fun z5 => h166 (Or.inl z5)) (fun z5 => br_c (fun z2 => h166 (Or.inr (Or.inl z2))) (fun z2 => br_c (fun z4 => h166 (Or.inr (Or.inr z4))) (fun z4 => h171 3 (by rw [me_g, if_neg fun q => q.elim z5 fun q => q.elim z2 z4]))))
      | succ d ih =>
        intro i n hi hn hf
        obtain ⟨n, rfl⟩ : ∃ j, n = j + 1 := ⟨n - 1, by omega⟩
        rw [wY_escalate_69]
        have nx := ih (i + 1) n (by omega) (by omega) (by omega)
        refine br_f (by rw [q1]; exact nI_ge (by omega) (by omega)) (my_below T (by omega) (by omega) (mb_br (fun b => nm_r (nI_1 i) ?_) (fun b => ⟨mb_v31 ht (by omega), ?_⟩)))
        · rw [mb_cn, if_neg fun q => b ((bit i).mp q).2.2.1] at nx
          exact nx
        · rw [mb_c31 ht (by omega)]
          refine br_c (fun y => nm_r (nI_1 i) ?_) (fun y => nm_r (nI_1 _) (nm_r (nI_1 i) ?_))
          · rw [mb_cn, if_neg fun q => ((bit i).mp q).2.2.2 y] at nx
            exact nx
          · rw [mb_cn, if_pos ((bit i).mpr ⟨by omega, hf, b, y⟩)] at nx
            exact nx
    have L0 := L (N - F) F (N + 1) (by omega) (by omega) (by omega)
    rw [lo] at L0
    refine ⟨N + 1, ?_⟩
    rw [q2]
    rw [q2] at L0
    exact L0
theorem mx_retire {post : SX → Prop} {t : Nat} {x : Int32} (ht : t < 8)
    (h : ∀ bb' : Nat → Int32, (∀ u, u < 8 → bb' u = upd xbb t 0 u &&& (((1 : Int32) <<< (nI t &&& 31)) ^^^ (-1))) → post (xnc, xfn, xel, xlm &&& (((1 : Int32) <<< (nI t &&& 31)) ^^^ (-1)), xwm, xtc, xsu, xco, xvi, xlv, xes, xdO, xpA, xab, xbe, xrb, xfO, xeO, xic, xcu, xcm, xwr, upd xst t x, xac, xpr, bb', xdr, xok, xon, xoa, xgn, xgm, xh, xni, xhn, xho, xhb, xwn, xwd, xwf, xwt, xbk, xre)) : wpX_retire post (xnc, xfn, xel, xlm, xwm, xtc, xsu, xco, xvi, xlv, xes, xdO, xpA, xab, xbe, xrb, xfO, xeO, xic, xcu, xcm, xwr, xst, xac, xpr, xbb, xdr, xok, xon, xoa, xgn, xgm, xh, xni, xhn, xho, xhb, xwn, xwd, xwf, xwt, xbk, xre) (nI t) x := by
  have ct : (nI t).toNatClampNeg = t := mb_c (by omega)
  have L : ∀ (d i n : Nat) (bb : Nat → Int32), i + d = 8 → d < n → (∀ u, u < i → bb u = upd xbb t 0 u &&& (((1 : Int32) <<< (nI t &&& 31)) ^^^ (-1))) → (∀ u, i ≤ u → bb u = upd xbb t 0 u) → wX_retire_33 post (((1 : Int32) <<< (nI t &&& 31)) ^^^ (-1)) xnc xfn xel (xlm &&& (((1 : Int32) <<< (nI t &&& 31)) ^^^ (-1))) xwm xtc xsu xco xvi xlv xes n (nI i) xdO xpA xab xbe xrb xfO xeO xic xcu xcm xwr (upd xst t x) xac xpr bb xdr xok xon xoa xgn xgm xh xni xhn xho xhb xwn xwd xwf xwt xbk xre := by
    intro d
    induction d with
    | zero =>
      intro i n bb hi hn h1 h2
      obtain ⟨n, rfl⟩ : ∃ j, n = j + 1 := ⟨n - 1, by omega⟩
      rw [wX_retire_33]
      exact br_t (nI_le (a := 8) (by omega) (by omega)) (h bb fun u hu => h1 u (by omega))
    | succ d ih =>
      intro i n bb hi hn h1 h2
      obtain ⟨n, rfl⟩ : ∃ j, n = j + 1 := ⟨n - 1, by omega⟩
      rw [wX_retire_33]
      refine br_f (nI_ge (b := 8) (by omega) (by decide)) ⟨mb_v8 (by omega), mb_v8 (by omega), nm_r (e' := upd bb i (upd xbb t 0 i &&& (((1 : Int32) <<< (nI t &&& 31)) ^^^ (-1)))) (by rw [mb_c (by omega), h2 i (by omega)]) (nm_r (nI_1 i) (ih (i + 1) n _ (by omega) (by omega) (fun u hu => ?_) (fun u hu => ?_)))⟩
      · by_cases z : u = i
        · rw [z, pk_us]
        · rw [pk_un z]; exact h1 u (by omega)
      · rw [pk_un (by omega)]; exact h2 u (by omega)
  exact nm_e ⟨mb_v8 ht, nm_r (e' := upd xst t x) (by rw [ct]) (nm_e ⟨mb_v8 ht, nm_r (e' := upd xbb t 0) (by rw [ct]) ⟨9, L 8 0 9 _ (by omega) (by omega) (fun u hu => by omega) (fun u _ => rfl)⟩⟩)⟩
theorem ml_ret (L : (mi_L nb xlm xst xbb ynB ybg)) {t : Nat} {x : Int32} {bb' : Nat → Int32} (ht : t < 8) (x1 : ¬ x = 1) (x2 : ¬ x = 2) (hb : ∀ u, u < 8 → bb' u = upd xbb t 0 u &&& (((1 : Int32) <<< (nI t &&& 31)) ^^^ (-1))) :
    (mi_L nb (xlm &&& (((1 : Int32) <<< (nI t &&& 31)) ^^^ (-1))) (upd xst t x) bb' ynB ybg) := by
  have lv : ∀ u, (upd xst t x u = 1 ∨ upd xst t x u = 2) ↔ (xst u = 1 ∨ xst u = 2) ∧ u ≠ t := by
    intro u
    by_cases z : u = t
    · subst z; rw [pk_us]; exact ⟨fun q => (q.elim x1 x2).elim, fun q => absurd rfl q.2⟩
    · rw [pk_un z]; exact ⟨fun q => ⟨q, z⟩, fun q => q.1⟩
  refine ⟨L.1, fun u => ?_, fun u hu hs => ?_⟩
  · rw [mb_clr (by omega), L.2.1 u, lv u]
    exact ⟨fun q => ⟨q.1.1, q.1.2, q.2⟩, fun q => ⟨⟨q.1, q.2.1⟩, q.2.2⟩⟩
  · obtain ⟨s1, s2⟩ := (lv u).mp hs
    obtain ⟨r1, r2⟩ := L.2.2 u hu s1
    refine ⟨r1, fun v => ?_⟩
    rw [hb u hu, pk_un s2, mb_clr (by omega), r2 v, lv v]
    exact ⟨fun q => ⟨q.1.1, ⟨q.1.2.1, q.2⟩, q.1.2.2⟩, fun q => ⟨⟨q.1, q.2.1.1, q.2.2⟩, q.2.1.2⟩⟩
theorem ml_beg (L : (mi_L nb xlm xst xbb ynB ybg)) {t : Nat} (ht : t < 8) (ns : ¬ (xst t = 1 ∨ xst t = 2)) (hnb : nb + 1 < 2 ^ 31) :
    (mi_L (nb + 1) (xlm ||| ((1 : Int32) <<< (nI t &&& 31))) (upd xst t 1) (upd xbb t xlm) (ynB + 1) (vp_updL ybg t ynB)) := by
  obtain ⟨⟨e1, e2⟩, L2, L3⟩ := L
  have nbi : ynB.toInt = nb := by rw [e1, lN_toInt e2]
  refine ⟨⟨by rw [e1, lN_1], hnb⟩, fun u => ?_, fun u hu hs => ?_⟩
  · rw [mb_set (by omega), L2 u]
    by_cases z : u = t
    · subst z; rw [pk_us]; exact ⟨fun _ => ⟨ht, Or.inl rfl⟩, fun _ => Or.inr rfl⟩
    · rw [pk_un z]; exact ⟨fun q => q.elim id fun q => absurd q z, Or.inl⟩
  · by_cases z : u = t
    · subst z
      refine ⟨by rw [pk_uLs, nbi]; omega, fun v => ?_⟩
      rw [pk_us, pk_uLs, L2 v]
      by_cases y : v = u
      · subst y
        exact ⟨fun q => absurd q.2 ns, fun q => by
          have := q.2.2
          rw [pk_uLs, Int64.lt_iff_toInt_lt] at this
          omega⟩
      · rw [pk_un y, pk_uLn y]
        refine ⟨fun q => ⟨q.1, q.2, ?_⟩, fun q => ⟨q.1, q.2.1⟩⟩
        rw [Int64.lt_iff_toInt_lt, nbi]
        exact (L3 v q.1 q.2).1
    · rw [pk_un z] at hs
      obtain ⟨r3, r4⟩ := L3 u hu hs
      rw [pk_uLn z, pk_un z]
      refine ⟨by omega, fun v => ?_⟩
      rw [r4 v]
      by_cases y : v = t
      · subst y
        refine ⟨fun q => absurd q.2.1 ns, fun q => ?_⟩
        have := q.2.2
        rw [pk_uLs, Int64.lt_iff_toInt_lt] at this
        omega
      · rw [pk_un y, pk_uLn y]
theorem ml_same (L : (mi_L nb xlm xst xbb ynB ybg)) {t : Nat} {x : Int32} (ls : xst t = 1 ∨ xst t = 2) (lx : x = 1 ∨ x = 2) : (mi_L nb xlm (upd xst t x) xbb ynB ybg) := by
  have lv : ∀ u, (upd xst t x u = 1 ∨ upd xst t x u = 2) ↔ (xst u = 1 ∨ xst u = 2) := by
    intro u
    by_cases z : u = t
    · subst z; rw [pk_us]; exact ⟨fun _ => ls, fun _ => lx⟩
    · rw [pk_un z]
  refine ⟨L.1, fun u => by rw [L.2.1 u, lv u], fun u hu hs => ?_⟩
  obtain ⟨r1, r2⟩ := L.2.2 u hu ((lv u).mp hs)
  exact ⟨r1, fun v => by rw [r2 v, lv v]⟩
end
end
section
/-! the invariant, and how it lasts when one transaction changes -/
def mi_A (N : Nat) (xok xon xgn xgm ykd : Nat → Int32) (t : Nat) : Prop :=
  xok t = ykd t ∧ (∃ o, o < N ∧ xon t = nI o) ∧ (∃ g, g < N ∧ xgn t = nI g) ∧ mm_m1 (xgm t)
def mi_Gt (N : Nat) (dp : Nat → Nat) (pt : Nat → Nat → Nat) (xh xok xon xgn xgm xwn xwd ykd : Nat → Int32) (t : Nat) : Prop :=
  mi_A N xok xon xgn xgm ykd t ∧ ∃ g d, xgn t = nI g ∧ g < N ∧ d ≤ dp g ∧ xwn t = nI (pt g d) ∧ xwd t = mt_sm xh t g (xgm t) (pt g d) ∧ ∀ e, e < d → mm_jn (xh (t * 31 + pt g e)) (mm_it (xgm t)) = xh (t * 31 + pt g e)
def mi_G (N : Nat) (dp : Nat → Nat) (pt : Nat → Nat → Nat) (xh xst xok xon xgn xgm xwn xwd ykd : Nat → Int32) : Prop :=
  ∀ t, t < 8 → xst t = 2 → mi_Gt N dp pt xh xok xon xgn xgm xwn xwd ykd t
def mi_I (N F : Nat) (dp : Nat → Nat) (pt : Nat → Nat → Nat) (fr er : Nat → Nat) (nb nw : Nat) (xnc xfn xlm xwm xtc xsu : Int32) (xdO xpA xab xbe xrb xfO xeO xic xwr xst xbb xdr xok xon xgn xgm xh xni xhn xho xhb xwn xwd xwf xwt xbk : Nat → Int32) (ynB ynW : Int64) (ypa : Nat → Int32) (ybg : Nat → Int64) (ykd : Nat → Int32) (ywb : Nat → Int64) : Prop :=
  (mt_T N F dp pt fr er xnc xfn xdO xpA xab xbe xrb xfO xeO xic ypa) ∧ (mi_H N xh xni xhn xho xhb) ∧ (mi_Z xst xh) ∧ (mi_W N nw xwm xst xwn xwd xwf xwt ynW ywb) ∧ (mi_L nb xlm xst xbb ynB ybg) ∧ (mi_D N F xwr xdr) ∧ (mi_B xtc xh xst xwn xwd xbk ywb) ∧ (mi_S xsu xbk) ∧ (mi_G N dp pt xh xst xok xon xgn xgm xwn xwd ykd)
/-- rows of the others are untouched -/
def mi_ro (t : Nat) (h h' : Nat → Int32) : Prop := ∀ u n, u < 8 → u ≠ t → n < 31 → h' (u * 31 + n) = h (u * 31 + n)
theorem mi_ro_gr {N : Nat} {dp : Nat → Nat} {pt : Nat → Nat → Nat} {h : Nat → Int32} {t a : Nat} {w : Int32} (hN : N ≤ 31) (ha : a < 31) : mi_ro t h (mh_gr N dp pt h t a w) := by
  intro u n _ ne hn
  unfold mh_gr mh_gi
  rw [if_neg (by omega), pk_un (by omega)]
theorem mi_ro_h {N : Nat} {h : Nat → Int32} {t : Nat} (hN : N ≤ 31) : mi_ro t h (mr_h h t N) := by
  intro u n _ ne hn
  unfold mr_h
  rw [if_neg (by omega)]
theorem mi_ro_r {h : Nat → Int32} {t : Nat} : mi_ro t h h := fun _ _ _ _ _ => rfl
theorem mi_Z_t {t : Nat} {x : Int32} {xst xh xh' : Nat → Int32} (Z : mi_Z xst xh) (ro : mi_ro t xh xh') (hx : x = 0 ∨ x = 1 ∨ x = 2 ∨ x = 3) (z : x ≠ 1 → x ≠ 2 → ∀ n, n < 31 → xh' (t * 31 + n) = 0) : mi_Z (upd xst t x) xh' := by
  refine ⟨fun u hu => ?_, fun u n hu hn h1 h2 => ?_⟩
  · by_cases e : u = t
    · rw [e, pk_us]; exact hx
    · rw [pk_un e]; exact Z.1 u hu
  · by_cases e : u = t
    · rw [e, pk_us] at h1 h2
      rw [e]
      exact z h1 h2 n hn
    · rw [pk_un e] at h1 h2
      rw [ro u n hu e hn]
      exact Z.2 u n hu hn h1 h2
theorem mw_bk_c {h h' st st' wn wn' wd wd' : Nat → Int32} {wb wb' : Nat → Int64} {u b v : Nat} {w : Int32} {s : Int64} (hh : h' (v * 31 + b) = h (v * 31 + b)) (hu : h' (u * 31 + b) = h (u * 31 + b))
    (e : st' v = 2 ∧ wn' v = nI b ↔ st v = 2 ∧ wn v = nI b) (k : st v = 2 → wn v = nI b → wd' v = wd v ∧ wb' v = wb v) : mw_bk h' st' wn' wd' wb' u b w s v ↔ mw_bk h st wn wd wb u b w s v := by
  unfold mw_bk
  rw [hh, hu]
  constructor
  · rintro ⟨n, q | ⟨q1, q2, q3, q4, q5⟩⟩
    · exact ⟨n, Or.inl q⟩
    · obtain ⟨e1, e2⟩ := e.mp ⟨q2, q3⟩
      obtain ⟨k1, k2⟩ := k e1 e2
      rw [k1] at q4
      rw [k2] at q5
      exact ⟨n, Or.inr ⟨q1, e1, e2, q4, q5⟩⟩
  · rintro ⟨n, q | ⟨q1, q2, q3, q4, q5⟩⟩
    · exact ⟨n, Or.inl q⟩
    · obtain ⟨e1, e2⟩ := e.mpr ⟨q2, q3⟩
      obtain ⟨k1, k2⟩ := k q2 q3
      rw [← k1] at q4
      rw [← k2] at q5
      exact ⟨n, Or.inr ⟨q1, e1, e2, q4, q5⟩⟩
section
variable {N F : Nat} {dp : Nat → Nat} {pt : Nat → Nat → Nat} {fr er : Nat → Nat} {nb nw : Nat} {xnc xfn xel xlm xwm xtc xsu xco xvi xlv xes : Int32} {xdO xpA xab xbe xrb xfO xeO xic xcu xcm xwr xst xac xpr xbb xdr xok xon xoa xgn xgm xh xni xhn xho xhb xwn xwd xwf xwt xbk xre : Nat → Int32} {ynB ynW : Int64} {ypa : Nat → Int32} {ybg : Nat → Int64} {ykd : Nat → Int32} {ywb : Nat → Int64} {yld : Nat → Int32}
variable {xtc' : Int32} {xh' xst' xwn' xwd' xbk' xok' xon' xgn' xgm' : Nat → Int32} {ywb' : Nat → Int64} {ykd' : Nat → Int32}
theorem mi_B_t (B : (mi_B xtc xh xst xwn xwd xbk ywb)) {t : Nat} (tc : mh_tc xtc xh xtc' xh') (hst : ∀ u, u ≠ t → xst' u = xst u) (hwn : ∀ u, u ≠ t → xwn' u = xwn u) (hwd : ∀ u, u ≠ t → xwd' u = xwd u) (hwb : ∀ u, u ≠ t → ywb' u = ywb u) (hbk : ∀ u, u ≠ t → xbk' u = xbk u)
    (b0 : xst' t ≠ 2 → xbk' t = 0) (hold : xst t = 2 → ∀ b, b < 31 → xwn t = nI b → bt xtc' b = true) (hnew : xst' t = 2 → ∀ b, b < 31 → xwn' t = nI b → bt xtc' b = true) :
    (mi_B xtc' xh' xst' xwn' xwd' xbk' ywb') := by
  refine ⟨fun u hu h1 => ?_, fun u b hu hb h1 h2 => ?_⟩
  · by_cases e : u = t
    · rw [e] at h1 ⊢; exact b0 h1
    · rw [hst u e] at h1
      rw [hbk u e]
      exact B.1 u hu h1
  · by_cases e : u = t
    · rw [e] at h1 h2
      exact Or.inl (hnew h1 b hb h2)
    · rcases Classical.em (bt xtc' b = true) with z | z
      · exact Or.inl z
      · refine Or.inr ?_
        rw [hst u e] at h1
        rw [hwn u e] at h2
        rcases B.2 u b hu hb h1 h2 with q | q
        · exact absurd (tc.1 b q) z
        · have col := (tc.2 b hb).resolve_left z
          intro v
          rw [hbk u e, q v, hwd u e, hwb u e]
          refine ⟨fun p => ⟨p.1, ?_⟩, fun p => ⟨p.1, ?_⟩⟩
          · refine (mw_bk_c (col v p.1) (col u hu) ?_ ?_).mpr p.2
            · by_cases y : v = t
              · subst y
                exact ⟨fun k => absurd (hnew k.1 b hb k.2) z, fun k => absurd (hold k.1 b hb k.2) z⟩
              · rw [hst v y, hwn v y]
            · intro s2 wv
              by_cases y : v = t
              · subst y; exact absurd (hold s2 b hb wv) z
              · exact ⟨hwd v y, hwb v y⟩
          · refine (mw_bk_c (col v p.1) (col u hu) ?_ ?_).mp p.2
            · by_cases y : v = t
              · subst y
                exact ⟨fun k => absurd (hnew k.1 b hb k.2) z, fun k => absurd (hold k.1 b hb k.2) z⟩
              · rw [hst v y, hwn v y]
            · intro s2 wv
              by_cases y : v = t
              · subst y; exact absurd (hold s2 b hb wv) z
              · exact ⟨hwd v y, hwb v y⟩
theorem mi_G_t (G : (mi_G N dp pt xh xst xok xon xgn xgm xwn xwd ykd)) (T : (mt_T N F dp pt fr er xnc xfn xdO xpA xab xbe xrb xfO xeO xic ypa)) {t : Nat} (ro : mi_ro t xh xh') (hst : ∀ u, u ≠ t → xst' u = xst u) (hwn : ∀ u, u ≠ t → xwn' u = xwn u) (hwd : ∀ u, u ≠ t → xwd' u = xwd u)
    (hok : ∀ u, u ≠ t → xok' u = xok u) (hon : ∀ u, u ≠ t → xon' u = xon u) (hgn : ∀ u, u ≠ t → xgn' u = xgn u) (hgm : ∀ u, u ≠ t → xgm' u = xgm u) (hkd : ∀ u, u ≠ t → ykd' u = ykd u)
    (new : xst' t = 2 → mi_Gt N dp pt xh' xok' xon' xgn' xgm' xwn' xwd' ykd' t) :
    (mi_G N dp pt xh' xst' xok' xon' xgn' xgm' xwn' xwd' ykd') := by
  intro u hu s2
  have hN := mt_N T
  by_cases e : u = t
  · rw [e] at s2 ⊢; exact new s2
  · rw [hst u e] at s2
    obtain ⟨⟨a1, a2, a3, a4⟩, g, d, g1, g2, g3, g4, g5, g6⟩ := G u hu s2
    have row : ∀ k, k ≤ dp g → xh' (u * 31 + pt g k) = xh (u * 31 + pt g k) := fun k hk => ro u (pt g k) hu e (by have := (T.2.2.1 g k g2 hk).1; omega)
    refine ⟨⟨?_, ?_, ?_, ?_⟩, g, d, ?_, g2, g3, ?_, ?_, fun k hk => ?_⟩
    · rw [hok u e, hkd u e]; exact a1
    · rw [hon u e]; exact a2
    · rw [hgn u e]; exact a3
    · rw [hgm u e]; exact a4
    · rw [hgn u e]; exact g1
    · rw [hwn u e]; exact g4
    · rw [hwd u e, hgm u e, g5]
      unfold mt_sm
      rw [row d g3]
    · rw [hgm u e, row k (by omega)]
      exact g6 k hk
theorem mi_W_x (W : (mi_W N nw xwm xst xwn xwd xwf xwt ynW ywb)) {t : Nat} {x : Int32} (s2 : ¬ xst t = 2) (x2 : ¬ x = 2) : (mi_W N nw xwm (upd xst t x) xwn xwd xwf xwt ynW ywb) := by
  have e : ∀ u, upd xst t x u = 2 ↔ xst u = 2 := by
    intro u
    by_cases z : u = t
    · subst z; rw [pk_us]; exact ⟨fun q => absurd q x2, fun q => absurd q s2⟩
    · rw [pk_un z]
  obtain ⟨W1, W2, W3, W4, W5⟩ := W
  refine ⟨W1, fun u => by rw [W2 u, e u], fun u hu hs => ?_, fun n m u h1 h2 h3 => by rw [W4 n m u h1 h2 h3, e u], fun u v hu hv su sv q => W5 u v hu hv ((e u).mp su) ((e v).mp sv) q⟩
  obtain ⟨r1, r2, r3, r4⟩ := W3 u hu ((e u).mp hs)
  exact ⟨r1, r2, r3, fun v => by rw [r4 v, e v]⟩
end
/-! the measure -/
def mi_mu (dp : Nat → Nat) (st wn : Nat → Int32) : Nat → Nat
  | 0 => 0
  | k + 1 => mi_mu dp st wn k + (if st k = 2 then 4 - dp (wn k).toNatClampNeg else 0)
theorem mi_mu_le {dp : Nat → Nat} {st wn : Nat → Int32} : ∀ k, mi_mu dp st wn k ≤ 4 * k
  | 0 => Nat.le_refl _
  | k + 1 => by
    have := mi_mu_le (dp := dp) (st := st) (wn := wn) k
    rw [mi_mu]; split <;> omega
theorem mi_mu_lt {dp : Nat → Nat} {st wn st' wn' : Nat → Int32} {t : Nat} (h : ∀ u, u ≠ t → st' u = st u ∧ wn' u = wn u)
    (c : (if st' t = 2 then 4 - dp (wn' t).toNatClampNeg else 0) < (if st t = 2 then 4 - dp (wn t).toNatClampNeg else 0)) : ∀ k, (k ≤ t → mi_mu dp st' wn' k = mi_mu dp st wn k) ∧ (t < k → mi_mu dp st' wn' k < mi_mu dp st wn k)
  | 0 => ⟨fun _ => rfl, fun q => by omega⟩
  | k + 1 => by
    obtain ⟨i1, i2⟩ := mi_mu_lt h c k
    refine ⟨fun q => ?_, fun q => ?_⟩
    · rw [mi_mu, mi_mu, i1 (by omega), (h k (by omega)).1, (h k (by omega)).2]
    · rw [mi_mu, mi_mu]
      by_cases e : k = t
      · have := i1 (by omega)
        rw [e] at this ⊢
        omega
      · have := i2 (by omega)
        rw [(h k e).1, (h k e).2]
        omega
end
section
/-! advance, in lockstep -/
def ma_fr (N : Nat) (dp : Nat → Nat) (t D nw nw' : Nat) (st wn st' wn' : Nat → Int32) : Prop :=
  nw' ≤ nw + 1 ∧ (∀ u, u ≠ t → st' u = st u ∧ wn' u = wn u) ∧ (st' t = 1 ∨ (st' t = 2 ∧ ∃ a, a < N ∧ wn' t = nI a ∧ D ≤ dp a))
def ma_P (dp : Nat → Nat) (pt : Nat → Nat → Nat) (h : Nat → Int32) (t g D : Nat) (m : Int32) : Prop :=
  (∀ e, e < D → e < dp g → mm_jn (h (t * 31 + pt g e)) (mm_it m) = h (t * 31 + pt g e)) ∧ (dp g < D → mm_jn (h (t * 31 + g)) m = h (t * 31 + g))
section
variable {N F : Nat} {dp : Nat → Nat} {pt : Nat → Nat → Nat} {fr er : Nat → Nat} {nb nw : Nat} {xnc xfn xel xlm xwm xtc xsu xco xvi xlv xes : Int32} {xdO xpA xab xbe xrb xfO xeO xic xcu xcm xwr xst xac xpr xbb xdr xok xon xoa xgn xgm xh xni xhn xho xhb xwn xwd xwf xwt xbk xre : Nat → Int32} {ynB ynW : Int64} {ypa : Nat → Int32} {ybg : Nat → Int64} {ykd : Nat → Int32} {ywb : Nat → Int64} {yld : Nat → Int32}
theorem ma_gr (T : (mt_T N F dp pt fr er xnc xfn xdO xpA xab xbe xrb xfO xeO xic ypa)) {t a p : Nat} {w : Int32} (hp : p < N) (ha : a < N) (le : dp p ≤ dp a) (ne : p ≠ a) : mh_gr N dp pt xh t a w (t * 31 + p) = xh (t * 31 + p) := by
  have hN := mt_N T
  unfold mh_gr mh_gi
  rw [if_neg, pk_un (by omega)]
  rintro ⟨_, _, q, _⟩
  rw [Nat.add_sub_cancel_left] at q
  have := (mt_blN T hp q).2.2
  omega
theorem ma_adv {post : SX → Prop} {t g D0 : Nat} {m : Int32} (ht : t < 8) (hg : g < N) (eg : xgn t = nI g) (em : xgm t = m) (A : (mi_A N xok xon xgn xgm ykd) t) (s1 : xst t = 1) (hnw : nw + 1 < 2 ^ 31) :
    ∀ (d i n : Nat) (xtc : Int32) (xh xni xhn xho xhb : Nat → Int32), i + d = 8 → d < n → (mi_I N F dp pt fr er nb nw xnc xfn xlm xwm xtc xsu xdO xpA xab xbe xrb xfO xeO xic xwr xst xbb xdr xok xon xgn xgm xh xni xhn xho xhb xwn xwd xwf xwt xbk ynB ynW ypa ybg ykd ywb) → ma_P dp pt xh t g D0 m →
    (∀ (xwm' xtc' : Int32) (xcu' xwr' xst' xac' xdr' xok' xh' xni' xhn' xho' xhb' xwn' xwd' xwf' xwt' : Nat → Int32) (ynW' : Int64) (ywb' : Nat → Int64) (nw' : Nat), (mi_I N F dp pt fr er nb nw' xnc xfn xlm xwm' xtc' xsu xdO xpA xab xbe xrb xfO xeO xic xwr' xst' xbb xdr' xok' xon xgn xgm xh' xni' xhn' xho' xhb' xwn' xwd' xwf' xwt' xbk ynB ynW' ypa ybg ykd ywb') → ma_fr N dp t D0 nw nw' xst xwn xst' xwn' → (∀ (ld : Nat → Int32) (P : SY → Prop), P (xfn, xnc, xel, ynB, ynW', xco, xvi, xlv, xes, ypa, xcu', xcm, xwr', xh', xst', xac', xpr, ybg, ykd, xon, xoa, xgn, xgm, xwn', xwd', ywb', ld) → wY_advance_2 P (nI t) n (nI i) xfn xnc xel ynB ynW xco xvi xlv xes ypa xcu xcm xwr xh xst xac xpr ybg ykd xon xoa xgn xgm xwn xwd ywb ld) → post (xnc, xfn, xel, xlm, xwm', xtc', xsu, xco, xvi, xlv, xes, xdO, xpA, xab, xbe, xrb, xfO, xeO, xic, xcu', xcm, xwr', xst', xac', xpr, xbb, xdr', xok', xon, xoa, xgn, xgm, xh', xni', xhn', xho', xhb', xwn', xwd', xwf', xwt', xbk, xre)) →
    wX_advance_2 post (nI t) n (nI i) xnc xfn xel xlm xwm xtc xsu xco xvi xlv xes xdO xpA xab xbe xrb xfO xeO xic xcu xcm xwr xst xac xpr xbb xdr xok xon xoa xgn xgm xh xni xhn xho xhb xwn xwd xwf xwt xbk xre := by
  have ns2 : ¬ xst t = 2 := by rw [s1]; decide
  have ct : (nI t).toNatClampNeg = t := mb_c (by omega)
  intro d
  induction d with
  | zero =>
    intro i n xtc xh xni xhn xho xhb hi hn I PD K
    obtain ⟨n, rfl⟩ : ∃ j, n = j + 1 := ⟨n - 1, by omega⟩
    obtain rfl : i = 8 := by omega
    rw [wX_advance_2]
    refine br_t (nI_le (a := 8) (by omega) (by omega)) (K xwm xtc xcu xwr xst xac xdr xok xh xni xhn xho xhb xwn xwd xwf xwt ynW ywb nw I ⟨by omega, fun _ _ => ⟨rfl, rfl⟩, Or.inl s1⟩ fun ld P hP => ?_)
    rw [wY_advance_2]
    exact br_t (nI_le (a := 8) (by omega) (by omega)) hP
  | succ d ih =>
    intro i n xtc xh xni xhn xho xhb hi hn I PD K
    obtain ⟨n, rfl⟩ : ∃ j, n = j + 1 := ⟨n - 1, by omega⟩
    obtain ⟨T, H, Z, W, L, D, B, S, G⟩ := I
    have hN := mt_N T
    have A' := A
    obtain ⟨ak, ⟨o, ho, eo⟩, _, m1⟩ := A'
    rw [em] at m1
    rw [wX_advance_2]
    refine br_f (nI_ge (b := 8) (by omega) (by decide)) (mx_goalMet T H ht hg eg em (mb_br (fun ns => ?_) (fun s => ?_)))
    · refine mx_stepNode T ht hg eg em fun s hs => ?_
      have hs' := hs
      obtain ⟨e, e1, e2, e3, e4⟩ := hs'
      obtain ⟨k1, k2, k3, k4⟩ := T.2.2.1 g e hg e1
      rw [← e2] at k1 k2
      have sN : s < N := k1
      have nj : ¬ mm_jn (xh (t * 31 + g)) m = xh (t * 31 + g) := fun q => ns (Or.inl q)
      have Dg : D0 ≤ dp g := by
        rcases Nat.lt_or_ge (dp g) D0 with l | l
        · exact absurd (PD.2 l) nj
        · exact l
      have De : D0 ≤ e := by
        rcases Nat.lt_or_ge e D0 with l | l
        · exact absurd (PD.1 e l (by omega)) (e4 (by omega))
        · exact l
      refine mx_stepMode T ht hg sN eg em ?_
      have w1 : mm_m1 (mt_sm xh t g m s) := by
        unfold mt_sm
        refine mm_jn_m1 (H.1 t s ht (by omega)) ?_
        split
        · exact m1
        · exact mm_it_m1 m
      have hE : ∀ u, u < 8 → xst u = 2 → (bt xwm u = true ↔ ywb u < ynW) := fun u hu su => by
        refine ⟨fun _ => ?_, fun _ => (W.2.1 u).mpr ⟨hu, su⟩⟩
        rw [Int64.lt_iff_toInt_lt, W.1.1, lN_toInt W.1.2]
        exact (W.2.2.1 u hu su).2.2.1
      refine mx_blockersOf (s := ynW) T H W ht sN w1 hE fun M hM => br_c (fun z => ?_) (fun z => ?_)
      · have fre : ∀ u, u < 8 → ¬ mw_bk xh xst xwn xwd ywb t s (mt_sm xh t g m s) ynW u := fun u hu q => mb_eq0.mp z u ((hM u).mpr ⟨hu, q⟩)
        refine mx_grant T H ht sN (mm_m1_md w1) ?_
        intro xtc' xni' xhn' xho' xhb' H' tc'
        have ro := mi_ro_gr (N := N) (dp := dp) (pt := pt) (h := xh) (t := t) (a := s) (w := mt_sm xh t g m s) hN (by omega)
        have Z' := mi_Z_t (x := 1) Z ro (Or.inr (Or.inl rfl)) (fun q => absurd rfl q)
        rw [mb_ud s1] at Z'
        have B' := mi_B_t B (t := t) tc' (fun _ _ => rfl) (fun _ _ => rfl) (fun _ _ => rfl) (fun _ _ => rfl) (fun _ _ => rfl) (B.1 t ht) (fun q => absurd q ns2) (fun q => absurd q ns2)
        have G' := mi_G_t G T (t := t) ro (fun _ _ => rfl) (fun _ _ => rfl) (fun _ _ => rfl) (fun _ _ => rfl) (fun _ _ => rfl) (fun _ _ => rfl) (fun _ _ => rfl) (fun _ _ => rfl) (fun q => absurd q ns2)
        refine nm_r (nI_1 i) (ih (i + 1) n xtc' _ xni' xhn' xho' xhb' (by omega) (by omega) ⟨T, H', Z', W, L, D, B', S, G'⟩ ⟨fun k l1 l2 => ?_, fun l => by omega⟩ ?_)
        · obtain ⟨p1, p2, _, _⟩ := T.2.2.1 g k hg (by omega)
          rw [ma_gr T p1 sN (by omega) (fun q => by rw [q] at p2; omega)]
          exact PD.1 k l1 l2
        · intro xwm'' xtc'' xcu'' xwr'' xst'' xac'' xdr'' xok'' xh'' xni'' xhn'' xho'' xhb'' xwn'' xwd'' xwf'' xwt'' ynW'' ywb'' nw'' I'' fr'' C''
          refine K xwm'' xtc'' xcu'' xwr'' xst'' xac'' xdr'' xok'' xh'' xni'' xhn'' xho'' xhb'' xwn'' xwd'' xwf'' xwt'' ynW'' ywb'' nw'' I'' fr'' fun ld P hP => ?_
          rw [wY_advance_2]
          exact br_f (nI_ge (b := 8) (by omega) (by decide)) ⟨mb_v8 ht, nm_r (e' := nI g) (by rw [ct, eg]) ⟨mb_v8 ht, nm_r (e' := m) (by rw [ct, em]) (my_satisfied T ht hg (mb_br (fun _ => my_stepNode T ht hg hs (my_stepMode T ht hg sN (my_free T Z ht sN (mb_br (fun q => absurd fre q) (fun _ => my_grant T ht sN (nm_r (nI_1 i) (C'' ld P hP))))))) (fun q => absurd q ns)))⟩⟩
      · have nfre : ¬ ∀ u, u < 8 → ¬ mw_bk xh xst xwn xwd ywb t s (mt_sm xh t g m s) ynW u := fun q => by
          obtain ⟨u, hu⟩ := mb_ne0.mp z
          exact q u ((hM u).mp hu).1 ((hM u).mp hu).2
        have w1' := w1
        obtain ⟨k, k0, k6, ek⟩ := w1'
        rw [ek]
        refine mx_beginWait ht (by omega) k6 ?_
        have W' := mw_begin W hN ht sN k0 k6 ns2 hnw
        have Z' := mi_Z_t (x := 2) Z (mi_ro_r (t := t)) (Or.inr (Or.inr (Or.inl rfl))) (fun _ q => absurd rfl q)
        have L' := ml_same L (x := 2) (Or.inl s1) (Or.inr rfl)
        have tc' : mh_tc xtc xh (xtc ||| ((1 : Int32) <<< (nI s &&& 31))) xh := ⟨fun j q => (mb_set (by omega) j).mpr (Or.inl q), fun _ _ => Or.inr fun _ _ => rfl⟩
        have B' := mi_B_t B (t := t) (xst' := upd xst t 2) (xwn' := upd xwn t (nI s)) (xwd' := upd xwd t (nI k)) (ywb' := vp_updL ywb t ynW) (xbk' := xbk) tc' (fun _ q => pk_un q) (fun _ q => pk_un q) (fun _ q => pk_un q) (fun _ q => pk_uLn q) (fun _ _ => rfl) (fun q => absurd pk_us q) (fun q => absurd q ns2) (fun _ b hb q => by
          rw [pk_us] at q
          exact (mb_set (by omega) b).mpr (Or.inr (mb_inj (by omega) (by omega) q).symm))
        have G' := mi_G_t G T (t := t) (xst' := upd xst t 2) (xwn' := upd xwn t (nI s)) (xwd' := upd xwd t (nI k)) (xok' := xok) (xon' := xon) (xgn' := xgn) (xgm' := xgm) (ykd' := ykd) mi_ro_r (fun _ q => pk_un q) (fun _ q => pk_un q) (fun _ q => pk_un q) (fun _ _ => rfl) (fun _ _ => rfl) (fun _ _ => rfl) (fun _ _ => rfl) (fun _ _ => rfl) (fun _ => ⟨A, g, e, eg, hg, e1, by rw [pk_us, e2], by rw [pk_us, em, ← e2, ek], fun q hq => by rw [em]; exact e3 q hq⟩)
        refine K (xwm ||| ((1 : Int32) <<< (nI t &&& 31))) (xtc ||| ((1 : Int32) <<< (nI s &&& 31))) xcu xwr (upd xst t 2) xac xdr xok xh xni xhn xho xhb (upd xwn t (nI s)) (upd xwd t (nI k)) (upd xwf t xwm) (upd xwt (s * 6 + k) (xwt (s * 6 + k) ||| ((1 : Int32) <<< (nI t &&& 31)))) (ynW + 1) (vp_updL ywb t ynW) (nw + 1) ⟨T, H, Z', W', L', D, B', S, G'⟩ ⟨by omega, fun u q => ⟨pk_un q, pk_un q⟩, Or.inr ⟨pk_us, s, sN, pk_us, by omega⟩⟩ fun ld P hP => ?_
        rw [wY_advance_2]
        exact br_f (nI_ge (b := 8) (by omega) (by decide)) ⟨mb_v8 ht, nm_r (e' := nI g) (by rw [ct, eg]) ⟨mb_v8 ht, nm_r (e' := m) (by rw [ct, em]) (my_satisfied T ht hg (mb_br (fun _ => my_stepNode T ht hg hs (my_stepMode T ht hg sN (my_free T Z ht sN (mb_br (fun _ => ⟨mb_v8 ht, nm_r (e' := upd xst t 2) (by rw [ct]) ⟨mb_v8 ht, nm_r (e' := upd xwn t (nI s)) (by rw [ct]) ⟨mb_v8 ht, nm_r (e' := upd xwd t (nI k)) (by rw [ct, ek]) ⟨mb_v8 ht, nm_r (e' := vp_updL ywb t ynW) (by rw [ct]) (nm_e hP)⟩⟩⟩⟩) (fun q => absurd q nfre))))) (fun q => absurd q ns)))⟩⟩
    · refine mx_perform T D ht ho eo rfl fun dr D' => ?_
      have G' := mi_G_t G T (t := t) (xst' := xst) (xwn' := xwn) (xwd' := xwd) (xok' := upd xok t 0) (xon' := xon) (xgn' := xgn) (xgm' := xgm) (ykd' := ykd) mi_ro_r (fun _ _ => rfl) (fun _ _ => rfl) (fun _ _ => rfl) (fun _ q => pk_un q) (fun _ _ => rfl) (fun _ _ => rfl) (fun _ _ => rfl) (fun _ _ => rfl) (fun q => absurd q ns2)
      refine ⟨mb_v8 ht, nm_r (e' := upd xok t 0) (by rw [ct]) ⟨mb_v8 ht, nm_r (e' := xst) (by rw [ct, mb_ud s1]) ?_⟩⟩
      refine K xwm xtc _ _ xst _ dr (upd xok t 0) xh xni xhn xho xhb xwn xwd xwf xwt ynW ywb nw ⟨T, H, Z, W, L, D', B, S, G'⟩ ⟨by omega, fun _ _ => ⟨rfl, rfl⟩, Or.inl s1⟩ fun ld P hP => ?_
      rw [wY_advance_2]
      exact br_f (nI_ge (b := 8) (by omega) (by decide)) ⟨mb_v8 ht, nm_r (e' := nI g) (by rw [ct, eg]) ⟨mb_v8 ht, nm_r (e' := m) (by rw [ct, em]) (my_satisfied T ht hg (mb_br (fun q => absurd s q) (fun _ => my_perform T ht ho eo ak.symm ⟨mb_v8 ht, nm_r (e' := xst) (by rw [ct, mb_ud s1]) hP⟩)))⟩⟩
end
end
section
/-! the end of a transaction: undo, and the invariant behind it -/
section
variable {N F : Nat} {dp : Nat → Nat} {pt : Nat → Nat → Nat} {fr er : Nat → Nat} {nb nw : Nat} {xnc xfn xel xlm xwm xtc xsu xco xvi xlv xes : Int32} {xdO xpA xab xbe xrb xfO xeO xic xcu xcm xwr xst xac xpr xbb xdr xok xon xoa xgn xgm xh xni xhn xho xhb xwn xwd xwf xwt xbk xre : Nat → Int32} {ynB ynW : Int64} {ypa : Nat → Int32} {ybg : Nat → Int64} {ykd : Nat → Int32} {ywb : Nat → Int64} {yld : Nat → Int32}
theorem mr_h_z (H : (mi_H N xh xni xhn xho xhb)) {t : Nat} (ht : t < 8) : ∀ n, n < 31 → mr_h xh t N (t * 31 + n) = 0 := by
  intro n hn
  unfold mr_h
  rcases Nat.lt_or_ge n N with l | l
  · rw [if_pos (by omega)]
  · rw [if_neg (by omega)]; exact H.2.1 t n ht l hn
theorem mx_undoW (T : (mt_T N F dp pt fr er xnc xfn xdO xpA xab xbe xrb xfO xeO xic ypa)) (H : (mi_H N xh xni xhn xho xhb)) (D : (mi_D N F xwr xdr)) {post : SX → Prop} {t a k : Nat} (ht : t < 8) (ha : a < N) (k6 : k < 6) (ea : xwn t = nI a) (ek : xwd t = nI k) (s2 : xst t = 2)
    (h : ∀ (wf' : Nat → Int32) (xtc' : Int32) (xni' xhn' xho' xhb' : Nat → Int32), (∀ u, u < 8 → wf' u = upd xwf t 0 u &&& (((1 : Int32) <<< (nI t &&& 31)) ^^^ (-1))) → (mi_H N (mr_h xh t N) xni' xhn' xho' xhb') → mh_tc (xtc ||| ((1 : Int32) <<< (nI a &&& 31))) xh xtc' (mr_h xh t N) →
      post (xnc, xfn, xel, xlm, xwm &&& (((1 : Int32) <<< (nI t &&& 31)) ^^^ (-1)), xtc', xsu &&& (((1 : Int32) <<< (nI t &&& 31)) ^^^ (-1)), xco, xvi, xlv, xes, xdO, xpA, xab, xbe, xrb, xfO, xeO, xic, mr_k xcm xcu xwr t N, xcm, mr_w xwr t N, xst, upd xac t 0, xpr, xbb, upd xdr t 0, upd xok t 0, xon, xoa, xgn, xgm, mr_h xh t N, xni', xhn', xho', xhb', xwn, xwd, wf', upd xwt (a * 6 + k) (xwt (a * 6 + k) &&& (((1 : Int32) <<< (nI t &&& 31)) ^^^ (-1))), upd xbk t 0, xre)) :
    wpX_undo post (xnc, xfn, xel, xlm, xwm, xtc, xsu, xco, xvi, xlv, xes, xdO, xpA, xab, xbe, xrb, xfO, xeO, xic, xcu, xcm, xwr, xst, xac, xpr, xbb, xdr, xok, xon, xoa, xgn, xgm, xh, xni, xhn, xho, xhb, xwn, xwd, xwf, xwt, xbk, xre) (nI t) := by
  have hN := mt_N T
  have ct : (nI t).toNatClampNeg = t := mb_c (by omega)
  unfold wpX_undo
  refine mx_closeA T D ht ⟨mb_v8 ht, ?_⟩
  rw [ct]
  refine br_t s2 (mx_endWait ht (by omega) k6 ea ek fun wf' hf => ⟨mb_v8 ht, ?_⟩)
  rw [ct]
  refine mx_release H ht ?_
  rw [mr_h_rl H hN ht]
  intro xtc' xni' xhn' xho' xhb' H' tc'
  exact ⟨mb_v8 ht, nm_e ⟨mb_v8 ht, nm_e (h wf' _ _ _ _ _ hf H' tc')⟩⟩
theorem mx_undoA (T : (mt_T N F dp pt fr er xnc xfn xdO xpA xab xbe xrb xfO xeO xic ypa)) (H : (mi_H N xh xni xhn xho xhb)) (D : (mi_D N F xwr xdr)) {post : SX → Prop} {t : Nat} (ht : t < 8) (s2 : ¬ xst t = 2)
    (h : ∀ (xtc' : Int32) (xni' xhn' xho' xhb' : Nat → Int32), (mi_H N (mr_h xh t N) xni' xhn' xho' xhb') → mh_tc xtc xh xtc' (mr_h xh t N) →
      post (xnc, xfn, xel, xlm, xwm, xtc', xsu, xco, xvi, xlv, xes, xdO, xpA, xab, xbe, xrb, xfO, xeO, xic, mr_k xcm xcu xwr t N, xcm, mr_w xwr t N, xst, upd xac t 0, xpr, xbb, upd xdr t 0, upd xok t 0, xon, xoa, xgn, xgm, mr_h xh t N, xni', xhn', xho', xhb', xwn, xwd, xwf, xwt, xbk, xre)) :
    wpX_undo post (xnc, xfn, xel, xlm, xwm, xtc, xsu, xco, xvi, xlv, xes, xdO, xpA, xab, xbe, xrb, xfO, xeO, xic, xcu, xcm, xwr, xst, xac, xpr, xbb, xdr, xok, xon, xoa, xgn, xgm, xh, xni, xhn, xho, xhb, xwn, xwd, xwf, xwt, xbk, xre) (nI t) := by
  have hN := mt_N T
  have ct : (nI t).toNatClampNeg = t := mb_c (by omega)
  unfold wpX_undo
  refine mx_closeA T D ht ⟨mb_v8 ht, ?_⟩
  rw [ct]
  refine br_f s2 ⟨mb_v8 ht, ?_⟩
  rw [ct]
  refine mx_release H ht ?_
  rw [mr_h_rl H hN ht]
  intro xtc' xni' xhn' xho' xhb' H' tc'
  exact ⟨mb_v8 ht, nm_e ⟨mb_v8 ht, nm_e (h _ _ _ _ _ H' tc')⟩⟩
theorem mg_W (I : (mi_I N F dp pt fr er nb nw xnc xfn xlm xwm xtc xsu xdO xpA xab xbe xrb xfO xeO xic xwr xst xbb xdr xok xon xgn xgm xh xni xhn xho xhb xwn xwd xwf xwt xbk ynB ynW ypa ybg ykd ywb)) {t a k : Nat} {x : Int32} {wf' bb' : Nat → Int32} {xtc' : Int32} {xni' xhn' xho' xhb' : Nat → Int32} (ht : t < 8) (ha : a < N) (k0 : 0 < k) (k6 : k < 6) (ea : xwn t = nI a) (ek : xwd t = nI k) (hx : x = 0 ∨ x = 3)
    (hf : ∀ u, u < 8 → wf' u = upd xwf t 0 u &&& (((1 : Int32) <<< (nI t &&& 31)) ^^^ (-1))) (hb : ∀ u, u < 8 → bb' u = upd xbb t 0 u &&& (((1 : Int32) <<< (nI t &&& 31)) ^^^ (-1)))
    (H' : (mi_H N (mr_h xh t N) xni' xhn' xho' xhb')) (tc' : mh_tc (xtc ||| ((1 : Int32) <<< (nI a &&& 31))) xh xtc' (mr_h xh t N)) :
    (mi_I N F dp pt fr er nb nw xnc xfn (xlm &&& (((1 : Int32) <<< (nI t &&& 31)) ^^^ (-1))) (xwm &&& (((1 : Int32) <<< (nI t &&& 31)) ^^^ (-1))) xtc' (xsu &&& (((1 : Int32) <<< (nI t &&& 31)) ^^^ (-1))) xdO xpA xab xbe xrb xfO xeO xic (mr_w xwr t N) (upd xst t x) bb' (upd xdr t 0) (upd xok t 0) xon xgn xgm (mr_h xh t N) xni' xhn' xho' xhb' xwn xwd wf' (upd xwt (a * 6 + k) (xwt (a * 6 + k) &&& (((1 : Int32) <<< (nI t &&& 31)) ^^^ (-1)))) (upd xbk t 0) ynB ynW ypa ybg ykd ywb) := by
  obtain ⟨T, H, Z, W, L, D, B, S, G⟩ := I
  have hN := mt_N T
  have x1 : ¬ x = 1 := by rcases hx with q | q <;> rw [q] <;> decide
  have x2 : ¬ x = 2 := by rcases hx with q | q <;> rw [q] <;> decide
  have ro := mi_ro_h (N := N) (h := xh) (t := t) hN
  have Z' := mi_Z_t (x := x) Z ro (hx.elim Or.inl fun q => Or.inr (Or.inr (Or.inr q))) (fun _ _ => mr_h_z H ht)
  have W' := mw_end W hN ht ha k0 k6 ea ek x2 hf
  have L' := ml_ret L ht x1 x2 hb
  have D' := mr_w_D D ht
  have tc0 : mh_tc xtc xh (xtc ||| ((1 : Int32) <<< (nI a &&& 31))) xh := ⟨fun j q => (mb_set (by omega) j).mpr (Or.inl q), fun _ _ => Or.inr fun _ _ => rfl⟩
  have n2 : ¬ upd xst t x t = 2 := by rw [pk_us]; exact x2
  have B' := mi_B_t B (t := t) (xst' := upd xst t x) (xwn' := xwn) (xwd' := xwd) (ywb' := ywb) (xbk' := upd xbk t 0) (mh_tc_t tc0 tc') (fun _ q => pk_un q) (fun _ _ => rfl) (fun _ _ => rfl) (fun _ _ => rfl) (fun _ q => pk_un q) (fun _ => pk_us) (fun _ b hb q => by
    rw [ea] at q
    exact tc'.1 b ((mb_set (by omega) b).mpr (Or.inr (mb_inj (by omega) (by omega) q).symm))) (fun q => absurd q n2)
  have G' := mi_G_t G T (t := t) (xst' := upd xst t x) (xwn' := xwn) (xwd' := xwd) (xok' := upd xok t 0) (xon' := xon) (xgn' := xgn) (xgm' := xgm) (ykd' := ykd) ro (fun _ q => pk_un q) (fun _ _ => rfl) (fun _ _ => rfl) (fun _ q => pk_un q) (fun _ _ => rfl) (fun _ _ => rfl) (fun _ _ => rfl) (fun _ _ => rfl) (fun q => absurd q n2)
  exact ⟨T, H', Z', W', L', D', B', mi_S_e S ht, G'⟩
theorem mg_A (I : (mi_I N F dp pt fr er nb nw xnc xfn xlm xwm xtc xsu xdO xpA xab xbe xrb xfO xeO xic xwr xst xbb xdr xok xon xgn xgm xh xni xhn xho xhb xwn xwd xwf xwt xbk ynB ynW ypa ybg ykd ywb)) {t : Nat} {x : Int32} {bb' xok' : Nat → Int32} {xtc' : Int32} {xni' xhn' xho' xhb' : Nat → Int32} (ht : t < 8) (s2 : ¬ xst t = 2) (hx : x = 0 ∨ x = 3) (hok : ∀ u, u ≠ t → xok' u = xok u)
    (hb : ∀ u, u < 8 → bb' u = upd xbb t 0 u &&& (((1 : Int32) <<< (nI t &&& 31)) ^^^ (-1)))
    (H' : (mi_H N (mr_h xh t N) xni' xhn' xho' xhb')) (tc' : mh_tc xtc xh xtc' (mr_h xh t N)) :
    (mi_I N F dp pt fr er nb nw xnc xfn (xlm &&& (((1 : Int32) <<< (nI t &&& 31)) ^^^ (-1))) xwm xtc' xsu xdO xpA xab xbe xrb xfO xeO xic (mr_w xwr t N) (upd xst t x) bb' (upd xdr t 0) xok' xon xgn xgm (mr_h xh t N) xni' xhn' xho' xhb' xwn xwd xwf xwt xbk ynB ynW ypa ybg ykd ywb) := by
  obtain ⟨T, H, Z, W, L, D, B, S, G⟩ := I
  have hN := mt_N T
  have x1 : ¬ x = 1 := by rcases hx with q | q <;> rw [q] <;> decide
  have x2 : ¬ x = 2 := by rcases hx with q | q <;> rw [q] <;> decide
  have ro := mi_ro_h (N := N) (h := xh) (t := t) hN
  have Z' := mi_Z_t (x := x) Z ro (hx.elim Or.inl fun q => Or.inr (Or.inr (Or.inr q))) (fun _ _ => mr_h_z H ht)
  have W' := mi_W_x W s2 x2
  have L' := ml_ret L ht x1 x2 hb
  have D' := mr_w_D D ht
  have n2 : ¬ upd xst t x t = 2 := by rw [pk_us]; exact x2
  have B' := mi_B_t B (t := t) (xst' := upd xst t x) (xwn' := xwn) (xwd' := xwd) (ywb' := ywb) (xbk' := xbk) tc' (fun _ q => pk_un q) (fun _ _ => rfl) (fun _ _ => rfl) (fun _ _ => rfl) (fun _ _ => rfl) (fun _ => B.1 t ht s2) (fun q => absurd q s2) (fun q => absurd q n2)
  have G' := mi_G_t G T (t := t) (xst' := upd xst t x) (xwn' := xwn) (xwd' := xwd) (xok' := xok') (xon' := xon) (xgn' := xgn) (xgm' := xgm) (ykd' := ykd) ro (fun _ q => pk_un q) (fun _ _ => rfl) (fun _ _ => rfl) hok (fun _ _ => rfl) (fun _ _ => rfl) (fun _ _ => rfl) (fun _ _ => rfl) (fun q => absurd q n2)
  exact ⟨T, H', Z', W', L', D', B', S, G'⟩
theorem mx_killW (I : (mi_I N F dp pt fr er nb nw xnc xfn xlm xwm xtc xsu xdO xpA xab xbe xrb xfO xeO xic xwr xst xbb xdr xok xon xgn xgm xh xni xhn xho xhb xwn xwd xwf xwt xbk ynB ynW ypa ybg ykd ywb)) {post : SX → Prop} {t a k : Nat} (ht : t < 8) (ha : a < N) (k0 : 0 < k) (k6 : k < 6) (ea : xwn t = nI a) (ek : xwd t = nI k) (s2 : xst t = 2)
    (h : ∀ (wf' bb' : Nat → Int32) (xtc' : Int32) (xni' xhn' xho' xhb' : Nat → Int32), (mi_I N F dp pt fr er nb nw xnc xfn (xlm &&& (((1 : Int32) <<< (nI t &&& 31)) ^^^ (-1))) (xwm &&& (((1 : Int32) <<< (nI t &&& 31)) ^^^ (-1))) xtc' (xsu &&& (((1 : Int32) <<< (nI t &&& 31)) ^^^ (-1))) xdO xpA xab xbe xrb xfO xeO xic (mr_w xwr t N) (upd xst t 3) bb' (upd xdr t 0) (upd xok t 0) xon xgn xgm (mr_h xh t N) xni' xhn' xho' xhb' xwn xwd wf' (upd xwt (a * 6 + k) (xwt (a * 6 + k) &&& (((1 : Int32) <<< (nI t &&& 31)) ^^^ (-1)))) (upd xbk t 0) ynB ynW ypa ybg ykd ywb) →
      post (xnc, xfn, xel, xlm &&& (((1 : Int32) <<< (nI t &&& 31)) ^^^ (-1)), xwm &&& (((1 : Int32) <<< (nI t &&& 31)) ^^^ (-1)), xtc', xsu &&& (((1 : Int32) <<< (nI t &&& 31)) ^^^ (-1)), xco, xvi + 1, nI t, xes, xdO, xpA, xab, xbe, xrb, xfO, xeO, xic, mr_k xcm xcu xwr t N, xcm, mr_w xwr t N, upd xst t 3, upd xac t 0, xpr, bb', upd xdr t 0, upd xok t 0, xon, xoa, xgn, xgm, mr_h xh t N, xni', xhn', xho', xhb', xwn, xwd, wf', upd xwt (a * 6 + k) (xwt (a * 6 + k) &&& (((1 : Int32) <<< (nI t &&& 31)) ^^^ (-1))), upd xbk t 0, xre)) :
    wpX_kill post (xnc, xfn, xel, xlm, xwm, xtc, xsu, xco, xvi, xlv, xes, xdO, xpA, xab, xbe, xrb, xfO, xeO, xic, xcu, xcm, xwr, xst, xac, xpr, xbb, xdr, xok, xon, xoa, xgn, xgm, xh, xni, xhn, xho, xhb, xwn, xwd, xwf, xwt, xbk, xre) (nI t) := by
  have I' := I
  obtain ⟨T, H, Z, W, L, D, B, S, G⟩ := I'
  unfold wpX_kill
  refine mx_undoW T H D ht ha k6 ea ek s2 fun wf' xtc' xni' xhn' xho' xhb' hf H' tc' => ?_
  refine mx_retire ht fun bb' hb => nm_e ?_
  exact h wf' bb' xtc' xni' xhn' xho' xhb' (mg_W I ht ha k0 k6 ea ek (Or.inr rfl) hf hb H' tc')
end
end
section
/-! settle, in lockstep -/
theorem mv_bz {mem : Nat → Prop} {ra : Nat → Nat → Prop} : ∀ n, (∀ t, t < n → ¬ mem t) → mv_b mem ra n = none
  | 0, _ => rfl
  | n + 1, h => by rw [mv_b0 (h n (by omega)), mv_bz n fun t ht => h t (by omega)]
section
variable {N F : Nat} {dp : Nat → Nat} {pt : Nat → Nat → Nat} {fr er : Nat → Nat} {nb nw : Nat} {xnc xfn xel xlm xwm xtc xsu xco xvi xlv xes : Int32} {xdO xpA xab xbe xrb xfO xeO xic xcu xcm xwr xst xac xpr xbb xdr xok xon xoa xgn xgm xh xni xhn xho xhb xwn xwd xwf xwt xbk xre : Nat → Int32} {ynB ynW : Int64} {ypa : Nat → Int32} {ybg : Nat → Int64} {ykd : Nat → Int32} {ywb : Nat → Int64} {yld : Nat → Int32}
theorem ma_gr_at (T : (mt_T N F dp pt fr er xnc xfn xdO xpA xab xbe xrb xfO xeO xic ypa)) {t a : Nat} {w : Int32} (ha : a < N) : mh_gr N dp pt xh t a w (t * 31 + a) = w := by
  unfold mh_gr mh_gi
  rw [if_neg, pk_us]
  rintro ⟨_, _, q, _⟩
  rw [Nat.add_sub_cancel_left] at q
  have := (mt_blN T ha q).2.1
  omega
theorem ms_settle {post : SX → Prop} : ∀ (d r n : Nat) (xtc : Int32) (xlm xwm xsu xvi xlv : Int32) (xcu xwr xst xac xbb xdr xok xh xni xhn xho xhb xwn xwd xwf xwt xbk xre : Nat → Int32) (ynW : Int64) (ywb : Nat → Int64) (nw : Nat), r + d = 64 → d < n → (mi_I N F dp pt fr er nb nw xnc xfn xlm xwm xtc xsu xdO xpA xab xbe xrb xfO xeO xic xwr xst xbb xdr xok xon xgn xgm xh xni xhn xho xhb xwn xwd xwf xwt xbk ynB ynW ypa ybg ykd ywb) → mi_mu dp xst xwn 8 + r ≤ 63 → nw + d < 2 ^ 31 →
    (∀ (xlm' xwm' xsu' xvi' xlv' : Int32) (xcu' xwr' xst' xac' xbb' xdr' xok' xh' xni' xhn' xho' xhb' xwn' xwd' xwf' xwt' xbk' xre' : Nat → Int32) (ynW' : Int64) (ywb' : Nat → Int64) (nw' : Nat), (mi_I N F dp pt fr er nb nw' xnc xfn xlm' xwm' 0 xsu' xdO xpA xab xbe xrb xfO xeO xic xwr' xst' xbb' xdr' xok' xon xgn xgm xh' xni' xhn' xho' xhb' xwn' xwd' xwf' xwt' xbk' ynB ynW' ypa ybg ykd ywb') → nw' ≤ nw + d → (∀ u, u < 8 → xst u ≠ 0 → xst' u ≠ 0) → (∀ P : SY → Prop, (∀ ld : Nat → Int32, P (xfn, xnc, xel, ynB, ynW', xco, xvi', xlv', xes, ypa, xcu', xcm, xwr', xh', xst', xac', xpr, ybg, ykd, xon, xoa, xgn, xgm, xwn', xwd', ywb', ld)) → ∀ ld : Nat → Int32, wY_settle_2 P n (nI r) xfn xnc xel ynB ynW xco xvi xlv xes ypa xcu xcm xwr xh xst xac xpr ybg ykd xon xoa xgn xgm xwn xwd ywb ld) → post (xnc, xfn, xel, xlm', xwm', 0, xsu', xco, xvi', xlv', xes, xdO, xpA, xab, xbe, xrb, xfO, xeO, xic, xcu', xcm, xwr', xst', xac', xpr, xbb', xdr', xok', xon, xoa, xgn, xgm, xh', xni', xhn', xho', xhb', xwn', xwd', xwf', xwt', xbk', xre')) →
    wX_settle_2 post n (nI r) xnc xfn xel xlm xwm xtc xsu xco xvi xlv xes xdO xpA xab xbe xrb xfO xeO xic xcu xcm xwr xst xac xpr xbb xdr xok xon xoa xgn xgm xh xni xhn xho xhb xwn xwd xwf xwt xbk xre := by
  intro d
  induction d with
  | zero =>
    intro r n xtc xlm xwm xsu xvi xlv xcu xwr xst xac xbb xdr xok xh xni xhn xho xhb xwn xwd xwf xwt xbk xre ynW ywb nw hr hn I mu
    omega
  | succ d ih =>
    intro r n xtc xlm xwm xsu xvi xlv xcu xwr xst xac xbb xdr xok xh xni xhn xho xhb xwn xwd xwf xwt xbk xre ynW ywb nw hr hn I mu hw K
    obtain ⟨n, rfl⟩ : ∃ j, n = j + 1 := ⟨n - 1, by omega⟩
    obtain ⟨T, H, Z, W, L, D, B, S, G⟩ := I
    have hN := mt_N T
    rw [wX_settle_2]
    refine br_f (nI_ge (b := 64) (by omega) (by decide)) (mx_refresh T H W B S ?_)
    intro xsu1 xbk1 B1 S1
    have fresh : ∀ t a, t < 8 → xst t = 2 → xwn t = nI a → a < N → ∀ u, bt (xbk1 t) u = true ↔ u < 8 ∧ mw_bk xh xst xwn xwd ywb t a (xwd t) (ywb t) u := fun t a h1 h2 h3 h4 =>
      (B1.2 t a h1 (by omega) h2 h3).resolve_left (by rw [b_0]; decide)
    have hs2 : ∀ t y, t < 8 → bt (xbk1 t) y = true → xst t = 2 := fun t y ht q => Classical.byContradiction fun z => by
      rw [B1.1 t ht z, b_0] at q
      exact absurd q (by decide)
    have hb : ∀ t y, t < 8 → bt (xbk1 t) y = true → bt xwm t = true := fun t y ht q => (W.2.1 t).mpr ⟨ht, hs2 t y ht q⟩
    have hP : ∀ t a, t < 8 → xst t = 2 → xwn t = nI a → a < N → ((xst t = 2 ∧ xbk1 t = 0) ↔ ∀ u, u < 8 → ¬ mw_bk xh xst xwn xwd ywb t a (xwd t) (ywb t) u) := fun t a h1 h2 h3 h4 => by
      rw [mb_eq0]
      exact ⟨fun q u hu k => q.2 u ((fresh t a h1 h2 h3 h4 u).mpr ⟨hu, k⟩), fun q => ⟨h2, fun u k => q u ((fresh t a h1 h2 h3 h4 u).mp k).1 ((fresh t a h1 h2 h3 h4 u).mp k).2⟩⟩
    have hS : ∀ t, (xst t = 2 ∧ xbk1 t = 0) → xst t = 2 := fun _ q => q.1
    have wf : ∀ x y, x < 8 → y < 8 → (mw_wf N xh xst xwn xwd ywb x y ↔ mc_r xbk1 x y) := by
      intro x y hx hy
      constructor
      · rintro ⟨s2, a, ha, ea, k⟩
        exact ⟨hx, (fresh x a hx s2 ea ha y).mpr ⟨hy, k⟩⟩
      · rintro ⟨_, k⟩
        have s2 := hs2 x y hx k
        obtain ⟨⟨a, ha, ea⟩, _⟩ := W.2.2.1 x hx s2
        exact ⟨s2, a, ha, ea, ((fresh x a hx s2 ea ha y).mp k).2⟩
    refine mx_unblocked W fun M hM => br_c (fun z => ?_) (fun z => ?_)
    · have none : ∀ t, t < 8 → ¬ (xst t = 2 ∧ xbk1 t = 0) := fun t ht q => mb_eq0.mp z t ((hM t).mpr ⟨ht, q⟩)
      refine mx_cycle S1 hb fun M2 xsu2 xre2 hM2 alt => br_c (fun y => ?_) (fun y => ?_)
      · have nocyc : ∀ t, ¬ Relation.TransGen (mc_r xbk1) t t := fun t q => by
          obtain ⟨w, hw⟩ := mc_src q
          exact mb_eq0.mp y t ((hM2 t).mpr ⟨hw.1, q⟩)
        have S2 : (mi_S xsu2 xbk1) := fun t q => nocyc t (mi_tg (fun x y k => ⟨k.1, k.2.1⟩) q)
        refine K xlm xwm xsu2 xvi xlv xcu xwr xst xac xbb xdr xok xh xni xhn xho xhb xwn xwd xwf xwt xbk1 xre2 ynW ywb nw ⟨T, H, Z, W, L, D, B1, S2, G⟩ (by omega) (fun _ _ q => q) fun Q hQ ld => ?_
        rw [wY_settle_2]
        refine br_f (nI_ge (b := 64) (by omega) (by decide)) (my_firstFree T Z W hP hS (fun _ => br_t (by decide) (my_choose T Z W D (M := mc_r xbk1) (fun x y q => q.1) wf fun ld' => ?_)) (fun t ff => absurd ff.2.1 (none t ff.1)))
        rw [mv_bz 8 fun t _ => nocyc t]
        exact br_f (show ¬ (0 : Int32) ≤ -1 by decide) (hQ ld')
      · obtain ⟨v, ev⟩ : ∃ v, mv_b (fun t => Relation.TransGen (mc_r xbk1) t t) (mv_ra xpr xdr ybg) 8 = some v := by
          cases e : mv_b (fun t => Relation.TransGen (mc_r xbk1) t t) (mv_ra xpr xdr ybg) 8 with
          | some v => exact ⟨v, rfl⟩
          | none =>
            exfalso
            obtain ⟨t, q⟩ := mb_ne0.mp y
            exact mv_bn 8 e t ((hM2 t).mp q).1 ((hM2 t).mp q).2
        obtain ⟨v8, vc⟩ := mv_bs 8 v ev
        have live : ∀ t, t < 8 → Relation.TransGen (mc_r xbk1) t t → xst t = 2 := fun t ht q => by
          obtain ⟨w, hw⟩ := mc_src q
          exact hs2 t w ht hw.2
        have v2 := live v v8 vc
        have esu : xsu2 = xsu1 := alt.elim (fun q => absurd q.1 y) (fun q => q.2)
        subst esu
        have cv : (nI v).toNatClampNeg = v := mb_c (by omega)
        refine mx_pick L (mem := fun t => Relation.TransGen (mc_r xbk1) t t) (fun t ht => ⟨fun q => ((hM2 t).mp q).2, fun q => (hM2 t).mpr ⟨ht, q⟩⟩) (fun t ht q => Or.inr (live t ht q)) ?_
        rw [ev]
        obtain ⟨⟨a, ha, ea⟩, ⟨k, k0, k6, ek⟩, _, _⟩ := W.2.2.1 v v8 v2
        have I1 : (mi_I N F dp pt fr er nb nw xnc xfn xlm xwm 0 xsu2 xdO xpA xab xbe xrb xfO xeO xic xwr xst xbb xdr xok xon xgn xgm xh xni xhn xho xhb xwn xwd xwf xwt xbk1 ynB ynW ypa ybg ykd ywb) := ⟨T, H, Z, W, L, D, B1, S1, G⟩
        refine mx_killW (t := v) I1 v8 ha k0 k6 ea ek v2 fun wf' bb' xtc' xni' xhn' xho' xhb' I' => ?_
        have mu' := (mi_mu_lt (dp := dp) (st := xst) (wn := xwn) (st' := upd xst v 3) (wn' := xwn) (t := v) (fun u q => ⟨pk_un q, rfl⟩) (by
          have := (T.2.1 a ha).1
          rw [pk_us, if_neg (by decide), if_pos v2, ea, mb_c (by omega)]
          omega) 8).2 v8
        refine nm_r (nI_1 r) (ih (r + 1) n xtc' _ _ _ _ _ _ _ _ _ _ _ _ _ _ _ _ _ _ _ _ _ _ _ _ _ _ (by omega) (by omega) I' (by omega) (by omega) ?_)
        intro xlm'' xwm'' xsu'' xvi'' xlv'' xcu'' xwr'' xst'' xac'' xbb'' xdr'' xok'' xh'' xni'' xhn'' xho'' xhb'' xwn'' xwd'' xwf'' xwt'' xbk'' xre'' ynW'' ywb'' nw'' I'' le'' st'' C''
        refine K xlm'' xwm'' xsu'' xvi'' xlv'' xcu'' xwr'' xst'' xac'' xbb'' xdr'' xok'' xh'' xni'' xhn'' xho'' xhb'' xwn'' xwd'' xwf'' xwt'' xbk'' xre'' ynW'' ywb'' nw'' I'' (by omega) (fun u hu q => st'' u hu ?_) fun Q hQ ld => ?_
        · by_cases e : u = v
          · rw [e, pk_us]; decide
          · rw [pk_un e]; exact q
        · rw [wY_settle_2]
          refine br_f (nI_ge (b := 64) (by omega) (by decide)) (my_firstFree T Z W hP hS (fun _ => br_t (by decide) (my_choose T Z W D (M := mc_r xbk1) (fun x y q => q.1) wf fun ld' => ?_)) (fun t ff => absurd ff.2.1 (none t ff.1)))
          rw [ev]
          exact br_t (nI_pos' (by omega)) (my_undo T v8 ⟨mb_v8 v8, nm_r (e' := upd xst v 3) (by rw [show (mv_i (some v)).toNatClampNeg = v from cv]) (nm_e (nm_r (nI_1 r) (C'' Q hQ ld')))⟩)
    · refine mx_longest W (P := fun t => xst t = 2 ∧ xbk1 t = 0) (fun t q => q.1) hM z fun t FF => ?_
      have t8 := FF.1
      have s2 : xst t = 2 := FF.2.1.1
      have ct : (nI t).toNatClampNeg = t := mb_c (by omega)
      obtain ⟨A, g, e, eg, hg, e1, ewn, ewd, low⟩ := G t t8 s2
      obtain ⟨p1, p2, p3, p4⟩ := T.2.2.1 g e hg e1
      obtain ⟨_, ⟨k, k0, k6, ek⟩, _, _⟩ := W.2.2.1 t t8 s2
      have d3 := (T.2.1 g hg).1
      refine ⟨mb_v8 t8, nm_r (e' := nI (pt g e)) (by rw [ct, ewn]) ⟨mb_v8 t8, nm_r (e' := nI k) (by rw [ct, ek]) (mx_endWait t8 (by omega) k6 ewn ek fun wf' hf => ⟨mb_v8 t8, nm_r (e' := upd xst t 1) (by rw [ct]) (mx_grant T H t8 p1 ⟨k, k6, rfl⟩ ?_)⟩)⟩⟩
      intro xtc2 xni2 xhn2 xho2 xhb2 H2 tc2
      have ro := mi_ro_gr (N := N) (dp := dp) (pt := pt) (h := xh) (t := t) (a := pt g e) (w := nI k) hN (by omega)
      have n2 : ¬ upd xst t 1 t = 2 := by rw [pk_us]; decide
      have Z2 := mi_Z_t (x := 1) Z ro (Or.inr (Or.inl rfl)) (fun q => absurd rfl q)
      have W2 := mw_end W (x := 1) hN t8 p1 k0 k6 ewn ek (by decide) hf
      have L2 := ml_same L (x := 1) (Or.inr s2) (Or.inl rfl)
      have tc0 : mh_tc 0 xh (0 ||| ((1 : Int32) <<< (nI (pt g e) &&& 31))) xh := ⟨fun j q => (mb_set (by omega) j).mpr (Or.inl q), fun _ _ => Or.inr fun _ _ => rfl⟩
      have B2 := mi_B_t B1 (t := t) (xst' := upd xst t 1) (xwn' := xwn) (xwd' := xwd) (ywb' := ywb) (xbk' := upd xbk1 t 0) (mh_tc_t tc0 tc2) (fun _ q => pk_un q) (fun _ _ => rfl) (fun _ _ => rfl) (fun _ _ => rfl) (fun _ q => pk_un q) (fun _ => pk_us) (fun _ b hb q => by
        rw [ewn] at q
        exact tc2.1 b ((mb_set (by omega) b).mpr (Or.inr (mb_inj (by omega) (by omega) q).symm))) (fun q => absurd q n2)
      have G2 := mi_G_t G T (t := t) (xst' := upd xst t 1) (xwn' := xwn) (xwd' := xwd) (xok' := xok) (xon' := xon) (xgn' := xgn) (xgm' := xgm) (ykd' := ykd) ro (fun _ q => pk_un q) (fun _ _ => rfl) (fun _ _ => rfl) (fun _ _ => rfl) (fun _ _ => rfl) (fun _ _ => rfl) (fun _ _ => rfl) (fun _ _ => rfl) (fun q => absurd q n2)
      have hh := H.1 t (pt g e) t8 (by omega)
      have PD : ma_P dp pt (mh_gr N dp pt xh t (pt g e) (nI k)) t g (e + 1) (xgm t) := by
        refine ⟨fun q l1 l2 => ?_, fun l => ?_⟩
        · by_cases w : q = e
          · rw [w, ma_gr_at T p1, ← ek, ewd]
            unfold mt_sm
            have := p4 (by omega)
            rw [if_neg (by omega)]
            exact mm_idem hh (mm_m1_md (mm_it_m1 _))
          · obtain ⟨r1, r2, _, _⟩ := T.2.2.1 g q hg (by omega)
            rw [ma_gr T r1 p1 (by omega) (fun k => by rw [k] at r2; omega)]
            exact low q (by omega)
        · have eg' : pt g e = g := by rw [show e = dp g by omega]; exact (T.2.1 g hg).2.2.1
          have := ma_gr_at T (xh := xh) (t := t) (w := nI k) p1
          rw [eg'] at this ⊢
          rw [this, ← ek, ewd, eg']
          unfold mt_sm
          rw [if_pos rfl]
          rw [eg'] at hh
          exact mm_idem hh (mm_m1_md A.2.2.2)
      refine ⟨9, ma_adv (D0 := e + 1) t8 hg eg rfl A pk_us (by omega) 8 0 9 xtc2 _ xni2 xhn2 xho2 xhb2 (by omega) (by omega) ⟨T, H2, Z2, W2, L2, D, B2, mi_S_e S1 t8, G2⟩ PD ?_⟩
      intro xwm' xtc' xcu' xwr' xst' xac' xdr' xok' xh' xni' xhn' xho' xhb' xwn' xwd' xwf' xwt' ynW' ywb' nw' I3 fr3 C3
      obtain ⟨f1, f2, f3⟩ := fr3
      have mu' := (mi_mu_lt (dp := dp) (st := xst) (wn := xwn) (st' := xst') (wn' := xwn') (t := t) (fun u q => ⟨((f2 u q).1).trans (pk_un q), (f2 u q).2⟩) (by
          rw [if_pos s2, ewn, mb_c (by omega), p2]
          rcases f3 with q | ⟨q, b, hb, eb, le⟩
          · rw [q, if_neg (by decide)]; omega
          · rw [if_pos q, eb, mb_c (by omega)]
            omega) 8).2 t8
      refine nm_r (nI_1 r) (ih (r + 1) n xtc' _ _ _ _ _ _ _ _ _ _ _ _ _ _ _ _ _ _ _ _ _ _ _ _ _ _ (by omega) (by omega) I3 (by omega) (by omega) ?_)
      intro xlm'' xwm'' xsu'' xvi'' xlv'' xcu'' xwr'' xst'' xac'' xbb'' xdr'' xok'' xh'' xni'' xhn'' xho'' xhb'' xwn'' xwd'' xwf'' xwt'' xbk'' xre'' ynW'' ywb'' nw'' I'' le'' st'' C''
      refine K xlm'' xwm'' xsu'' xvi'' xlv'' xcu'' xwr'' xst'' xac'' xbb'' xdr'' xok'' xh'' xni'' xhn'' xho'' xhb'' xwn'' xwd'' xwf'' xwt'' xbk'' xre'' ynW'' ywb'' nw'' I'' (by omega) (fun u hu q => st'' u hu ?_) fun Q hQ ld => ?_
      · by_cases w : u = t
        · rw [w]
          rcases f3 with k | ⟨k, _⟩ <;> rw [k] <;> decide
        · rw [(f2 u w).1, pk_un w]; exact q
      · rw [wY_settle_2]
        refine br_f (nI_ge (b := 64) (by omega) (by decide)) (my_firstFree T Z W hP hS (fun no => absurd FF.2.1 (no t t8)) (fun t' F' => ?_))
        rw [mw_ff_u W hS F' FF]
        refine br_f (nI_pos (by omega)) ⟨mb_v8 t8, nm_r (e' := upd xst t 1) (by rw [ct]) ⟨mb_v8 t8, mb_v8 t8, ?_⟩⟩
        rw [ct, ewn, ek]
        refine my_grant T t8 p1 ?_
        exact ⟨9, C3 ld _ (nm_r (nI_1 r) (C'' Q hQ ld))⟩
end
end
section
/-! the working calls -/
theorem mo_txn {x : Int32} (h : ¬ x < 0 ∧ ¬ 8 ≤ x) : ∃ t, t < 8 ∧ x = nI t := by
  obtain ⟨j, hj, rfl⟩ := nI_of h.1
  refine ⟨j, ?_, rfl⟩
  have h2 : ¬ nI 8 ≤ nI j := h.2
  rw [nI_leI (by omega) hj] at h2
  omega
theorem mo_node {x : Int32} {N : Nat} (hN : N ≤ 31) (h : ¬ x < 0 ∧ ¬ nI N ≤ x) : ∃ t, t < N ∧ x = nI t := by
  obtain ⟨j, hj, rfl⟩ := nI_of h.1
  refine ⟨j, ?_, rfl⟩
  have h2 := h.2
  rw [nI_leI (by omega) hj] at h2
  omega
section
variable {N F : Nat} {dp : Nat → Nat} {pt : Nat → Nat → Nat} {fr er : Nat → Nat} {nb nw : Nat} {xnc xfn xel xlm xwm xtc xsu xco xvi xlv xes : Int32} {xdO xpA xab xbe xrb xfO xeO xic xcu xcm xwr xst xac xpr xbb xdr xok xon xoa xgn xgm xh xni xhn xho xhb xwn xwd xwf xwt xbk xre : Nat → Int32} {ynB ynW : Int64} {ypa : Nat → Int32} {ybg : Nat → Int64} {ykd : Nat → Int32} {ywb : Nat → Int64} {yld : Nat → Int32}
theorem mx_adv (I : (mi_I N F dp pt fr er nb nw xnc xfn xlm xwm xtc xsu xdO xpA xab xbe xrb xfO xeO xic xwr xst xbb xdr xok xon xgn xgm xh xni xhn xho xhb xwn xwd xwf xwt xbk ynB ynW ypa ybg ykd ywb)) {post : SX → Prop} {t g : Nat} (ht : t < 8) (hg : g < N) (eg : xgn t = nI g) (A : (mi_A N xok xon xgn xgm ykd) t) (s1 : xst t = 1) (hnw : nw + 1 < 2 ^ 31)
    (K : ∀ (xwm' xtc' : Int32) (xcu' xwr' xst' xac' xdr' xok' xh' xni' xhn' xho' xhb' xwn' xwd' xwf' xwt' : Nat → Int32) (ynW' : Int64) (ywb' : Nat → Int64) (nw' : Nat), (mi_I N F dp pt fr er nb nw' xnc xfn xlm xwm' xtc' xsu xdO xpA xab xbe xrb xfO xeO xic xwr' xst' xbb xdr' xok' xon xgn xgm xh' xni' xhn' xho' xhb' xwn' xwd' xwf' xwt' xbk ynB ynW' ypa ybg ykd ywb') → nw' ≤ nw + 1 → xst' t ≠ 0 → (∀ (ld : Nat → Int32) (P : SY → Prop), P (xfn, xnc, xel, ynB, ynW', xco, xvi, xlv, xes, ypa, xcu', xcm, xwr', xh', xst', xac', xpr, ybg, ykd, xon, xoa, xgn, xgm, xwn', xwd', ywb', ld) → wpY_advance P (xfn, xnc, xel, ynB, ynW, xco, xvi, xlv, xes, ypa, xcu, xcm, xwr, xh, xst, xac, xpr, ybg, ykd, xon, xoa, xgn, xgm, xwn, xwd, ywb, ld) (nI t)) → post (xnc, xfn, xel, xlm, xwm', xtc', xsu, xco, xvi, xlv, xes, xdO, xpA, xab, xbe, xrb, xfO, xeO, xic, xcu', xcm, xwr', xst', xac', xpr, xbb, xdr', xok', xon, xoa, xgn, xgm, xh', xni', xhn', xho', xhb', xwn', xwd', xwf', xwt', xbk, xre)) : wpX_advance post (xnc, xfn, xel, xlm, xwm, xtc, xsu, xco, xvi, xlv, xes, xdO, xpA, xab, xbe, xrb, xfO, xeO, xic, xcu, xcm, xwr, xst, xac, xpr, xbb, xdr, xok, xon, xoa, xgn, xgm, xh, xni, xhn, xho, xhb, xwn, xwd, xwf, xwt, xbk, xre) (nI t) := by
  refine ⟨9, ma_adv (D0 := 0) ht hg eg rfl A s1 hnw 8 0 9 xtc xh xni xhn xho xhb (by omega) (by omega) I ⟨fun e h => by omega, fun h => by omega⟩ ?_⟩
  intro xwm' xtc' xcu' xwr' xst' xac' xdr' xok' xh' xni' xhn' xho' xhb' xwn' xwd' xwf' xwt' ynW' ywb' nw' I' fr' C'
  refine K xwm' xtc' xcu' xwr' xst' xac' xdr' xok' xh' xni' xhn' xho' xhb' xwn' xwd' xwf' xwt' ynW' ywb' nw' I' fr'.1 ?_ fun ld P hP => ⟨9, C' ld P hP⟩
  rcases fr'.2.2 with q | ⟨q, _⟩ <;> rw [q] <;> decide
theorem mx_settle (I : (mi_I N F dp pt fr er nb nw xnc xfn xlm xwm xtc xsu xdO xpA xab xbe xrb xfO xeO xic xwr xst xbb xdr xok xon xgn xgm xh xni xhn xho xhb xwn xwd xwf xwt xbk ynB ynW ypa ybg ykd ywb)) {post : SX → Prop} (hnw : nw + 64 < 2 ^ 31)
    (K : ∀ (xlm' xwm' xsu' xvi' xlv' : Int32) (xcu' xwr' xst' xac' xbb' xdr' xok' xh' xni' xhn' xho' xhb' xwn' xwd' xwf' xwt' xbk' xre' : Nat → Int32) (ynW' : Int64) (ywb' : Nat → Int64) (nw' : Nat), (mi_I N F dp pt fr er nb nw' xnc xfn xlm' xwm' 0 xsu' xdO xpA xab xbe xrb xfO xeO xic xwr' xst' xbb' xdr' xok' xon xgn xgm xh' xni' xhn' xho' xhb' xwn' xwd' xwf' xwt' xbk' ynB ynW' ypa ybg ykd ywb') → nw' ≤ nw + 64 → (∀ u, u < 8 → xst u ≠ 0 → xst' u ≠ 0) → (∀ P : SY → Prop, (∀ ld : Nat → Int32, P (xfn, xnc, xel, ynB, ynW', xco, xvi', xlv', xes, ypa, xcu', xcm, xwr', xh', xst', xac', xpr, ybg, ykd, xon, xoa, xgn, xgm, xwn', xwd', ywb', ld)) → ∀ ld : Nat → Int32, wpY_settle P (xfn, xnc, xel, ynB, ynW, xco, xvi, xlv, xes, ypa, xcu, xcm, xwr, xh, xst, xac, xpr, ybg, ykd, xon, xoa, xgn, xgm, xwn, xwd, ywb, ld)) → post (xnc, xfn, xel, xlm', xwm', 0, xsu', xco, xvi', xlv', xes, xdO, xpA, xab, xbe, xrb, xfO, xeO, xic, xcu', xcm, xwr', xst', xac', xpr, xbb', xdr', xok', xon, xoa, xgn, xgm, xh', xni', xhn', xho', xhb', xwn', xwd', xwf', xwt', xbk', xre')) : wpX_settle post (xnc, xfn, xel, xlm, xwm, xtc, xsu, xco, xvi, xlv, xes, xdO, xpA, xab, xbe, xrb, xfO, xeO, xic, xcu, xcm, xwr, xst, xac, xpr, xbb, xdr, xok, xon, xoa, xgn, xgm, xh, xni, xhn, xho, xhb, xwn, xwd, xwf, xwt, xbk, xre) := by
  have mu := mi_mu_le (dp := dp) (st := xst) (wn := xwn) 8
  refine ⟨65, ms_settle 64 0 65 xtc xlm xwm xsu xvi xlv xcu xwr xst xac xbb xdr xok xh xni xhn xho xhb xwn xwd xwf xwt xbk xre ynW ywb nw (by omega) (by omega) I (by omega) hnw ?_⟩
  intro xlm' xwm' xsu' xvi' xlv' xcu' xwr' xst' xac' xbb' xdr' xok' xh' xni' xhn' xho' xhb' xwn' xwd' xwf' xwt' xbk' xre' ynW' ywb' nw' I' le' st' C'
  exact K xlm' xwm' xsu' xvi' xlv' xcu' xwr' xst' xac' xbb' xdr' xok' xh' xni' xhn' xho' xhb' xwn' xwd' xwf' xwt' xbk' xre' ynW' ywb' nw' I' le' st' fun P hP ld => ⟨65, C' P hP ld⟩
theorem mo_ref (T : (mt_T N F dp pt fr er xnc xfn xdO xpA xab xbe xrb xfO xeO xic ypa)) (v1 v2 : Int32) :
    (∃ r : Int32, ¬ r = 0 ∧ ¬ r = 1 ∧ (∀ post : Int32 → Prop, post r → wpX_refuse post (xnc, xfn, xel, xlm, xwm, xtc, xsu, xco, xvi, xlv, xes, xdO, xpA, xab, xbe, xrb, xfO, xeO, xic, xcu, xcm, xwr, xst, xac, xpr, xbb, xdr, xok, xon, xoa, xgn, xgm, xh, xni, xhn, xho, xhb, xwn, xwd, xwf, xwt, xbk, xre) v1 v2) ∧ (∀ post : Int32 → Prop, post r → wpY_check post (xfn, xnc, xel, ynB, ynW, xco, xvi, xlv, xes, ypa, xcu, xcm, xwr, xh, xst, xac, xpr, ybg, ykd, xon, xoa, xgn, xgm, xwn, xwd, ywb, yld) v1 v2)) ∨
    (∃ t o, t < 8 ∧ o < N ∧ v1 = nI t ∧ v2 = nI o ∧ xst t = 1 ∧ (∀ post : Int32 → Prop, post 0 → wpX_refuse post (xnc, xfn, xel, xlm, xwm, xtc, xsu, xco, xvi, xlv, xes, xdO, xpA, xab, xbe, xrb, xfO, xeO, xic, xcu, xcm, xwr, xst, xac, xpr, xbb, xdr, xok, xon, xoa, xgn, xgm, xh, xni, xhn, xho, xhb, xwn, xwd, xwf, xwt, xbk, xre) v1 v2) ∧ (∀ post : Int32 → Prop, post 1 → wpY_check post (xfn, xnc, xel, ynB, ynW, xco, xvi, xlv, xes, ypa, xcu, xcm, xwr, xh, xst, xac, xpr, ybg, ykd, xon, xoa, xgn, xgm, xwn, xwd, ywb, yld) v1 v2)) := by
  have hN := mt_N T
  obtain ⟨q1, q2, q3, q4, q5⟩ := T.1
  rcases Classical.em (¬ v1 < 0 ∧ ¬ 8 ≤ v1) with h | h
  · obtain ⟨t, t8, rfl⟩ := mo_txn h
    have ct : (nI t).toNatClampNeg = t := mb_c (by omega)
    rcases Classical.em (xst t = 1) with s | s
    · rcases Classical.em (¬ v2 < 0 ∧ ¬ xnc ≤ v2) with g | g
      · have g' := g
        rw [q1] at g'
        obtain ⟨o, ho, rfl⟩ := mo_node hN g'
        refine Or.inr ⟨t, o, t8, ho, rfl, rfl, s, fun post hp => ?_, fun post hp => ?_⟩
        · unfold wpX_refuse
          refine mx_isTxn (mb_br (fun z => absurd h z) (fun _ => ⟨mb_v8 t8, ?_⟩))
          rw [ct]
          exact br_t s (mx_isNode (mb_br (fun z => absurd g z) (fun _ => hp)))
        · unfold wpY_check
          refine my_isTxn (mb_br (fun z => absurd h z) (fun _ => ⟨mb_v8 t8, ?_⟩))
          rw [ct]
          exact br_t s (my_isNode (mb_br (fun z => absurd g z) (fun _ => hp)))
      · refine Or.inl ⟨12, by decide, by decide, fun post hp => ?_, fun post hp => ?_⟩
        · unfold wpX_refuse
          refine mx_isTxn (mb_br (fun z => absurd h z) (fun _ => ⟨mb_v8 t8, ?_⟩))
          rw [ct]
          exact br_t s (mx_isNode (mb_br (fun _ => hp) (fun z => absurd z g)))
        · unfold wpY_check
          refine my_isTxn (mb_br (fun z => absurd h z) (fun _ => ⟨mb_v8 t8, ?_⟩))
          rw [ct]
          exact br_t s (my_isNode (mb_br (fun _ => hp) (fun z => absurd z g)))
    · refine Or.inl ⟨11, by decide, by decide, fun post hp => ?_, fun post hp => ?_⟩
      · unfold wpX_refuse
        refine mx_isTxn (mb_br (fun z => absurd h z) (fun _ => ⟨mb_v8 t8, ?_⟩))
        rw [ct]
        exact br_f s hp
      · unfold wpY_check
        refine my_isTxn (mb_br (fun z => absurd h z) (fun _ => ⟨mb_v8 t8, ?_⟩))
        rw [ct]
        exact br_f s hp
  · refine Or.inl ⟨10, by decide, by decide, fun post hp => ?_, fun post hp => ?_⟩
    · unfold wpX_refuse
      exact mx_isTxn (mb_br (fun _ => hp) (fun z => absurd z h))
    · unfold wpY_check
      exact my_isTxn (mb_br (fun _ => hp) (fun z => absurd z h))
theorem mo_submit (I : (mi_I N F dp pt fr er nb nw xnc xfn xlm xwm xtc xsu xdO xpA xab xbe xrb xfO xeO xic xwr xst xbb xdr xok xon xgn xgm xh xni xhn xho xhb xwn xwd xwf xwt xbk ynB ynW ypa ybg ykd ywb)) {post : Int32 → SX → Prop} {t o : Nat} {kk ar m : Int32} (hnw : nw + 65 < 2 ^ 31) (ht : t < 8) (ho : o < N) (s1 : xst t = 1) (hm : mm_m1 m)
    (hC : ∀ P : Int32 → Prop, P 1 → wpY_check P (xfn, xnc, xel, ynB, ynW, xco, xvi, xlv, xes, ypa, xcu, xcm, xwr, xh, xst, xac, xpr, ybg, ykd, xon, xoa, xgn, xgm, xwn, xwd, ywb, yld) (nI t) (nI o))
    (K : ∀ (r : Int32) (xlm' xwm' xsu' xvi' xlv' : Int32) (xcu' xwr' xst' xac' xbb' xdr' xok' xh' xni' xhn' xho' xhb' xwn' xwd' xwf' xwt' xbk' xre' : Nat → Int32) (ynW' : Int64) (ywb' : Nat → Int64) (nw' : Nat) (xon' xoa' xgn' xgm' : Nat → Int32) (xes' : Int32) (ykd' : Nat → Int32), (mi_I N F dp pt fr er nb nw' xnc xfn xlm' xwm' 0 xsu' xdO xpA xab xbe xrb xfO xeO xic xwr' xst' xbb' xdr' xok' xon' xgn' xgm' xh' xni' xhn' xho' xhb' xwn' xwd' xwf' xwt' xbk' ynB ynW' ypa ybg ykd' ywb') → nw' ≤ nw + 65 → (∀ Q : Int32 → SY → Prop, (∀ ld : Nat → Int32, Q r (xfn, xnc, xel, ynB, ynW', xco, xvi', xlv', xes', ypa, xcu', xcm, xwr', xh', xst', xac', xpr, ybg, ykd', xon', xoa', xgn', xgm', xwn', xwd', ywb', ld)) → wpY_run Q (xfn, xnc, xel, ynB, ynW, xco, xvi, xlv, xes, ypa, xcu, xcm, xwr, xh, xst, xac, xpr, ybg, ykd, xon, xoa, xgn, xgm, xwn, xwd, ywb, yld) (nI t) (nI o) kk ar m) → post r (xnc, xfn, xel, xlm', xwm', 0, xsu', xco, xvi', xlv', xes', xdO, xpA, xab, xbe, xrb, xfO, xeO, xic, xcu', xcm, xwr', xst', xac', xpr, xbb', xdr', xok', xon', xoa', xgn', xgm', xh', xni', xhn', xho', xhb', xwn', xwd', xwf', xwt', xbk', xre')) :
    wpX_submit post (xnc, xfn, xel, xlm, xwm, xtc, xsu, xco, xvi, xlv, xes, xdO, xpA, xab, xbe, xrb, xfO, xeO, xic, xcu, xcm, xwr, xst, xac, xpr, xbb, xdr, xok, xon, xoa, xgn, xgm, xh, xni, xhn, xho, xhb, xwn, xwd, xwf, xwt, xbk, xre) (nI t) kk (nI o) ar m := by
  obtain ⟨T, H, Z, W, L, D, B, S, G⟩ := I
  have hN := mt_N T
  have ct : (nI t).toNatClampNeg = t := mb_c (by omega)
  have ns2 : ¬ xst t = 2 := by rw [s1]; decide
  have tail : ∀ (xgn2 xgm2 : Nat → Int32) (xes2 : Int32) (g : Nat), g < N → xgn2 t = nI g → mm_m1 (xgm2 t) → (∀ u, u ≠ t → xgn2 u = xgn u) → (∀ u, u ≠ t → xgm2 u = xgm u) →
      (mi_I N F dp pt fr er nb nw xnc xfn xlm xwm xtc xsu xdO xpA xab xbe xrb xfO xeO xic xwr xst xbb xdr (upd xok t kk) (upd xon t (nI o)) xgn2 xgm2 xh xni xhn xho xhb xwn xwd xwf xwt xbk ynB ynW ypa ybg (upd ykd t kk) ywb) ∧ mi_A N (upd xok t kk) (upd xon t (nI o)) xgn2 xgm2 (upd ykd t kk) t := by
    intro xgn2 xgm2 xes2 g hg eg m1 h1 h2
    have G' := mi_G_t G T (t := t) (xst' := xst) (xwn' := xwn) (xwd' := xwd) (xok' := upd xok t kk) (xon' := upd xon t (nI o)) (xgn' := xgn2) (xgm' := xgm2) (ykd' := upd ykd t kk) mi_ro_r (fun _ _ => rfl) (fun _ _ => rfl) (fun _ _ => rfl) (fun _ q => pk_un q) (fun _ q => pk_un q) h1 h2 (fun _ q => pk_un q) (fun q => absurd q ns2)
    exact ⟨⟨T, H, Z, W, L, D, B, S, G'⟩, by rw [pk_us, pk_us], ⟨o, ho, pk_us⟩, ⟨g, hg, eg⟩, m1⟩
  refine ⟨mb_v8 ht, nm_r (e' := upd xok t kk) (by rw [ct]) ⟨mb_v8 ht, nm_r (e' := upd xon t (nI o)) (by rw [ct]) ⟨mb_v8 ht, nm_r (e' := upd xoa t ar) (by rw [ct]) ⟨mb_v8 ht, nm_r (e' := upd xgn t (nI o)) (by rw [ct]) ⟨mb_v8 ht, nm_r (e' := upd xgm t m) (by rw [ct]) (mx_escalate (m := m) T H ht ho pk_us pk_us pk_us (fun ne => ?_) (fun ye => ?_))⟩⟩⟩⟩⟩
  · obtain ⟨I1, A1⟩ := tail (upd xgn t (nI o)) (upd xgm t m) xes o ho pk_us (by rw [pk_us]; exact hm) (fun _ q => pk_un q) (fun _ q => pk_un q)
    refine mx_adv I1 ht ho pk_us A1 s1 (by omega) ?_
    intro xwm' xtc' xcu' xwr' xst' xac' xdr' xok' xh' xni' xhn' xho' xhb' xwn' xwd' xwf' xwt' ynW' ywb' nw' I2 le2 st2 C2
    refine mx_settle I2 (by omega) ?_
    intro xlm'' xwm'' xsu'' xvi'' xlv'' xcu'' xwr'' xst'' xac'' xbb'' xdr'' xok'' xh'' xni'' xhn'' xho'' xhb'' xwn'' xwd'' xwf'' xwt'' xbk'' xre'' ynW'' ywb'' nw'' I3 le3 st3 C3
    have nz := st3 t ht st2
    refine ⟨mb_v8 ht, ?_⟩
    rw [ct]
    have Yr : ∀ (r : Int32) (Q : Int32 → SY → Prop), ((xst'' t = 1 → r = 1) ∧ (xst'' t = 2 → r = 2) ∧ (xst'' t = 3 → r = 3)) → (∀ ld : Nat → Int32, Q r (xfn, xnc, xel, ynB, ynW'', xco, xvi'', xlv'', xes, ypa, xcu'', xcm, xwr'', xh'', xst'', xac'', xpr, ybg, upd ykd t kk, upd xon t (nI o), upd xoa t ar, upd xgn t (nI o), upd xgm t m, xwn'', xwd'', ywb'', ld)) → wpY_run Q (xfn, xnc, xel, ynB, ynW, xco, xvi, xlv, xes, ypa, xcu, xcm, xwr, xh, xst, xac, xpr, ybg, ykd, xon, xoa, xgn, xgm, xwn, xwd, ywb, yld) (nI t) (nI o) kk ar m := by
      intro r Q hr hQ
      unfold wpY_run
      refine hC _ (br_t rfl ⟨mb_v8 ht, nm_r (e' := upd ykd t kk) (by rw [ct]) ⟨mb_v8 ht, nm_r (e' := upd xon t (nI o)) (by rw [ct]) ⟨mb_v8 ht, nm_r (e' := upd xoa t ar) (by rw [ct]) ⟨mb_v8 ht, nm_r (e' := upd xgn t (nI o)) (by rw [ct]) ⟨mb_v8 ht, nm_r (e' := upd xgm t m) (by rw [ct]) (my_escalate (m := m) T H ht ho pk_us pk_us (fun _ => C2 yld _ (C3 _ (fun ld => ⟨mb_v8 ht, ?_⟩) yld)) (fun q => absurd q ne))⟩⟩⟩⟩⟩)
      rw [ct]
      rcases I3.2.2.1.1 t ht with q | q | q | q
      · exact absurd q nz
      · rw [hr.1 q] at hQ
        exact br_t q (hQ ld)
      · rw [hr.2.1 q] at hQ
        exact br_f (by rw [q]; decide) ⟨mb_v8 ht, br_t q (hQ ld)⟩
      · rw [hr.2.2 q] at hQ
        exact br_f (by rw [q]; decide) ⟨mb_v8 ht, br_f (by rw [q]; decide) (hQ ld)⟩
    refine br_c (fun q => K 2 xlm'' xwm'' xsu'' xvi'' xlv'' xcu'' xwr'' xst'' xac'' xbb'' xdr'' xok'' xh'' xni'' xhn'' xho'' xhb'' xwn'' xwd'' xwf'' xwt'' xbk'' xre'' ynW'' ywb'' nw'' _ _ _ _ _ _ I3 (by omega) fun Q hQ => Yr 2 Q ⟨fun k => absurd (k.symm.trans q) (by decide), fun _ => rfl, fun k => absurd (k.symm.trans q) (by decide)⟩ hQ) (fun q2 => ⟨mb_v8 ht, br_c (fun q => K 3 xlm'' xwm'' xsu'' xvi'' xlv'' xcu'' xwr'' xst'' xac'' xbb'' xdr'' xok'' xh'' xni'' xhn'' xho'' xhb'' xwn'' xwd'' xwf'' xwt'' xbk'' xre'' ynW'' ywb'' nw'' _ _ _ _ _ _ I3 (by omega) fun Q hQ => Yr 3 Q ⟨fun k => absurd (k.symm.trans q) (by decide), fun k => absurd (k.symm.trans q) (by decide), fun _ => rfl⟩ hQ) (fun q3 => K 1 xlm'' xwm'' xsu'' xvi'' xlv'' xcu'' xwr'' xst'' xac'' xbb'' xdr'' xok'' xh'' xni'' xhn'' xho'' xhb'' xwn'' xwd'' xwf'' xwt'' xbk'' xre'' ynW'' ywb'' nw'' _ _ _ _ _ _ I3 (by omega) fun Q hQ => Yr 1 Q ⟨fun _ => rfl, fun k => absurd k q2, fun k => absurd k q3⟩ hQ)⟩)
  · obtain ⟨k1, _, _, _⟩ := T.2.2.1 o 1 ho (by have := (T.2.1 o ho).2.1.mpr ye.1; omega)
    obtain ⟨I1, A1⟩ := tail (upd (upd xgn t (nI o)) t (nI (pt o 1))) (upd (upd xgm t m) t (me_g m (xh (t * 31 + pt o 1)))) (xes + 1) (pt o 1) k1 pk_us (by
      rw [pk_us]; unfold me_g; split
      · exact ⟨5, by omega, by omega, rfl⟩
      · exact ⟨3, by omega, by omega, rfl⟩) (fun _ q => by rw [pk_un q, pk_un q]) (fun _ q => by rw [pk_un q, pk_un q])
    refine mx_adv I1 ht k1 pk_us A1 s1 (by omega) ?_
    intro xwm' xtc' xcu' xwr' xst' xac' xdr' xok' xh' xni' xhn' xho' xhb' xwn' xwd' xwf' xwt' ynW' ywb' nw' I2 le2 st2 C2
    refine mx_settle I2 (by omega) ?_
    intro xlm'' xwm'' xsu'' xvi'' xlv'' xcu'' xwr'' xst'' xac'' xbb'' xdr'' xok'' xh'' xni'' xhn'' xho'' xhb'' xwn'' xwd'' xwf'' xwt'' xbk'' xre'' ynW'' ywb'' nw'' I3 le3 st3 C3
    have nz := st3 t ht st2
    refine ⟨mb_v8 ht, ?_⟩
    rw [ct]
    have Yr : ∀ (r : Int32) (Q : Int32 → SY → Prop), ((xst'' t = 1 → r = 1) ∧ (xst'' t = 2 → r = 2) ∧ (xst'' t = 3 → r = 3)) → (∀ ld : Nat → Int32, Q r (xfn, xnc, xel, ynB, ynW'', xco, xvi'', xlv'', xes + 1, ypa, xcu'', xcm, xwr'', xh'', xst'', xac'', xpr, ybg, upd ykd t kk, upd xon t (nI o), upd xoa t ar, upd (upd xgn t (nI o)) t (nI (pt o 1)), upd (upd xgm t m) t (me_g m (xh (t * 31 + pt o 1))), xwn'', xwd'', ywb'', ld)) → wpY_run Q (xfn, xnc, xel, ynB, ynW, xco, xvi, xlv, xes, ypa, xcu, xcm, xwr, xh, xst, xac, xpr, ybg, ykd, xon, xoa, xgn, xgm, xwn, xwd, ywb, yld) (nI t) (nI o) kk ar m := by
      intro r Q hr hQ
      unfold wpY_run
      refine hC _ (br_t rfl ⟨mb_v8 ht, nm_r (e' := upd ykd t kk) (by rw [ct]) ⟨mb_v8 ht, nm_r (e' := upd xon t (nI o)) (by rw [ct]) ⟨mb_v8 ht, nm_r (e' := upd xoa t ar) (by rw [ct]) ⟨mb_v8 ht, nm_r (e' := upd xgn t (nI o)) (by rw [ct]) ⟨mb_v8 ht, nm_r (e' := upd xgm t m) (by rw [ct]) (my_escalate (m := m) T H ht ho pk_us pk_us (fun q => absurd ye q) (fun _ => C2 yld _ (C3 _ (fun ld => ⟨mb_v8 ht, ?_⟩) yld)))⟩⟩⟩⟩⟩)
      rw [ct]
      rcases I3.2.2.1.1 t ht with q | q | q | q
      · exact absurd q nz
      · rw [hr.1 q] at hQ
        exact br_t q (hQ ld)
      · rw [hr.2.1 q] at hQ
        exact br_f (by rw [q]; decide) ⟨mb_v8 ht, br_t q (hQ ld)⟩
      · rw [hr.2.2 q] at hQ
        exact br_f (by rw [q]; decide) ⟨mb_v8 ht, br_f (by rw [q]; decide) (hQ ld)⟩
    refine br_c (fun q => K 2 xlm'' xwm'' xsu'' xvi'' xlv'' xcu'' xwr'' xst'' xac'' xbb'' xdr'' xok'' xh'' xni'' xhn'' xho'' xhb'' xwn'' xwd'' xwf'' xwt'' xbk'' xre'' ynW'' ywb'' nw'' _ _ _ _ _ _ I3 (by omega) fun Q hQ => Yr 2 Q ⟨fun k => absurd (k.symm.trans q) (by decide), fun _ => rfl, fun k => absurd (k.symm.trans q) (by decide)⟩ hQ) (fun q2 => ⟨mb_v8 ht, br_c (fun q => K 3 xlm'' xwm'' xsu'' xvi'' xlv'' xcu'' xwr'' xst'' xac'' xbb'' xdr'' xok'' xh'' xni'' xhn'' xho'' xhb'' xwn'' xwd'' xwf'' xwt'' xbk'' xre'' ynW'' ywb'' nw'' _ _ _ _ _ _ I3 (by omega) fun Q hQ => Yr 3 Q ⟨fun k => absurd (k.symm.trans q) (by decide), fun k => absurd (k.symm.trans q) (by decide), fun _ => rfl⟩ hQ) (fun q3 => K 1 xlm'' xwm'' xsu'' xvi'' xlv'' xcu'' xwr'' xst'' xac'' xbb'' xdr'' xok'' xh'' xni'' xhn'' xho'' xhb'' xwn'' xwd'' xwf'' xwt'' xbk'' xre'' ynW'' ywb'' nw'' _ _ _ _ _ _ I3 (by omega) fun Q hQ => Yr 1 Q ⟨fun _ => rfl, fun k => absurd k q2, fun k => absurd k q3⟩ hQ)⟩)
end
end
section
/-! the relation -/
def i_Rel (k : Nat) (u : SX) (v : SY) : Prop :=
  ∃ (N F : Nat) (dp : Nat → Nat) (pt : Nat → Nat → Nat) (fr er : Nat → Nat) (nb nw : Nat) (xnc xfn xel xlm xwm xsu xco xvi xlv xes : Int32) (xdO xpA xab xbe xrb xfO xeO xic xcu xcm xwr xst xac xpr xbb xdr xok xon xoa xgn xgm xh xni xhn xho xhb xwn xwd xwf xwt xbk xre : Nat → Int32) (ynB ynW : Int64) (ypa : Nat → Int32) (ybg : Nat → Int64) (ykd : Nat → Int32) (ywb : Nat → Int64) (yld : Nat → Int32), u = (xnc, xfn, xel, xlm, xwm, 0, xsu, xco, xvi, xlv, xes, xdO, xpA, xab, xbe, xrb, xfO, xeO, xic, xcu, xcm, xwr, xst, xac, xpr, xbb, xdr, xok, xon, xoa, xgn, xgm, xh, xni, xhn, xho, xhb, xwn, xwd, xwf, xwt, xbk, xre) ∧ v = (xfn, xnc, xel, ynB, ynW, xco, xvi, xlv, xes, ypa, xcu, xcm, xwr, xh, xst, xac, xpr, ybg, ykd, xon, xoa, xgn, xgm, xwn, xwd, ywb, yld) ∧ (mi_I N F dp pt fr er nb nw xnc xfn xlm xwm 0 xsu xdO xpA xab xbe xrb xfO xeO xic xwr xst xbb xdr xok xon xgn xgm xh xni xhn xho xhb xwn xwd xwf xwt xbk ynB ynW ypa ybg ykd ywb) ∧ nw ≤ 70 * k ∧ nb ≤ k
section
variable {N F : Nat} {dp : Nat → Nat} {pt : Nat → Nat → Nat} {fr er : Nat → Nat} {nb nw : Nat} {xnc xfn xel xlm xwm xtc xsu xco xvi xlv xes : Int32} {xdO xpA xab xbe xrb xfO xeO xic xcu xcm xwr xst xac xpr xbb xdr xok xon xoa xgn xgm xh xni xhn xho xhb xwn xwd xwf xwt xbk xre : Nat → Int32} {ynB ynW : Int64} {ypa : Nat → Int32} {ybg : Nat → Int64} {ykd : Nat → Int32} {ywb : Nat → Int64} {yld : Nat → Int32}
theorem zz_in {k : Nat} (I : (mi_I N F dp pt fr er nb nw xnc xfn xlm xwm 0 xsu xdO xpA xab xbe xrb xfO xeO xic xwr xst xbb xdr xok xon xgn xgm xh xni xhn xho xhb xwn xwd xwf xwt xbk ynB ynW ypa ybg ykd ywb)) (h1 : nw ≤ 70 * k) (h2 : nb ≤ k) : i_Rel k (xnc, xfn, xel, xlm, xwm, 0, xsu, xco, xvi, xlv, xes, xdO, xpA, xab, xbe, xrb, xfO, xeO, xic, xcu, xcm, xwr, xst, xac, xpr, xbb, xdr, xok, xon, xoa, xgn, xgm, xh, xni, xhn, xho, xhb, xwn, xwd, xwf, xwt, xbk, xre) (xfn, xnc, xel, ynB, ynW, xco, xvi, xlv, xes, ypa, xcu, xcm, xwr, xh, xst, xac, xpr, ybg, ykd, xon, xoa, xgn, xgm, xwn, xwd, ywb, yld) :=
  ⟨N, F, dp, pt, fr, er, nb, nw, xnc, xfn, xel, xlm, xwm, xsu, xco, xvi, xlv, xes, xdO, xpA, xab, xbe, xrb, xfO, xeO, xic, xcu, xcm, xwr, xst, xac, xpr, xbb, xdr, xok, xon, xoa, xgn, xgm, xh, xni, xhn, xho, xhb, xwn, xwd, xwf, xwt, xbk, xre, ynB, ynW, ypa, ybg, ykd, ywb, yld, rfl, rfl, I, h1, h2⟩
end
theorem zz_el {k : Nat} {u : SX} {v : SY} {P : SX → SY → Prop} (h : ∀ (N F : Nat) (dp : Nat → Nat) (pt : Nat → Nat → Nat) (fr er : Nat → Nat) (nb nw : Nat) (xnc xfn xel xlm xwm xsu xco xvi xlv xes : Int32) (xdO xpA xab xbe xrb xfO xeO xic xcu xcm xwr xst xac xpr xbb xdr xok xon xoa xgn xgm xh xni xhn xho xhb xwn xwd xwf xwt xbk xre : Nat → Int32) (ynB ynW : Int64) (ypa : Nat → Int32) (ybg : Nat → Int64) (ykd : Nat → Int32) (ywb : Nat → Int64) (yld : Nat → Int32), (mi_I N F dp pt fr er nb nw xnc xfn xlm xwm 0 xsu xdO xpA xab xbe xrb xfO xeO xic xwr xst xbb xdr xok xon xgn xgm xh xni xhn xho xhb xwn xwd xwf xwt xbk ynB ynW ypa ybg ykd ywb) → nw ≤ 70 * k → nb ≤ k → P (xnc, xfn, xel, xlm, xwm, 0, xsu, xco, xvi, xlv, xes, xdO, xpA, xab, xbe, xrb, xfO, xeO, xic, xcu, xcm, xwr, xst, xac, xpr, xbb, xdr, xok, xon, xoa, xgn, xgm, xh, xni, xhn, xho, xhb, xwn, xwd, xwf, xwt, xbk, xre) (xfn, xnc, xel, ynB, ynW, xco, xvi, xlv, xes, ypa, xcu, xcm, xwr, xh, xst, xac, xpr, ybg, ykd, xon, xoa, xgn, xgm, xwn, xwd, ywb, yld)) (I : i_Rel k u v) : P u v :=
  Exists.elim I fun N I => Exists.elim I fun F I => Exists.elim I fun dp I => Exists.elim I fun pt I => Exists.elim I fun fr I => Exists.elim I fun er I => Exists.elim I fun nb I => Exists.elim I fun nw I => Exists.elim I fun xnc I => Exists.elim I fun xfn I => Exists.elim I fun xel I => Exists.elim I fun xlm I => Exists.elim I fun xwm I => Exists.elim I fun xsu I => Exists.elim I fun xco I => Exists.elim I fun xvi I => Exists.elim I fun xlv I => Exists.elim I fun xes I => Exists.elim I fun xdO I => Exists.elim I fun xpA I => Exists.elim I fun xab I => Exists.elim I fun xbe I => Exists.elim I fun xrb I => Exists.elim I fun xfO I => Exists.elim I fun xeO I => Exists.elim I fun xic I => Exists.elim I fun xcu I => Exists.elim I fun xcm I => Exists.elim I fun xwr I => Exists.elim I fun xst I => Exists.elim I fun xac I => Exists.elim I fun xpr I => Exists.elim I fun xbb I => Exists.elim I fun xdr I => Exists.elim I fun xok I => Exists.elim I fun xon I => Exists.elim I fun xoa I => Exists.elim I fun xgn I => Exists.elim I fun xgm I => Exists.elim I fun xh I => Exists.elim I fun xni I => Exists.elim I fun xhn I => Exists.elim I fun xho I => Exists.elim I fun xhb I => Exists.elim I fun xwn I => Exists.elim I fun xwd I => Exists.elim I fun xwf I => Exists.elim I fun xwt I => Exists.elim I fun xbk I => Exists.elim I fun xre I => Exists.elim I fun ynB I => Exists.elim I fun ynW I => Exists.elim I fun ypa I => Exists.elim I fun ybg I => Exists.elim I fun ykd I => Exists.elim I fun ywb I => Exists.elim I fun yld I => by
    obtain ⟨rfl, rfl, J, h1, h2⟩ := I
    exact h N F dp pt fr er nb nw xnc xfn xel xlm xwm xsu xco xvi xlv xes xdO xpA xab xbe xrb xfO xeO xic xcu xcm xwr xst xac xpr xbb xdr xok xon xoa xgn xgm xh xni xhn xho xhb xwn xwd xwf xwt xbk xre ynB ynW ypa ybg ykd ywb yld J h1 h2
theorem i_up {k : Nat} {u : SX} {v : SY} (h : i_Rel k u v) : i_Rel (k + 4) u v := by
  refine zz_el (P := fun u v => i_Rel (k + 4) u v) ?_ h
  intro N F dp pt fr er nb nw xnc xfn xel xlm xwm xsu xco xvi xlv xes xdO xpA xab xbe xrb xfO xeO xic xcu xcm xwr xst xac xpr xbb xdr xok xon xoa xgn xgm xh xni xhn xho xhb xwn xwd xwf xwt xbk xre ynB ynW ypa ybg ykd ywb yld I hw hb
  exact zz_in I (by omega) (by omega)
end
section
/-! the getters -/
theorem mb_cn_s0 {p : Nat → Bool} {n : Nat} (h : ¬ p n = true) : mb_cn p (n + 1) = mb_cn p n := by rw [mb_cn, if_neg h]; rfl
theorem mb_cn_s1 {p : Nat → Bool} {n : Nat} (h : p n = true) : mb_cn p (n + 1) = mb_cn p n + 1 := by rw [mb_cn, if_pos h]
section
variable {N F : Nat} {dp : Nat → Nat} {pt : Nat → Nat → Nat} {fr er : Nat → Nat} {nb nw : Nat} {xnc xfn xel xlm xwm xtc xsu xco xvi xlv xes : Int32} {xdO xpA xab xbe xrb xfO xeO xic xcu xcm xwr xst xac xpr xbb xdr xok xon xoa xgn xgm xh xni xhn xho xhb xwn xwd xwf xwt xbk xre : Nat → Int32} {ynB ynW : Int64} {ypa : Nat → Int32} {ybg : Nat → Int64} {ykd : Nat → Int32} {ywb : Nat → Int64} {yld : Nat → Int32}
theorem mo_cn8 {M : Int32} (h : ∀ i, bt M i = true → i < 8) : mb_cn (bt M) 32 = mb_cn (bt M) 8 := mb_cn_e (m := 8) 24 fun i h1 _ => by
  rw [mb_bf]; intro q; have := h i q; omega
end
theorem i_vc_state {k : Nat} {u : SX} {v : SY} (I : i_Rel k u v) (hk : k + 4 ≤ 2052) (v1 : Int32) : wpX_state (fun r => wpY_state (fun r' => r' = r ∧ i_Rel (k + 4) u v) v v1) u v1 := by
  refine zz_el (P := fun u v => wpX_state (fun r => wpY_state (fun r' => r' = r ∧ i_Rel (k + 4) u v) v v1) u v1) ?_ I
  intro N F dp pt fr er nb nw xnc xfn xel xlm xwm xsu xco xvi xlv xes xdO xpA xab xbe xrb xfO xeO xic xcu xcm xwr xst xac xpr xbb xdr xok xon xoa xgn xgm xh xni xhn xho xhb xwn xwd xwf xwt xbk xre ynB ynW ypa ybg ykd ywb yld I hw hb
  have J : i_Rel (k + 4) (xnc, xfn, xel, xlm, xwm, 0, xsu, xco, xvi, xlv, xes, xdO, xpA, xab, xbe, xrb, xfO, xeO, xic, xcu, xcm, xwr, xst, xac, xpr, xbb, xdr, xok, xon, xoa, xgn, xgm, xh, xni, xhn, xho, xhb, xwn, xwd, xwf, xwt, xbk, xre) (xfn, xnc, xel, ynB, ynW, xco, xvi, xlv, xes, ypa, xcu, xcm, xwr, xh, xst, xac, xpr, ybg, ykd, xon, xoa, xgn, xgm, xwn, xwd, ywb, yld) := zz_in I (by omega) (by omega)
  obtain ⟨T, H, Z, W, L, D, B, S, G⟩ := I
  have hN := mt_N T
  obtain ⟨q1, q2, q3, q4, q5⟩ := T.1
  show wpX_state (fun r => wpY_state (fun r' => r' = r ∧ i_Rel (k + 4) (xnc, xfn, xel, xlm, xwm, 0, xsu, xco, xvi, xlv, xes, xdO, xpA, xab, xbe, xrb, xfO, xeO, xic, xcu, xcm, xwr, xst, xac, xpr, xbb, xdr, xok, xon, xoa, xgn, xgm, xh, xni, xhn, xho, xhb, xwn, xwd, xwf, xwt, xbk, xre) (xfn, xnc, xel, ynB, ynW, xco, xvi, xlv, xes, ypa, xcu, xcm, xwr, xh, xst, xac, xpr, ybg, ykd, xon, xoa, xgn, xgm, xwn, xwd, ywb, yld)) (xfn, xnc, xel, ynB, ynW, xco, xvi, xlv, xes, ypa, xcu, xcm, xwr, xh, xst, xac, xpr, ybg, ykd, xon, xoa, xgn, xgm, xwn, xwd, ywb, yld) v1) (xnc, xfn, xel, xlm, xwm, 0, xsu, xco, xvi, xlv, xes, xdO, xpA, xab, xbe, xrb, xfO, xeO, xic, xcu, xcm, xwr, xst, xac, xpr, xbb, xdr, xok, xon, xoa, xgn, xgm, xh, xni, xhn, xho, xhb, xwn, xwd, xwf, xwt, xbk, xre) v1
  unfold wpX_state
  refine mx_isTxn (mb_br (fun z => ?_) (fun z => ?_))
  · unfold wpY_state
    exact my_isTxn (mb_br (fun _ => ⟨rfl, J⟩) (fun q => absurd q z))
  · obtain ⟨t, t8, rfl⟩ := mo_txn z
    refine ⟨mb_v8 t8, ?_⟩
    unfold wpY_state
    exact my_isTxn (mb_br (fun q => absurd z q) (fun _ => ⟨mb_v8 t8, rfl, J⟩))
theorem i_vc_acc {k : Nat} {u : SX} {v : SY} (I : i_Rel k u v) (hk : k + 4 ≤ 2052) (v1 : Int32) : wpX_acc (fun r => wpY_acc (fun r' => r' = r ∧ i_Rel (k + 4) u v) v v1) u v1 := by
  refine zz_el (P := fun u v => wpX_acc (fun r => wpY_acc (fun r' => r' = r ∧ i_Rel (k + 4) u v) v v1) u v1) ?_ I
  intro N F dp pt fr er nb nw xnc xfn xel xlm xwm xsu xco xvi xlv xes xdO xpA xab xbe xrb xfO xeO xic xcu xcm xwr xst xac xpr xbb xdr xok xon xoa xgn xgm xh xni xhn xho xhb xwn xwd xwf xwt xbk xre ynB ynW ypa ybg ykd ywb yld I hw hb
  have J : i_Rel (k + 4) (xnc, xfn, xel, xlm, xwm, 0, xsu, xco, xvi, xlv, xes, xdO, xpA, xab, xbe, xrb, xfO, xeO, xic, xcu, xcm, xwr, xst, xac, xpr, xbb, xdr, xok, xon, xoa, xgn, xgm, xh, xni, xhn, xho, xhb, xwn, xwd, xwf, xwt, xbk, xre) (xfn, xnc, xel, ynB, ynW, xco, xvi, xlv, xes, ypa, xcu, xcm, xwr, xh, xst, xac, xpr, ybg, ykd, xon, xoa, xgn, xgm, xwn, xwd, ywb, yld) := zz_in I (by omega) (by omega)
  obtain ⟨T, H, Z, W, L, D, B, S, G⟩ := I
  have hN := mt_N T
  obtain ⟨q1, q2, q3, q4, q5⟩ := T.1
  show wpX_acc (fun r => wpY_acc (fun r' => r' = r ∧ i_Rel (k + 4) (xnc, xfn, xel, xlm, xwm, 0, xsu, xco, xvi, xlv, xes, xdO, xpA, xab, xbe, xrb, xfO, xeO, xic, xcu, xcm, xwr, xst, xac, xpr, xbb, xdr, xok, xon, xoa, xgn, xgm, xh, xni, xhn, xho, xhb, xwn, xwd, xwf, xwt, xbk, xre) (xfn, xnc, xel, ynB, ynW, xco, xvi, xlv, xes, ypa, xcu, xcm, xwr, xh, xst, xac, xpr, ybg, ykd, xon, xoa, xgn, xgm, xwn, xwd, ywb, yld)) (xfn, xnc, xel, ynB, ynW, xco, xvi, xlv, xes, ypa, xcu, xcm, xwr, xh, xst, xac, xpr, ybg, ykd, xon, xoa, xgn, xgm, xwn, xwd, ywb, yld) v1) (xnc, xfn, xel, xlm, xwm, 0, xsu, xco, xvi, xlv, xes, xdO, xpA, xab, xbe, xrb, xfO, xeO, xic, xcu, xcm, xwr, xst, xac, xpr, xbb, xdr, xok, xon, xoa, xgn, xgm, xh, xni, xhn, xho, xhb, xwn, xwd, xwf, xwt, xbk, xre) v1
  unfold wpX_acc
  refine mx_isTxn (mb_br (fun z => ?_) (fun z => ?_))
  · unfold wpY_acc
    exact my_isTxn (mb_br (fun _ => ⟨rfl, J⟩) (fun q => absurd q z))
  · obtain ⟨t, t8, rfl⟩ := mo_txn z
    refine ⟨mb_v8 t8, ?_⟩
    unfold wpY_acc
    exact my_isTxn (mb_br (fun q => absurd z q) (fun _ => ⟨mb_v8 t8, rfl, J⟩))
theorem i_vc_held {k : Nat} {u : SX} {v : SY} (I : i_Rel k u v) (hk : k + 4 ≤ 2052) (v1 : Int32) (v2 : Int32) : wpX_held (fun r => wpY_held (fun r' => r' = r ∧ i_Rel (k + 4) u v) v v1 v2) u v1 v2 := by
  refine zz_el (P := fun u v => wpX_held (fun r => wpY_held (fun r' => r' = r ∧ i_Rel (k + 4) u v) v v1 v2) u v1 v2) ?_ I
  intro N F dp pt fr er nb nw xnc xfn xel xlm xwm xsu xco xvi xlv xes xdO xpA xab xbe xrb xfO xeO xic xcu xcm xwr xst xac xpr xbb xdr xok xon xoa xgn xgm xh xni xhn xho xhb xwn xwd xwf xwt xbk xre ynB ynW ypa ybg ykd ywb yld I hw hb
  have J : i_Rel (k + 4) (xnc, xfn, xel, xlm, xwm, 0, xsu, xco, xvi, xlv, xes, xdO, xpA, xab, xbe, xrb, xfO, xeO, xic, xcu, xcm, xwr, xst, xac, xpr, xbb, xdr, xok, xon, xoa, xgn, xgm, xh, xni, xhn, xho, xhb, xwn, xwd, xwf, xwt, xbk, xre) (xfn, xnc, xel, ynB, ynW, xco, xvi, xlv, xes, ypa, xcu, xcm, xwr, xh, xst, xac, xpr, ybg, ykd, xon, xoa, xgn, xgm, xwn, xwd, ywb, yld) := zz_in I (by omega) (by omega)
  obtain ⟨T, H, Z, W, L, D, B, S, G⟩ := I
  have hN := mt_N T
  obtain ⟨q1, q2, q3, q4, q5⟩ := T.1
  show wpX_held (fun r => wpY_held (fun r' => r' = r ∧ i_Rel (k + 4) (xnc, xfn, xel, xlm, xwm, 0, xsu, xco, xvi, xlv, xes, xdO, xpA, xab, xbe, xrb, xfO, xeO, xic, xcu, xcm, xwr, xst, xac, xpr, xbb, xdr, xok, xon, xoa, xgn, xgm, xh, xni, xhn, xho, xhb, xwn, xwd, xwf, xwt, xbk, xre) (xfn, xnc, xel, ynB, ynW, xco, xvi, xlv, xes, ypa, xcu, xcm, xwr, xh, xst, xac, xpr, ybg, ykd, xon, xoa, xgn, xgm, xwn, xwd, ywb, yld)) (xfn, xnc, xel, ynB, ynW, xco, xvi, xlv, xes, ypa, xcu, xcm, xwr, xh, xst, xac, xpr, ybg, ykd, xon, xoa, xgn, xgm, xwn, xwd, ywb, yld) v1 v2) (xnc, xfn, xel, xlm, xwm, 0, xsu, xco, xvi, xlv, xes, xdO, xpA, xab, xbe, xrb, xfO, xeO, xic, xcu, xcm, xwr, xst, xac, xpr, xbb, xdr, xok, xon, xoa, xgn, xgm, xh, xni, xhn, xho, xhb, xwn, xwd, xwf, xwt, xbk, xre) v1 v2
  unfold wpX_held
  refine mx_isTxn (mb_br (fun z => ?_) (fun z => mx_isNode (mb_br (fun y => ?_) (fun y => ?_))))
  · unfold wpY_held
    exact my_isTxn (mb_br (fun _ => ⟨rfl, J⟩) (fun q => absurd q z))
  · unfold wpY_held
    exact my_isTxn (mb_br (fun q => absurd z q) (fun _ => my_isNode (mb_br (fun _ => ⟨rfl, J⟩) (fun q => absurd q y))))
  · obtain ⟨t, t8, rfl⟩ := mo_txn z
    have y' := y
    rw [q1] at y'
    obtain ⟨n, n8, rfl⟩ := mo_node hN y'
    refine ⟨mb_v31 t8 (by omega), ?_⟩
    unfold wpY_held
    exact my_isTxn (mb_br (fun q => absurd z q) (fun _ => my_isNode (mb_br (fun q => absurd y q) (fun _ => ⟨mb_v31 t8 (by omega), rfl, J⟩))))
theorem i_vc_value {k : Nat} {u : SX} {v : SY} (I : i_Rel k u v) (hk : k + 4 ≤ 2052) (v1 : Int32) : wpX_value (fun r => wpY_value (fun r' => r' = r ∧ i_Rel (k + 4) u v) v v1) u v1 := by
  refine zz_el (P := fun u v => wpX_value (fun r => wpY_value (fun r' => r' = r ∧ i_Rel (k + 4) u v) v v1) u v1) ?_ I
  intro N F dp pt fr er nb nw xnc xfn xel xlm xwm xsu xco xvi xlv xes xdO xpA xab xbe xrb xfO xeO xic xcu xcm xwr xst xac xpr xbb xdr xok xon xoa xgn xgm xh xni xhn xho xhb xwn xwd xwf xwt xbk xre ynB ynW ypa ybg ykd ywb yld I hw hb
  have J : i_Rel (k + 4) (xnc, xfn, xel, xlm, xwm, 0, xsu, xco, xvi, xlv, xes, xdO, xpA, xab, xbe, xrb, xfO, xeO, xic, xcu, xcm, xwr, xst, xac, xpr, xbb, xdr, xok, xon, xoa, xgn, xgm, xh, xni, xhn, xho, xhb, xwn, xwd, xwf, xwt, xbk, xre) (xfn, xnc, xel, ynB, ynW, xco, xvi, xlv, xes, ypa, xcu, xcm, xwr, xh, xst, xac, xpr, ybg, ykd, xon, xoa, xgn, xgm, xwn, xwd, ywb, yld) := zz_in I (by omega) (by omega)
  obtain ⟨T, H, Z, W, L, D, B, S, G⟩ := I
  have hN := mt_N T
  obtain ⟨q1, q2, q3, q4, q5⟩ := T.1
  show wpX_value (fun r => wpY_value (fun r' => r' = r ∧ i_Rel (k + 4) (xnc, xfn, xel, xlm, xwm, 0, xsu, xco, xvi, xlv, xes, xdO, xpA, xab, xbe, xrb, xfO, xeO, xic, xcu, xcm, xwr, xst, xac, xpr, xbb, xdr, xok, xon, xoa, xgn, xgm, xh, xni, xhn, xho, xhb, xwn, xwd, xwf, xwt, xbk, xre) (xfn, xnc, xel, ynB, ynW, xco, xvi, xlv, xes, ypa, xcu, xcm, xwr, xh, xst, xac, xpr, ybg, ykd, xon, xoa, xgn, xgm, xwn, xwd, ywb, yld)) (xfn, xnc, xel, ynB, ynW, xco, xvi, xlv, xes, ypa, xcu, xcm, xwr, xh, xst, xac, xpr, ybg, ykd, xon, xoa, xgn, xgm, xwn, xwd, ywb, yld) v1) (xnc, xfn, xel, xlm, xwm, 0, xsu, xco, xvi, xlv, xes, xdO, xpA, xab, xbe, xrb, xfO, xeO, xic, xcu, xcm, xwr, xst, xac, xpr, xbb, xdr, xok, xon, xoa, xgn, xgm, xh, xni, xhn, xho, xhb, xwn, xwd, xwf, xwt, xbk, xre) v1
  unfold wpX_value
  refine mx_isRow (mb_br (fun z => ?_) (fun z => ?_))
  · unfold wpY_value
    exact my_isRow (mb_br (fun _ => ⟨rfl, J⟩) (fun q => absurd q z))
  · have z' : ¬ v1 < 0 ∧ ¬ nI N ≤ v1 := by
      refine ⟨fun q => z.1 ?_, by rw [← q1]; exact z.2⟩
      rw [q2, Int32.lt_iff_toInt_lt, nI_toInt (by omega)]
      rw [Int32.lt_iff_toInt_lt, show (0 : Int32).toInt = 0 by decide] at q
      omega
    obtain ⟨n, n8, rfl⟩ := mo_node hN z'
    refine ⟨mb_n31 (by omega), ?_⟩
    unfold wpY_value
    exact my_isRow (mb_br (fun q => absurd z q) (fun _ => ⟨mb_n31 (by omega), rfl, J⟩))
theorem i_vc_committed {k : Nat} {u : SX} {v : SY} (I : i_Rel k u v) (hk : k + 4 ≤ 2052) (v1 : Int32) : wpX_committed (fun r => wpY_committed (fun r' => r' = r ∧ i_Rel (k + 4) u v) v v1) u v1 := by
  refine zz_el (P := fun u v => wpX_committed (fun r => wpY_committed (fun r' => r' = r ∧ i_Rel (k + 4) u v) v v1) u v1) ?_ I
  intro N F dp pt fr er nb nw xnc xfn xel xlm xwm xsu xco xvi xlv xes xdO xpA xab xbe xrb xfO xeO xic xcu xcm xwr xst xac xpr xbb xdr xok xon xoa xgn xgm xh xni xhn xho xhb xwn xwd xwf xwt xbk xre ynB ynW ypa ybg ykd ywb yld I hw hb
  have J : i_Rel (k + 4) (xnc, xfn, xel, xlm, xwm, 0, xsu, xco, xvi, xlv, xes, xdO, xpA, xab, xbe, xrb, xfO, xeO, xic, xcu, xcm, xwr, xst, xac, xpr, xbb, xdr, xok, xon, xoa, xgn, xgm, xh, xni, xhn, xho, xhb, xwn, xwd, xwf, xwt, xbk, xre) (xfn, xnc, xel, ynB, ynW, xco, xvi, xlv, xes, ypa, xcu, xcm, xwr, xh, xst, xac, xpr, ybg, ykd, xon, xoa, xgn, xgm, xwn, xwd, ywb, yld) := zz_in I (by omega) (by omega)
  obtain ⟨T, H, Z, W, L, D, B, S, G⟩ := I
  have hN := mt_N T
  obtain ⟨q1, q2, q3, q4, q5⟩ := T.1
  show wpX_committed (fun r => wpY_committed (fun r' => r' = r ∧ i_Rel (k + 4) (xnc, xfn, xel, xlm, xwm, 0, xsu, xco, xvi, xlv, xes, xdO, xpA, xab, xbe, xrb, xfO, xeO, xic, xcu, xcm, xwr, xst, xac, xpr, xbb, xdr, xok, xon, xoa, xgn, xgm, xh, xni, xhn, xho, xhb, xwn, xwd, xwf, xwt, xbk, xre) (xfn, xnc, xel, ynB, ynW, xco, xvi, xlv, xes, ypa, xcu, xcm, xwr, xh, xst, xac, xpr, ybg, ykd, xon, xoa, xgn, xgm, xwn, xwd, ywb, yld)) (xfn, xnc, xel, ynB, ynW, xco, xvi, xlv, xes, ypa, xcu, xcm, xwr, xh, xst, xac, xpr, ybg, ykd, xon, xoa, xgn, xgm, xwn, xwd, ywb, yld) v1) (xnc, xfn, xel, xlm, xwm, 0, xsu, xco, xvi, xlv, xes, xdO, xpA, xab, xbe, xrb, xfO, xeO, xic, xcu, xcm, xwr, xst, xac, xpr, xbb, xdr, xok, xon, xoa, xgn, xgm, xh, xni, xhn, xho, xhb, xwn, xwd, xwf, xwt, xbk, xre) v1
  unfold wpX_committed
  refine mx_isRow (mb_br (fun z => ?_) (fun z => ?_))
  · unfold wpY_committed
    exact my_isRow (mb_br (fun _ => ⟨rfl, J⟩) (fun q => absurd q z))
  · have z' : ¬ v1 < 0 ∧ ¬ nI N ≤ v1 := by
      refine ⟨fun q => z.1 ?_, by rw [← q1]; exact z.2⟩
      rw [q2, Int32.lt_iff_toInt_lt, nI_toInt (by omega)]
      rw [Int32.lt_iff_toInt_lt, show (0 : Int32).toInt = 0 by decide] at q
      omega
    obtain ⟨n, n8, rfl⟩ := mo_node hN z'
    refine ⟨mb_n31 (by omega), ?_⟩
    unfold wpY_committed
    exact my_isRow (mb_br (fun q => absurd z q) (fun _ => ⟨mb_n31 (by omega), rfl, J⟩))
theorem i_vc_writer {k : Nat} {u : SX} {v : SY} (I : i_Rel k u v) (hk : k + 4 ≤ 2052) (v1 : Int32) : wpX_writer (fun r => wpY_writer (fun r' => r' = r ∧ i_Rel (k + 4) u v) v v1) u v1 := by
  refine zz_el (P := fun u v => wpX_writer (fun r => wpY_writer (fun r' => r' = r ∧ i_Rel (k + 4) u v) v v1) u v1) ?_ I
  intro N F dp pt fr er nb nw xnc xfn xel xlm xwm xsu xco xvi xlv xes xdO xpA xab xbe xrb xfO xeO xic xcu xcm xwr xst xac xpr xbb xdr xok xon xoa xgn xgm xh xni xhn xho xhb xwn xwd xwf xwt xbk xre ynB ynW ypa ybg ykd ywb yld I hw hb
  have J : i_Rel (k + 4) (xnc, xfn, xel, xlm, xwm, 0, xsu, xco, xvi, xlv, xes, xdO, xpA, xab, xbe, xrb, xfO, xeO, xic, xcu, xcm, xwr, xst, xac, xpr, xbb, xdr, xok, xon, xoa, xgn, xgm, xh, xni, xhn, xho, xhb, xwn, xwd, xwf, xwt, xbk, xre) (xfn, xnc, xel, ynB, ynW, xco, xvi, xlv, xes, ypa, xcu, xcm, xwr, xh, xst, xac, xpr, ybg, ykd, xon, xoa, xgn, xgm, xwn, xwd, ywb, yld) := zz_in I (by omega) (by omega)
  obtain ⟨T, H, Z, W, L, D, B, S, G⟩ := I
  have hN := mt_N T
  obtain ⟨q1, q2, q3, q4, q5⟩ := T.1
  show wpX_writer (fun r => wpY_writer (fun r' => r' = r ∧ i_Rel (k + 4) (xnc, xfn, xel, xlm, xwm, 0, xsu, xco, xvi, xlv, xes, xdO, xpA, xab, xbe, xrb, xfO, xeO, xic, xcu, xcm, xwr, xst, xac, xpr, xbb, xdr, xok, xon, xoa, xgn, xgm, xh, xni, xhn, xho, xhb, xwn, xwd, xwf, xwt, xbk, xre) (xfn, xnc, xel, ynB, ynW, xco, xvi, xlv, xes, ypa, xcu, xcm, xwr, xh, xst, xac, xpr, ybg, ykd, xon, xoa, xgn, xgm, xwn, xwd, ywb, yld)) (xfn, xnc, xel, ynB, ynW, xco, xvi, xlv, xes, ypa, xcu, xcm, xwr, xh, xst, xac, xpr, ybg, ykd, xon, xoa, xgn, xgm, xwn, xwd, ywb, yld) v1) (xnc, xfn, xel, xlm, xwm, 0, xsu, xco, xvi, xlv, xes, xdO, xpA, xab, xbe, xrb, xfO, xeO, xic, xcu, xcm, xwr, xst, xac, xpr, xbb, xdr, xok, xon, xoa, xgn, xgm, xh, xni, xhn, xho, xhb, xwn, xwd, xwf, xwt, xbk, xre) v1
  unfold wpX_writer
  refine mx_isRow (mb_br (fun z => ?_) (fun z => ?_))
  · unfold wpY_writer
    exact my_isRow (mb_br (fun _ => ⟨rfl, J⟩) (fun q => absurd q z))
  · have z' : ¬ v1 < 0 ∧ ¬ nI N ≤ v1 := by
      refine ⟨fun q => z.1 ?_, by rw [← q1]; exact z.2⟩
      rw [q2, Int32.lt_iff_toInt_lt, nI_toInt (by omega)]
      rw [Int32.lt_iff_toInt_lt, show (0 : Int32).toInt = 0 by decide] at q
      omega
    obtain ⟨n, n8, rfl⟩ := mo_node hN z'
    refine ⟨mb_n31 (by omega), ?_⟩
    unfold wpY_writer
    exact my_isRow (mb_br (fun q => absurd z q) (fun _ => ⟨mb_n31 (by omega), rfl, J⟩))
theorem i_vc_priority {k : Nat} {u : SX} {v : SY} (I : i_Rel k u v) (hk : k + 4 ≤ 2052) (v1 : Int32) : wpX_priority (fun r => wpY_priority (fun r' => r' = r ∧ i_Rel (k + 4) u v) v v1) u v1 := by
  refine zz_el (P := fun u v => wpX_priority (fun r => wpY_priority (fun r' => r' = r ∧ i_Rel (k + 4) u v) v v1) u v1) ?_ I
  intro N F dp pt fr er nb nw xnc xfn xel xlm xwm xsu xco xvi xlv xes xdO xpA xab xbe xrb xfO xeO xic xcu xcm xwr xst xac xpr xbb xdr xok xon xoa xgn xgm xh xni xhn xho xhb xwn xwd xwf xwt xbk xre ynB ynW ypa ybg ykd ywb yld I hw hb
  have J : i_Rel (k + 4) (xnc, xfn, xel, xlm, xwm, 0, xsu, xco, xvi, xlv, xes, xdO, xpA, xab, xbe, xrb, xfO, xeO, xic, xcu, xcm, xwr, xst, xac, xpr, xbb, xdr, xok, xon, xoa, xgn, xgm, xh, xni, xhn, xho, xhb, xwn, xwd, xwf, xwt, xbk, xre) (xfn, xnc, xel, ynB, ynW, xco, xvi, xlv, xes, ypa, xcu, xcm, xwr, xh, xst, xac, xpr, ybg, ykd, xon, xoa, xgn, xgm, xwn, xwd, ywb, yld) := zz_in I (by omega) (by omega)
  obtain ⟨T, H, Z, W, L, D, B, S, G⟩ := I
  have hN := mt_N T
  obtain ⟨q1, q2, q3, q4, q5⟩ := T.1
  show wpX_priority (fun r => wpY_priority (fun r' => r' = r ∧ i_Rel (k + 4) (xnc, xfn, xel, xlm, xwm, 0, xsu, xco, xvi, xlv, xes, xdO, xpA, xab, xbe, xrb, xfO, xeO, xic, xcu, xcm, xwr, xst, xac, xpr, xbb, xdr, xok, xon, xoa, xgn, xgm, xh, xni, xhn, xho, xhb, xwn, xwd, xwf, xwt, xbk, xre) (xfn, xnc, xel, ynB, ynW, xco, xvi, xlv, xes, ypa, xcu, xcm, xwr, xh, xst, xac, xpr, ybg, ykd, xon, xoa, xgn, xgm, xwn, xwd, ywb, yld)) (xfn, xnc, xel, ynB, ynW, xco, xvi, xlv, xes, ypa, xcu, xcm, xwr, xh, xst, xac, xpr, ybg, ykd, xon, xoa, xgn, xgm, xwn, xwd, ywb, yld) v1) (xnc, xfn, xel, xlm, xwm, 0, xsu, xco, xvi, xlv, xes, xdO, xpA, xab, xbe, xrb, xfO, xeO, xic, xcu, xcm, xwr, xst, xac, xpr, xbb, xdr, xok, xon, xoa, xgn, xgm, xh, xni, xhn, xho, xhb, xwn, xwd, xwf, xwt, xbk, xre) v1
  unfold wpX_priority
  refine mx_isLive (mb_br (fun z => ?_) (fun z => ?_))
  · unfold wpY_priority
    refine my_isTxn (mb_br (fun _ => ⟨rfl, J⟩) (fun q => ?_))
    obtain ⟨t, t8, rfl⟩ := mo_txn q
    refine my_live t8 (mb_br (fun _ => ⟨rfl, J⟩) (fun l => absurd ⟨q, ?_⟩ z))
    exact (mb_and1 (by omega)).mpr ((L.2.1 t).mpr ⟨t8, l⟩)
  · obtain ⟨t, t8, rfl⟩ := mo_txn z.1
    have l := ((L.2.1 t).mp ((mb_and1 (by omega)).mp z.2)).2
    refine ⟨mb_v8 t8, ?_⟩
    unfold wpY_priority
    exact my_isTxn (mb_br (fun q => absurd z.1 q) (fun _ => my_live t8 (mb_br (fun q => absurd l q) (fun _ => ⟨mb_v8 t8, rfl, J⟩))))
theorem i_vc_dirty {k : Nat} {u : SX} {v : SY} (I : i_Rel k u v) (hk : k + 4 ≤ 2052) (v1 : Int32) : wpX_dirty (fun r => wpY_dirty (fun r' => r' = r ∧ i_Rel (k + 4) u v) v v1) u v1 := by
  refine zz_el (P := fun u v => wpX_dirty (fun r => wpY_dirty (fun r' => r' = r ∧ i_Rel (k + 4) u v) v v1) u v1) ?_ I
  intro N F dp pt fr er nb nw xnc xfn xel xlm xwm xsu xco xvi xlv xes xdO xpA xab xbe xrb xfO xeO xic xcu xcm xwr xst xac xpr xbb xdr xok xon xoa xgn xgm xh xni xhn xho xhb xwn xwd xwf xwt xbk xre ynB ynW ypa ybg ykd ywb yld I hw hb
  have J : i_Rel (k + 4) (xnc, xfn, xel, xlm, xwm, 0, xsu, xco, xvi, xlv, xes, xdO, xpA, xab, xbe, xrb, xfO, xeO, xic, xcu, xcm, xwr, xst, xac, xpr, xbb, xdr, xok, xon, xoa, xgn, xgm, xh, xni, xhn, xho, xhb, xwn, xwd, xwf, xwt, xbk, xre) (xfn, xnc, xel, ynB, ynW, xco, xvi, xlv, xes, ypa, xcu, xcm, xwr, xh, xst, xac, xpr, ybg, ykd, xon, xoa, xgn, xgm, xwn, xwd, ywb, yld) := zz_in I (by omega) (by omega)
  obtain ⟨T, H, Z, W, L, D, B, S, G⟩ := I
  have hN := mt_N T
  obtain ⟨q1, q2, q3, q4, q5⟩ := T.1
  show wpX_dirty (fun r => wpY_dirty (fun r' => r' = r ∧ i_Rel (k + 4) (xnc, xfn, xel, xlm, xwm, 0, xsu, xco, xvi, xlv, xes, xdO, xpA, xab, xbe, xrb, xfO, xeO, xic, xcu, xcm, xwr, xst, xac, xpr, xbb, xdr, xok, xon, xoa, xgn, xgm, xh, xni, xhn, xho, xhb, xwn, xwd, xwf, xwt, xbk, xre) (xfn, xnc, xel, ynB, ynW, xco, xvi, xlv, xes, ypa, xcu, xcm, xwr, xh, xst, xac, xpr, ybg, ykd, xon, xoa, xgn, xgm, xwn, xwd, ywb, yld)) (xfn, xnc, xel, ynB, ynW, xco, xvi, xlv, xes, ypa, xcu, xcm, xwr, xh, xst, xac, xpr, ybg, ykd, xon, xoa, xgn, xgm, xwn, xwd, ywb, yld) v1) (xnc, xfn, xel, xlm, xwm, 0, xsu, xco, xvi, xlv, xes, xdO, xpA, xab, xbe, xrb, xfO, xeO, xic, xcu, xcm, xwr, xst, xac, xpr, xbb, xdr, xok, xon, xoa, xgn, xgm, xh, xni, xhn, xho, xhb, xwn, xwd, xwf, xwt, xbk, xre) v1
  unfold wpX_dirty
  refine mx_isTxn (mb_br (fun z => ?_) (fun z => ?_))
  · unfold wpY_dirty
    exact my_isTxn (mb_br (fun _ => ⟨rfl, J⟩) (fun q => absurd q z))
  · obtain ⟨t, t8, rfl⟩ := mo_txn z
    refine ⟨mb_v8 t8, ?_⟩
    rw [mb_c (by omega)]
    exact mx_bitCount _ (my_dirty T D t8 ⟨rfl, J⟩)
theorem i_vc_ageRank {k : Nat} {u : SX} {v : SY} (I : i_Rel k u v) (hk : k + 4 ≤ 2052) (v1 : Int32) : wpX_ageRank (fun r => wpY_ageRank (fun r' => r' = r ∧ i_Rel (k + 4) u v) v v1) u v1 := by
  refine zz_el (P := fun u v => wpX_ageRank (fun r => wpY_ageRank (fun r' => r' = r ∧ i_Rel (k + 4) u v) v v1) u v1) ?_ I
  intro N F dp pt fr er nb nw xnc xfn xel xlm xwm xsu xco xvi xlv xes xdO xpA xab xbe xrb xfO xeO xic xcu xcm xwr xst xac xpr xbb xdr xok xon xoa xgn xgm xh xni xhn xho xhb xwn xwd xwf xwt xbk xre ynB ynW ypa ybg ykd ywb yld I hw hb
  have J : i_Rel (k + 4) (xnc, xfn, xel, xlm, xwm, 0, xsu, xco, xvi, xlv, xes, xdO, xpA, xab, xbe, xrb, xfO, xeO, xic, xcu, xcm, xwr, xst, xac, xpr, xbb, xdr, xok, xon, xoa, xgn, xgm, xh, xni, xhn, xho, xhb, xwn, xwd, xwf, xwt, xbk, xre) (xfn, xnc, xel, ynB, ynW, xco, xvi, xlv, xes, ypa, xcu, xcm, xwr, xh, xst, xac, xpr, ybg, ykd, xon, xoa, xgn, xgm, xwn, xwd, ywb, yld) := zz_in I (by omega) (by omega)
  obtain ⟨T, H, Z, W, L, D, B, S, G⟩ := I
  have hN := mt_N T
  obtain ⟨q1, q2, q3, q4, q5⟩ := T.1
  show wpX_ageRank (fun r => wpY_ageRank (fun r' => r' = r ∧ i_Rel (k + 4) (xnc, xfn, xel, xlm, xwm, 0, xsu, xco, xvi, xlv, xes, xdO, xpA, xab, xbe, xrb, xfO, xeO, xic, xcu, xcm, xwr, xst, xac, xpr, xbb, xdr, xok, xon, xoa, xgn, xgm, xh, xni, xhn, xho, xhb, xwn, xwd, xwf, xwt, xbk, xre) (xfn, xnc, xel, ynB, ynW, xco, xvi, xlv, xes, ypa, xcu, xcm, xwr, xh, xst, xac, xpr, ybg, ykd, xon, xoa, xgn, xgm, xwn, xwd, ywb, yld)) (xfn, xnc, xel, ynB, ynW, xco, xvi, xlv, xes, ypa, xcu, xcm, xwr, xh, xst, xac, xpr, ybg, ykd, xon, xoa, xgn, xgm, xwn, xwd, ywb, yld) v1) (xnc, xfn, xel, xlm, xwm, 0, xsu, xco, xvi, xlv, xes, xdO, xpA, xab, xbe, xrb, xfO, xeO, xic, xcu, xcm, xwr, xst, xac, xpr, xbb, xdr, xok, xon, xoa, xgn, xgm, xh, xni, xhn, xho, xhb, xwn, xwd, xwf, xwt, xbk, xre) v1
  unfold wpX_ageRank
  refine mx_isLive (mb_br (fun z => ?_) (fun z => ?_))
  · unfold wpY_ageRank
    refine my_isTxn (mb_br (fun _ => ⟨rfl, J⟩) (fun q => ?_))
    obtain ⟨t, t8, rfl⟩ := mo_txn q
    refine my_live t8 (mb_br (fun _ => ⟨rfl, J⟩) (fun l => absurd ⟨q, ?_⟩ z))
    exact (mb_and1 (by omega)).mpr ((L.2.1 t).mpr ⟨t8, l⟩)
  · obtain ⟨t, t8, rfl⟩ := mo_txn z.1
    have ct : (nI t).toNatClampNeg = t := mb_c (by omega)
    have l := ((L.2.1 t).mp ((mb_and1 (by omega)).mp z.2)).2
    have bb := (L.2.2 t t8 l).2
    refine ⟨mb_v8 t8, ?_⟩
    rw [ct]
    refine mx_bitCount _ ?_
    rw [mo_cn8 fun i q => ((bb i).mp q).1]
    have K : ∀ (d i n : Nat), i + d = 8 → d < n → wY_ageRank_22 (fun r' => r' = nI (mb_cn (bt (xbb t)) 8) ∧ i_Rel (k + 4) (xnc, xfn, xel, xlm, xwm, 0, xsu, xco, xvi, xlv, xes, xdO, xpA, xab, xbe, xrb, xfO, xeO, xic, xcu, xcm, xwr, xst, xac, xpr, xbb, xdr, xok, xon, xoa, xgn, xgm, xh, xni, xhn, xho, xhb, xwn, xwd, xwf, xwt, xbk, xre) (xfn, xnc, xel, ynB, ynW, xco, xvi, xlv, xes, ypa, xcu, xcm, xwr, xh, xst, xac, xpr, ybg, ykd, xon, xoa, xgn, xgm, xwn, xwd, ywb, yld)) (nI t) xfn xnc xel ynB ynW xco xvi xlv xes ypa xcu xcm xwr xh xst xac xpr ybg ykd xon xoa xgn xgm xwn xwd ywb yld n (nI (mb_cn (bt (xbb t)) i)) (nI i) := by
      intro d
      induction d with
      | zero =>
        intro i n hi hn
        obtain ⟨n, rfl⟩ : ∃ j, n = j + 1 := ⟨n - 1, by omega⟩
        rw [wY_ageRank_22]
        obtain rfl : i = 8 := by omega
        exact br_t (nI_le (a := 8) (by omega) (by omega)) ⟨rfl, J⟩
      | succ d ih =>
        intro i n hi hn
        obtain ⟨n, rfl⟩ : ∃ j, n = j + 1 := ⟨n - 1, by omega⟩
        rw [wY_ageRank_22]
        have nx := ih (i + 1) n (by omega) (by omega)
        refine br_f (nI_ge (b := 8) (by omega) (by decide)) (my_live (by omega) (mb_br (fun nl => nm_r (nI_1 i) ?_) (fun li => ⟨mb_v8 (by omega), mb_v8 t8, ?_⟩)))
        · rw [mb_cn_s0 (p := bt (xbb t)) (n := i) fun q => nl ((bb i).mp q).2.1] at nx
          exact nx
        · rw [ct, mb_c (t := i) (by omega)]
          refine br_c (fun le => nm_r (nI_1 i) ?_) (fun le => nm_r (nI_1 _) (nm_r (nI_1 i) ?_))
          · rw [mb_cn_s0 (p := bt (xbb t)) (n := i) fun q => Int64.not_le.mpr ((bb i).mp q).2.2 le] at nx
            exact nx
          · rw [mb_cn_s1 (p := bt (xbb t)) (n := i) ((bb i).mpr ⟨by omega, li, Int64.not_le.mp le⟩)] at nx
            exact nx
    unfold wpY_ageRank
    exact my_isTxn (mb_br (fun q => absurd z.1 q) (fun _ => my_live t8 (mb_br (fun q => absurd l q) (fun _ => ⟨9, K 8 0 9 (by omega) (by omega)⟩))))
theorem i_vc_total {k : Nat} {u : SX} {v : SY} (I : i_Rel k u v) (hk : k + 4 ≤ 2052) (v1 : Int32) : wpX_total (fun r => wpY_total (fun r' => r' = r ∧ i_Rel (k + 4) u v) v v1) u v1 := by
  refine zz_el (P := fun u v => wpX_total (fun r => wpY_total (fun r' => r' = r ∧ i_Rel (k + 4) u v) v v1) u v1) ?_ I
  intro N F dp pt fr er nb nw xnc xfn xel xlm xwm xsu xco xvi xlv xes xdO xpA xab xbe xrb xfO xeO xic xcu xcm xwr xst xac xpr xbb xdr xok xon xoa xgn xgm xh xni xhn xho xhb xwn xwd xwf xwt xbk xre ynB ynW ypa ybg ykd ywb yld I hw hb
  have J : i_Rel (k + 4) (xnc, xfn, xel, xlm, xwm, 0, xsu, xco, xvi, xlv, xes, xdO, xpA, xab, xbe, xrb, xfO, xeO, xic, xcu, xcm, xwr, xst, xac, xpr, xbb, xdr, xok, xon, xoa, xgn, xgm, xh, xni, xhn, xho, xhb, xwn, xwd, xwf, xwt, xbk, xre) (xfn, xnc, xel, ynB, ynW, xco, xvi, xlv, xes, ypa, xcu, xcm, xwr, xh, xst, xac, xpr, ybg, ykd, xon, xoa, xgn, xgm, xwn, xwd, ywb, yld) := zz_in I (by omega) (by omega)
  obtain ⟨T, H, Z, W, L, D, B, S, G⟩ := I
  have hN := mt_N T
  obtain ⟨q1, q2, q3, q4, q5⟩ := T.1
  show wpX_total (fun r => wpY_total (fun r' => r' = r ∧ i_Rel (k + 4) (xnc, xfn, xel, xlm, xwm, 0, xsu, xco, xvi, xlv, xes, xdO, xpA, xab, xbe, xrb, xfO, xeO, xic, xcu, xcm, xwr, xst, xac, xpr, xbb, xdr, xok, xon, xoa, xgn, xgm, xh, xni, xhn, xho, xhb, xwn, xwd, xwf, xwt, xbk, xre) (xfn, xnc, xel, ynB, ynW, xco, xvi, xlv, xes, ypa, xcu, xcm, xwr, xh, xst, xac, xpr, ybg, ykd, xon, xoa, xgn, xgm, xwn, xwd, ywb, yld)) (xfn, xnc, xel, ynB, ynW, xco, xvi, xlv, xes, ypa, xcu, xcm, xwr, xh, xst, xac, xpr, ybg, ykd, xon, xoa, xgn, xgm, xwn, xwd, ywb, yld) v1) (xnc, xfn, xel, xlm, xwm, 0, xsu, xco, xvi, xlv, xes, xdO, xpA, xab, xbe, xrb, xfO, xeO, xic, xcu, xcm, xwr, xst, xac, xpr, xbb, xdr, xok, xon, xoa, xgn, xgm, xh, xni, xhn, xho, xhb, xwn, xwd, xwf, xwt, xbk, xre) v1
  have Y0 : wpY_total (fun r' => (v1 = 0 → r' = xco) ∧ (v1 = 1 → r' = xvi) ∧ (v1 = 2 → r' = xlv) ∧ (v1 = 3 → r' = xes) ∧ (v1 = 4 → r' = xnc) ∧ (¬ v1 = 0 → ¬ v1 = 1 → ¬ v1 = 2 → ¬ v1 = 3 → ¬ v1 = 4 → r' = -1)) (xfn, xnc, xel, ynB, ynW, xco, xvi, xlv, xes, ypa, xcu, xcm, xwr, xh, xst, xac, xpr, ybg, ykd, xon, xoa, xgn, xgm, xwn, xwd, ywb, yld) v1 := by
    have d01 : ¬ (0 : Int32) = 1 := by decide
    refine br_c (fun z => ⟨fun _ => rfl, fun q => ?_, fun q => ?_, fun q => ?_, fun q => ?_, fun q => absurd z q⟩) (fun z0 => br_c (fun z => ⟨fun q => absurd q z0, fun _ => rfl, fun q => ?_, fun q => ?_, fun q => ?_, fun _ q => absurd z q⟩) (fun z1 => br_c (fun z => ⟨fun q => absurd q z0, fun q => absurd q z1, fun _ => rfl, fun q => ?_, fun q => ?_, fun _ _ q => absurd z q⟩) (fun z2 => br_c (fun z => ⟨fun q => absurd q z0, fun q => absurd q z1, fun q => absurd q z2, fun _ => rfl, fun q => ?_, fun _ _ _ q => absurd z q⟩) (fun z3 => br_c (fun z => ⟨fun q => absurd q z0, fun q => absurd q z1, fun q => absurd q z2, fun q => absurd q z3, fun _ => rfl, fun _ _ _ _ q => absurd z q⟩) (fun z4 => ⟨fun q => absurd q z0, fun q => absurd q z1, fun q => absurd q z2, fun q => absurd q z3, fun q => absurd q z4, fun _ _ _ _ _ => rfl⟩)))))
    all_goals exact absurd (z.symm.trans q) (by decide)
  have Y1 : ∀ r : Int32, ((v1 = 0 → r = xco) ∧ (v1 = 1 → r = xvi) ∧ (v1 = 2 → r = xlv) ∧ (v1 = 3 → r = xes) ∧ (v1 = 4 → r = xnc) ∧ (¬ v1 = 0 → ¬ v1 = 1 → ¬ v1 = 2 → ¬ v1 = 3 → ¬ v1 = 4 → r = -1)) → wpY_total (fun r' => r' = r ∧ i_Rel (k + 4) (xnc, xfn, xel, xlm, xwm, 0, xsu, xco, xvi, xlv, xes, xdO, xpA, xab, xbe, xrb, xfO, xeO, xic, xcu, xcm, xwr, xst, xac, xpr, xbb, xdr, xok, xon, xoa, xgn, xgm, xh, xni, xhn, xho, xhb, xwn, xwd, xwf, xwt, xbk, xre) (xfn, xnc, xel, ynB, ynW, xco, xvi, xlv, xes, ypa, xcu, xcm, xwr, xh, xst, xac, xpr, ybg, ykd, xon, xoa, xgn, xgm, xwn, xwd, ywb, yld)) (xfn, xnc, xel, ynB, ynW, xco, xvi, xlv, xes, ypa, xcu, xcm, xwr, xh, xst, xac, xpr, ybg, ykd, xon, xoa, xgn, xgm, xwn, xwd, ywb, yld) v1 := by
    intro r hr
    exact br_c (fun z => ⟨(hr.1 z).symm, J⟩) (fun z0 => br_c (fun z => ⟨(hr.2.1 z).symm, J⟩) (fun z1 => br_c (fun z => ⟨(hr.2.2.1 z).symm, J⟩) (fun z2 => br_c (fun z => ⟨(hr.2.2.2.1 z).symm, J⟩) (fun z3 => br_c (fun z => ⟨(hr.2.2.2.2.1 z).symm, J⟩) (fun z4 => ⟨(hr.2.2.2.2.2 z0 z1 z2 z3 z4).symm, J⟩)))))
  have out : (v1 < 0 ∨ 4 < v1) → wpY_total (fun r' => r' = -1 ∧ i_Rel (k + 4) (xnc, xfn, xel, xlm, xwm, 0, xsu, xco, xvi, xlv, xes, xdO, xpA, xab, xbe, xrb, xfO, xeO, xic, xcu, xcm, xwr, xst, xac, xpr, xbb, xdr, xok, xon, xoa, xgn, xgm, xh, xni, xhn, xho, xhb, xwn, xwd, xwf, xwt, xbk, xre) (xfn, xnc, xel, ynB, ynW, xco, xvi, xlv, xes, ypa, xcu, xcm, xwr, xh, xst, xac, xpr, ybg, ykd, xon, xoa, xgn, xgm, xwn, xwd, ywb, yld)) (xfn, xnc, xel, ynB, ynW, xco, xvi, xlv, xes, ypa, xcu, xcm, xwr, xh, xst, xac, xpr, ybg, ykd, xon, xoa, xgn, xgm, xwn, xwd, ywb, yld) v1 := fun o => Y1 (-1) (by
    refine ⟨fun q => ?_, fun q => ?_, fun q => ?_, fun q => ?_, fun q => ?_, fun _ _ _ _ _ => rfl⟩
    all_goals (rw [q] at o; exact absurd o (by decide)))
  refine br_c (fun z => out (Or.inl z)) (fun _ => br_c (fun z => out (Or.inr z)) (fun _ => br_c (fun z => Y1 _ ⟨fun _ => rfl, fun q => ?_, fun q => ?_, fun q => ?_, fun q => ?_, fun q => absurd z q⟩) (fun z0 => br_c (fun z => Y1 _ ⟨fun q => absurd q z0, fun _ => rfl, fun q => ?_, fun q => ?_, fun q => ?_, fun _ q => absurd z q⟩) (fun z1 => br_c (fun z => Y1 _ ⟨fun q => absurd q z0, fun q => absurd q z1, fun _ => rfl, fun q => ?_, fun q => ?_, fun _ _ q => absurd z q⟩) (fun z2 => br_c (fun z => Y1 _ ⟨fun q => absurd q z0, fun q => absurd q z1, fun q => absurd q z2, fun _ => rfl, fun q => ?_, fun _ _ _ q => absurd z q⟩) (fun z3 => br_c (fun z => Y1 _ ⟨fun q => absurd q z0, fun q => absurd q z1, fun q => absurd q z2, fun q => absurd q z3, fun _ => rfl, fun _ _ _ _ q => absurd z q⟩) (fun _ => trivial)))))))
  all_goals exact absurd (z.symm.trans q) (by decide)
end
section
/-! access, waitsFor, pending -/
section
variable {N F : Nat} {dp : Nat → Nat} {pt : Nat → Nat → Nat} {fr er : Nat → Nat} {nb nw : Nat} {xnc xfn xel xlm xwm xtc xsu xco xvi xlv xes : Int32} {xdO xpA xab xbe xrb xfO xeO xic xcu xcm xwr xst xac xpr xbb xdr xok xon xoa xgn xgm xh xni xhn xho xhb xwn xwd xwf xwt xbk xre : Nat → Int32} {ynB ynW : Int64} {ypa : Nat → Int32} {ybg : Nat → Int64} {ykd : Nat → Int32} {ywb : Nat → Int64} {yld : Nat → Int32}
def mo_on (dp : Nat → Nat) (pt : Nat → Nat → Nat) (n a : Nat) : Prop := a = n ∨ mt_bl dp pt n a = true
theorem my_access23 (T : (mt_T N F dp pt fr er xnc xfn xdO xpA xab xbe xrb xfO xeO xic ypa)) {post : Int32 → Prop} {t n : Nat} (ht : t < 8) (hn : n < N)
    (h5 : (∃ a, a < N ∧ mo_on dp pt n a ∧ xh (t * 31 + a) = 5) → post 5)
    (h3 : (¬ ∃ a, a < N ∧ mo_on dp pt n a ∧ xh (t * 31 + a) = 5) → (∃ a, a < N ∧ mo_on dp pt n a ∧ (xh (t * 31 + a) = 3 ∨ xh (t * 31 + a) = 4)) → post 3)
    (h0 : (¬ ∃ a, a < N ∧ mo_on dp pt n a ∧ xh (t * 31 + a) = 5) → (¬ ∃ a, a < N ∧ mo_on dp pt n a ∧ (xh (t * 31 + a) = 3 ∨ xh (t * 31 + a) = 4)) → post 0) :
    ∀ (d i f : Nat) (b : Int32), i + d = N → d < f → (∀ a, a < i → ¬ (mo_on dp pt n a ∧ xh (t * 31 + a) = 5)) →
      ((b = 3 ∧ ∃ a, a < i ∧ mo_on dp pt n a ∧ (xh (t * 31 + a) = 3 ∨ xh (t * 31 + a) = 4)) ∨ (b = 0 ∧ ¬ ∃ a, a < i ∧ mo_on dp pt n a ∧ (xh (t * 31 + a) = 3 ∨ xh (t * 31 + a) = 4))) →
      wY_access_23 post (nI t) (nI n) xfn xnc xel ynB ynW xco xvi xlv xes ypa xcu xcm xwr xh xst xac xpr ybg ykd xon xoa xgn xgm xwn xwd ywb yld f b (nI i) := by
  have hN := mt_N T
  obtain ⟨q1, q2, q3, q4, q5⟩ := T.1
  intro d
  induction d with
  | zero =>
    intro i f b hi hf n5 hb
    obtain ⟨f, rfl⟩ : ∃ j, f = j + 1 := ⟨f - 1, by omega⟩
    rw [wY_access_23]
    obtain rfl : i = N := by omega
    refine br_t (by rw [q1]; exact nI_le (by omega) (by omega)) ?_
    have no : ¬ ∃ a, a < i ∧ mo_on dp pt n a ∧ xh (t * 31 + a) = 5 := fun ⟨a, a1, a2⟩ => n5 a a1 a2
    rcases hb with ⟨rfl, q⟩ | ⟨rfl, q⟩
    · exact h3 no q
    · exact h0 no q
  | succ d ih =>
    intro i f b hi hf n5 hb
    obtain ⟨f, rfl⟩ : ∃ j, f = j + 1 := ⟨f - 1, by omega⟩
    rw [wY_access_23]
    have n5' : ¬ (mo_on dp pt n i ∧ xh (t * 31 + i) = 5) → ∀ a, a < i + 1 → ¬ (mo_on dp pt n a ∧ xh (t * 31 + a) = 5) := fun z a ha => by
      rcases Nat.lt_or_ge a i with l | l
      · exact n5 a l
      · rw [show a = i by omega]; exact z
    have keep : ¬ (mo_on dp pt n i ∧ xh (t * 31 + i) = 5) → ¬ (mo_on dp pt n i ∧ (xh (t * 31 + i) = 3 ∨ xh (t * 31 + i) = 4)) → wY_access_23 post (nI t) (nI n) xfn xnc xel ynB ynW xco xvi xlv xes ypa xcu xcm xwr xh xst xac xpr ybg ykd xon xoa xgn xgm xwn xwd ywb yld f b (nI (i + 1)) := fun z y => by
      refine ih (i + 1) f b (by omega) (by omega) (n5' z) (hb.elim (fun q => Or.inl ⟨q.1, ?_⟩) (fun q => Or.inr ⟨q.1, ?_⟩))
      · obtain ⟨a, a1, a2⟩ := q.2
        exact ⟨a, by omega, a2⟩
      · rintro ⟨a, a1, a2⟩
        rcases Nat.lt_or_ge a i with l | l
        · exact q.2 ⟨a, l, a2⟩
        · rw [show a = i by omega] at a2; exact y a2
    have j48 : mo_on dp pt n i → wY_access_48 post (wY_access_23 post (nI t) (nI n) xfn xnc xel ynB ynW xco xvi xlv xes ypa xcu xcm xwr xh xst xac xpr ybg ykd xon xoa xgn xgm xwn xwd ywb yld f) (nI t) (nI n) b (nI i) xfn xnc xel ynB ynW xco xvi xlv xes ypa xcu xcm xwr xh xst xac xpr ybg ykd xon xoa xgn xgm xwn xwd ywb yld := fun on => by
      have got : ¬ xh (t * 31 + i) = 5 → (xh (t * 31 + i) = 3 ∨ xh (t * 31 + i) = 4) → wY_access_23 post (nI t) (nI n) xfn xnc xel ynB ynW xco xvi xlv xes ypa xcu xcm xwr xh xst xac xpr ybg ykd xon xoa xgn xgm xwn xwd ywb yld f 3 (nI (i + 1)) := fun z y =>
        ih (i + 1) f 3 (by omega) (by omega) (n5' fun q => z q.2) (Or.inl ⟨rfl, i, by omega, on, y⟩)
      exact ⟨mb_v31 ht (by omega), nm_r (e' := xh (t * 31 + i)) (by rw [mb_c31 ht (by omega)]) (br_c (fun z => h5 ⟨i, by omega, on, z⟩) (fun z => br_c (fun y => nm_r (nI_1 i) (got z (Or.inl y))) (fun y => br_c (fun w => nm_r (nI_1 i) (got z (Or.inr w))) (fun w => nm_r (nI_1 i) (keep (fun q => z q.2) fun q => q.2.elim y w)))))⟩
    refine br_f (by rw [q1]; exact nI_ge (by omega) (by omega)) (br_c (fun z => j48 (Or.inl (mb_inj (by omega) (by omega) z))) (fun z => my_below T hn (by omega) (mb_br (fun nb => nm_r (nI_1 i) ?_) (fun b => j48 (Or.inr b)))))
    have nn : ¬ mo_on dp pt n i := fun q => q.elim (fun e => z (by rw [e])) nb
    exact keep (fun q => nn q.1) fun q => nn q.1
theorem mo_line (T : (mt_T N F dp pt fr er xnc xfn xdO xpA xab xbe xrb xfO xeO xic ypa)) (H : (mi_H N xh xni xhn xho xhb)) {t n m : Nat} (ht : t < 8) (hn : n < N) (m0 : 0 < m) (m6 : m < 6) (a : Nat) : bt (xni (t * 6 + m) &&& (xab n ||| ((1 : Int32) <<< (nI n &&& 31)))) a = true ↔ a < N ∧ mo_on dp pt n a ∧ xh (t * 31 + a) = nI m := by
  have hN := mt_N T
  rw [mb_and, mb_set (by omega), H.2.2.1 t m a ht m0 m6, T.2.2.2.2.1 n a hn]
  constructor
  · rintro ⟨⟨h1, h2⟩, h3 | h3⟩
    · exact ⟨(mt_blN T hn h3).1, Or.inr h3, h2⟩
    · exact ⟨by omega, Or.inl h3, h2⟩
  · rintro ⟨h1, h2 | h2, h3⟩
    · exact ⟨⟨by omega, h3⟩, Or.inr h2⟩
    · exact ⟨⟨by omega, h3⟩, Or.inl h2⟩
end
theorem i_vc_access {k : Nat} {u : SX} {v : SY} (I : i_Rel k u v) (hk : k + 4 ≤ 2052) (v1 : Int32) (v2 : Int32) : wpX_access (fun r => wpY_access (fun r' => r' = r ∧ i_Rel (k + 4) u v) v v1 v2) u v1 v2 := by
  refine zz_el (P := fun u v => wpX_access (fun r => wpY_access (fun r' => r' = r ∧ i_Rel (k + 4) u v) v v1 v2) u v1 v2) ?_ I
  intro N F dp pt fr er nb nw xnc xfn xel xlm xwm xsu xco xvi xlv xes xdO xpA xab xbe xrb xfO xeO xic xcu xcm xwr xst xac xpr xbb xdr xok xon xoa xgn xgm xh xni xhn xho xhb xwn xwd xwf xwt xbk xre ynB ynW ypa ybg ykd ywb yld I hw hb
  have J : i_Rel (k + 4) (xnc, xfn, xel, xlm, xwm, 0, xsu, xco, xvi, xlv, xes, xdO, xpA, xab, xbe, xrb, xfO, xeO, xic, xcu, xcm, xwr, xst, xac, xpr, xbb, xdr, xok, xon, xoa, xgn, xgm, xh, xni, xhn, xho, xhb, xwn, xwd, xwf, xwt, xbk, xre) (xfn, xnc, xel, ynB, ynW, xco, xvi, xlv, xes, ypa, xcu, xcm, xwr, xh, xst, xac, xpr, ybg, ykd, xon, xoa, xgn, xgm, xwn, xwd, ywb, yld) := zz_in I (by omega) (by omega)
  obtain ⟨T, H, Z, W, L, D, B, S, G⟩ := I
  have hN := mt_N T
  obtain ⟨q1, q2, q3, q4, q5⟩ := T.1
  show wpX_access (fun r => wpY_access (fun r' => r' = r ∧ i_Rel (k + 4) (xnc, xfn, xel, xlm, xwm, 0, xsu, xco, xvi, xlv, xes, xdO, xpA, xab, xbe, xrb, xfO, xeO, xic, xcu, xcm, xwr, xst, xac, xpr, xbb, xdr, xok, xon, xoa, xgn, xgm, xh, xni, xhn, xho, xhb, xwn, xwd, xwf, xwt, xbk, xre) (xfn, xnc, xel, ynB, ynW, xco, xvi, xlv, xes, ypa, xcu, xcm, xwr, xh, xst, xac, xpr, ybg, ykd, xon, xoa, xgn, xgm, xwn, xwd, ywb, yld)) (xfn, xnc, xel, ynB, ynW, xco, xvi, xlv, xes, ypa, xcu, xcm, xwr, xh, xst, xac, xpr, ybg, ykd, xon, xoa, xgn, xgm, xwn, xwd, ywb, yld) v1 v2) (xnc, xfn, xel, xlm, xwm, 0, xsu, xco, xvi, xlv, xes, xdO, xpA, xab, xbe, xrb, xfO, xeO, xic, xcu, xcm, xwr, xst, xac, xpr, xbb, xdr, xok, xon, xoa, xgn, xgm, xh, xni, xhn, xho, xhb, xwn, xwd, xwf, xwt, xbk, xre) v1 v2
  unfold wpX_access
  refine mx_isTxn (mb_br (fun z => ?_) (fun z => mx_isNode (mb_br (fun y => ?_) (fun y => ?_))))
  · unfold wpY_access
    exact my_isTxn (mb_br (fun _ => ⟨rfl, J⟩) (fun q => absurd q z))
  · unfold wpY_access
    exact my_isTxn (mb_br (fun q => absurd z q) (fun _ => my_isNode (mb_br (fun _ => ⟨rfl, J⟩) (fun q => absurd q y))))
  · obtain ⟨t, t8, rfl⟩ := mo_txn z
    have y' := y
    rw [q1] at y'
    obtain ⟨n, n8, rfl⟩ := mo_node hN y'
    have fin : ∀ r : Int32, ((∃ a, a < N ∧ mo_on dp pt n a ∧ xh (t * 31 + a) = 5) → 5 = r) → ((¬ ∃ a, a < N ∧ mo_on dp pt n a ∧ xh (t * 31 + a) = 5) → (∃ a, a < N ∧ mo_on dp pt n a ∧ (xh (t * 31 + a) = 3 ∨ xh (t * 31 + a) = 4)) → 3 = r) → ((¬ ∃ a, a < N ∧ mo_on dp pt n a ∧ xh (t * 31 + a) = 5) → (¬ ∃ a, a < N ∧ mo_on dp pt n a ∧ (xh (t * 31 + a) = 3 ∨ xh (t * 31 + a) = 4)) → 0 = r) →
        wpY_access (fun r' => r' = r ∧ i_Rel (k + 4) (xnc, xfn, xel, xlm, xwm, 0, xsu, xco, xvi, xlv, xes, xdO, xpA, xab, xbe, xrb, xfO, xeO, xic, xcu, xcm, xwr, xst, xac, xpr, xbb, xdr, xok, xon, xoa, xgn, xgm, xh, xni, xhn, xho, xhb, xwn, xwd, xwf, xwt, xbk, xre) (xfn, xnc, xel, ynB, ynW, xco, xvi, xlv, xes, ypa, xcu, xcm, xwr, xh, xst, xac, xpr, ybg, ykd, xon, xoa, xgn, xgm, xwn, xwd, ywb, yld)) (xfn, xnc, xel, ynB, ynW, xco, xvi, xlv, xes, ypa, xcu, xcm, xwr, xh, xst, xac, xpr, ybg, ykd, xon, xoa, xgn, xgm, xwn, xwd, ywb, yld) (nI t) (nI n) := by
      intro r h5 h3 h0
      unfold wpY_access
      refine my_isTxn (mb_br (fun q => absurd z q) (fun _ => my_isNode (mb_br (fun q => absurd y q) (fun _ => ⟨N + 1, ?_⟩))))
      exact my_access23 T t8 n8 (fun a => ⟨h5 a, J⟩) (fun a b => ⟨h3 a b, J⟩) (fun a b => ⟨h0 a b, J⟩) N 0 (N + 1) 0 (by omega) (by omega) (fun a ha => by omega) (Or.inr ⟨rfl, fun ⟨a, ha, _⟩ => by omega⟩)
    refine ⟨mb_n31 (by omega), nm_r (e' := xab n ||| ((1 : Int32) <<< (nI n &&& 31))) (by rw [mb_c (by omega)]) (nm_r (mb_m6 t) ⟨mx_v5 t t8, ?_⟩)⟩
    rw [mx_i5 t t8]
    refine br_c (fun w => ⟨mx_v3 t t8, mx_v4 t t8, ?_⟩) (fun w => fin 5 (fun _ => rfl) (fun q => absurd ?_ q) (fun q => absurd ?_ q))
    · rw [mb_eq0] at w
      have n5 : ¬ ∃ a, a < N ∧ mo_on dp pt n a ∧ xh (t * 31 + a) = 5 := fun ⟨a, q⟩ => w a ((mo_line T H t8 n8 (by omega) (by omega) a).mpr q)
      rw [mx_i3 t t8, mx_i4 t t8]
      refine br_c (fun v => fin 0 (fun q => absurd q n5) (fun _ q => ?_) (fun _ _ => rfl)) (fun v => fin 3 (fun q => absurd q n5) (fun _ _ => rfl) (fun _ q => absurd ?_ q))
      · exfalso
        rw [mb_eq0] at v
        obtain ⟨a, a1, a2, a3 | a3⟩ := q
        · have := (mo_line T H t8 n8 (m := 3) (by omega) (by omega) a).mpr ⟨a1, a2, a3⟩
          rw [mb_and] at this
          exact v a ((mb_and a).mpr ⟨(mb_or a).mpr (Or.inl this.1), this.2⟩)
        · have := (mo_line T H t8 n8 (m := 4) (by omega) (by omega) a).mpr ⟨a1, a2, a3⟩
          rw [mb_and] at this
          exact v a ((mb_and a).mpr ⟨(mb_or a).mpr (Or.inr this.1), this.2⟩)
      · obtain ⟨a, ha⟩ := mb_ne0.mp v
        rw [mb_and, mb_or] at ha
        rcases ha.1 with q | q
        · obtain ⟨a1, a2, a3⟩ := (mo_line T H t8 n8 (m := 3) (by omega) (by omega) a).mp ((mb_and a).mpr ⟨q, ha.2⟩)
          exact ⟨a, a1, a2, Or.inl a3⟩
        · obtain ⟨a1, a2, a3⟩ := (mo_line T H t8 n8 (m := 4) (by omega) (by omega) a).mp ((mb_and a).mpr ⟨q, ha.2⟩)
          exact ⟨a, a1, a2, Or.inr a3⟩
    all_goals
      obtain ⟨a, ha⟩ := mb_ne0.mp w
      exact ⟨a, (mo_line T H t8 n8 (m := 5) (by omega) (by omega) a).mp ha⟩
theorem i_vc_waitsFor {k : Nat} {u : SX} {v : SY} (I : i_Rel k u v) (hk : k + 4 ≤ 2052) (v1 : Int32) (v2 : Int32) : wpX_waitsFor (fun r => wpY_waitsFor (fun r' => r' = r ∧ i_Rel (k + 4) u v) v v1 v2) u v1 v2 := by
  refine zz_el (P := fun u v => wpX_waitsFor (fun r => wpY_waitsFor (fun r' => r' = r ∧ i_Rel (k + 4) u v) v v1 v2) u v1 v2) ?_ I
  intro N F dp pt fr er nb nw xnc xfn xel xlm xwm xsu xco xvi xlv xes xdO xpA xab xbe xrb xfO xeO xic xcu xcm xwr xst xac xpr xbb xdr xok xon xoa xgn xgm xh xni xhn xho xhb xwn xwd xwf xwt xbk xre ynB ynW ypa ybg ykd ywb yld I hw hb
  have J : i_Rel (k + 4) (xnc, xfn, xel, xlm, xwm, 0, xsu, xco, xvi, xlv, xes, xdO, xpA, xab, xbe, xrb, xfO, xeO, xic, xcu, xcm, xwr, xst, xac, xpr, xbb, xdr, xok, xon, xoa, xgn, xgm, xh, xni, xhn, xho, xhb, xwn, xwd, xwf, xwt, xbk, xre) (xfn, xnc, xel, ynB, ynW, xco, xvi, xlv, xes, ypa, xcu, xcm, xwr, xh, xst, xac, xpr, ybg, ykd, xon, xoa, xgn, xgm, xwn, xwd, ywb, yld) := zz_in I (by omega) (by omega)
  obtain ⟨T, H, Z, W, L, D, B, S, G⟩ := I
  have hN := mt_N T
  obtain ⟨q1, q2, q3, q4, q5⟩ := T.1
  show wpX_waitsFor (fun r => wpY_waitsFor (fun r' => r' = r ∧ i_Rel (k + 4) (xnc, xfn, xel, xlm, xwm, 0, xsu, xco, xvi, xlv, xes, xdO, xpA, xab, xbe, xrb, xfO, xeO, xic, xcu, xcm, xwr, xst, xac, xpr, xbb, xdr, xok, xon, xoa, xgn, xgm, xh, xni, xhn, xho, xhb, xwn, xwd, xwf, xwt, xbk, xre) (xfn, xnc, xel, ynB, ynW, xco, xvi, xlv, xes, ypa, xcu, xcm, xwr, xh, xst, xac, xpr, ybg, ykd, xon, xoa, xgn, xgm, xwn, xwd, ywb, yld)) (xfn, xnc, xel, ynB, ynW, xco, xvi, xlv, xes, ypa, xcu, xcm, xwr, xh, xst, xac, xpr, ybg, ykd, xon, xoa, xgn, xgm, xwn, xwd, ywb, yld) v1 v2) (xnc, xfn, xel, xlm, xwm, 0, xsu, xco, xvi, xlv, xes, xdO, xpA, xab, xbe, xrb, xfO, xeO, xic, xcu, xcm, xwr, xst, xac, xpr, xbb, xdr, xok, xon, xoa, xgn, xgm, xh, xni, xhn, xho, xhb, xwn, xwd, xwf, xwt, xbk, xre) v1 v2
  unfold wpX_waitsFor
  refine mx_isTxn (mb_br (fun z => ?_) (fun z => mx_isTxn (mb_br (fun y => ?_) (fun y => ?_))))
  · unfold wpY_waitsFor
    exact my_isTxn (mb_br (fun _ => ⟨rfl, J⟩) (fun q => absurd q z))
  · unfold wpY_waitsFor
    exact my_isTxn (mb_br (fun q => absurd z q) (fun _ => my_isTxn (mb_br (fun _ => ⟨rfl, J⟩) (fun q => absurd q y))))
  · obtain ⟨t, t8, rfl⟩ := mo_txn z
    obtain ⟨u, u8, rfl⟩ := mo_txn y
    have ct : (nI t).toNatClampNeg = t := mb_c (by omega)
    refine br_c (fun e => my_waitsFor T Z W t8 u8 ⟨mb_f fun q => ?_, J⟩) (fun e => ⟨mb_v8 t8, ?_⟩)
    · obtain ⟨_, a, _, _, k⟩ := q
      exact k.1 (mb_inj (by omega) (by omega) e)
    · rw [ct]
      refine br_c (fun s2 => ⟨mb_v8 t8, ?_⟩) (fun s2 => my_waitsFor T Z W t8 u8 ⟨mb_f fun q => s2 q.1, J⟩)
      obtain ⟨⟨a, ha, ea⟩, _⟩ := W.2.2.1 t t8 s2
      have fresh := (B.2 t a t8 (by omega) s2 ea).resolve_left (by rw [b_0]; decide)
      refine br_c (fun w => my_waitsFor T Z W t8 u8 ⟨mb_f fun q => ?_, J⟩) (fun w => my_waitsFor T Z W t8 u8 ⟨mb_t ?_, J⟩)
      · rw [mb_and0 (by omega), mb_bf, fresh u] at w
        obtain ⟨_, b, hb, eb, k⟩ := q
        rw [ea] at eb
        have := mb_inj (by omega) (by omega) eb
        subst this
        exact w ⟨u8, k⟩
      · rw [mb_and1 (by omega), fresh u] at w
        exact ⟨s2, a, ha, ea, w.2⟩
section
variable {N F : Nat} {dp : Nat → Nat} {pt : Nat → Nat → Nat} {fr er : Nat → Nat} {nb nw : Nat} {xnc xfn xel xlm xwm xtc xsu xco xvi xlv xes : Int32} {xdO xpA xab xbe xrb xfO xeO xic xcu xcm xwr xst xac xpr xbb xdr xok xon xoa xgn xgm xh xni xhn xho xhb xwn xwd xwf xwt xbk xre : Nat → Int32} {ynB ynW : Int64} {ypa : Nat → Int32} {ybg : Nat → Int64} {ykd : Nat → Int32} {ywb : Nat → Int64} {yld : Nat → Int32}
theorem my_rank (W : (mi_W N nw xwm xst xwn xwd xwf xwt ynW ywb)) {post : Int32 → Prop} {t : Nat} (t8 : t < 8) (s2 : xst t = 2) (h : post (nI (mb_cn (bt (xwf t)) 8))) :
    ∀ (d i n : Nat), i + d = 8 → d < n → wY_pending_117 post (nI t) xfn xnc xel ynB ynW xco xvi xlv xes ypa xcu xcm xwr xh xst xac xpr ybg ykd xon xoa xgn xgm xwn xwd ywb yld n (nI (mb_cn (bt (xwf t)) i)) (nI i) := by
  have ct : (nI t).toNatClampNeg = t := mb_c (by omega)
  have bb := (W.2.2.1 t t8 s2).2.2.2
  intro d
  induction d with
  | zero =>
    intro i n hi hn
    obtain ⟨n, rfl⟩ : ∃ j, n = j + 1 := ⟨n - 1, by omega⟩
    rw [wY_pending_117]
    obtain rfl : i = 8 := by omega
    exact br_t (nI_le (a := 8) (by omega) (by omega)) h
  | succ d ih =>
    intro i n hi hn
    obtain ⟨n, rfl⟩ : ∃ j, n = j + 1 := ⟨n - 1, by omega⟩
    rw [wY_pending_117]
    have nx := ih (i + 1) n (by omega) (by omega)
    refine br_f (nI_ge (b := 8) (by omega) (by decide)) ⟨mb_v8 (by omega), ?_⟩
    rw [ct, mb_c (t := i) (by omega)]
    refine br_c (fun si => ⟨mb_v8 (by omega), mb_v8 t8, br_c (fun le => nm_r (nI_1 i) ?_) (fun le => nm_r (nI_1 _) (nm_r (nI_1 i) ?_))⟩) (fun si => nm_r (nI_1 i) ?_)
    · rw [mb_cn_s0 (p := bt (xwf t)) (n := i) fun q => Int64.not_le.mpr ((bb i).mp q).2.2 le] at nx
      exact nx
    · rw [mb_cn_s1 (p := bt (xwf t)) (n := i) ((bb i).mpr ⟨by omega, si, Int64.not_le.mp le⟩)] at nx
      exact nx
    · rw [mb_cn_s0 (p := bt (xwf t)) (n := i) fun q => si ((bb i).mp q).2.1] at nx
      exact nx
end
theorem i_vc_pending {k : Nat} {u : SX} {v : SY} (I : i_Rel k u v) (hk : k + 4 ≤ 2052) (v1 : Int32) (v2 : Int32) : wpX_pending (fun r => wpY_pending (fun r' => r' = r ∧ i_Rel (k + 4) u v) v v1 v2) u v1 v2 := by
  refine zz_el (P := fun u v => wpX_pending (fun r => wpY_pending (fun r' => r' = r ∧ i_Rel (k + 4) u v) v v1 v2) u v1 v2) ?_ I
  intro N F dp pt fr er nb nw xnc xfn xel xlm xwm xsu xco xvi xlv xes xdO xpA xab xbe xrb xfO xeO xic xcu xcm xwr xst xac xpr xbb xdr xok xon xoa xgn xgm xh xni xhn xho xhb xwn xwd xwf xwt xbk xre ynB ynW ypa ybg ykd ywb yld I hw hb
  have J : i_Rel (k + 4) (xnc, xfn, xel, xlm, xwm, 0, xsu, xco, xvi, xlv, xes, xdO, xpA, xab, xbe, xrb, xfO, xeO, xic, xcu, xcm, xwr, xst, xac, xpr, xbb, xdr, xok, xon, xoa, xgn, xgm, xh, xni, xhn, xho, xhb, xwn, xwd, xwf, xwt, xbk, xre) (xfn, xnc, xel, ynB, ynW, xco, xvi, xlv, xes, ypa, xcu, xcm, xwr, xh, xst, xac, xpr, ybg, ykd, xon, xoa, xgn, xgm, xwn, xwd, ywb, yld) := zz_in I (by omega) (by omega)
  obtain ⟨T, H, Z, W, L, D, B, S, G⟩ := I
  have hN := mt_N T
  obtain ⟨q1, q2, q3, q4, q5⟩ := T.1
  show wpX_pending (fun r => wpY_pending (fun r' => r' = r ∧ i_Rel (k + 4) (xnc, xfn, xel, xlm, xwm, 0, xsu, xco, xvi, xlv, xes, xdO, xpA, xab, xbe, xrb, xfO, xeO, xic, xcu, xcm, xwr, xst, xac, xpr, xbb, xdr, xok, xon, xoa, xgn, xgm, xh, xni, xhn, xho, xhb, xwn, xwd, xwf, xwt, xbk, xre) (xfn, xnc, xel, ynB, ynW, xco, xvi, xlv, xes, ypa, xcu, xcm, xwr, xh, xst, xac, xpr, ybg, ykd, xon, xoa, xgn, xgm, xwn, xwd, ywb, yld)) (xfn, xnc, xel, ynB, ynW, xco, xvi, xlv, xes, ypa, xcu, xcm, xwr, xh, xst, xac, xpr, ybg, ykd, xon, xoa, xgn, xgm, xwn, xwd, ywb, yld) v1 v2) (xnc, xfn, xel, xlm, xwm, 0, xsu, xco, xvi, xlv, xes, xdO, xpA, xab, xbe, xrb, xfO, xeO, xic, xcu, xcm, xwr, xst, xac, xpr, xbb, xdr, xok, xon, xoa, xgn, xgm, xh, xni, xhn, xho, xhb, xwn, xwd, xwf, xwt, xbk, xre) v1 v2
  unfold wpX_pending
  refine mx_isTxn (mb_br (fun z => ?_) (fun z => ?_))
  · unfold wpY_pending
    exact my_isTxn (mb_br (fun _ => ⟨rfl, J⟩) (fun q => absurd q z))
  · obtain ⟨t, t8, rfl⟩ := mo_txn z
    have ct : (nI t).toNatClampNeg = t := mb_c (by omega)
    refine ⟨mb_v8 t8, ?_⟩
    rw [ct]
    refine br_c (fun s2 => ?_) (fun s2 => ?_)
    · have Y1 : ∀ r : Int32, (v2 = 0 → ykd t = r) → (v2 = 1 → xon t = r) → (v2 = 2 → xoa t = r) → (v2 = 3 → xgn t = r) → (v2 = 4 → xgm t = r) → (v2 = 5 → xwn t = r) → (v2 = 6 → xwd t = r) → (v2 = 7 → nI (mb_cn (bt (xwf t)) 8) = r) → (¬ v2 = 0 → ¬ v2 = 1 → ¬ v2 = 2 → ¬ v2 = 3 → ¬ v2 = 4 → ¬ v2 = 5 → ¬ v2 = 6 → ¬ v2 = 7 → -1 = r) → wpY_pending (fun r' => r' = r ∧ i_Rel (k + 4) (xnc, xfn, xel, xlm, xwm, 0, xsu, xco, xvi, xlv, xes, xdO, xpA, xab, xbe, xrb, xfO, xeO, xic, xcu, xcm, xwr, xst, xac, xpr, xbb, xdr, xok, xon, xoa, xgn, xgm, xh, xni, xhn, xho, xhb, xwn, xwd, xwf, xwt, xbk, xre) (xfn, xnc, xel, ynB, ynW, xco, xvi, xlv, xes, ypa, xcu, xcm, xwr, xh, xst, xac, xpr, ybg, ykd, xon, xoa, xgn, xgm, xwn, xwd, ywb, yld)) (xfn, xnc, xel, ynB, ynW, xco, xvi, xlv, xes, ypa, xcu, xcm, xwr, xh, xst, xac, xpr, ybg, ykd, xon, xoa, xgn, xgm, xwn, xwd, ywb, yld) (nI t) v2 := by
        intro r c0 c1 c2 c3 c4 c5 c6 c7 cd
        unfold wpY_pending
        refine my_isTxn (mb_br (fun q => absurd z q) (fun _ => ⟨mb_v8 t8, ?_⟩))
        rw [ct]
        exact br_t s2 (br_c (fun e => ⟨mb_v8 t8, c0 e, J⟩) (fun n0 => br_c (fun e => ⟨mb_v8 t8, c1 e, J⟩) (fun n1 => br_c (fun e => ⟨mb_v8 t8, c2 e, J⟩) (fun n2 => br_c (fun e => ⟨mb_v8 t8, c3 e, J⟩) (fun n3 => br_c (fun e => ⟨mb_v8 t8, c4 e, J⟩) (fun n4 => br_c (fun e => ⟨mb_v8 t8, c5 e, J⟩) (fun n5 => br_c (fun e => ⟨mb_v8 t8, c6 e, J⟩) (fun n6 => br_c (fun e => ⟨9, my_rank W t8 s2 ⟨c7 e, J⟩ 8 0 9 (by omega) (by omega)⟩) (fun n7 => ⟨cd n0 n1 n2 n3 n4 n5 n6 n7, J⟩)))))))))
      have out : (v2 < 0 ∨ 7 < v2) → wpY_pending (fun r' => r' = -1 ∧ i_Rel (k + 4) (xnc, xfn, xel, xlm, xwm, 0, xsu, xco, xvi, xlv, xes, xdO, xpA, xab, xbe, xrb, xfO, xeO, xic, xcu, xcm, xwr, xst, xac, xpr, xbb, xdr, xok, xon, xoa, xgn, xgm, xh, xni, xhn, xho, xhb, xwn, xwd, xwf, xwt, xbk, xre) (xfn, xnc, xel, ynB, ynW, xco, xvi, xlv, xes, ypa, xcu, xcm, xwr, xh, xst, xac, xpr, ybg, ykd, xon, xoa, xgn, xgm, xwn, xwd, ywb, yld)) (xfn, xnc, xel, ynB, ynW, xco, xvi, xlv, xes, ypa, xcu, xcm, xwr, xh, xst, xac, xpr, ybg, ykd, xon, xoa, xgn, xgm, xwn, xwd, ywb, yld) (nI t) v2 := fun o => by
        refine Y1 (-1) (fun q => ?_) (fun q => ?_) (fun q => ?_) (fun q => ?_) (fun q => ?_) (fun q => ?_) (fun q => ?_) (fun q => ?_) (fun _ _ _ _ _ _ _ _ => rfl)
        all_goals (rw [q] at o; exact absurd o (by decide))
      have ne : ∀ {a b : Int32}, v2 = a → v2 = b → a = b := fun e1 e2 => e1.symm.trans e2
      have ek : xok t = ykd t := (G t t8 s2).1.1
      have cd : ∀ {a r : Int32}, v2 = a → (a = 0 ∨ a = 1 ∨ a = 2 ∨ a = 3 ∨ a = 4 ∨ a = 5 ∨ a = 6 ∨ a = 7) → ¬ v2 = 0 → ¬ v2 = 1 → ¬ v2 = 2 → ¬ v2 = 3 → ¬ v2 = 4 → ¬ v2 = 5 → ¬ v2 = 6 → ¬ v2 = 7 → -1 = r := by
        intro a r e o n0 n1 n2 n3 n4 n5 n6 n7
        exfalso
        rcases o with q | q | q | q | q | q | q | q <;> rw [q] at e <;> contradiction
      refine br_c (fun o => out (Or.inl o)) (fun _ => br_c (fun o => out (Or.inr o)) (fun _ => br_c (fun e => ⟨mb_v8 t8, Y1 _ (fun _ => ek.symm) (fun q => absurd (ne e q) (by decide)) (fun q => absurd (ne e q) (by decide)) (fun q => absurd (ne e q) (by decide)) (fun q => absurd (ne e q) (by decide)) (fun q => absurd (ne e q) (by decide)) (fun q => absurd (ne e q) (by decide)) (fun q => absurd (ne e q) (by decide)) (cd e (by decide))⟩) (fun _ => br_c (fun e => ⟨mb_v8 t8, Y1 _ (fun q => absurd (ne e q) (by decide)) (fun _ => rfl) (fun q => absurd (ne e q) (by decide)) (fun q => absurd (ne e q) (by decide)) (fun q => absurd (ne e q) (by decide)) (fun q => absurd (ne e q) (by decide)) (fun q => absurd (ne e q) (by decide)) (fun q => absurd (ne e q) (by decide)) (cd e (by decide))⟩) (fun _ => br_c (fun e => ⟨mb_v8 t8, Y1 _ (fun q => absurd (ne e q) (by decide)) (fun q => absurd (ne e q) (by decide)) (fun _ => rfl) (fun q => absurd (ne e q) (by decide)) (fun q => absurd (ne e q) (by decide)) (fun q => absurd (ne e q) (by decide)) (fun q => absurd (ne e q) (by decide)) (fun q => absurd (ne e q) (by decide)) (cd e (by decide))⟩) (fun _ => br_c (fun e => ⟨mb_v8 t8, Y1 _ (fun q => absurd (ne e q) (by decide)) (fun q => absurd (ne e q) (by decide)) (fun q => absurd (ne e q) (by decide)) (fun _ => rfl) (fun q => absurd (ne e q) (by decide)) (fun q => absurd (ne e q) (by decide)) (fun q => absurd (ne e q) (by decide)) (fun q => absurd (ne e q) (by decide)) (cd e (by decide))⟩) (fun _ => br_c (fun e => ⟨mb_v8 t8, Y1 _ (fun q => absurd (ne e q) (by decide)) (fun q => absurd (ne e q) (by decide)) (fun q => absurd (ne e q) (by decide)) (fun q => absurd (ne e q) (by decide)) (fun _ => rfl) (fun q => absurd (ne e q) (by decide)) (fun q => absurd (ne e q) (by decide)) (fun q => absurd (ne e q) (by decide)) (cd e (by decide))⟩) (fun _ => br_c (fun e => ⟨mb_v8 t8, Y1 _ (fun q => absurd (ne e q) (by decide)) (fun q => absurd (ne e q) (by decide)) (fun q => absurd (ne e q) (by decide)) (fun q => absurd (ne e q) (by decide)) (fun q => absurd (ne e q) (by decide)) (fun _ => rfl) (fun q => absurd (ne e q) (by decide)) (fun q => absurd (ne e q) (by decide)) (cd e (by decide))⟩) (fun _ => br_c (fun e => ⟨mb_v8 t8, Y1 _ (fun q => absurd (ne e q) (by decide)) (fun q => absurd (ne e q) (by decide)) (fun q => absurd (ne e q) (by decide)) (fun q => absurd (ne e q) (by decide)) (fun q => absurd (ne e q) (by decide)) (fun q => absurd (ne e q) (by decide)) (fun _ => rfl) (fun q => absurd (ne e q) (by decide)) (cd e (by decide))⟩) (fun _ => br_c (fun e => ⟨mb_v8 t8, mx_bitCount _ ?_⟩) (fun _ => trivial))))))))))
      rw [mo_cn8 fun i q => (((W.2.2.1 t t8 s2).2.2.2 i).mp q).1]
      exact Y1 _ (fun q => absurd (ne e q) (by decide)) (fun q => absurd (ne e q) (by decide)) (fun q => absurd (ne e q) (by decide)) (fun q => absurd (ne e q) (by decide)) (fun q => absurd (ne e q) (by decide)) (fun q => absurd (ne e q) (by decide)) (fun q => absurd (ne e q) (by decide)) (fun _ => rfl) (cd e (by decide))
    · unfold wpY_pending
      refine my_isTxn (mb_br (fun q => absurd z q) (fun _ => ⟨mb_v8 t8, ?_⟩))
      rw [ct]
      exact br_f s2 ⟨rfl, J⟩
end
section
/-! the working calls: what is owed -/
theorem i_vc_read {k : Nat} {u : SX} {v : SY} (I : i_Rel k u v) (hk : k + 4 ≤ 2052) (v1 : Int32) (v2 : Int32) : wpX_read (fun r u' => wpY_read (fun r' v' => r' = r ∧ i_Rel (k + 4) u' v') v v1 v2) u v1 v2 := by
  refine zz_el (P := fun u v => wpX_read (fun r u' => wpY_read (fun r' v' => r' = r ∧ i_Rel (k + 4) u' v') v v1 v2) u v1 v2) ?_ I
  intro N F dp pt fr er nb nw xnc xfn xel xlm xwm xsu xco xvi xlv xes xdO xpA xab xbe xrb xfO xeO xic xcu xcm xwr xst xac xpr xbb xdr xok xon xoa xgn xgm xh xni xhn xho xhb xwn xwd xwf xwt xbk xre ynB ynW ypa ybg ykd ywb yld I hw hb
  have J : i_Rel (k + 4) (xnc, xfn, xel, xlm, xwm, 0, xsu, xco, xvi, xlv, xes, xdO, xpA, xab, xbe, xrb, xfO, xeO, xic, xcu, xcm, xwr, xst, xac, xpr, xbb, xdr, xok, xon, xoa, xgn, xgm, xh, xni, xhn, xho, xhb, xwn, xwd, xwf, xwt, xbk, xre) (xfn, xnc, xel, ynB, ynW, xco, xvi, xlv, xes, ypa, xcu, xcm, xwr, xh, xst, xac, xpr, ybg, ykd, xon, xoa, xgn, xgm, xwn, xwd, ywb, yld) := zz_in I (by omega) (by omega)
  obtain ⟨T, H, Z, W, L, D, B, S, G⟩ := I
  have hN := mt_N T
  obtain ⟨q1, q2, q3, q4, q5⟩ := T.1
  show wpX_read (fun r u' => wpY_read (fun r' v' => r' = r ∧ i_Rel (k + 4) u' v') (xfn, xnc, xel, ynB, ynW, xco, xvi, xlv, xes, ypa, xcu, xcm, xwr, xh, xst, xac, xpr, ybg, ykd, xon, xoa, xgn, xgm, xwn, xwd, ywb, yld) v1 v2) (xnc, xfn, xel, xlm, xwm, 0, xsu, xco, xvi, xlv, xes, xdO, xpA, xab, xbe, xrb, xfO, xeO, xic, xcu, xcm, xwr, xst, xac, xpr, xbb, xdr, xok, xon, xoa, xgn, xgm, xh, xni, xhn, xho, xhb, xwn, xwd, xwf, xwt, xbk, xre) v1 v2
  rcases mo_ref (xtc := 0) T v1 v2 with ⟨r, r0, r1, hX, hY⟩ | ⟨t, o, t8, oN, rfl, rfl, s1, hX, hY⟩
  · unfold wpX_read
    refine hX _ (br_f r0 ?_)
    unfold wpY_read wpY_run
    exact hY _ (br_f r1 ⟨rfl, J⟩)
  · unfold wpX_read
    refine hX _ (br_t rfl (mo_submit ⟨T, H, Z, W, L, D, B, S, G⟩ (by omega) t8 oN s1 ⟨3, by omega, by omega, rfl⟩ hY ?_))
    intro r xlm' xwm' xsu' xvi' xlv' xcu' xwr' xst' xac' xbb' xdr' xok' xh' xni' xhn' xho' xhb' xwn' xwd' xwf' xwt' xbk' xre' ynW' ywb' nw' xon' xoa' xgn' xgm' xes' ykd' I' le' C'
    unfold wpY_read
    exact C' _ fun ld => ⟨rfl, zz_in I' (by omega) (by omega)⟩
theorem i_vc_write {k : Nat} {u : SX} {v : SY} (I : i_Rel k u v) (hk : k + 4 ≤ 2052) (v1 : Int32) (v2 : Int32) (v3 : Int32) : wpX_write (fun r u' => wpY_write (fun r' v' => r' = r ∧ i_Rel (k + 4) u' v') v v1 v2 v3) u v1 v2 v3 := by
  refine zz_el (P := fun u v => wpX_write (fun r u' => wpY_write (fun r' v' => r' = r ∧ i_Rel (k + 4) u' v') v v1 v2 v3) u v1 v2 v3) ?_ I
  intro N F dp pt fr er nb nw xnc xfn xel xlm xwm xsu xco xvi xlv xes xdO xpA xab xbe xrb xfO xeO xic xcu xcm xwr xst xac xpr xbb xdr xok xon xoa xgn xgm xh xni xhn xho xhb xwn xwd xwf xwt xbk xre ynB ynW ypa ybg ykd ywb yld I hw hb
  have J : i_Rel (k + 4) (xnc, xfn, xel, xlm, xwm, 0, xsu, xco, xvi, xlv, xes, xdO, xpA, xab, xbe, xrb, xfO, xeO, xic, xcu, xcm, xwr, xst, xac, xpr, xbb, xdr, xok, xon, xoa, xgn, xgm, xh, xni, xhn, xho, xhb, xwn, xwd, xwf, xwt, xbk, xre) (xfn, xnc, xel, ynB, ynW, xco, xvi, xlv, xes, ypa, xcu, xcm, xwr, xh, xst, xac, xpr, ybg, ykd, xon, xoa, xgn, xgm, xwn, xwd, ywb, yld) := zz_in I (by omega) (by omega)
  obtain ⟨T, H, Z, W, L, D, B, S, G⟩ := I
  have hN := mt_N T
  obtain ⟨q1, q2, q3, q4, q5⟩ := T.1
  show wpX_write (fun r u' => wpY_write (fun r' v' => r' = r ∧ i_Rel (k + 4) u' v') (xfn, xnc, xel, ynB, ynW, xco, xvi, xlv, xes, ypa, xcu, xcm, xwr, xh, xst, xac, xpr, ybg, ykd, xon, xoa, xgn, xgm, xwn, xwd, ywb, yld) v1 v2 v3) (xnc, xfn, xel, xlm, xwm, 0, xsu, xco, xvi, xlv, xes, xdO, xpA, xab, xbe, xrb, xfO, xeO, xic, xcu, xcm, xwr, xst, xac, xpr, xbb, xdr, xok, xon, xoa, xgn, xgm, xh, xni, xhn, xho, xhb, xwn, xwd, xwf, xwt, xbk, xre) v1 v2 v3
  rcases mo_ref (xtc := 0) T v1 v2 with ⟨r, r0, r1, hX, hY⟩ | ⟨t, o, t8, oN, rfl, rfl, s1, hX, hY⟩
  · unfold wpX_write
    refine hX _ (br_f r0 ?_)
    unfold wpY_write wpY_run
    exact hY _ (br_f r1 ⟨rfl, J⟩)
  · unfold wpX_write
    refine hX _ (br_t rfl (mo_submit ⟨T, H, Z, W, L, D, B, S, G⟩ (by omega) t8 oN s1 ⟨5, by omega, by omega, rfl⟩ hY ?_))
    intro r xlm' xwm' xsu' xvi' xlv' xcu' xwr' xst' xac' xbb' xdr' xok' xh' xni' xhn' xho' xhb' xwn' xwd' xwf' xwt' xbk' xre' ynW' ywb' nw' xon' xoa' xgn' xgm' xes' ykd' I' le' C'
    unfold wpY_write
    exact C' _ fun ld => ⟨rfl, zz_in I' (by omega) (by omega)⟩
theorem i_vc_post {k : Nat} {u : SX} {v : SY} (I : i_Rel k u v) (hk : k + 4 ≤ 2052) (v1 : Int32) (v2 : Int32) (v3 : Int32) : wpX_post (fun r u' => wpY_post (fun r' v' => r' = r ∧ i_Rel (k + 4) u' v') v v1 v2 v3) u v1 v2 v3 := by
  refine zz_el (P := fun u v => wpX_post (fun r u' => wpY_post (fun r' v' => r' = r ∧ i_Rel (k + 4) u' v') v v1 v2 v3) u v1 v2 v3) ?_ I
  intro N F dp pt fr er nb nw xnc xfn xel xlm xwm xsu xco xvi xlv xes xdO xpA xab xbe xrb xfO xeO xic xcu xcm xwr xst xac xpr xbb xdr xok xon xoa xgn xgm xh xni xhn xho xhb xwn xwd xwf xwt xbk xre ynB ynW ypa ybg ykd ywb yld I hw hb
  have J : i_Rel (k + 4) (xnc, xfn, xel, xlm, xwm, 0, xsu, xco, xvi, xlv, xes, xdO, xpA, xab, xbe, xrb, xfO, xeO, xic, xcu, xcm, xwr, xst, xac, xpr, xbb, xdr, xok, xon, xoa, xgn, xgm, xh, xni, xhn, xho, xhb, xwn, xwd, xwf, xwt, xbk, xre) (xfn, xnc, xel, ynB, ynW, xco, xvi, xlv, xes, ypa, xcu, xcm, xwr, xh, xst, xac, xpr, ybg, ykd, xon, xoa, xgn, xgm, xwn, xwd, ywb, yld) := zz_in I (by omega) (by omega)
  obtain ⟨T, H, Z, W, L, D, B, S, G⟩ := I
  have hN := mt_N T
  obtain ⟨q1, q2, q3, q4, q5⟩ := T.1
  show wpX_post (fun r u' => wpY_post (fun r' v' => r' = r ∧ i_Rel (k + 4) u' v') (xfn, xnc, xel, ynB, ynW, xco, xvi, xlv, xes, ypa, xcu, xcm, xwr, xh, xst, xac, xpr, ybg, ykd, xon, xoa, xgn, xgm, xwn, xwd, ywb, yld) v1 v2 v3) (xnc, xfn, xel, xlm, xwm, 0, xsu, xco, xvi, xlv, xes, xdO, xpA, xab, xbe, xrb, xfO, xeO, xic, xcu, xcm, xwr, xst, xac, xpr, xbb, xdr, xok, xon, xoa, xgn, xgm, xh, xni, xhn, xho, xhb, xwn, xwd, xwf, xwt, xbk, xre) v1 v2 v3
  rcases mo_ref (xtc := 0) T v1 v2 with ⟨r, r0, r1, hX, hY⟩ | ⟨t, o, t8, oN, rfl, rfl, s1, hX, hY⟩
  · unfold wpX_post
    refine hX _ (br_f r0 ?_)
    unfold wpY_post wpY_run
    exact hY _ (br_f r1 ⟨rfl, J⟩)
  · unfold wpX_post
    refine hX _ (br_t rfl (mo_submit ⟨T, H, Z, W, L, D, B, S, G⟩ (by omega) t8 oN s1 ⟨5, by omega, by omega, rfl⟩ hY ?_))
    intro r xlm' xwm' xsu' xvi' xlv' xcu' xwr' xst' xac' xbb' xdr' xok' xh' xni' xhn' xho' xhb' xwn' xwd' xwf' xwt' xbk' xre' ynW' ywb' nw' xon' xoa' xgn' xgm' xes' ykd' I' le' C'
    unfold wpY_post
    exact C' _ fun ld => ⟨rfl, zz_in I' (by omega) (by omega)⟩
theorem i_vc_add {k : Nat} {u : SX} {v : SY} (I : i_Rel k u v) (hk : k + 4 ≤ 2052) (v1 : Int32) (v2 : Int32) (v3 : Int32) : wpX_add (fun r u' => wpY_add (fun r' v' => r' = r ∧ i_Rel (k + 4) u' v') v v1 v2 v3) u v1 v2 v3 := by
  refine zz_el (P := fun u v => wpX_add (fun r u' => wpY_add (fun r' v' => r' = r ∧ i_Rel (k + 4) u' v') v v1 v2 v3) u v1 v2 v3) ?_ I
  intro N F dp pt fr er nb nw xnc xfn xel xlm xwm xsu xco xvi xlv xes xdO xpA xab xbe xrb xfO xeO xic xcu xcm xwr xst xac xpr xbb xdr xok xon xoa xgn xgm xh xni xhn xho xhb xwn xwd xwf xwt xbk xre ynB ynW ypa ybg ykd ywb yld I hw hb
  have J : i_Rel (k + 4) (xnc, xfn, xel, xlm, xwm, 0, xsu, xco, xvi, xlv, xes, xdO, xpA, xab, xbe, xrb, xfO, xeO, xic, xcu, xcm, xwr, xst, xac, xpr, xbb, xdr, xok, xon, xoa, xgn, xgm, xh, xni, xhn, xho, xhb, xwn, xwd, xwf, xwt, xbk, xre) (xfn, xnc, xel, ynB, ynW, xco, xvi, xlv, xes, ypa, xcu, xcm, xwr, xh, xst, xac, xpr, ybg, ykd, xon, xoa, xgn, xgm, xwn, xwd, ywb, yld) := zz_in I (by omega) (by omega)
  obtain ⟨T, H, Z, W, L, D, B, S, G⟩ := I
  have hN := mt_N T
  obtain ⟨q1, q2, q3, q4, q5⟩ := T.1
  show wpX_add (fun r u' => wpY_add (fun r' v' => r' = r ∧ i_Rel (k + 4) u' v') (xfn, xnc, xel, ynB, ynW, xco, xvi, xlv, xes, ypa, xcu, xcm, xwr, xh, xst, xac, xpr, ybg, ykd, xon, xoa, xgn, xgm, xwn, xwd, ywb, yld) v1 v2 v3) (xnc, xfn, xel, xlm, xwm, 0, xsu, xco, xvi, xlv, xes, xdO, xpA, xab, xbe, xrb, xfO, xeO, xic, xcu, xcm, xwr, xst, xac, xpr, xbb, xdr, xok, xon, xoa, xgn, xgm, xh, xni, xhn, xho, xhb, xwn, xwd, xwf, xwt, xbk, xre) v1 v2 v3
  rcases mo_ref (xtc := 0) T v1 v2 with ⟨r, r0, r1, hX, hY⟩ | ⟨t, o, t8, oN, rfl, rfl, s1, hX, hY⟩
  · unfold wpX_add
    refine hX _ (br_f r0 ?_)
    unfold wpY_add wpY_run
    exact hY _ (br_f r1 ⟨rfl, J⟩)
  · unfold wpX_add
    refine hX _ (br_t rfl (mo_submit ⟨T, H, Z, W, L, D, B, S, G⟩ (by omega) t8 oN s1 ⟨5, by omega, by omega, rfl⟩ hY ?_))
    intro r xlm' xwm' xsu' xvi' xlv' xcu' xwr' xst' xac' xbb' xdr' xok' xh' xni' xhn' xho' xhb' xwn' xwd' xwf' xwt' xbk' xre' ynW' ywb' nw' xon' xoa' xgn' xgm' xes' ykd' I' le' C'
    unfold wpY_add
    exact C' _ fun ld => ⟨rfl, zz_in I' (by omega) (by omega)⟩
theorem i_vc_lock {k : Nat} {u : SX} {v : SY} (I : i_Rel k u v) (hk : k + 4 ≤ 2052) (v1 : Int32) (v2 : Int32) (v3 : Int32) : wpX_lock (fun r u' => wpY_lock (fun r' v' => r' = r ∧ i_Rel (k + 4) u' v') v v1 v2 v3) u v1 v2 v3 := by
  refine zz_el (P := fun u v => wpX_lock (fun r u' => wpY_lock (fun r' v' => r' = r ∧ i_Rel (k + 4) u' v') v v1 v2 v3) u v1 v2 v3) ?_ I
  intro N F dp pt fr er nb nw xnc xfn xel xlm xwm xsu xco xvi xlv xes xdO xpA xab xbe xrb xfO xeO xic xcu xcm xwr xst xac xpr xbb xdr xok xon xoa xgn xgm xh xni xhn xho xhb xwn xwd xwf xwt xbk xre ynB ynW ypa ybg ykd ywb yld I hw hb
  have J : i_Rel (k + 4) (xnc, xfn, xel, xlm, xwm, 0, xsu, xco, xvi, xlv, xes, xdO, xpA, xab, xbe, xrb, xfO, xeO, xic, xcu, xcm, xwr, xst, xac, xpr, xbb, xdr, xok, xon, xoa, xgn, xgm, xh, xni, xhn, xho, xhb, xwn, xwd, xwf, xwt, xbk, xre) (xfn, xnc, xel, ynB, ynW, xco, xvi, xlv, xes, ypa, xcu, xcm, xwr, xh, xst, xac, xpr, ybg, ykd, xon, xoa, xgn, xgm, xwn, xwd, ywb, yld) := zz_in I (by omega) (by omega)
  obtain ⟨T, H, Z, W, L, D, B, S, G⟩ := I
  have hN := mt_N T
  obtain ⟨q1, q2, q3, q4, q5⟩ := T.1
  show wpX_lock (fun r u' => wpY_lock (fun r' v' => r' = r ∧ i_Rel (k + 4) u' v') (xfn, xnc, xel, ynB, ynW, xco, xvi, xlv, xes, ypa, xcu, xcm, xwr, xh, xst, xac, xpr, ybg, ykd, xon, xoa, xgn, xgm, xwn, xwd, ywb, yld) v1 v2 v3) (xnc, xfn, xel, xlm, xwm, 0, xsu, xco, xvi, xlv, xes, xdO, xpA, xab, xbe, xrb, xfO, xeO, xic, xcu, xcm, xwr, xst, xac, xpr, xbb, xdr, xok, xon, xoa, xgn, xgm, xh, xni, xhn, xho, xhb, xwn, xwd, xwf, xwt, xbk, xre) v1 v2 v3
  rcases mo_ref (xtc := 0) T v1 v2 with ⟨r, r0, r1, hX, hY⟩ | ⟨t, o, t8, oN, rfl, rfl, s1, hX, hY⟩
  · unfold wpX_lock
    refine hX _ (br_f r0 ?_)
    unfold wpY_lock
    exact hY _ (br_f r1 ⟨rfl, J⟩)
  · have bad : (v3 < 1 ∨ 5 < v3 ∨ (¬ nI o < xfn ∧ ¬ v3 = 3 ∧ ¬ v3 = 5)) → wpY_lock (fun r' v' => r' = 13 ∧ i_Rel (k + 4) (xnc, xfn, xel, xlm, xwm, 0, xsu, xco, xvi, xlv, xes, xdO, xpA, xab, xbe, xrb, xfO, xeO, xic, xcu, xcm, xwr, xst, xac, xpr, xbb, xdr, xok, xon, xoa, xgn, xgm, xh, xni, xhn, xho, xhb, xwn, xwd, xwf, xwt, xbk, xre) v') (xfn, xnc, xel, ynB, ynW, xco, xvi, xlv, xes, ypa, xcu, xcm, xwr, xh, xst, xac, xpr, ybg, ykd, xon, xoa, xgn, xgm, xwn, xwd, ywb, yld) (nI t) (nI o) v3 := fun q => by
      unfold wpY_lock
      refine hY _ (br_t rfl (br_c (fun _ => ⟨rfl, J⟩) (fun a1 => br_c (fun _ => ⟨rfl, J⟩) (fun a2 => ?_))))
      obtain ⟨n1, n2, n3⟩ := (q.resolve_left a1).resolve_left a2
      refine my_isRow (mb_br (fun nr => absurd ⟨n1, ?_⟩ nr) (fun _ => br_f n2 (br_f n3 ⟨rfl, J⟩)))
      rw [q1]; exact nI_ge oN (by omega)
    have good : ¬ v3 < 1 → v3 ≤ 5 → (nI o < xfn ∨ v3 = 3 ∨ v3 = 5) → wX_lock_50 (fun r u' => wpY_lock (fun r' v' => r' = r ∧ i_Rel (k + 4) u' v') (xfn, xnc, xel, ynB, ynW, xco, xvi, xlv, xes, ypa, xcu, xcm, xwr, xh, xst, xac, xpr, ybg, ykd, xon, xoa, xgn, xgm, xwn, xwd, ywb, yld) (nI t) (nI o) v3) (nI t) (nI o) v3 xnc xfn xel xlm xwm 0 xsu xco xvi xlv xes xdO xpA xab xbe xrb xfO xeO xic xcu xcm xwr xst xac xpr xbb xdr xok xon xoa xgn xgm xh xni xhn xho xhb xwn xwd xwf xwt xbk xre := fun a1 a2 a3 => by
      have m1 : mm_m1 v3 := by
        obtain ⟨j, hj, e⟩ := nI_of2 (x := v3) (M := 5) (n := 5) (by decide) (fun z => a1 (by
          rw [Int32.lt_iff_toInt_lt, show (0 : Int32).toInt = 0 by decide] at z
          rw [Int32.lt_iff_toInt_lt, show (1 : Int32).toInt = 1 by decide]
          omega)) a2
        refine ⟨j, ?_, by omega, e⟩
        rcases Nat.eq_zero_or_pos j with z | z
        · rw [e, z] at a1; exact absurd (by decide) a1
        · exact z
      unfold wX_lock_50
      refine mo_submit ⟨T, H, Z, W, L, D, B, S, G⟩ (by omega) t8 oN s1 m1 hY ?_
      intro r xlm' xwm' xsu' xvi' xlv' xcu' xwr' xst' xac' xbb' xdr' xok' xh' xni' xhn' xho' xhb' xwn' xwd' xwf' xwt' xbk' xre' ynW' ywb' nw' xon' xoa' xgn' xgm' xes' ykd' I' le' C'
      have C1 : wY_lock_48 (fun r' v' => r' = r ∧ i_Rel (k + 4) (xnc, xfn, xel, xlm', xwm', 0, xsu', xco, xvi', xlv', xes', xdO, xpA, xab, xbe, xrb, xfO, xeO, xic, xcu', xcm, xwr', xst', xac', xpr, xbb', xdr', xok', xon', xoa', xgn', xgm', xh', xni', xhn', xho', xhb', xwn', xwd', xwf', xwt', xbk', xre') v') (nI t) (nI o) v3 xfn xnc xel ynB ynW xco xvi xlv xes ypa xcu xcm xwr xh xst xac xpr ybg ykd xon xoa xgn xgm xwn xwd ywb yld := by
        unfold wY_lock_48
        exact C' _ fun ld => ⟨rfl, zz_in I' (by omega) (by omega)⟩
      show wpY_lock (fun r' v' => r' = r ∧ i_Rel (k + 4) (xnc, xfn, xel, xlm', xwm', 0, xsu', xco, xvi', xlv', xes', xdO, xpA, xab, xbe, xrb, xfO, xeO, xic, xcu', xcm, xwr', xst', xac', xpr, xbb', xdr', xok', xon', xoa', xgn', xgm', xh', xni', xhn', xho', xhb', xwn', xwd', xwf', xwt', xbk', xre') v') (xfn, xnc, xel, ynB, ynW, xco, xvi, xlv, xes, ypa, xcu, xcm, xwr, xh, xst, xac, xpr, ybg, ykd, xon, xoa, xgn, xgm, xwn, xwd, ywb, yld) (nI t) (nI o) v3
      unfold wpY_lock
      refine hY _ (br_t rfl (br_f a1 (br_f (Int32.not_lt.mpr a2) (my_isRow (mb_br (fun _ => C1) (fun ir => ?_))))))
      rcases a3 with q | q | q
      · exact absurd q ir.1
      · exact br_t q C1
      · exact br_c (fun _ => C1) (fun _ => br_t q C1)
    unfold wpX_lock
    exact hX _ (br_t rfl (br_c (fun a1 => bad (Or.inl a1)) (fun a1 => br_c (fun a2 => br_c (fun a3 => good a1 a2 (Or.inl a3)) (fun n1 => br_c (fun a3 => good a1 a2 (Or.inr (Or.inl a3))) (fun n2 => br_c (fun a3 => good a1 a2 (Or.inr (Or.inr a3))) (fun n3 => bad (Or.inr (Or.inr ⟨n1, n2, n3⟩)))))) (fun a2 => bad (Or.inr (Or.inl (Int32.not_le.mp a2)))))))
theorem i_vc_begin {k : Nat} {u : SX} {v : SY} (I : i_Rel k u v) (hk : k + 4 ≤ 2052) (v1 : Int32) (v2 : Int32) : wpX_begin (fun r u' => wpY_begin (fun r' v' => r' = r ∧ i_Rel (k + 4) u' v') v v1 v2) u v1 v2 := by
  refine zz_el (P := fun u v => wpX_begin (fun r u' => wpY_begin (fun r' v' => r' = r ∧ i_Rel (k + 4) u' v') v v1 v2) u v1 v2) ?_ I
  intro N F dp pt fr er nb nw xnc xfn xel xlm xwm xsu xco xvi xlv xes xdO xpA xab xbe xrb xfO xeO xic xcu xcm xwr xst xac xpr xbb xdr xok xon xoa xgn xgm xh xni xhn xho xhb xwn xwd xwf xwt xbk xre ynB ynW ypa ybg ykd ywb yld I hw hb
  have J : i_Rel (k + 4) (xnc, xfn, xel, xlm, xwm, 0, xsu, xco, xvi, xlv, xes, xdO, xpA, xab, xbe, xrb, xfO, xeO, xic, xcu, xcm, xwr, xst, xac, xpr, xbb, xdr, xok, xon, xoa, xgn, xgm, xh, xni, xhn, xho, xhb, xwn, xwd, xwf, xwt, xbk, xre) (xfn, xnc, xel, ynB, ynW, xco, xvi, xlv, xes, ypa, xcu, xcm, xwr, xh, xst, xac, xpr, ybg, ykd, xon, xoa, xgn, xgm, xwn, xwd, ywb, yld) := zz_in I (by omega) (by omega)
  obtain ⟨T, H, Z, W, L, D, B, S, G⟩ := I
  have hN := mt_N T
  obtain ⟨q1, q2, q3, q4, q5⟩ := T.1
  show wpX_begin (fun r u' => wpY_begin (fun r' v' => r' = r ∧ i_Rel (k + 4) u' v') (xfn, xnc, xel, ynB, ynW, xco, xvi, xlv, xes, ypa, xcu, xcm, xwr, xh, xst, xac, xpr, ybg, ykd, xon, xoa, xgn, xgm, xwn, xwd, ywb, yld) v1 v2) (xnc, xfn, xel, xlm, xwm, 0, xsu, xco, xvi, xlv, xes, xdO, xpA, xab, xbe, xrb, xfO, xeO, xic, xcu, xcm, xwr, xst, xac, xpr, xbb, xdr, xok, xon, xoa, xgn, xgm, xh, xni, xhn, xho, xhb, xwn, xwd, xwf, xwt, xbk, xre) v1 v2
  unfold wpX_begin
  refine mx_isTxn (mb_br (fun z => ?_) (fun z => ?_))
  · unfold wpY_begin
    exact my_isTxn (mb_br (fun _ => ⟨rfl, J⟩) (fun q => absurd q z))
  · obtain ⟨t, t8, rfl⟩ := mo_txn z
    have ct : (nI t).toNatClampNeg = t := mb_c (by omega)
    have Yl : (xst t = 1 ∨ xst t = 2) → wpY_begin (fun r' v' => r' = 11 ∧ i_Rel (k + 4) (xnc, xfn, xel, xlm, xwm, 0, xsu, xco, xvi, xlv, xes, xdO, xpA, xab, xbe, xrb, xfO, xeO, xic, xcu, xcm, xwr, xst, xac, xpr, xbb, xdr, xok, xon, xoa, xgn, xgm, xh, xni, xhn, xho, xhb, xwn, xwd, xwf, xwt, xbk, xre) v') (xfn, xnc, xel, ynB, ynW, xco, xvi, xlv, xes, ypa, xcu, xcm, xwr, xh, xst, xac, xpr, ybg, ykd, xon, xoa, xgn, xgm, xwn, xwd, ywb, yld) (nI t) v2 := fun l => by
      unfold wpY_begin
      exact my_isTxn (mb_br (fun q => absurd z q) (fun _ => my_live t8 (mb_br (fun q => absurd l q) (fun _ => ⟨rfl, J⟩))))
    have j33 : ¬ (xst t = 1 ∨ xst t = 2) → wX_begin_33 (fun r u' => wpY_begin (fun r' v' => r' = r ∧ i_Rel (k + 4) u' v') (xfn, xnc, xel, ynB, ynW, xco, xvi, xlv, xes, ypa, xcu, xcm, xwr, xh, xst, xac, xpr, ybg, ykd, xon, xoa, xgn, xgm, xwn, xwd, ywb, yld) (nI t) v2) (nI t) v2 xnc xfn xel xlm xwm 0 xsu xco xvi xlv xes xdO xpA xab xbe xrb xfO xeO xic xcu xcm xwr xst xac xpr xbb xdr xok xon xoa xgn xgm xh xni xhn xho xhb xwn xwd xwf xwt xbk xre := fun nl => by
      have bad : (v2 < 0 ∨ ¬ v2 ≤ 3) → wpY_begin (fun r' v' => r' = 14 ∧ i_Rel (k + 4) (xnc, xfn, xel, xlm, xwm, 0, xsu, xco, xvi, xlv, xes, xdO, xpA, xab, xbe, xrb, xfO, xeO, xic, xcu, xcm, xwr, xst, xac, xpr, xbb, xdr, xok, xon, xoa, xgn, xgm, xh, xni, xhn, xho, xhb, xwn, xwd, xwf, xwt, xbk, xre) v') (xfn, xnc, xel, ynB, ynW, xco, xvi, xlv, xes, ypa, xcu, xcm, xwr, xh, xst, xac, xpr, ybg, ykd, xon, xoa, xgn, xgm, xwn, xwd, ywb, yld) (nI t) v2 := fun b => by
        unfold wpY_begin
        exact my_isTxn (mb_br (fun q => absurd z q) (fun _ => my_live t8 (mb_br (fun _ => br_c (fun _ => ⟨rfl, J⟩) (fun b0 => br_f (b.resolve_left b0) ⟨rfl, J⟩)) (fun q => absurd q nl))))
      refine br_c (fun b => bad (Or.inl b)) (fun b0 => br_c (fun b3 => ⟨mb_v8 t8, nm_r (e' := upd xst t 1) (by rw [ct]) ⟨mb_v8 t8, nm_r (e' := upd xpr t v2) (by rw [ct]) ⟨mb_v8 t8, nm_r (e' := upd xac t 0) (by rw [ct]) ⟨mb_v8 t8, nm_r (e' := upd xbb t xlm) (by rw [ct]) (nm_e ?_)⟩⟩⟩⟩) (fun b => bad (Or.inr b)))
      have ns2 : ¬ xst t = 2 := fun q => nl (Or.inr q)
      have n2 : ¬ upd xst t 1 t = 2 := by rw [pk_us]; decide
      have Z' := mi_Z_t (x := 1) Z (mi_ro_r (t := t)) (Or.inr (Or.inl rfl)) (fun q => absurd rfl q)
      have W' := mi_W_x W (x := 1) ns2 (by decide)
      have L' := ml_beg L t8 nl (by omega)
      have B' := mi_B_t B (t := t) (xst' := upd xst t 1) (xwn' := xwn) (xwd' := xwd) (ywb' := ywb) (xbk' := xbk) (mh_tc_r 0 xh) (fun _ q => pk_un q) (fun _ _ => rfl) (fun _ _ => rfl) (fun _ _ => rfl) (fun _ _ => rfl) (fun _ => B.1 t t8 ns2) (fun q => absurd q ns2) (fun q => absurd q n2)
      have G' := mi_G_t G T (t := t) (xst' := upd xst t 1) (xwn' := xwn) (xwd' := xwd) (xok' := xok) (xon' := xon) (xgn' := xgn) (xgm' := xgm) (ykd' := ykd) mi_ro_r (fun _ q => pk_un q) (fun _ _ => rfl) (fun _ _ => rfl) (fun _ _ => rfl) (fun _ _ => rfl) (fun _ _ => rfl) (fun _ _ => rfl) (fun _ _ => rfl) (fun q => absurd q n2)
      unfold wpY_begin
      exact my_isTxn (mb_br (fun q => absurd z q) (fun _ => my_live t8 (mb_br (fun _ => br_f b0 (br_t b3 ⟨mb_v8 t8, nm_r (e' := upd xst t 1) (by rw [ct]) ⟨mb_v8 t8, nm_r (e' := upd xpr t v2) (by rw [ct]) ⟨mb_v8 t8, nm_r (e' := upd xac t 0) (by rw [ct]) ⟨mb_v8 t8, nm_r (e' := vp_updL ybg t ynB) (by rw [ct]) (nm_e ⟨rfl, zz_in ⟨T, H, Z', W', L', D, B', S, G'⟩ (by omega) (by omega)⟩)⟩⟩⟩⟩)) (fun q => absurd q nl))))
    refine ⟨mb_v8 t8, ?_⟩
    rw [ct]
    refine br_c (fun s0 => j33 ?_) (fun s0 => ⟨mb_v8 t8, br_c (fun s3 => j33 ?_) (fun s3 => Yl ?_)⟩)
    · rw [s0]; decide
    · rw [s3]; decide
    · rcases Z.1 t t8 with q | q | q | q
      · exact absurd q s0
      · exact Or.inl q
      · exact Or.inr q
      · exact absurd q s3
theorem i_vc_commit {k : Nat} {u : SX} {v : SY} (I : i_Rel k u v) (hk : k + 4 ≤ 2052) (v1 : Int32) : wpX_commit (fun r u' => wpY_commit (fun r' v' => r' = r ∧ i_Rel (k + 4) u' v') v v1) u v1 := by
  refine zz_el (P := fun u v => wpX_commit (fun r u' => wpY_commit (fun r' v' => r' = r ∧ i_Rel (k + 4) u' v') v v1) u v1) ?_ I
  intro N F dp pt fr er nb nw xnc xfn xel xlm xwm xsu xco xvi xlv xes xdO xpA xab xbe xrb xfO xeO xic xcu xcm xwr xst xac xpr xbb xdr xok xon xoa xgn xgm xh xni xhn xho xhb xwn xwd xwf xwt xbk xre ynB ynW ypa ybg ykd ywb yld I hw hb
  have J : i_Rel (k + 4) (xnc, xfn, xel, xlm, xwm, 0, xsu, xco, xvi, xlv, xes, xdO, xpA, xab, xbe, xrb, xfO, xeO, xic, xcu, xcm, xwr, xst, xac, xpr, xbb, xdr, xok, xon, xoa, xgn, xgm, xh, xni, xhn, xho, xhb, xwn, xwd, xwf, xwt, xbk, xre) (xfn, xnc, xel, ynB, ynW, xco, xvi, xlv, xes, ypa, xcu, xcm, xwr, xh, xst, xac, xpr, ybg, ykd, xon, xoa, xgn, xgm, xwn, xwd, ywb, yld) := zz_in I (by omega) (by omega)
  obtain ⟨T, H, Z, W, L, D, B, S, G⟩ := I
  have hN := mt_N T
  obtain ⟨q1, q2, q3, q4, q5⟩ := T.1
  show wpX_commit (fun r u' => wpY_commit (fun r' v' => r' = r ∧ i_Rel (k + 4) u' v') (xfn, xnc, xel, ynB, ynW, xco, xvi, xlv, xes, ypa, xcu, xcm, xwr, xh, xst, xac, xpr, ybg, ykd, xon, xoa, xgn, xgm, xwn, xwd, ywb, yld) v1) (xnc, xfn, xel, xlm, xwm, 0, xsu, xco, xvi, xlv, xes, xdO, xpA, xab, xbe, xrb, xfO, xeO, xic, xcu, xcm, xwr, xst, xac, xpr, xbb, xdr, xok, xon, xoa, xgn, xgm, xh, xni, xhn, xho, xhb, xwn, xwd, xwf, xwt, xbk, xre) v1
  unfold wpX_commit
  refine mx_isTxn (mb_br (fun z => ?_) (fun z => ?_))
  · unfold wpY_commit
    exact my_isTxn (mb_br (fun _ => ⟨rfl, J⟩) (fun q => absurd q z))
  · obtain ⟨t, t8, rfl⟩ := mo_txn z
    have ct : (nI t).toNatClampNeg = t := mb_c (by omega)
    refine ⟨mb_v8 t8, ?_⟩
    rw [ct]
    refine br_c (fun s1 => ?_) (fun s1 => ?_)
    · have ns2 : ¬ xst t = 2 := by rw [s1]; decide
      refine mx_closeC T D t8 ⟨mb_v8 t8, ?_⟩
      refine mx_release H t8 ?_
      rw [mr_h_rl H hN t8]
      intro xtc' xni' xhn' xho' xhb' H' tc'
      refine mx_retire t8 fun bb' hbb => nm_e ?_
      have I' := mg_A (x := 0) (xok' := xok) ⟨T, H, Z, W, L, D, B, S, G⟩ t8 ns2 (Or.inl rfl) (fun _ _ => rfl) hbb H' tc'
      refine mx_settle I' (by omega) ?_
      intro xlm'' xwm'' xsu'' xvi'' xlv'' xcu'' xwr'' xst'' xac'' xbb'' xdr'' xok'' xh'' xni'' xhn'' xho'' xhb'' xwn'' xwd'' xwf'' xwt'' xbk'' xre'' ynW'' ywb'' nw'' I'' le'' st'' C''
      exact my_commit T t8 s1 (fun P hP => C'' P hP yld) fun ld => ⟨rfl, zz_in I'' (by omega) (by omega)⟩
    · unfold wpY_commit
      refine my_isTxn (mb_br (fun q => absurd z q) (fun _ => ⟨mb_v8 t8, ?_⟩))
      rw [ct]
      exact br_f s1 ⟨rfl, J⟩
theorem i_vc_abort {k : Nat} {u : SX} {v : SY} (I : i_Rel k u v) (hk : k + 4 ≤ 2052) (v1 : Int32) : wpX_abort (fun r u' => wpY_abort (fun r' v' => r' = r ∧ i_Rel (k + 4) u' v') v v1) u v1 := by
  refine zz_el (P := fun u v => wpX_abort (fun r u' => wpY_abort (fun r' v' => r' = r ∧ i_Rel (k + 4) u' v') v v1) u v1) ?_ I
  intro N F dp pt fr er nb nw xnc xfn xel xlm xwm xsu xco xvi xlv xes xdO xpA xab xbe xrb xfO xeO xic xcu xcm xwr xst xac xpr xbb xdr xok xon xoa xgn xgm xh xni xhn xho xhb xwn xwd xwf xwt xbk xre ynB ynW ypa ybg ykd ywb yld I hw hb
  have J : i_Rel (k + 4) (xnc, xfn, xel, xlm, xwm, 0, xsu, xco, xvi, xlv, xes, xdO, xpA, xab, xbe, xrb, xfO, xeO, xic, xcu, xcm, xwr, xst, xac, xpr, xbb, xdr, xok, xon, xoa, xgn, xgm, xh, xni, xhn, xho, xhb, xwn, xwd, xwf, xwt, xbk, xre) (xfn, xnc, xel, ynB, ynW, xco, xvi, xlv, xes, ypa, xcu, xcm, xwr, xh, xst, xac, xpr, ybg, ykd, xon, xoa, xgn, xgm, xwn, xwd, ywb, yld) := zz_in I (by omega) (by omega)
  obtain ⟨T, H, Z, W, L, D, B, S, G⟩ := I
  have hN := mt_N T
  obtain ⟨q1, q2, q3, q4, q5⟩ := T.1
  show wpX_abort (fun r u' => wpY_abort (fun r' v' => r' = r ∧ i_Rel (k + 4) u' v') (xfn, xnc, xel, ynB, ynW, xco, xvi, xlv, xes, ypa, xcu, xcm, xwr, xh, xst, xac, xpr, ybg, ykd, xon, xoa, xgn, xgm, xwn, xwd, ywb, yld) v1) (xnc, xfn, xel, xlm, xwm, 0, xsu, xco, xvi, xlv, xes, xdO, xpA, xab, xbe, xrb, xfO, xeO, xic, xcu, xcm, xwr, xst, xac, xpr, xbb, xdr, xok, xon, xoa, xgn, xgm, xh, xni, xhn, xho, xhb, xwn, xwd, xwf, xwt, xbk, xre) v1
  unfold wpX_abort
  refine mx_isTxn (mb_br (fun z => ?_) (fun z => ?_))
  · unfold wpY_abort
    exact my_isTxn (mb_br (fun _ => ⟨rfl, J⟩) (fun q => absurd q z))
  · obtain ⟨t, t8, rfl⟩ := mo_txn z
    have ct : (nI t).toNatClampNeg = t := mb_c (by omega)
    refine ⟨mb_v8 t8, ?_⟩
    rw [ct]
    refine br_c (fun s1 => ?_) (fun s1 => ⟨mb_v8 t8, br_c (fun s2 => ?_) (fun s2 => ?_)⟩)
    · have ns2 : ¬ xst t = 2 := by rw [s1]; decide
      unfold wX_abort_34
      refine mx_undoA T H D t8 ns2 fun xtc' xni' xhn' xho' xhb' H' tc' => ?_
      refine mx_retire t8 fun bb' hbb => ?_
      have I' := mg_A (x := 0) (xok' := upd xok t 0) ⟨T, H, Z, W, L, D, B, S, G⟩ t8 ns2 (Or.inl rfl) (fun _ q => pk_un q) hbb H' tc'
      refine mx_settle I' (by omega) ?_
      intro xlm'' xwm'' xsu'' xvi'' xlv'' xcu'' xwr'' xst'' xac'' xbb'' xdr'' xok'' xh'' xni'' xhn'' xho'' xhb'' xwn'' xwd'' xwf'' xwt'' xbk'' xre'' ynW'' ywb'' nw'' I'' le'' st'' C''
      show wpY_abort _ (xfn, xnc, xel, ynB, ynW, xco, xvi, xlv, xes, ypa, xcu, xcm, xwr, xh, xst, xac, xpr, ybg, ykd, xon, xoa, xgn, xgm, xwn, xwd, ywb, yld) (nI t)
      unfold wpY_abort
      exact my_isTxn (mb_br (fun q => absurd z q) (fun _ => my_live t8 (mb_br (fun q => absurd (Or.inl s1) q) (fun _ => my_undo T t8 ⟨mb_v8 t8, nm_r (e' := upd xst t 0) (by rw [ct]) (C'' _ (fun ld => ⟨rfl, zz_in I'' (by omega) (by omega)⟩) yld)⟩))))
    · obtain ⟨⟨a, ha, ea⟩, ⟨m, m0, m6, em⟩, _, _⟩ := W.2.2.1 t t8 s2
      unfold wX_abort_34
      refine mx_undoW T H D t8 ha m6 ea em s2 fun wf' xtc' xni' xhn' xho' xhb' hf H' tc' => ?_
      refine mx_retire t8 fun bb' hbb => ?_
      have I' := mg_W (x := 0) ⟨T, H, Z, W, L, D, B, S, G⟩ t8 ha m0 m6 ea em (Or.inl rfl) hf hbb H' tc'
      refine mx_settle I' (by omega) ?_
      intro xlm'' xwm'' xsu'' xvi'' xlv'' xcu'' xwr'' xst'' xac'' xbb'' xdr'' xok'' xh'' xni'' xhn'' xho'' xhb'' xwn'' xwd'' xwf'' xwt'' xbk'' xre'' ynW'' ywb'' nw'' I'' le'' st'' C''
      show wpY_abort _ (xfn, xnc, xel, ynB, ynW, xco, xvi, xlv, xes, ypa, xcu, xcm, xwr, xh, xst, xac, xpr, ybg, ykd, xon, xoa, xgn, xgm, xwn, xwd, ywb, yld) (nI t)
      unfold wpY_abort
      exact my_isTxn (mb_br (fun q => absurd z q) (fun _ => my_live t8 (mb_br (fun q => absurd (Or.inr s2) q) (fun _ => my_undo T t8 ⟨mb_v8 t8, nm_r (e' := upd xst t 0) (by rw [ct]) (C'' _ (fun ld => ⟨rfl, zz_in I'' (by omega) (by omega)⟩) yld)⟩))))
    · unfold wpY_abort
      exact my_isTxn (mb_br (fun q => absurd z q) (fun _ => my_live t8 (mb_br (fun _ => ⟨rfl, J⟩) (fun l => absurd l fun q => q.elim s1 s2))))
end
section
/-! the shape of the tree, in numbers -/
def mk_F (T P : Nat) : Nat := 1 + T + T * P
def mk_N (T P R : Nat) : Nat := 1 + T + T * P + T * P * R
def mk_dp (T P c : Nat) : Nat := if c = 0 then 0 else if c ≤ T then 1 else if c < mk_F T P then 2 else 3
def mk_pa (T P R c : Nat) : Nat := if c ≤ T then 0 else if c < mk_F T P then 1 + (c - (T + 1)) / P else (T + 1) + (c - mk_F T P) / R
def mk_up (T P R : Nat) : Nat → Nat → Nat
  | 0, n => n
  | j + 1, n => mk_up T P R j (mk_pa T P R n)
def mk_pt (T P R n d : Nat) : Nat := mk_up T P R (mk_dp T P n - d) n
def mk_fr (T P R n : Nat) : Nat := if n = 0 then mk_F T P else if n ≤ T then mk_F T P + (n - 1) * (P * R) else if n < mk_F T P then mk_F T P + (n - (T + 1)) * R else n
def mk_er (T P R n : Nat) : Nat := if n = 0 then mk_N T P R else if n ≤ T then mk_F T P + n * (P * R) else if n < mk_F T P then mk_F T P + (n - T) * R else n + 1
def mk_ok (T P R : Nat) : Prop := 0 < T ∧ T < 3 ∧ 0 < P ∧ P < 3 ∧ 0 < R ∧ R < 7
def mk_all (q : Nat → Nat → Nat → Bool) : Bool := (List.range 2).all fun t => (List.range 2).all fun p => (List.range 6).all fun r => q (t + 1) (p + 1) (r + 1)
theorem mk_all_e {q : Nat → Nat → Nat → Bool} (h : mk_all q = true) {T P R : Nat} (ok : mk_ok T P R) : q T P R = true := by
  obtain ⟨t1, t2, p1, p2, r1, r2⟩ := ok
  unfold mk_all at h
  rw [List.all_eq_true] at h
  have h := h (T - 1) (List.mem_range.mpr (by omega))
  rw [List.all_eq_true] at h
  have h := h (P - 1) (List.mem_range.mpr (by omega))
  rw [List.all_eq_true] at h
  have h := h (R - 1) (List.mem_range.mpr (by omega))
  rw [show T - 1 + 1 = T by omega, show P - 1 + 1 = P by omega, show R - 1 + 1 = R by omega] at h
  exact h
theorem mk_a' : mk_all (fun T P R => decide (mk_N T P R ≤ 31 ∧ mk_F T P < mk_N T P R ∧ 0 < mk_F T P)) = true := by decide +kernel
theorem mk_a {T P R : Nat} (ok : mk_ok T P R) : mk_N T P R ≤ 31 ∧ mk_F T P < mk_N T P R ∧ 0 < mk_F T P := of_decide_eq_true (mk_all_e mk_a' ok)
theorem mk_b' : mk_all (fun T P R => decide (∀ n, n < mk_N T P R → mk_dp T P n ≤ 3 ∧ (mk_dp T P n = 3 ↔ mk_F T P ≤ n) ∧ mk_pt T P R n (mk_dp T P n) = n)) = true := by decide +kernel
theorem mk_b {T P R : Nat} (ok : mk_ok T P R) : ∀ n, n < mk_N T P R → mk_dp T P n ≤ 3 ∧ (mk_dp T P n = 3 ↔ mk_F T P ≤ n) ∧ mk_pt T P R n (mk_dp T P n) = n := of_decide_eq_true (mk_all_e mk_b' ok)
theorem mk_c' : mk_all (fun T P R => decide (∀ n, n < mk_N T P R → ∀ d, d < mk_dp T P n + 1 → mk_pt T P R n d < mk_N T P R ∧ mk_dp T P (mk_pt T P R n d) = d ∧ (d < mk_dp T P n → mk_pt T P R n d < n))) = true := by decide +kernel
theorem mk_c {T P R : Nat} (ok : mk_ok T P R) : ∀ n, n < mk_N T P R → ∀ d, d < mk_dp T P n + 1 → mk_pt T P R n d < mk_N T P R ∧ mk_dp T P (mk_pt T P R n d) = d ∧ (d < mk_dp T P n → mk_pt T P R n d < n) := of_decide_eq_true (mk_all_e mk_c' ok)
theorem mk_d' : mk_all (fun T P R => decide (∀ n, n < mk_N T P R → ∀ d, d < mk_dp T P n + 1 → ∀ e, e < d + 1 → mk_pt T P R (mk_pt T P R n d) e = mk_pt T P R n e)) = true := by decide +kernel
theorem mk_d {T P R : Nat} (ok : mk_ok T P R) : ∀ n, n < mk_N T P R → ∀ d, d < mk_dp T P n + 1 → ∀ e, e < d + 1 → mk_pt T P R (mk_pt T P R n d) e = mk_pt T P R n e := of_decide_eq_true (mk_all_e mk_d' ok)
theorem mk_e' : mk_all (fun T P R => decide (∀ n, n < mk_N T P R → mk_fr T P R n < mk_er T P R n ∧ mk_er T P R n ≤ mk_N T P R)) = true := by decide +kernel
theorem mk_e {T P R : Nat} (ok : mk_ok T P R) : ∀ n, n < mk_N T P R → mk_fr T P R n < mk_er T P R n ∧ mk_er T P R n ≤ mk_N T P R := of_decide_eq_true (mk_all_e mk_e' ok)
theorem mk_f' : mk_all (fun T P R => decide (∀ n, n < mk_N T P R → ∀ r, r < mk_N T P R → ((mk_fr T P R n ≤ r ∧ r < mk_er T P R n) ↔ (mk_F T P ≤ r ∧ (r = n ∨ mt_bl (mk_dp T P) (mk_pt T P R) r n = true))))) = true := by decide +kernel
theorem mk_f {T P R : Nat} (ok : mk_ok T P R) : ∀ n, n < mk_N T P R → ∀ r, r < mk_N T P R → ((mk_fr T P R n ≤ r ∧ r < mk_er T P R n) ↔ (mk_F T P ≤ r ∧ (r = n ∨ mt_bl (mk_dp T P) (mk_pt T P R) r n = true))) := of_decide_eq_true (mk_all_e mk_f' ok)
theorem mk_g' : mk_all (fun T P R => decide (∀ c, c < mk_N T P R → 0 < c → mk_pa T P R c < c ∧ mk_dp T P c = mk_dp T P (mk_pa T P R c) + 1)) = true := by decide +kernel
theorem mk_g {T P R : Nat} (ok : mk_ok T P R) : ∀ c, c < mk_N T P R → 0 < c → mk_pa T P R c < c ∧ mk_dp T P c = mk_dp T P (mk_pa T P R c) + 1 := of_decide_eq_true (mk_all_e mk_g' ok)
theorem mk_h' : mk_all (fun T P R => decide (∀ c, c < mk_N T P R → 0 < c → ∀ d, d < mk_dp T P (mk_pa T P R c) + 1 → mk_pt T P R c d = mk_pt T P R (mk_pa T P R c) d)) = true := by decide +kernel
theorem mk_h {T P R : Nat} (ok : mk_ok T P R) : ∀ c, c < mk_N T P R → 0 < c → ∀ d, d < mk_dp T P (mk_pa T P R c) + 1 → mk_pt T P R c d = mk_pt T P R (mk_pa T P R c) d := of_decide_eq_true (mk_all_e mk_h' ok)
end
section
/-! X builds the tree -/
/-- c nodes stand -/
def mk_n (dp : Nat → Nat) (pt : Nat → Nat → Nat) (c : Nat) (xnc : Int32) (xdO xpA xab xbe : Nat → Int32) : Prop :=
  xnc = nI c ∧ (∀ n, n < c → xdO n = nI (dp n)) ∧ (∀ n d, n < c → d ≤ dp n → xpA (n * 4 + d) = nI (pt n d)) ∧
  (∀ n a, bt (xab n) a = true ↔ n < c ∧ mt_bl dp pt n a = true) ∧ (∀ n a, bt (xbe a) n = true ↔ n < c ∧ mt_bl dp pt n a = true)
/-- the rows below c stand, and row c on its ancestors at depths below d -/
def mk_r (F : Nat) (dp : Nat → Nat) (pt : Nat → Nat → Nat) (fr er : Nat → Nat) (c d : Nat) (xrb xfO xeO : Nat → Int32) : Prop :=
  ∀ a, (∀ r, bt (xrb a) r = true ↔ (r < c ∧ F ≤ r ∧ (r = a ∨ mt_bl dp pt r a = true)) ∨ (r = c ∧ ∃ e, e < d ∧ pt c e = a)) ∧
    ((∃ r, bt (xrb a) r = true) → xfO a = nI (fr a) ∧ ((∃ e, e < d ∧ pt c e = a) → xeO a = nI (c + 1)) ∧ ((¬ ∃ e, e < d ∧ pt c e = a) → xeO a = nI (if c < er a then c else er a)))
section
variable {N F : Nat} {dp : Nat → Nat} {pt : Nat → Nat → Nat} {fr er : Nat → Nat} {nb nw : Nat} {xnc xfn xel xlm xwm xtc xsu xco xvi xlv xes : Int32} {xdO xpA xab xbe xrb xfO xeO xic xcu xcm xwr xst xac xpr xbb xdr xok xon xoa xgn xgm xh xni xhn xho xhb xwn xwd xwf xwt xbk xre : Nat → Int32} {ynB ynW : Int64} {ypa : Nat → Int32} {ybg : Nat → Int64} {ykd : Nat → Int32} {ywb : Nat → Int64} {yld : Nat → Int32}
theorem mx_add30 {post : SX → Prop} {c p : Nat} {x1 : Int32} (c31 : c < 31) (d3 : dp c ≤ 3) (h1 : 0 < dp c → x1 = nI p ∧ p < c ∧ dp c = dp p + 1 ∧ ∀ d, d ≤ dp p → pt c d = pt p d ∧ pt p d < c) (h2 : pt c (dp c) = c)
    (h : ∀ (xnc' : Int32) (xdO' xpA' xab' xbe' : Nat → Int32), mk_n dp pt (c + 1) xnc' xdO' xpA' xab' xbe' → post (xnc', xfn, xel, xlm, xwm, xtc, xsu, xco, xvi, xlv, xes, xdO', xpA', xab', xbe', xrb, xfO, xeO, xic, xcu, xcm, xwr, xst, xac, xpr, xbb, xdr, xok, xon, xoa, xgn, xgm, xh, xni, xhn, xho, xhb, xwn, xwd, xwf, xwt, xbk, xre)) (xd : ∀ n, n < c → xdO n = nI (dp n)) :
    ∀ (k i n : Nat) (pA ab be : Nat → Int32), i + k = dp c → k < n →
      (∀ n d, n < c → d ≤ dp n → dp n ≤ 3 → pA (n * 4 + d) = nI (pt n d)) → (∀ e, e < i → pA (c * 4 + e) = nI (pt c e)) → (∀ n, n < c → dp n ≤ 3) →
      (∀ n a, bt (ab n) a = true ↔ (n < c ∧ mt_bl dp pt n a = true) ∨ (n = c ∧ ∃ e, e < i ∧ pt c e = a)) →
      (∀ n a, bt (be a) n = true ↔ (n < c ∧ mt_bl dp pt n a = true) ∨ (n = c ∧ ∃ e, e < i ∧ pt c e = a)) →
      wX_addNode_30 post x1 (nI c) (nI (dp c)) xnc xfn xel xlm xwm xtc xsu xco xvi xlv xes n (nI i) xdO pA ab be xrb xfO xeO xic xcu xcm xwr xst xac xpr xbb xdr xok xon xoa xgn xgm xh xni xhn xho xhb xwn xwd xwf xwt xbk xre := by
  have cc : (nI c).toNatClampNeg = c := mb_c c31
  intro k
  induction k with
  | zero =>
    intro i n pA ab be hi hn a1 a2 a3 a4 a5
    obtain ⟨n, rfl⟩ : ∃ j, n = j + 1 := ⟨n - 1, by omega⟩
    rw [wX_addNode_30]
    have bl : ∀ a, (∃ e, e < i ∧ pt c e = a) ↔ mt_bl dp pt c a = true := fun a => by rw [mt_bl_iff, show i = dp c by omega]
    refine br_t (nI_le (by omega) (by omega)) ⟨mb_v4 c31 (by omega), nm_r (e' := upd pA (c * 4 + dp c) (nI c)) (by rw [mb_c4 c31 (by omega)]) ⟨mb_n31 c31, nm_r (e' := upd xdO c (nI (dp c))) (by rw [cc]) (nm_r (nI_1 c) (h _ _ _ _ _ ⟨rfl, fun n hn => ?_, fun n d hn hd => ?_, fun n a => ?_, fun n a => ?_⟩))⟩⟩
    · by_cases e : n = c
      · rw [e, pk_us]
      · rw [pk_un e]; exact xd n (by omega)
    · by_cases e : n = c
      · subst e
        by_cases e2 : d = dp n
        · rw [e2, pk_us, h2]
        · rw [pk_un (by omega)]; exact a2 d (by omega)
      · have := a3 n (by omega)
        rw [pk_un (by omega)]
        exact a1 n d (by omega) hd this
    · rw [a4 n a]
      constructor
      · rintro (q | ⟨q1, q2⟩)
        · exact ⟨by omega, q.2⟩
        · subst q1; exact ⟨by omega, (bl a).mp q2⟩
      · rintro ⟨q1, q2⟩
        by_cases e : n = c
        · subst e; exact Or.inr ⟨rfl, (bl a).mpr q2⟩
        · exact Or.inl ⟨by omega, q2⟩
    · rw [a5 n a]
      constructor
      · rintro (q | ⟨q1, q2⟩)
        · exact ⟨by omega, q.2⟩
        · subst q1; exact ⟨by omega, (bl a).mp q2⟩
      · rintro ⟨q1, q2⟩
        by_cases e : n = c
        · subst e; exact Or.inr ⟨rfl, (bl a).mpr q2⟩
        · exact Or.inl ⟨by omega, q2⟩
  | succ k ih =>
    intro i n pA ab be hi hn a1 a2 a3 a4 a5
    obtain ⟨n, rfl⟩ : ∃ j, n = j + 1 := ⟨n - 1, by omega⟩
    rw [wX_addNode_30]
    obtain ⟨e1, pc, dc, hp⟩ := h1 (by omega)
    obtain ⟨hp1, hp2⟩ := hp i (by omega)
    have g : pA (p * 4 + i) = nI (pt c i) := by rw [hp1]; exact a1 p i pc (by omega) (by omega)
    have lt : pt c i < c := by rw [hp1]; exact hp2
    have ca : (nI (pt c i)).toNatClampNeg = pt c i := mb_c (by omega)
    have more : ∀ a, (∃ e, e < i + 1 ∧ pt c e = a) ↔ (∃ e, e < i ∧ pt c e = a) ∨ a = pt c i := by
      intro a
      constructor
      · rintro ⟨e, q1, q2⟩
        by_cases w : e = i
        · subst w; exact Or.inr q2.symm
        · exact Or.inl ⟨e, by omega, q2⟩
      · rintro (⟨e, q1, q2⟩ | q)
        · exact ⟨e, by omega, q2⟩
        · exact ⟨i, by omega, q.symm⟩
    rw [e1]
    refine br_f (nI_ge (by omega) (by omega)) ⟨mb_v4 (by omega) (by omega), nm_r (e' := nI (pt c i)) (by rw [mb_c4 (by omega) (by omega), g]) ⟨mb_v4 c31 (by omega), nm_r (e' := upd pA (c * 4 + i) (nI (pt c i))) (by rw [mb_c4 c31 (by omega)]) ⟨mb_n31 c31, mb_n31 c31, nm_r (e' := upd ab c (ab c ||| ((1 : Int32) <<< (nI (pt c i) &&& 31)))) (by rw [cc]) ⟨mb_n31 (by omega), mb_n31 (by omega), nm_r (e' := upd be (pt c i) (be (pt c i) ||| ((1 : Int32) <<< (nI c &&& 31)))) (by rw [ca]) (nm_r (nI_1 i) ?_)⟩⟩⟩⟩
    rw [← e1]
    refine ih (i + 1) n _ _ _ (by omega) (by omega) (fun n d hn hd h3 => ?_) (fun e he => ?_) a3 (fun n a => ?_) (fun n a => ?_)
    · rw [pk_un (by omega)]; exact a1 n d hn hd h3
    · by_cases w : e = i
      · rw [w, pk_us]
      · rw [pk_un (by omega)]; exact a2 e (by omega)
    · rw [more a]
      by_cases w : n = c
      · subst w
        rw [pk_us, mb_set (by omega), a4 n a]
        constructor
        · rintro ((q | q) | q)
          · exact Or.inl q
          · exact Or.inr ⟨rfl, Or.inl q.2⟩
          · exact Or.inr ⟨rfl, Or.inr q⟩
        · rintro (q | ⟨_, q | q⟩)
          · exact Or.inl (Or.inl q)
          · exact Or.inl (Or.inr ⟨rfl, q⟩)
          · exact Or.inr q
      · rw [pk_un w, a4 n a]
        exact ⟨fun q => q.elim Or.inl fun q => absurd q.1 w, fun q => q.elim Or.inl fun q => absurd q.1 w⟩
    · rw [more a]
      by_cases w : a = pt c i
      · subst w
        rw [pk_us, mb_set (by omega), a5 n _]
        constructor
        · rintro ((q | q) | q)
          · exact Or.inl q
          · exact Or.inr ⟨q.1, Or.inl q.2⟩
          · exact Or.inr ⟨q, Or.inr rfl⟩
        · rintro (q | ⟨q1, q | q⟩)
          · exact Or.inl (Or.inl q)
          · exact Or.inl (Or.inr ⟨q1, q⟩)
          · exact Or.inr q1
      · rw [pk_un w, a5 n a]
        exact ⟨fun q => q.elim Or.inl fun q => Or.inr ⟨q.1, Or.inl q.2⟩, fun q => q.elim Or.inl fun q => Or.inr ⟨q.1, q.2.elim id fun k => absurd k w⟩⟩
theorem mk_n0 {c : Nat} (Nn : mk_n dp pt c xnc xdO xpA xab xbe) : (∀ n a, bt (xab n) a = true ↔ (n < c ∧ mt_bl dp pt n a = true) ∨ (n = c ∧ ∃ e, e < 0 ∧ pt c e = a)) ∧ (∀ n a, bt (xbe a) n = true ↔ (n < c ∧ mt_bl dp pt n a = true) ∨ (n = c ∧ ∃ e, e < 0 ∧ pt c e = a)) := by
  refine ⟨fun n a => ?_, fun n a => ?_⟩
  · rw [Nn.2.2.2.1 n a]
    exact ⟨Or.inl, fun q => q.elim id fun ⟨_, e, h, _⟩ => by omega⟩
  · rw [Nn.2.2.2.2 n a]
    exact ⟨Or.inl, fun q => q.elim id fun ⟨_, e, h, _⟩ => by omega⟩
theorem mx_addNode {post : SX → Prop} {c p : Nat} (Nn : mk_n dp pt c xnc xdO xpA xab xbe) (c31 : c < 31) (d3 : dp c ≤ 3) (all3 : ∀ n, n < c → dp n ≤ 3) (pc : p < c) (dc : dp c = dp p + 1) (hp : ∀ d, d ≤ dp p → pt c d = pt p d ∧ pt p d < c) (h2 : pt c (dp c) = c)
    (h : ∀ (xnc' : Int32) (xdO' xpA' xab' xbe' : Nat → Int32), mk_n dp pt (c + 1) xnc' xdO' xpA' xab' xbe' → post (xnc', xfn, xel, xlm, xwm, xtc, xsu, xco, xvi, xlv, xes, xdO', xpA', xab', xbe', xrb, xfO, xeO, xic, xcu, xcm, xwr, xst, xac, xpr, xbb, xdr, xok, xon, xoa, xgn, xgm, xh, xni, xhn, xho, xhb, xwn, xwd, xwf, xwt, xbk, xre)) : wpX_addNode post (xnc, xfn, xel, xlm, xwm, xtc, xsu, xco, xvi, xlv, xes, xdO, xpA, xab, xbe, xrb, xfO, xeO, xic, xcu, xcm, xwr, xst, xac, xpr, xbb, xdr, xok, xon, xoa, xgn, xgm, xh, xni, xhn, xho, xhb, xwn, xwd, xwf, xwt, xbk, xre) (nI p) := by
  obtain ⟨b1, b2⟩ := mk_n0 Nn
  have e0 := Nn.1
  have ep : nI (dp p) + 1 = nI (dp c) := by rw [nI_1, dc]
  subst e0
  refine br_t (nI_lt (b := 31) c31 (by decide)) (br_f (nI_pos (by omega)) ⟨mb_n31 (by omega), nm_r (e' := nI (dp c)) (by rw [mb_c (by omega), Nn.2.1 p pc, ep]) ⟨4, ?_⟩⟩)
  exact mx_add30 c31 d3 (fun _ => ⟨rfl, pc, dc, hp⟩) h2 h Nn.2.1 (dp c) 0 4 xpA xab xbe (by omega) (by omega) (fun n d hn hd _ => Nn.2.2.1 n d hn hd) (fun e he => by omega) all3 b1 b2
theorem mx_addRoot {post : SX → Prop} (Nn : mk_n dp pt 0 xnc xdO xpA xab xbe) (d0 : dp 0 = 0) (h2 : pt 0 0 = 0)
    (h : ∀ (xnc' : Int32) (xdO' xpA' xab' xbe' : Nat → Int32), mk_n dp pt 1 xnc' xdO' xpA' xab' xbe' → post (xnc', xfn, xel, xlm, xwm, xtc, xsu, xco, xvi, xlv, xes, xdO', xpA', xab', xbe', xrb, xfO, xeO, xic, xcu, xcm, xwr, xst, xac, xpr, xbb, xdr, xok, xon, xoa, xgn, xgm, xh, xni, xhn, xho, xhb, xwn, xwd, xwf, xwt, xbk, xre)) : wpX_addNode post (xnc, xfn, xel, xlm, xwm, xtc, xsu, xco, xvi, xlv, xes, xdO, xpA, xab, xbe, xrb, xfO, xeO, xic, xcu, xcm, xwr, xst, xac, xpr, xbb, xdr, xok, xon, xoa, xgn, xgm, xh, xni, xhn, xho, xhb, xwn, xwd, xwf, xwt, xbk, xre) (-1) := by
  obtain ⟨b1, b2⟩ := mk_n0 Nn
  have e0 := Nn.1
  subst e0
  refine br_t (nI_lt (a := 0) (b := 31) (by decide) (by decide)) (br_t (by decide) ⟨4, ?_⟩)
  have := mx_add30 (post := post) (c := 0) (p := 0) (x1 := -1) (xnc := nI 0) (xdO := xdO) (by omega) (by omega) (fun z => by omega) (by rw [d0]; exact h2) h (fun n hn => by omega) (dp 0) 0 4 xpA xab xbe (by omega) (by omega) (fun n d hn => by omega) (fun e he => by omega) (fun n hn => by omega) b1 b2
  rw [d0] at this
  exact this
end
end
section
/-! X builds the tree: rows, and the whole -/
theorem mk_i' : mk_all (fun T P R => decide (∀ y, y < T → ∀ j, j < P → mk_pa T P R (1 + T + y * P + j) = y + 1 ∧ 1 + T + y * P + j < mk_N T P R)) = true := by decide +kernel
theorem mk_i {T P R : Nat} (ok : mk_ok T P R) : ∀ y, y < T → ∀ j, j < P → mk_pa T P R (1 + T + y * P + j) = y + 1 ∧ 1 + T + y * P + j < mk_N T P R := of_decide_eq_true (mk_all_e mk_i' ok)
theorem mk_j' : mk_all (fun T P R => decide (∀ q, q < T * P → ∀ j, j < R → mk_pa T P R (mk_F T P + q * R + j) = T + 1 + q ∧ mk_F T P + q * R + j < mk_N T P R)) = true := by decide +kernel
theorem mk_j {T P R : Nat} (ok : mk_ok T P R) : ∀ q, q < T * P → ∀ j, j < R → mk_pa T P R (mk_F T P + q * R + j) = T + 1 + q ∧ mk_F T P + q * R + j < mk_N T P R := of_decide_eq_true (mk_all_e mk_j' ok)
theorem mk_k' : mk_all (fun T P R => decide (∀ x, x < T → mk_pa T P R (1 + x) = 0 ∧ 1 + x < mk_N T P R)) = true := by decide +kernel
theorem mk_k {T P R : Nat} (ok : mk_ok T P R) : ∀ x, x < T → mk_pa T P R (1 + x) = 0 ∧ 1 + x < mk_N T P R := of_decide_eq_true (mk_all_e mk_k' ok)
section
variable {T P R : Nat} {xnc xfn xel xlm xwm xtc xsu xco xvi xlv xes : Int32} {xdO xpA xab xbe xrb xfO xeO xic xcu xcm xwr xst xac xpr xbb xdr xok xon xoa xgn xgm xh xni xhn xho xhb xwn xwd xwf xwt xbk xre : Nat → Int32}
theorem mx_addN {post : SX → Prop} {c : Nat} (ok : mk_ok T P R) (cN : c < mk_N T P R) (c0 : 0 < c) (Nn : mk_n (mk_dp T P) (mk_pt T P R) c xnc xdO xpA xab xbe)
    (h : ∀ (xnc' : Int32) (xdO' xpA' xab' xbe' : Nat → Int32), mk_n (mk_dp T P) (mk_pt T P R) (c + 1) xnc' xdO' xpA' xab' xbe' → post (xnc', xfn, xel, xlm, xwm, xtc, xsu, xco, xvi, xlv, xes, xdO', xpA', xab', xbe', xrb, xfO, xeO, xic, xcu, xcm, xwr, xst, xac, xpr, xbb, xdr, xok, xon, xoa, xgn, xgm, xh, xni, xhn, xho, xhb, xwn, xwd, xwf, xwt, xbk, xre)) : wpX_addNode post (xnc, xfn, xel, xlm, xwm, xtc, xsu, xco, xvi, xlv, xes, xdO, xpA, xab, xbe, xrb, xfO, xeO, xic, xcu, xcm, xwr, xst, xac, xpr, xbb, xdr, xok, xon, xoa, xgn, xgm, xh, xni, xhn, xho, xhb, xwn, xwd, xwf, xwt, xbk, xre) (nI (mk_pa T P R c)) := by
  have hN := mk_a ok
  have b := mk_b ok c cN
  have g := mk_g ok c cN c0
  refine mx_addNode Nn (by omega) b.1 (fun n hn => (mk_b ok n (by omega)).1) g.1 g.2 (fun d hd => ⟨mk_h ok c cN c0 d (by omega), ?_⟩) b.2.2 h
  have e := mk_h ok c cN c0 d (by omega)
  have := (mk_c ok c cN d (by omega)).2.2 (by omega)
  omega
theorem mk_r_s {F : Nat} {dp : Nat → Nat} {pt : Nat → Nat → Nat} {fr er : Nat → Nat} {c i : Nat} {rb fO eO fO' : Nat → Int32} (c32 : c < 32) (R0 : mk_r F dp pt fr er c i rb fO eO) (h0 : fO' (pt c i) = nI (fr (pt c i))) (h1 : ∀ a, a ≠ pt c i → fO' a = fO a) :
    mk_r F dp pt fr er c (i + 1) (upd rb (pt c i) (rb (pt c i) ||| ((1 : Int32) <<< (nI c &&& 31)))) fO' (upd eO (pt c i) (nI (c + 1))) := by
  intro a
  have more : (∃ e, e < i + 1 ∧ pt c e = a) ↔ (∃ e, e < i ∧ pt c e = a) ∨ a = pt c i := by
    constructor
    · rintro ⟨e, q1, q2⟩
      by_cases w : e = i
      · subst w; exact Or.inr q2.symm
      · exact Or.inl ⟨e, by omega, q2⟩
    · rintro (⟨e, q1, q2⟩ | q)
      · exact ⟨e, by omega, q2⟩
      · exact ⟨i, by omega, q.symm⟩
  obtain ⟨r1, r2⟩ := R0 a
  by_cases w : a = pt c i
  · subst w
    refine ⟨fun r => ?_, fun _ => ⟨h0, fun _ => pk_us, fun k => absurd (more.mpr (Or.inr rfl)) k⟩⟩
    rw [pk_us, mb_set c32, r1 r, more]
    constructor
    · rintro ((q | q) | q)
      · exact Or.inl q
      · exact Or.inr ⟨q.1, Or.inl q.2⟩
      · exact Or.inr ⟨q, Or.inr rfl⟩
    · rintro (q | ⟨q1, q | q⟩)
      · exact Or.inl (Or.inl q)
      · exact Or.inl (Or.inr ⟨q1, q⟩)
      · exact Or.inr q1
  · have same : (∃ e, e < i + 1 ∧ pt c e = a) ↔ (∃ e, e < i ∧ pt c e = a) := by
      rw [more]; exact ⟨fun q => q.elim id fun q => absurd q w, Or.inl⟩
    rw [pk_un w, pk_un w, h1 a w, same]
    exact ⟨r1, r2⟩
theorem mx_row19 {post : SX → Prop} {c : Nat} (ok : mk_ok T P R) (cN : c < mk_N T P R) (cF : mk_F T P ≤ c) (hp : ∀ d, d < 4 → xpA (c * 4 + d) = nI (mk_pt T P R c d))
    (h : ∀ (xrb' xfO' xeO' : Nat → Int32), mk_r (mk_F T P) (mk_dp T P) (mk_pt T P R) (mk_fr T P R) (mk_er T P R) c 4 xrb' xfO' xeO' → post (xnc, xfn, xel, xlm, xwm, xtc, xsu, xco, xvi, xlv, xes, xdO, xpA, xab, xbe, xrb', xfO', xeO', xic, xcu, xcm, xwr, xst, xac, xpr, xbb, xdr, xok, xon, xoa, xgn, xgm, xh, xni, xhn, xho, xhb, xwn, xwd, xwf, xwt, xbk, xre)) :
    ∀ (k i n : Nat) (rb fO eO : Nat → Int32), i + k = 4 → k < n → mk_r (mk_F T P) (mk_dp T P) (mk_pt T P R) (mk_fr T P R) (mk_er T P R) c i rb fO eO → wX_addRow_19 post (nI c) xnc xfn xel xlm xwm xtc xsu xco xvi xlv xes n (nI i) xdO xpA xab xbe rb fO eO xic xcu xcm xwr xst xac xpr xbb xdr xok xon xoa xgn xgm xh xni xhn xho xhb xwn xwd xwf xwt xbk xre := by
  have hN := mk_a ok
  have d3 : mk_dp T P c = 3 := (mk_b ok c cN).2.1.mpr cF
  intro k
  induction k with
  | zero =>
    intro i n rb fO eO hi hn R0
    obtain ⟨n, rfl⟩ : ∃ j, n = j + 1 := ⟨n - 1, by omega⟩
    rw [wX_addRow_19]
    obtain rfl : i = 4 := by omega
    exact br_t (nI_le (a := 4) (by omega) (by omega)) (h rb fO eO R0)
  | succ k ih =>
    intro i n rb fO eO hi hn R0
    obtain ⟨n, rfl⟩ : ∃ j, n = j + 1 := ⟨n - 1, by omega⟩
    rw [wX_addRow_19]
    obtain ⟨p1, p2, p3⟩ := mk_c ok c cN i (by omega)
    have ca : (nI (mk_pt T P R c i)).toNatClampNeg = mk_pt T P R c i := mb_c (by omega)
    have va : vp_in (nI (mk_pt T P R c i)) 31 := mb_n31 (by omega)
    have j54 : ∀ fO' : Nat → Int32, fO' (mk_pt T P R c i) = nI (mk_fr T P R (mk_pt T P R c i)) → (∀ a, a ≠ mk_pt T P R c i → fO' a = fO a) → wX_addRow_54 post (wX_addRow_19 post (nI c) xnc xfn xel xlm xwm xtc xsu xco xvi xlv xes n) (nI c) (nI i) (nI (mk_pt T P R c i)) xnc xfn xel xlm xwm xtc xsu xco xvi xlv xes xdO xpA xab xbe rb fO' eO xic xcu xcm xwr xst xac xpr xbb xdr xok xon xoa xgn xgm xh xni xhn xho xhb xwn xwd xwf xwt xbk xre := fun fO' h0 h1 =>
      ⟨va, va, nm_r (e' := upd rb (mk_pt T P R c i) (rb (mk_pt T P R c i) ||| ((1 : Int32) <<< (nI c &&& 31)))) (by rw [ca]) ⟨va, nm_r (e' := upd eO (mk_pt T P R c i) (nI (c + 1))) (by rw [ca, nI_1]) (nm_r (nI_1 i) (ih (i + 1) n _ _ _ (by omega) (by omega) (mk_r_s (by omega) R0 h0 h1)))⟩⟩
    refine br_f (nI_ge (b := 4) (by omega) (by decide)) ⟨mb_v4 (by omega) (by omega), nm_r (e' := nI (mk_pt T P R c i)) (by rw [mb_c4 (by omega) (by omega), hp i (by omega)]) ⟨va, ?_⟩⟩
    rw [ca]
    obtain ⟨r1, r2⟩ := R0 (mk_pt T P R c i)
    refine br_c (fun z => ⟨va, nm_r (e' := upd fO (mk_pt T P R c i) (nI c)) rfl (j54 _ ?_ (fun a q => pk_un q))⟩) (fun z => j54 fO (r2 (mb_ne0.mp z)).1 (fun _ _ => rfl))
    rw [pk_us]
    have on : c = mk_pt T P R c i ∨ mt_bl (mk_dp T P) (mk_pt T P R) c (mk_pt T P R c i) = true := by
      rcases Nat.lt_or_ge i 3 with l | l
      · exact Or.inr (mt_bl_iff.mpr ⟨i, by omega, rfl⟩)
      · have := (mk_b ok c cN).2.2
        rw [d3] at this
        rw [show i = 3 by omega]
        exact Or.inl this.symm
    have f1 := (mk_f ok (mk_pt T P R c i) p1 c cN).mpr ⟨cF, on⟩
    have e1 := mk_e ok (mk_pt T P R c i) p1
    have f2 := (mk_f ok (mk_pt T P R c i) p1 (mk_fr T P R (mk_pt T P R c i)) (by omega)).mp ⟨Nat.le_refl _, e1.1⟩
    have : ¬ mk_fr T P R (mk_pt T P R c i) < c := fun l => by
      have := (r1 (mk_fr T P R (mk_pt T P R c i))).mpr (Or.inl ⟨l, f2⟩)
      rw [z, b_0] at this
      exact absurd this (by decide)
    exact congrArg nI (by omega)
theorem mk_r_n {c : Nat} {rb fO eO : Nat → Int32} (ok : mk_ok T P R) (cN : c < mk_N T P R) (cF : mk_F T P ≤ c) (R0 : mk_r (mk_F T P) (mk_dp T P) (mk_pt T P R) (mk_fr T P R) (mk_er T P R) c 4 rb fO eO) : mk_r (mk_F T P) (mk_dp T P) (mk_pt T P R) (mk_fr T P R) (mk_er T P R) (c + 1) 0 rb fO eO := by
  have hN := mk_a ok
  have d3 : mk_dp T P c = 3 := (mk_b ok c cN).2.1.mpr cF
  have p3 : mk_pt T P R c 3 = c := by have := (mk_b ok c cN).2.2; rw [d3] at this; exact this
  intro a
  obtain ⟨r1, r2⟩ := R0 a
  have on : (∃ e, e < 4 ∧ mk_pt T P R c e = a) ↔ (c = a ∨ mt_bl (mk_dp T P) (mk_pt T P R) c a = true) := by
    rw [mt_bl_iff, d3]
    constructor
    · rintro ⟨e, q1, q2⟩
      by_cases w : e = 3
      · subst w; exact Or.inl (p3.symm.trans q2)
      · exact Or.inr ⟨e, by omega, q2⟩
    · rintro (q | ⟨e, q1, q2⟩)
      · exact ⟨3, by omega, p3.trans q⟩
      · exact ⟨e, by omega, q2⟩
  have none : ∀ k, ¬ ∃ e, e < 0 ∧ mk_pt T P R k e = a := fun k ⟨e, q, _⟩ => by omega
  refine ⟨fun r => ?_, fun ex => ⟨(r2 ex).1, fun k => absurd k (none _), fun _ => ?_⟩⟩
  · rw [r1 r, on]
    constructor
    · rintro (q | ⟨q1, q2⟩)
      · exact Or.inl ⟨by omega, q.2⟩
      · subst q1; exact Or.inl ⟨by omega, cF, q2⟩
    · rintro (⟨q1, q2, q3⟩ | q)
      · by_cases w : r = c
        · subst w; exact Or.inr ⟨rfl, q3⟩
        · exact Or.inl ⟨by omega, q2, q3⟩
      · exact absurd q.2 (none _)
  · obtain ⟨r, hr⟩ := ex
    have hr' := (r1 r).mp hr
    have aN : a < mk_N T P R := by
      rcases hr' with ⟨q1, q2, q3 | q3⟩ | ⟨q1, e, q2, q3⟩
      · omega
      · obtain ⟨d, w1, w2⟩ := mt_bl_iff.mp q3
        have := (mk_c ok r (by omega) d (by omega)).1
        omega
      · have := (mk_c ok c cN e (by omega)).1
        omega
    by_cases w : ∃ e, e < 4 ∧ mk_pt T P R c e = a
    · rw [(r2 ⟨r, hr⟩).2.1 w]
      have := (mk_f ok a aN c cN).mpr ⟨cF, on.mp w⟩
      by_cases y : c + 1 < mk_er T P R a
      · rw [if_pos y]
      · rw [if_neg y]; exact congrArg nI (by omega)
    · rw [(r2 ⟨r, hr⟩).2.2 w]
      have q : r < c ∧ mk_F T P ≤ r ∧ (r = a ∨ mt_bl (mk_dp T P) (mk_pt T P R) r a = true) := hr'.resolve_right fun q => w q.2
      have f1 := (mk_f ok a aN r (by omega)).mpr q.2
      have f2 : ¬ c < mk_er T P R a := fun l => w (on.mpr ((mk_f ok a aN c cN).mp ⟨by omega, l⟩).2)
      rw [if_neg f2, if_neg (by omega)]
theorem mx_addRow {post : SX → Prop} {c : Nat} (ok : mk_ok T P R) (cN : c < mk_N T P R) (cF : mk_F T P ≤ c) (Nn : mk_n (mk_dp T P) (mk_pt T P R) c xnc xdO xpA xab xbe) (R0 : mk_r (mk_F T P) (mk_dp T P) (mk_pt T P R) (mk_fr T P R) (mk_er T P R) c 0 xrb xfO xeO)
    (h : ∀ (xnc' : Int32) (xdO' xpA' xab' xbe' xrb' xfO' xeO' : Nat → Int32), mk_n (mk_dp T P) (mk_pt T P R) (c + 1) xnc' xdO' xpA' xab' xbe' → mk_r (mk_F T P) (mk_dp T P) (mk_pt T P R) (mk_fr T P R) (mk_er T P R) (c + 1) 0 xrb' xfO' xeO' → post (xnc', xfn, xel, xlm, xwm, xtc, xsu, xco, xvi, xlv, xes, xdO', xpA', xab', xbe', xrb', xfO', xeO', xic, xcu, xcm, xwr, xst, xac, xpr, xbb, xdr, xok, xon, xoa, xgn, xgm, xh, xni, xhn, xho, xhb, xwn, xwd, xwf, xwt, xbk, xre)) : wpX_addRow post (xnc, xfn, xel, xlm, xwm, xtc, xsu, xco, xvi, xlv, xes, xdO, xpA, xab, xbe, xrb, xfO, xeO, xic, xcu, xcm, xwr, xst, xac, xpr, xbb, xdr, xok, xon, xoa, xgn, xgm, xh, xni, xhn, xho, xhb, xwn, xwd, xwf, xwt, xbk, xre) (nI (mk_pa T P R c)) := by
  have hN := mk_a ok
  have e0 := Nn.1
  subst e0
  refine br_t (nI_lt (b := 31) (by omega) (by decide)) (mx_addN ok cN (by omega) Nn fun xnc' xdO' xpA' xab' xbe' Nn' => ⟨5, ?_⟩)
  have d3 : mk_dp T P c = 3 := (mk_b ok c cN).2.1.mpr cF
  refine mx_row19 ok cN cF (fun d hd => Nn'.2.2.1 c d (by omega) (by omega)) ?_ 4 0 5 xrb xfO xeO (by omega) (by omega) R0
  intro xrb' xfO' xeO' R'
  exact h _ _ _ _ _ _ _ _ Nn' (mk_r_n ok cN cF R')
end
end
section
/-! buildTree -/
section
variable {T P R : Nat} {xnc xfn xel xlm xwm xtc xsu xco xvi xlv xes : Int32} {xdO xpA xab xbe xrb xfO xeO xic xcu xcm xwr xst xac xpr xbb xdr xok xon xoa xgn xgm xh xni xhn xho xhb xwn xwd xwf xwt xbk xre : Nat → Int32}
theorem mx_bt92 {post : SX → Prop} {J : Int32 → Int32 → Int32 → Int32 → Int32 → Int32 → Int32 → Int32 → Int32 → Int32 → Int32 → Int32 → (Nat → Int32) → (Nat → Int32) → (Nat → Int32) → (Nat → Int32) → (Nat → Int32) → (Nat → Int32) → (Nat → Int32) → (Nat → Int32) → (Nat → Int32) → (Nat → Int32) → (Nat → Int32) → (Nat → Int32) → (Nat → Int32) → (Nat → Int32) → (Nat → Int32) → (Nat → Int32) → (Nat → Int32) → (Nat → Int32) → (Nat → Int32) → (Nat → Int32) → (Nat → Int32) → (Nat → Int32) → (Nat → Int32) → (Nat → Int32) → (Nat → Int32) → (Nat → Int32) → (Nat → Int32) → (Nat → Int32) → (Nat → Int32) → (Nat → Int32) → (Nat → Int32) → (Nat → Int32) → Prop} {q : Nat} (ok : mk_ok T P R) (hq : q < T * P) :
    ∀ (k j n : Nat) (xnc : Int32) (xdO xpA xab xbe xrb xfO xeO : Nat → Int32), j + k = R → k < n → mk_n (mk_dp T P) (mk_pt T P R) (mk_F T P + q * R + j) xnc xdO xpA xab xbe → mk_r (mk_F T P) (mk_dp T P) (mk_pt T P R) (mk_fr T P R) (mk_er T P R) (mk_F T P + q * R + j) 0 xrb xfO xeO →
      (∀ (xnc' : Int32) (xdO' xpA' xab' xbe' xrb' xfO' xeO' : Nat → Int32), mk_n (mk_dp T P) (mk_pt T P R) (mk_F T P + (q + 1) * R) xnc' xdO' xpA' xab' xbe' → mk_r (mk_F T P) (mk_dp T P) (mk_pt T P R) (mk_fr T P R) (mk_er T P R) (mk_F T P + (q + 1) * R) 0 xrb' xfO' xeO' → J (nI (T + 1 + (q + 1))) xnc' xfn xel xlm xwm xtc xsu xco xvi xlv xes xdO' xpA' xab' xbe' xrb' xfO' xeO' xic xcu xcm xwr xst xac xpr xbb xdr xok xon xoa xgn xgm xh xni xhn xho xhb xwn xwd xwf xwt xbk xre) →
      wX_buildTree_92 post J (nI R) (nI (T + 1 + q)) n (nI j) xnc xfn xel xlm xwm xtc xsu xco xvi xlv xes xdO xpA xab xbe xrb xfO xeO xic xcu xcm xwr xst xac xpr xbb xdr xok xon xoa xgn xgm xh xni xhn xho xhb xwn xwd xwf xwt xbk xre := by
  obtain ⟨t1, t2, p1, p2, r1, r2⟩ := id ok
  intro k
  induction k with
  | zero =>
    intro j n xnc xdO xpA xab xbe xrb xfO xeO hj hn Nn R0 h
    obtain ⟨n, rfl⟩ : ∃ j, n = j + 1 := ⟨n - 1, by omega⟩
    rw [wX_buildTree_92]
    obtain rfl : j = R := by omega
    have e : mk_F T P + q * j + j = mk_F T P + (q + 1) * j := by rw [Nat.succ_mul, Nat.add_assoc]
    rw [e] at Nn R0
    exact br_t (nI_le (by omega) (by omega)) (nm_r (nI_1 _) (h xnc xdO xpA xab xbe xrb xfO xeO Nn R0))
  | succ k ih =>
    intro j n xnc xdO xpA xab xbe xrb xfO xeO hj hn Nn R0 h
    obtain ⟨n, rfl⟩ : ∃ j, n = j + 1 := ⟨n - 1, by omega⟩
    rw [wX_buildTree_92]
    obtain ⟨e1, e2⟩ := mk_j ok q hq j (by omega)
    refine br_f (nI_ge (by omega) (by omega)) ?_
    rw [← e1]
    refine mx_addRow ok e2 (by omega) Nn R0 ?_
    rw [e1]
    intro xnc' xdO' xpA' xab' xbe' xrb' xfO' xeO' Nn' R0'
    exact nm_r (nI_1 j) (ih (j + 1) n xnc' xdO' xpA' xab' xbe' xrb' xfO' xeO' (by omega) (by omega) Nn' R0' h)
theorem mx_bt80 {post : SX → Prop} (ok : mk_ok T P R)
    (h : ∀ (xnc' : Int32) (xdO' xpA' xab' xbe' xrb' xfO' xeO' : Nat → Int32), mk_n (mk_dp T P) (mk_pt T P R) (mk_N T P R) xnc' xdO' xpA' xab' xbe' → mk_r (mk_F T P) (mk_dp T P) (mk_pt T P R) (mk_fr T P R) (mk_er T P R) (mk_N T P R) 0 xrb' xfO' xeO' → post (xnc', nI (mk_F T P), xel, xlm, xwm, xtc, xsu, xco, xvi, xlv, xes, xdO', xpA', xab', xbe', xrb', xfO', xeO', xic, xcu, xcm, xwr, xst, xac, xpr, xbb, xdr, xok, xon, xoa, xgn, xgm, xh, xni, xhn, xho, xhb, xwn, xwd, xwf, xwt, xbk, xre)) :
    ∀ (k q n : Nat) (xnc : Int32) (xdO xpA xab xbe xrb xfO xeO : Nat → Int32), q + k = T * P → k < n → mk_n (mk_dp T P) (mk_pt T P R) (mk_F T P + q * R) xnc xdO xpA xab xbe → mk_r (mk_F T P) (mk_dp T P) (mk_pt T P R) (mk_fr T P R) (mk_er T P R) (mk_F T P + q * R) 0 xrb xfO xeO →
      wX_buildTree_80 post (nI R) n (nI (T + 1 + q)) xnc (nI (mk_F T P)) xel xlm xwm xtc xsu xco xvi xlv xes xdO xpA xab xbe xrb xfO xeO xic xcu xcm xwr xst xac xpr xbb xdr xok xon xoa xgn xgm xh xni xhn xho xhb xwn xwd xwf xwt xbk xre := by
  have hN := mk_a ok
  obtain ⟨t1, t2, p1, p2, r1, r2⟩ := id ok
  intro k
  induction k with
  | zero =>
    intro q n xnc xdO xpA xab xbe xrb xfO xeO hj hn Nn R0
    obtain ⟨n, rfl⟩ : ∃ j, n = j + 1 := ⟨n - 1, by omega⟩
    rw [wX_buildTree_80]
    have eq : q = T * P := by omega
    have e : mk_F T P + q * R = mk_N T P R := by rw [eq]; rfl
    rw [e] at Nn R0
    refine br_t (nI_le ?_ ?_) (h xnc xdO xpA xab xbe xrb xfO xeO Nn R0)
    · show 1 + T + T * P ≤ _; omega
    · have : mk_F T P = 1 + T + T * P := rfl
      omega
  | succ k ih =>
    intro q n xnc xdO xpA xab xbe xrb xfO xeO hj hn Nn R0
    obtain ⟨n, rfl⟩ : ∃ j, n = j + 1 := ⟨n - 1, by omega⟩
    rw [wX_buildTree_80]
    have eF : mk_F T P = 1 + T + T * P := rfl
    refine br_f (nI_ge (by omega) (by omega)) ⟨R + 1, mx_bt92 (q := q) ok (by omega) R 0 (R + 1) xnc xdO xpA xab xbe xrb xfO xeO (by omega) (by omega) Nn R0 ?_⟩
    intro xnc' xdO' xpA' xab' xbe' xrb' xfO' xeO' Nn' R0'
    exact ih (q + 1) n xnc' xdO' xpA' xab' xbe' xrb' xfO' xeO' (by omega) (by omega) Nn' R0'
theorem mx_bt37 {post : SX → Prop} {J : Int32 → Int32 → Int32 → Int32 → Int32 → Int32 → Int32 → Int32 → Int32 → Int32 → Int32 → Int32 → (Nat → Int32) → (Nat → Int32) → (Nat → Int32) → (Nat → Int32) → (Nat → Int32) → (Nat → Int32) → (Nat → Int32) → (Nat → Int32) → (Nat → Int32) → (Nat → Int32) → (Nat → Int32) → (Nat → Int32) → (Nat → Int32) → (Nat → Int32) → (Nat → Int32) → (Nat → Int32) → (Nat → Int32) → (Nat → Int32) → (Nat → Int32) → (Nat → Int32) → (Nat → Int32) → (Nat → Int32) → (Nat → Int32) → (Nat → Int32) → (Nat → Int32) → (Nat → Int32) → (Nat → Int32) → (Nat → Int32) → (Nat → Int32) → (Nat → Int32) → (Nat → Int32) → (Nat → Int32) → Prop} {y : Nat} (ok : mk_ok T P R) (hy : y < T) :
    ∀ (k j n : Nat) (xnc : Int32) (xdO xpA xab xbe : Nat → Int32), j + k = P → k < n → mk_n (mk_dp T P) (mk_pt T P R) (1 + T + y * P + j) xnc xdO xpA xab xbe →
      (∀ (xnc' : Int32) (xdO' xpA' xab' xbe' : Nat → Int32), mk_n (mk_dp T P) (mk_pt T P R) (1 + T + (y + 1) * P) xnc' xdO' xpA' xab' xbe' → J (nI (y + 1 + 1)) xnc' xfn xel xlm xwm xtc xsu xco xvi xlv xes xdO' xpA' xab' xbe' xrb xfO xeO xic xcu xcm xwr xst xac xpr xbb xdr xok xon xoa xgn xgm xh xni xhn xho xhb xwn xwd xwf xwt xbk xre) →
      wX_buildTree_37 post J (nI T) (nI P) (nI R) (nI (y + 1)) n (nI j) xnc xfn xel xlm xwm xtc xsu xco xvi xlv xes xdO xpA xab xbe xrb xfO xeO xic xcu xcm xwr xst xac xpr xbb xdr xok xon xoa xgn xgm xh xni xhn xho xhb xwn xwd xwf xwt xbk xre := by
  obtain ⟨t1, t2, p1, p2, r1, r2⟩ := id ok
  intro k
  induction k with
  | zero =>
    intro j n xnc xdO xpA xab xbe hj hn Nn h
    obtain ⟨n, rfl⟩ : ∃ j, n = j + 1 := ⟨n - 1, by omega⟩
    rw [wX_buildTree_37]
    obtain rfl : j = P := by omega
    have e : 1 + T + y * j + j = 1 + T + (y + 1) * j := by rw [Nat.succ_mul, Nat.add_assoc (1 + T)]
    rw [e] at Nn
    exact br_t (nI_le (by omega) (by omega)) (nm_r (nI_1 _) (h xnc xdO xpA xab xbe Nn))
  | succ k ih =>
    intro j n xnc xdO xpA xab xbe hj hn Nn h
    obtain ⟨n, rfl⟩ : ∃ j, n = j + 1 := ⟨n - 1, by omega⟩
    rw [wX_buildTree_37]
    obtain ⟨e1, e2⟩ := mk_i ok y hy j (by omega)
    refine br_f (nI_ge (by omega) (by omega)) ?_
    rw [← e1]
    refine mx_addN ok e2 (by omega) Nn ?_
    rw [e1]
    intro xnc' xdO' xpA' xab' xbe' Nn'
    exact nm_r (nI_1 j) (ih (j + 1) n xnc' xdO' xpA' xab' xbe' (by omega) (by omega) Nn' h)
theorem mx_bt28 {post : SX → Prop} (ok : mk_ok T P R) (R0 : mk_r (mk_F T P) (mk_dp T P) (mk_pt T P R) (mk_fr T P R) (mk_er T P R) (mk_F T P) 0 xrb xfO xeO)
    (h : ∀ (xnc' : Int32) (xdO' xpA' xab' xbe' xrb' xfO' xeO' : Nat → Int32), mk_n (mk_dp T P) (mk_pt T P R) (mk_N T P R) xnc' xdO' xpA' xab' xbe' → mk_r (mk_F T P) (mk_dp T P) (mk_pt T P R) (mk_fr T P R) (mk_er T P R) (mk_N T P R) 0 xrb' xfO' xeO' → post (xnc', nI (mk_F T P), xel, xlm, xwm, xtc, xsu, xco, xvi, xlv, xes, xdO', xpA', xab', xbe', xrb', xfO', xeO', xic, xcu, xcm, xwr, xst, xac, xpr, xbb, xdr, xok, xon, xoa, xgn, xgm, xh, xni, xhn, xho, xhb, xwn, xwd, xwf, xwt, xbk, xre)) :
    ∀ (k y n : Nat) (xnc : Int32) (xdO xpA xab xbe : Nat → Int32), y + k = T → k < n → mk_n (mk_dp T P) (mk_pt T P R) (1 + T + y * P) xnc xdO xpA xab xbe →
      wX_buildTree_28 post (nI T) (nI P) (nI R) n (nI (y + 1)) xnc xfn xel xlm xwm xtc xsu xco xvi xlv xes xdO xpA xab xbe xrb xfO xeO xic xcu xcm xwr xst xac xpr xbb xdr xok xon xoa xgn xgm xh xni xhn xho xhb xwn xwd xwf xwt xbk xre := by
  have hN := mk_a ok
  obtain ⟨t1, t2, p1, p2, r1, r2⟩ := id ok
  intro k
  induction k with
  | zero =>
    intro y n xnc xdO xpA xab xbe hj hn Nn
    obtain ⟨n, rfl⟩ : ∃ j, n = j + 1 := ⟨n - 1, by omega⟩
    rw [wX_buildTree_28]
    obtain rfl : y = T := by omega
    have e : 1 + y + y * P = mk_F y P := rfl
    rw [e] at Nn
    have z0 : mk_F y P + 0 * R = mk_F y P := by rw [Nat.zero_mul, Nat.add_zero]
    have Nn' : mk_n (mk_dp y P) (mk_pt y P R) (mk_F y P + 0 * R) xnc xdO xpA xab xbe := by rw [z0]; exact Nn
    have R0' : mk_r (mk_F y P) (mk_dp y P) (mk_pt y P R) (mk_fr y P R) (mk_er y P R) (mk_F y P + 0 * R) 0 xrb xfO xeO := by rw [z0]; exact R0
    refine br_t (nI_lt (by omega) (by omega)) (nm_r (nI_1 y) (nm_r (e' := nI (mk_F y P)) ?_ ⟨y * P + 1, mx_bt80 ok h (y * P) 0 (y * P + 1) xnc xdO xpA xab xbe xrb xfO xeO (by omega) (by omega) Nn' R0'⟩))
    rw [pk_mul, nI_add]
    exact congrArg nI (by rw [← e]; omega)
  | succ k ih =>
    intro y n xnc xdO xpA xab xbe hj hn Nn
    obtain ⟨n, rfl⟩ : ∃ j, n = j + 1 := ⟨n - 1, by omega⟩
    rw [wX_buildTree_28]
    refine br_f (nI_nlt (by omega) (by omega)) ⟨P + 1, mx_bt37 (y := y) ok (by omega) P 0 (P + 1) xnc xdO xpA xab xbe (by omega) (by omega) Nn ?_⟩
    intro xnc' xdO' xpA' xab' xbe' Nn'
    exact ih (y + 1) n xnc' xdO' xpA' xab' xbe' (by omega) (by omega) Nn'
theorem mx_bt8 {post : SX → Prop} (ok : mk_ok T P R) (R0 : mk_r (mk_F T P) (mk_dp T P) (mk_pt T P R) (mk_fr T P R) (mk_er T P R) (mk_F T P) 0 xrb xfO xeO)
    (h : ∀ (xnc' : Int32) (xdO' xpA' xab' xbe' xrb' xfO' xeO' : Nat → Int32), mk_n (mk_dp T P) (mk_pt T P R) (mk_N T P R) xnc' xdO' xpA' xab' xbe' → mk_r (mk_F T P) (mk_dp T P) (mk_pt T P R) (mk_fr T P R) (mk_er T P R) (mk_N T P R) 0 xrb' xfO' xeO' → post (xnc', nI (mk_F T P), xel, xlm, xwm, xtc, xsu, xco, xvi, xlv, xes, xdO', xpA', xab', xbe', xrb', xfO', xeO', xic, xcu, xcm, xwr, xst, xac, xpr, xbb, xdr, xok, xon, xoa, xgn, xgm, xh, xni, xhn, xho, xhb, xwn, xwd, xwf, xwt, xbk, xre)) :
    ∀ (k x n : Nat) (xnc : Int32) (xdO xpA xab xbe : Nat → Int32), x + k = T → k < n → mk_n (mk_dp T P) (mk_pt T P R) (1 + x) xnc xdO xpA xab xbe →
      wX_buildTree_8 post (nI T) (nI P) (nI R) n (nI x) xnc xfn xel xlm xwm xtc xsu xco xvi xlv xes xdO xpA xab xbe xrb xfO xeO xic xcu xcm xwr xst xac xpr xbb xdr xok xon xoa xgn xgm xh xni xhn xho xhb xwn xwd xwf xwt xbk xre := by
  obtain ⟨t1, t2, p1, p2, r1, r2⟩ := id ok
  intro k
  induction k with
  | zero =>
    intro x n xnc xdO xpA xab xbe hj hn Nn
    obtain ⟨n, rfl⟩ : ∃ j, n = j + 1 := ⟨n - 1, by omega⟩
    rw [wX_buildTree_8]
    obtain rfl : x = T := by omega
    refine br_t (nI_le (by omega) (by omega)) ⟨x + 1, mx_bt28 ok R0 h x 0 (x + 1) xnc xdO xpA xab xbe (by omega) (by omega) ?_⟩
    rw [Nat.zero_mul, Nat.add_zero]
    exact Nn
  | succ k ih =>
    intro x n xnc xdO xpA xab xbe hj hn Nn
    obtain ⟨n, rfl⟩ : ∃ j, n = j + 1 := ⟨n - 1, by omega⟩
    rw [wX_buildTree_8]
    obtain ⟨e1, e2⟩ := mk_k ok x (by omega)
    refine br_f (nI_ge (by omega) (by omega)) ?_
    have L := mx_addN (post := fun u => match u with | (xnc', xfn', xel', xlm', xwm', xtc', xsu', xco', xvi', xlv', xes', xdO', xpA', xab', xbe', xrb', xfO', xeO', xic', xcu', xcm', xwr', xst', xac', xpr', xbb', xdr', xok', xon', xoa', xgn', xgm', xh', xni', xhn', xho', xhb', xwn', xwd', xwf', xwt', xbk', xre') => ∀ z, z = nI x + 1 → wX_buildTree_8 post (nI T) (nI P) (nI R) n z xnc' xfn' xel' xlm' xwm' xtc' xsu' xco' xvi' xlv' xes' xdO' xpA' xab' xbe' xrb' xfO' xeO' xic' xcu' xcm' xwr' xst' xac' xpr' xbb' xdr' xok' xon' xoa' xgn' xgm' xh' xni' xhn' xho' xhb' xwn' xwd' xwf' xwt' xbk' xre') ok e2 (by omega) Nn (fun xnc' xdO' xpA' xab' xbe' Nn' => nm_r (nI_1 x) (ih (x + 1) n xnc' xdO' xpA' xab' xbe' (by omega) (by omega) Nn'))
    rw [e1] at L
    exact L
theorem mx_build {post : SX → Prop} (ok : mk_ok T P R) (N0 : mk_n (mk_dp T P) (mk_pt T P R) 0 xnc xdO xpA xab xbe) (R0 : mk_r (mk_F T P) (mk_dp T P) (mk_pt T P R) (mk_fr T P R) (mk_er T P R) (mk_F T P) 0 xrb xfO xeO)
    (h : ∀ (xnc' : Int32) (xdO' xpA' xab' xbe' xrb' xfO' xeO' : Nat → Int32), mk_n (mk_dp T P) (mk_pt T P R) (mk_N T P R) xnc' xdO' xpA' xab' xbe' → mk_r (mk_F T P) (mk_dp T P) (mk_pt T P R) (mk_fr T P R) (mk_er T P R) (mk_N T P R) 0 xrb' xfO' xeO' → post (xnc', nI (mk_F T P), xel, xlm, xwm, xtc, xsu, xco, xvi, xlv, xes, xdO', xpA', xab', xbe', xrb', xfO', xeO', xic, xcu, xcm, xwr, xst, xac, xpr, xbb, xdr, xok, xon, xoa, xgn, xgm, xh, xni, xhn, xho, xhb, xwn, xwd, xwf, xwt, xbk, xre)) : wpX_buildTree post (xnc, xfn, xel, xlm, xwm, xtc, xsu, xco, xvi, xlv, xes, xdO, xpA, xab, xbe, xrb, xfO, xeO, xic, xcu, xcm, xwr, xst, xac, xpr, xbb, xdr, xok, xon, xoa, xgn, xgm, xh, xni, xhn, xho, xhb, xwn, xwd, xwf, xwt, xbk, xre) (nI T) (nI P) (nI R) := by
  unfold wpX_buildTree
  refine mx_addRoot N0 rfl rfl fun xnc' xdO' xpA' xab' xbe' Nn' => ?_
  exact ⟨T + 1, mx_bt8 ok R0 h T 0 (T + 1) xnc' xdO' xpA' xab' xbe' (by omega) (by omega) Nn'⟩
end
end
section
/-! Y's constructor; clamps; the arrays of writers -/
def mk_tg (T P R n : Nat) : Int32 := if n = 0 then -1 else nI (mk_pa T P R n)
def mk_w (i : Nat) : Nat → Int32 := fun j => if j < i then -1 else 0
theorem mk_w_0 : mk_w 0 = fun _ => 0 := by funext j; unfold mk_w; rw [if_neg (by omega)]
theorem mk_w_s (i : Nat) : upd (mk_w i) i (-1) = mk_w (i + 1) := by
  funext j
  by_cases z : j = i
  · rw [z, pk_us]; unfold mk_w; rw [if_pos (by omega)]
  · rw [pk_un z]; unfold mk_w
    by_cases y : j < i
    · rw [if_pos y, if_pos (by omega)]
    · rw [if_neg y, if_neg (by omega)]
/-- t is x, clamped between 1 and g -/
def mk_ct (x : Int32) (g t : Nat) : Prop := (1 ≤ x ∧ x ≤ nI g ∧ x = nI t) ∨ (1 ≤ x ∧ ¬ x ≤ nI g ∧ t = g) ∨ (¬ 1 ≤ x ∧ t = 1)
theorem mk_cte (x : Int32) (g : Nat) (g0 : 0 < g) (g31 : g < 2 ^ 31) : ∃ t, 0 < t ∧ t ≤ g ∧ mk_ct x g t := by
  rcases Classical.em (1 ≤ x) with h | h
  · rcases Classical.em (x ≤ nI g) with h2 | h2
    · have nz : ¬ x < 0 := fun z => by
        rw [Int32.lt_iff_toInt_lt, show (0 : Int32).toInt = 0 by decide] at z
        rw [Int32.le_iff_toInt_le, show (1 : Int32).toInt = 1 by decide] at h
        omega
      obtain ⟨j, hj, e⟩ := nI_of nz
      refine ⟨j, ?_, ?_, Or.inl ⟨h, h2, e⟩⟩
      · have h' : nI 1 ≤ nI j := by rw [← e]; exact h
        rw [nI_leI (by omega) hj] at h'
        omega
      · rw [e, nI_leI hj g31] at h2
        exact h2
    · exact ⟨g, g0, Nat.le_refl _, Or.inr (Or.inl ⟨h, h2, rfl⟩)⟩
  · exact ⟨1, by omega, by omega, Or.inr (Or.inr ⟨h, rfl⟩)⟩
section
variable {T P R : Nat} {xnc xfn xel xlm xwm xtc xsu xco xvi xlv xes : Int32} {xdO xpA xab xbe xrb xfO xeO xic xcu xcm xwr xst xac xpr xbb xdr xok xon xoa xgn xgm xh xni xhn xho xhb xwn xwd xwf xwt xbk xre : Nat → Int32} {ynB ynW : Int64} {ypa : Nat → Int32} {ybg : Nat → Int64} {ykd : Nat → Int32} {ywb : Nat → Int64} {yld : Nat → Int32}
theorem mx_clamp {post : Int32 → Prop} {x : Int32} {g t : Nat} (c : mk_ct x g t) (h : post (nI t)) : wpX_clamp post (xnc, xfn, xel, xlm, xwm, xtc, xsu, xco, xvi, xlv, xes, xdO, xpA, xab, xbe, xrb, xfO, xeO, xic, xcu, xcm, xwr, xst, xac, xpr, xbb, xdr, xok, xon, xoa, xgn, xgm, xh, xni, xhn, xho, xhb, xwn, xwd, xwf, xwt, xbk, xre) x (nI g) := by
  rcases c with ⟨h1, h2, e⟩ | ⟨h1, h2, e⟩ | ⟨h1, e⟩
  · rw [← e] at h; exact br_t h1 (br_t h2 h)
  · rw [e] at h; exact br_t h1 (br_f h2 h)
  · rw [e] at h; exact br_f h1 h
theorem my_clamp {post : Int32 → Prop} {x : Int32} {g t : Nat} (c : mk_ct x g t) (h : post (nI t)) : wpY_clamp post (xfn, xnc, xel, ynB, ynW, xco, xvi, xlv, xes, ypa, xcu, xcm, xwr, xh, xst, xac, xpr, ybg, ykd, xon, xoa, xgn, xgm, xwn, xwd, ywb, yld) x 1 (nI g) := by
  rcases c with ⟨h1, h2, e⟩ | ⟨h1, h2, e⟩ | ⟨h1, e⟩
  · rw [← e] at h; exact br_t h1 (br_t h2 h)
  · rw [e] at h; exact br_t h1 (br_f h2 h)
  · rw [e] at h; exact br_f h1 h
theorem mx_i322 {post : SX → Prop} (h : post (xnc, xfn, xel, xlm, xwm, xtc, xsu, xco, xvi, xlv, xes, xdO, xpA, xab, xbe, xrb, xfO, xeO, xic, xcu, xcm, mk_w 31, xst, xac, xpr, xbb, xdr, xok, xon, xoa, xgn, xgm, xh, xni, xhn, xho, xhb, xwn, xwd, xwf, xwt, xbk, xre)) : ∀ (k i n : Nat), i + k = 31 → k < n → wX_init_322 post xnc xfn xel xlm xwm xtc xsu xco xvi xlv xes n (nI i) xdO xpA xab xbe xrb xfO xeO xic xcu xcm (mk_w i) xst xac xpr xbb xdr xok xon xoa xgn xgm xh xni xhn xho xhb xwn xwd xwf xwt xbk xre := by
  intro k
  induction k with
  | zero =>
    intro i n hi hn
    obtain ⟨n, rfl⟩ : ∃ j, n = j + 1 := ⟨n - 1, by omega⟩
    rw [wX_init_322]
    obtain rfl : i = 31 := by omega
    exact br_t (nI_le (a := 31) (by omega) (by omega)) h
  | succ k ih =>
    intro i n hi hn
    obtain ⟨n, rfl⟩ : ∃ j, n = j + 1 := ⟨n - 1, by omega⟩
    rw [wX_init_322]
    exact br_f (nI_ge (b := 31) (by omega) (by decide)) ⟨mb_n31 (by omega), nm_r (e' := mk_w (i + 1)) (by rw [mb_c (by omega), mk_w_s]) (nm_r (nI_1 i) (ih (i + 1) n (by omega) (by omega)))⟩
theorem my_i366 {post : SY → Prop} (h : post (xfn, xnc, xel, ynB, ynW, xco, xvi, xlv, xes, ypa, xcu, xcm, mk_w 31, xh, xst, xac, xpr, ybg, ykd, xon, xoa, xgn, xgm, xwn, xwd, ywb, yld)) : ∀ (k i n : Nat), i + k = 31 → k < n → wY_init_366 post xfn xnc xel ynB ynW xco xvi xlv xes n (nI i) ypa xcu xcm (mk_w i) xh xst xac xpr ybg ykd xon xoa xgn xgm xwn xwd ywb yld := by
  intro k
  induction k with
  | zero =>
    intro i n hi hn
    obtain ⟨n, rfl⟩ : ∃ j, n = j + 1 := ⟨n - 1, by omega⟩
    rw [wY_init_366]
    obtain rfl : i = 31 := by omega
    exact br_t (nI_le (a := 31) (by omega) (by omega)) h
  | succ k ih =>
    intro i n hi hn
    obtain ⟨n, rfl⟩ : ∃ j, n = j + 1 := ⟨n - 1, by omega⟩
    rw [wY_init_366]
    exact br_f (nI_ge (b := 31) (by omega) (by decide)) ⟨mb_n31 (by omega), nm_r (e' := mk_w (i + 1)) (by rw [mb_c (by omega), mk_w_s]) (nm_r (nI_1 i) (ih (i + 1) n (by omega) (by omega)))⟩
theorem my_i321 {post : SY → Prop} {J : Int32 → (Nat → Int32) → (Nat → Int32) → (Nat → Int32) → (Nat → Int32) → (Nat → Int32) → (Nat → Int32) → (Nat → Int32) → (Nat → Int32) → (Nat → Int64) → (Nat → Int32) → (Nat → Int32) → (Nat → Int32) → (Nat → Int32) → (Nat → Int32) → (Nat → Int32) → (Nat → Int32) → (Nat → Int64) → (Nat → Int32) → Prop} {q : Nat} (ok : mk_ok T P R) (hq : q < T * P)
    (hJ : ∀ pr : Nat → Int32, (∀ n, n < mk_F T P + (q + 1) * R → pr n = mk_tg T P R n) → J (nI (T + 1 + (q + 1))) pr xcu xcm xwr xh xst xac xpr ybg ykd xon xoa xgn xgm xwn xwd ywb yld) :
    ∀ (k j n : Nat) (pr : Nat → Int32), j + k = R → k < n → (∀ n, n < mk_F T P + q * R + j → pr n = mk_tg T P R n) → wY_init_321 post J (nI R) (nI (T + 1)) (nI (T + 1 + q)) (nI (mk_F T P)) xnc xel ynB ynW xco xvi xlv xes n (nI j) pr xcu xcm xwr xh xst xac xpr ybg ykd xon xoa xgn xgm xwn xwd ywb yld := by
  have hN := mk_a ok
  obtain ⟨t1, t2, p1, p2, r1, r2⟩ := id ok
  intro k
  induction k with
  | zero =>
    intro j n pr hj hn hp
    obtain ⟨n, rfl⟩ : ∃ j, n = j + 1 := ⟨n - 1, by omega⟩
    rw [wY_init_321]
    obtain rfl : j = R := by omega
    have e : mk_F T P + q * j + j = mk_F T P + (q + 1) * j := by rw [Nat.succ_mul, Nat.add_assoc]
    rw [e] at hp
    exact br_t (nI_le (by omega) (by omega)) (nm_r (nI_1 _) (hJ pr hp))
  | succ k ih =>
    intro j n pr hj hn hp
    obtain ⟨n, rfl⟩ : ∃ j, n = j + 1 := ⟨n - 1, by omega⟩
    rw [wY_init_321]
    obtain ⟨e1, e2⟩ := mk_j ok q hq j (by omega)
    have ix : nI (mk_F T P) + (nI (T + 1 + q) - nI (T + 1)) * nI R + nI j = nI (mk_F T P + q * R + j) := by
      rw [pk_sub (by omega), show T + 1 + q - (T + 1) = q by omega, pk_mul, nI_add, nI_add]
    refine br_f (nI_ge (by omega) (by omega)) ?_
    rw [ix]
    refine ⟨mb_n31 (by omega), nm_r (e' := upd pr (mk_F T P + q * R + j) (nI (T + 1 + q))) (by rw [mb_c (by omega)]) (nm_r (nI_1 j) (ih (j + 1) n _ (by omega) (by omega) fun n hn => ?_))⟩
    by_cases w : n = mk_F T P + q * R + j
    · rw [w, pk_us, mk_tg, if_neg (by omega), e1]
    · rw [pk_un w]; exact hp n (by omega)
theorem my_i309 {post : SY → Prop} (ok : mk_ok T P R) (h : ∀ pr : Nat → Int32, (∀ n, n < mk_N T P R → pr n = mk_tg T P R n) → post (nI (mk_F T P), xnc, xel, ynB, ynW, xco, xvi, xlv, xes, pr, xcu, xcm, mk_w 31, xh, xst, xac, xpr, ybg, ykd, xon, xoa, xgn, xgm, xwn, xwd, ywb, yld)) :
    ∀ (k q n : Nat) (pr : Nat → Int32), q + k = T * P → k < n → (∀ n, n < mk_F T P + q * R → pr n = mk_tg T P R n) → wY_init_309 post (nI R) (nI (T + 1)) (nI (mk_F T P)) xnc xel ynB ynW xco xvi xlv xes n (nI (T + 1 + q)) pr xcu xcm (fun _ => 0) xh xst xac xpr ybg ykd xon xoa xgn xgm xwn xwd ywb yld := by
  have hN := mk_a ok
  obtain ⟨t1, t2, p1, p2, r1, r2⟩ := id ok
  have eF : mk_F T P = 1 + T + T * P := rfl
  intro k
  induction k with
  | zero =>
    intro q n pr hj hn hp
    obtain ⟨n, rfl⟩ : ∃ j, n = j + 1 := ⟨n - 1, by omega⟩
    rw [wY_init_309]
    have e : mk_F T P + q * R = mk_N T P R := by rw [show q = T * P by omega]; rfl
    rw [e] at hp
    have L := my_i366 (post := post) (xfn := nI (mk_F T P)) (ypa := pr) (h pr hp) 31 0 32 (by omega) (by omega)
    rw [mk_w_0] at L
    exact br_t (nI_le (by omega) (by omega)) ⟨32, L⟩
  | succ k ih =>
    intro q n pr hj hn hp
    obtain ⟨n, rfl⟩ : ∃ j, n = j + 1 := ⟨n - 1, by omega⟩
    rw [wY_init_309]
    exact br_f (nI_ge (by omega) (by omega)) ⟨R + 1, my_i321 (q := q) ok (by omega) (fun pr' hp' => ih (q + 1) n pr' (by omega) (by omega) hp') R 0 (R + 1) pr (by omega) (by omega) hp⟩
theorem my_i266 {post : SY → Prop} {J : Int32 → (Nat → Int32) → (Nat → Int32) → (Nat → Int32) → (Nat → Int32) → (Nat → Int32) → (Nat → Int32) → (Nat → Int32) → (Nat → Int32) → (Nat → Int64) → (Nat → Int32) → (Nat → Int32) → (Nat → Int32) → (Nat → Int32) → (Nat → Int32) → (Nat → Int32) → (Nat → Int32) → (Nat → Int64) → (Nat → Int32) → Prop} {y : Nat} (ok : mk_ok T P R) (hy : y < T)
    (hJ : ∀ pr : Nat → Int32, (∀ n, n ≤ y + 1 → pr n = mk_tg T P R n) → (∀ n, T + 1 ≤ n → n < T + 1 + (y + 1) * P → pr n = mk_tg T P R n) → J (nI (y + 1 + 1)) pr xcu xcm xwr xh xst xac xpr ybg ykd xon xoa xgn xgm xwn xwd ywb yld) :
    ∀ (k j n : Nat) (pr : Nat → Int32), j + k = P → k < n → (∀ n, n ≤ y + 1 → pr n = mk_tg T P R n) → (∀ n, T + 1 ≤ n → n < T + 1 + y * P + j → pr n = mk_tg T P R n) → wY_init_266 post J (nI T) (nI P) (nI R) (nI (T + 1)) (nI (y + 1)) xfn xnc xel ynB ynW xco xvi xlv xes n (nI j) pr xcu xcm xwr xh xst xac xpr ybg ykd xon xoa xgn xgm xwn xwd ywb yld := by
  have hN := mk_a ok
  obtain ⟨t1, t2, p1, p2, r1, r2⟩ := id ok
  intro k
  induction k with
  | zero =>
    intro j n pr hj hn hp hp2
    obtain ⟨n, rfl⟩ : ∃ j, n = j + 1 := ⟨n - 1, by omega⟩
    rw [wY_init_266]
    obtain rfl : j = P := by omega
    have e : T + 1 + y * j + j = T + 1 + (y + 1) * j := by rw [Nat.succ_mul, Nat.add_assoc (T + 1)]
    rw [e] at hp2
    exact br_t (nI_le (by omega) (by omega)) (nm_r (nI_1 _) (hJ pr hp hp2))
  | succ k ih =>
    intro j n pr hj hn hp hp2
    obtain ⟨n, rfl⟩ : ∃ j, n = j + 1 := ⟨n - 1, by omega⟩
    rw [wY_init_266]
    obtain ⟨e1, e2⟩ := mk_i ok y hy j (by omega)
    have ix : nI (T + 1) + (nI (y + 1) - 1) * nI P + nI j = nI (1 + T + y * P + j) := by
      rw [nI_pred, pk_mul, nI_add, nI_add, Nat.add_comm T 1]
    refine br_f (nI_ge (by omega) (by omega)) ?_
    rw [ix]
    refine ⟨mb_n31 (by omega), nm_r (e' := upd pr (1 + T + y * P + j) (nI (y + 1))) (by rw [mb_c (by omega)]) (nm_r (nI_1 j) (ih (j + 1) n _ (by omega) (by omega) (fun n hn => ?_) (fun n h1 h2 => ?_)))⟩
    · rw [pk_un (by omega)]; exact hp n hn
    · by_cases w : n = 1 + T + y * P + j
      · rw [w, pk_us, mk_tg, if_neg (by omega), e1]
      · rw [pk_un w]; exact hp2 n h1 (by omega)
theorem my_i248 {post : SY → Prop} (ok : mk_ok T P R) (h : ∀ pr : Nat → Int32, (∀ n, n < mk_N T P R → pr n = mk_tg T P R n) → post (nI (mk_F T P), xnc, xel, ynB, ynW, xco, xvi, xlv, xes, pr, xcu, xcm, mk_w 31, xh, xst, xac, xpr, ybg, ykd, xon, xoa, xgn, xgm, xwn, xwd, ywb, yld)) :
    ∀ (k y n : Nat) (pr : Nat → Int32), y + k = T → k < n → (∀ n, n ≤ y → pr n = mk_tg T P R n) → (∀ n, T + 1 ≤ n → n < T + 1 + y * P → pr n = mk_tg T P R n) → wY_init_248 post (nI T) (nI P) (nI R) (nI (T + 1)) (nI (mk_F T P)) xnc xel ynB ynW xco xvi xlv xes n (nI (y + 1)) pr xcu xcm (fun _ => 0) xh xst xac xpr ybg ykd xon xoa xgn xgm xwn xwd ywb yld := by
  have hN := mk_a ok
  obtain ⟨t1, t2, p1, p2, r1, r2⟩ := id ok
  have eF : mk_F T P = 1 + T + T * P := rfl
  intro k
  induction k with
  | zero =>
    intro y n pr hj hn hp hp2
    obtain ⟨n, rfl⟩ : ∃ j, n = j + 1 := ⟨n - 1, by omega⟩
    rw [wY_init_248]
    obtain rfl : y = T := by omega
    refine br_t (nI_lt (by omega) (by omega)) ⟨y * P + 1, my_i309 ok h (y * P) 0 (y * P + 1) pr (by omega) (by omega) fun n hn => ?_⟩
    rw [Nat.zero_mul, Nat.add_zero] at hn
    rcases Nat.lt_or_ge y n with l | l
    · exact hp2 n (by omega) (by omega)
    · exact hp n l
  | succ k ih =>
    intro y n pr hj hn hp hp2
    obtain ⟨n, rfl⟩ : ∃ j, n = j + 1 := ⟨n - 1, by omega⟩
    rw [wY_init_248]
    obtain ⟨e1, e2⟩ := mk_k ok y (by omega)
    refine br_f (nI_nlt (by omega) (by omega)) ⟨mb_n31 (by omega), nm_r (e' := upd pr (y + 1) 0) (by rw [mb_c (by omega)]) ⟨P + 1, my_i266 (y := y) ok (by omega) (fun pr' hp' hp2' => ih (y + 1) n pr' (by omega) (by omega) hp' hp2') P 0 (P + 1) _ (by omega) (by omega) (fun n hn => ?_) (fun n h1 h2 => ?_)⟩⟩
    · by_cases w : n = y + 1
      · rw [w, pk_us, mk_tg, if_neg (by omega), Nat.add_comm y 1, e1]; rfl
      · rw [pk_un w]; exact hp n (by omega)
    · rw [pk_un (by omega)]; exact hp2 n h1 (by omega)
end
end
section
/-! the constructors give related states -/
def mk_ic : Nat → Int32 := upd (upd (upd (upd (upd (upd (fun _ => 0) 0 0) 1 32) 2 56) 3 52) 4 60) 5 62
theorem mk_ic_t : ∀ w, w < 6 → ∀ m, m < 6 → 0 < w → 0 < m → bt (mk_ic w) m = !mm_cp (nI m) (nI w) := by decide +kernel
section
variable {T P R : Nat} {N F : Nat} {dp : Nat → Nat} {pt : Nat → Nat → Nat} {fr er : Nat → Nat} {nb nw : Nat} {xnc xfn xel xlm xwm xtc xsu xco xvi xlv xes : Int32} {xdO xpA xab xbe xrb xfO xeO xic xcu xcm xwr xst xac xpr xbb xdr xok xon xoa xgn xgm xh xni xhn xho xhb xwn xwd xwf xwt xbk xre : Nat → Int32} {ynB ynW : Int64} {ypa : Nat → Int32} {ybg : Nat → Int64} {ykd : Nat → Int32} {ywb : Nat → Int64} {yld : Nat → Int32}
theorem mk_T (ok : mk_ok T P R) (Nn : mk_n (mk_dp T P) (mk_pt T P R) (mk_N T P R) xnc xdO xpA xab xbe) (R0 : mk_r (mk_F T P) (mk_dp T P) (mk_pt T P R) (mk_fr T P R) (mk_er T P R) (mk_N T P R) 0 xrb xfO xeO) (hp : ∀ n, n < mk_N T P R → ypa n = mk_tg T P R n) :
    mt_T (mk_N T P R) (mk_F T P) (mk_dp T P) (mk_pt T P R) (mk_fr T P R) (mk_er T P R) xnc (nI (mk_F T P)) xdO xpA xab xbe xrb xfO xeO mk_ic ypa := by
  have hN := mk_a ok
  have none : ∀ k a, ¬ ∃ e, e < 0 ∧ mk_pt T P R k e = a := fun k a ⟨e, q, _⟩ => by omega
  refine ⟨⟨Nn.1, rfl, hN.1, hN.2.1, hN.2.2⟩, fun n hn => ?_, fun n d hn hd => ?_, fun n d e hn hd he => mk_d ok n hn d (by omega) e (by omega), fun n a hn => ?_, fun n a ha => Nn.2.2.2.2 n a, fun n r hn => ?_, fun n hn => ?_, fun n hn => ?_, fun w m w0 w6 m0 m6 => mk_ic_t w w6 m m6 w0 m0⟩
  · have b := mk_b ok n hn
    exact ⟨b.1, b.2.1, b.2.2, Nn.2.1 n hn⟩
  · have c := mk_c ok n hn d (by omega)
    exact ⟨c.1, c.2.1, Nn.2.2.1 n d hn hd, c.2.2⟩
  · rw [Bool.eq_iff_iff, Nn.2.2.2.1 n a]
    exact ⟨fun q => q.2, fun q => ⟨hn, q⟩⟩
  · rw [(R0 n).1 r]
    exact ⟨fun q => q.elim id fun q => absurd q.2 (none _ _), Or.inl⟩
  · have e1 := mk_e ok n hn
    have f := fun r hr => mk_f ok n hn r hr
    have f2 := (f (mk_fr T P R n) (by omega)).mp ⟨Nat.le_refl _, e1.1⟩
    have ex : ∃ r, bt (xrb n) r = true := ⟨mk_fr T P R n, ((R0 n).1 _).mpr (Or.inl ⟨by omega, f2⟩)⟩
    obtain ⟨g1, _, g3⟩ := (R0 n).2 ex
    have g4 := g3 (none _ _)
    rw [if_neg (by omega)] at g4
    exact ⟨g1, g4, by omega, e1.2, f⟩
  · refine ⟨fun d0 => ?_, fun d0 => ?_⟩
    · have n0 : ¬ n = 0 := fun z => by
        rw [z] at d0
        exact absurd d0 (by unfold mk_dp; rw [if_pos rfl]; decide)
      rw [hp n hn, mk_tg, if_neg n0]
      unfold mk_pt
      rw [show mk_dp T P n - (mk_dp T P n - 1) = 0 + 1 by omega]
      rfl
    · have n0 : n = 0 := Classical.byContradiction fun z => by
        have := (mk_g ok n hn (by omega)).2
        omega
      rw [hp n hn, mk_tg, if_pos n0]
theorem mk_I (Tt : mt_T N F dp pt fr er xnc xfn xdO xpA xab xbe xrb xfO xeO xic ypa) :
    mi_I N F dp pt fr er 0 0 xnc xfn 0 0 0 0 xdO xpA xab xbe xrb xfO xeO xic (mk_w 31) (fun _ => 0) (fun _ => 0) (fun _ => 0) (fun _ => 0) (fun _ => 0) (fun _ => 0) (fun _ => 0) (fun _ => 0) (fun _ => 0) (fun _ => 0) (fun _ => 0) (fun _ => 0) (fun _ => 0) (fun _ => 0) (fun _ => 0) (fun _ => 0) (fun _ => 0) 0 0 ypa (fun _ => 0) (fun _ => 0) (fun _ => 0) := by
  have hN := mt_N Tt
  have bf : ∀ i, ¬ bt (0 : Int32) i = true := fun i q => by rw [b_0] at q; exact absurd q (by decide)
  have nm : ∀ m, 0 < m → m < 6 → ¬ (0 : Int32) = nI m := fun m h1 h2 q => nI_ne0 h1 (by omega) q.symm
  have z2 : ¬ (0 : Int32) = 2 := by decide
  have z1 : ¬ (0 : Int32) = 1 := by decide
  refine ⟨Tt, ⟨fun _ _ _ _ => mm_md0, fun _ _ _ _ _ => rfl, fun t m n _ h1 h2 => ?_, fun n m t _ h1 h2 => ?_, fun t n _ => ?_, fun n t _ => ?_⟩, ⟨fun _ _ => Or.inl rfl, fun _ _ _ _ _ _ => rfl⟩, ⟨⟨rfl, by decide⟩, fun t => ?_, fun t _ s => absurd s z2, fun n m t _ _ _ => ?_, fun t u _ _ s => absurd s z2⟩, ⟨⟨rfl, by decide⟩, fun t => ?_, fun t _ s => (s.elim z1 z2).elim⟩, ⟨fun n hn => Or.inl ?_, fun t n ht => ?_⟩, ⟨fun _ _ _ => rfl, fun t a _ _ s => absurd s z2⟩, fun t q => ?_, fun t _ s => absurd s z2⟩
  · exact ⟨fun q => absurd q (bf _), fun q => absurd q.2 (nm m h1 h2)⟩
  · exact ⟨fun q => absurd q (bf _), fun q => absurd q.2 (nm m h1 h2)⟩
  · exact ⟨fun q => absurd q (bf _), fun q => absurd rfl q.2⟩
  · exact ⟨fun q => absurd q (bf _), fun q => absurd rfl q.2⟩
  · exact ⟨fun q => absurd q (bf _), fun q => absurd q.2 z2⟩
  · exact ⟨fun q => absurd q (bf _), fun q => absurd q.2.1 z2⟩
  · exact ⟨fun q => absurd q (bf _), fun q => (q.2.elim z1 z2).elim⟩
  · unfold mk_w; rw [if_pos (by omega)]
  · refine ⟨fun q => absurd q (bf _), fun q => ?_⟩
    have := q.2.2
    unfold mk_w at this
    rw [if_pos (by omega)] at this
    exact absurd this.symm (mr_m1 (by omega))
  · obtain ⟨w, hw⟩ := mc_src q
    exact absurd hw.2.1 (bf _)
end
theorem i_vc0 (k0 : Int32) (k1 : Int32) (k2 : Int32) (k3 : Int32) : wpX_init (fun u => wpY_init (fun v => i_Rel 4 u v) k0 k1 k2 k3) k0 k1 k2 k3 := by
  obtain ⟨T, T1, T2, cT⟩ := mk_cte k0 2 (by decide) (by decide)
  obtain ⟨P, P1, P2, cP⟩ := mk_cte k1 2 (by decide) (by decide)
  obtain ⟨R, R1, R2, cR⟩ := mk_cte k2 6 (by decide) (by decide)
  obtain ⟨E, E1, E2, cE⟩ := mk_cte k3 12 (by decide) (by decide)
  have ok : mk_ok T P R := ⟨T1, by omega, P1, by omega, R1, by omega⟩
  have hN := mk_a ok
  have bf : ∀ i, ¬ bt (0 : Int32) i = true := fun i q => by rw [b_0] at q; exact absurd q (by decide)
  unfold wpX_init
  refine mx_clamp cT ?_
  refine mx_clamp cP ?_
  refine mx_clamp cR ?_
  refine mx_clamp cE ?_
  refine nm_e (nm_e (nm_e (nm_e (nm_e (nm_e ?_)))))
  refine mx_build ok ⟨rfl, fun n hn => by omega, fun n d hn => by omega, fun n a => ⟨fun q => absurd q (bf _), fun q => by omega⟩, fun n a => ⟨fun q => absurd q (bf _), fun q => by omega⟩⟩ (fun a => ⟨fun r => ⟨fun q => absurd q (bf _), fun q => q.elim (fun q => by omega) fun ⟨_, e, h, _⟩ => by omega⟩, fun ⟨r, q⟩ => absurd q (bf _)⟩) ?_
  intro xnc' xdO' xpA' xab' xbe' xrb' xfO' xeO' Nn R0
  refine ⟨32, ?_⟩
  have fin : ∀ pr : Nat → Int32, (∀ n, n < mk_N T P R → pr n = mk_tg T P R n) → ∀ xre yld : Nat → Int32, i_Rel 4 (xnc', nI (mk_F T P), nI E, 0, 0, 0, 0, 0, 0, -1, 0, xdO', xpA', xab', xbe', xrb', xfO', xeO', mk_ic, fun _ => 0, fun _ => 0, mk_w 31, fun _ => 0, fun _ => 0, fun _ => 0, fun _ => 0, fun _ => 0, fun _ => 0, fun _ => 0, fun _ => 0, fun _ => 0, fun _ => 0, fun _ => 0, fun _ => 0, fun _ => 0, fun _ => 0, fun _ => 0, fun _ => 0, fun _ => 0, fun _ => 0, fun _ => 0, fun _ => 0, xre) (nI (mk_F T P), xnc', nI E, 0, 0, 0, 0, -1, 0, pr, fun _ => 0, fun _ => 0, mk_w 31, fun _ => 0, fun _ => 0, fun _ => 0, fun _ => 0, fun _ => 0, fun _ => 0, fun _ => 0, fun _ => 0, fun _ => 0, fun _ => 0, fun _ => 0, fun _ => 0, fun _ => 0, yld) := by
    intro pr hp xre yld
    exact zz_in (mk_I (mk_T ok Nn R0 hp)) (by omega) (by omega)
  have L := mx_i322 (post := fun u => wpY_init (fun v => i_Rel 4 u v) k0 k1 k2 k3) (xnc := xnc') (xfn := nI (mk_F T P)) (xel := nI E) (xlm := 0) (xwm := 0) (xtc := 0) (xsu := 0) (xco := 0) (xvi := 0) (xlv := -1) (xes := 0) (xdO := xdO') (xpA := xpA') (xab := xab') (xbe := xbe') (xrb := xrb') (xfO := xfO') (xeO := xeO') (xic := mk_ic) (xcu := fun _ => 0) (xcm := fun _ => 0) (xst := fun _ => 0) (xac := fun _ => 0) (xpr := fun _ => 0) (xbb := fun _ => 0) (xdr := fun _ => 0) (xok := fun _ => 0) (xon := fun _ => 0) (xoa := fun _ => 0) (xgn := fun _ => 0) (xgm := fun _ => 0) (xh := fun _ => 0) (xni := fun _ => 0) (xhn := fun _ => 0) (xho := fun _ => 0) (xhb := fun _ => 0) (xwn := fun _ => 0) (xwd := fun _ => 0) (xwf := fun _ => 0) (xwt := fun _ => 0) (xbk := fun _ => 0) (xre := fun _ => 0) ?_ 31 0 32 (by omega) (by omega)
  · rw [mk_w_0] at L
    exact L
  · show wpY_init _ k0 k1 k2 k3
    unfold wpY_init
    refine my_clamp cT ?_
    refine my_clamp cP ?_
    refine my_clamp cR ?_
    refine my_clamp cE ?_
    have eF : nI T + nI T * nI P + 1 = nI (mk_F T P) := by
      rw [pk_mul, nI_add, nI_1]
      exact congrArg nI (by unfold mk_F; omega)
    have eN : 1 + nI T + nI T * nI P + nI T * nI P * nI R = xnc' := by
      rw [Nn.1, pk_mul, pk_mul]
      show nI 1 + nI T + nI (T * P) + nI (T * P * R) = _
      rw [nI_add, nI_add, nI_add]
      rfl
    refine nm_r (nI_1 T) (nm_r eF (nm_r eN (nm_e ⟨T + 1, ?_⟩)))
    exact my_i248 ok (fun pr hp => fin pr hp _ _) T 0 (T + 1) _ (by omega) (by omega) (fun n hn => by rw [show n = 0 by omega, pk_us, mk_tg, if_pos rfl]) (fun n h1 h2 => by omega)
end
