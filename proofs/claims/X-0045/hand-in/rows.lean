section
/-! rows pasted from kit/rows (PURE-ROWS, BITS: the family bt) -/
theorem pk_us {f : Nat → Int32} {k : Nat} {x : Int32} : upd f k x k = x := if_pos rfl
theorem pk_un {f : Nat → Int32} {k j : Nat} {x : Int32} (h : j ≠ k) : upd f k x j = f j := if_neg h
theorem pk_sub {a b : Nat} (h : b ≤ a) : nI a - nI b = nI (a - b) := by
  obtain ⟨c, rfl⟩ : ∃ c, a = c + b := ⟨a - b, by omega⟩
  rw [← nI_add, Int32.add_sub_cancel, Nat.add_sub_cancel]
theorem pk_m1 (n : Nat) : nI (n + 1) + (-1) = nI n := by
  rw [← nI_1, Int32.add_assoc, show (1 : Int32) + (-1) = 0 from rfl, Int32.add_zero]
theorem pk_mul (a b : Nat) : nI a * nI b = nI (a * b) := (Int32.ofNat_mul a b).symm
theorem pk_sub_toInt {a b : Nat} (ha : a < 2 ^ 30) (hb : b < 2 ^ 30) : (nI a - nI b).toInt = (a : Int) - b := by
  rw [Int32.toInt_sub, nI_toInt (by omega), nI_toInt (by omega)]
  exact Int.bmod_eq_of_le (by omega) (by omega)
theorem pk_sneg {a b : Nat} (hb : b < 2 ^ 30) (h : a < b) : nI a - nI b < 0 := by
  rw [Int32.lt_iff_toInt_lt, pk_sub_toInt (by omega) hb, show (0 : Int32).toInt = 0 from by decide]
  omega
theorem pk_ix (x : Int32) {n : Nat} (hn : n < 2 ^ 31) : x < 0 ∨ nI n ≤ x ∨ ∃ j : Nat, j < n ∧ x = nI j := by
  by_cases h : x < 0
  · exact Or.inl h
  · obtain ⟨j, hj, rfl⟩ := nI_of h
    by_cases h2 : j < n
    · exact Or.inr (Or.inr ⟨j, h2, rfl⟩)
    · exact Or.inr (Or.inl (nI_le (by omega) hj))
theorem pk_le {x y : Int32} {A B : Prop} (a b : Nat) (f : a ≤ b → A) (g : b < a → B) (hx : x = nI a := by rfl) (hy : y = nI b := by rfl) (ha : a < 2 ^ 31 := by omega) (hb : b < 2 ^ 31 := by omega) : (x ≤ y → A) ∧ (¬ x ≤ y → B) := by
  subst hx hy
  rw [nI_leI ha hb]
  exact ⟨f, fun z => g (by omega)⟩
theorem pk_lt {x y : Int32} {A B : Prop} (a b : Nat) (f : a < b → A) (g : b ≤ a → B) (hx : x = nI a := by rfl) (hy : y = nI b := by rfl) (ha : a < 2 ^ 31 := by omega) (hb : b < 2 ^ 31 := by omega) : (x < y → A) ∧ (¬ x < y → B) := by
  subst hx hy
  rw [nI_ltI ha hb]
  exact ⟨f, fun z => g (by omega)⟩
theorem pk_eq {x y : Int32} {A B : Prop} (a b : Nat) (f : a = b → A) (g : a ≠ b → B) (hx : x = nI a := by rfl) (hy : y = nI b := by rfl) (ha : a < 2 ^ 31 := by omega) (hb : b < 2 ^ 31 := by omega) : (x = y → A) ∧ (¬ x = y → B) := by
  subst hx hy
  rw [nI_eq ha hb]
  exact ⟨f, g⟩
theorem pk_in {x : Int32} (n N : Nat) (h : n < N) (hx : x = nI n := by rfl) (hN : N < 2 ^ 31 := by omega) : vp_in x N := by
  subst hx
  exact vp_in_nI h hN
theorem pk_cl {x : Int32} (n : Nat) (hx : x = nI n := by rfl) (h : n < 2 ^ 31 := by omega) : x.toNatClampNeg = n := by
  subst hx
  exact nI_clamp h
theorem pk_tn {n : Nat} (h : n < 2 ^ 32) : (nI n).toBitVec.toNat = n := Nat.mod_eq_of_lt h
theorem pk_and (x : Int32) {m : Int32} (k : Nat) (hm : m.toBitVec.toNat = 2 ^ k - 1) : x &&& m = nI (x.toBitVec.toNat % 2 ^ k) := by
  apply Int32.toBitVec_inj.mp
  apply BitVec.eq_of_toNat_eq
  rw [Int32.toBitVec_and, BitVec.toNat_and, hm, Nat.and_two_pow_sub_one_eq_mod]
  show _ = (BitVec.ofNat 32 _).toNat
  rw [BitVec.toNat_ofNat]
  exact (Nat.mod_eq_of_lt (Nat.lt_of_le_of_lt (Nat.mod_le _ _) x.toBitVec.isLt)).symm
theorem pk_andN {n : Nat} (h : n < 2 ^ 32) {m : Int32} (k : Nat) (hm : m.toBitVec.toNat = 2 ^ k - 1) : nI n &&& m = nI (n % 2 ^ k) := by
  rw [pk_and _ k hm, pk_tn h]
theorem pk_shl (a s : Int32) (k : Nat) (hs : (s.toBitVec.smod 32).toNat = k) : (a <<< s).toBitVec.toNat = a.toBitVec.toNat * 2 ^ k % 2 ^ 32 := by
  show (a.toBitVec <<< (s.toBitVec.smod 32).toNat).toNat = _
  rw [hs, BitVec.toNat_shiftLeft, Nat.shiftLeft_eq]
theorem pk_shlN {n : Nat} (s : Int32) (k : Nat) (hs : (s.toBitVec.smod 32).toNat = k) (h : n * 2 ^ k < 2 ^ 32) : nI n <<< s = nI (n * 2 ^ k) := by
  apply Int32.toBitVec_inj.mp
  apply BitVec.eq_of_toNat_eq
  have hn : n < 2 ^ 32 := Nat.lt_of_le_of_lt (Nat.le_mul_of_pos_right n (Nat.two_pow_pos k)) h
  rw [pk_shl _ _ k hs, pk_tn hn, pk_tn h, Nat.mod_eq_of_lt h]
theorem pk_shr (a s : Int32) (k : Nat) (hs : (s.toBitVec.smod 32).toNat = k) : (a >>> s).toInt = a.toInt >>> k := by
  show (a.toBitVec.sshiftRight (s.toBitVec.smod 32).toNat).toInt = _
  rw [hs, BitVec.toInt_sshiftRight]
  rfl
theorem pk_shrN {n : Nat} (h : n < 2 ^ 31) (s : Int32) (k : Nat) (hs : (s.toBitVec.smod 32).toNat = k) : nI n >>> s = nI (n / 2 ^ k) := by
  apply Int32.toInt_inj.mp
  have h2 : n / 2 ^ k ≤ n := Nat.div_le_self _ _
  rw [pk_shr _ _ k hs, nI_toInt h, nI_toInt (by omega), Int.shiftRight_eq_div_pow]
  rfl
theorem pk_loop {σ : Type} (W : Nat → Nat → σ → Prop) (I : Nat → σ → Prop) (e i0 : Nat) (s : σ) (hi : i0 ≤ e) (h0 : I i0 s) (hx : ∀ n s, I e s → W (n + 1) e s)
    (hs : ∀ n i s, i < e → I i s → (∀ s', I (i + 1) s' → W n (i + 1) s') → W (n + 1) i s) : ∃ n, W n i0 s :=
  ⟨e + 1, loop_i W I e hx hs (e + 1) i0 s hi (by omega) h0⟩
theorem pk_least (P : Nat → Prop) (h : ∃ k, P k) : ∃ k, P k ∧ ∀ j, j < k → ¬ P j := by
  obtain ⟨k, hk⟩ := h
  induction k using Nat.strongRecOn with
  | ind k ih =>
    by_cases e : ∃ j, j < k ∧ P j
    · obtain ⟨j, hj, pj⟩ := e
      exact ih j hj pj
    · exact ⟨k, hk, fun j hj pj => e ⟨j, hj, pj⟩⟩
theorem ek_if {c d A B : Prop} (e : c ↔ d) (f : d → A) (g : ¬ d → B) : (c → A) ∧ (¬ c → B) :=
  ⟨fun z => f (e.mp z), fun z => g (fun y => z (e.mpr y))⟩
theorem ek_v {α : Sort _} {P : α → Prop} {a b : α} (e : a = b) (h : P b) : P a := e ▸ h
theorem sb_m1 {p : Nat} (h : 0 < p) : nI p + (-1) = nI (p - 1) := by
  obtain ⟨q, rfl⟩ : ∃ q, p = q + 1 := ⟨p - 1, by omega⟩
  exact pk_m1 q
def bt (x : Int32) (i : Nat) : Bool := x.toBitVec.getLsbD i
theorem b_ext {x y : Int32} (h : ∀ i, i < 32 → bt x i = bt y i) : x = y := Int32.toBitVec_inj.mp (BitVec.eq_of_getLsbD_eq (fun i hi => h i hi))
theorem b_or (x y : Int32) (i : Nat) : bt (x ||| y) i = (bt x i || bt y i) := by unfold bt; rw [Int32.toBitVec_or, BitVec.getLsbD_or]
theorem b_and (x y : Int32) (i : Nat) : bt (x &&& y) i = (bt x i && bt y i) := by unfold bt; rw [Int32.toBitVec_and, BitVec.getLsbD_and]
theorem b_xor (x y : Int32) (i : Nat) : bt (x ^^^ y) i = (bt x i ^^ bt y i) := by unfold bt; rw [Int32.toBitVec_xor, BitVec.getLsbD_xor]
theorem b_big {x : Int32} {i : Nat} (h : 32 ≤ i) : bt x i = false := BitVec.getLsbD_of_ge _ _ h
theorem b_m1 : ∀ i, i < 32 → bt (-1) i = true := by decide +kernel
theorem b_0 (i : Nat) : bt 0 i = false := BitVec.getLsbD_zero
theorem s_l : ∀ n, n < 32 → ((nI n &&& 31).toBitVec.smod 32).toNat = n := by decide +kernel
theorem b_shl (n : Nat) (hn : n < 32) (x : Int32) {i : Nat} (hi : i < 32) : bt (x <<< (nI n &&& 31)) i = (decide (n ≤ i) && bt x (i - n)) := by
  unfold bt
  rw [Int32.toBitVec_shiftLeft]
  show (x.toBitVec <<< ((nI n &&& 31).toBitVec.smod 32).toNat).getLsbD i = _
  rw [s_l n hn, BitVec.getLsbD_shiftLeft]
  rcases Nat.lt_or_ge i n with h | h
  · simp [h, Nat.not_le.mpr h]
  · simp [hi, h, Nat.not_lt.mpr h]
theorem b_sshr (n : Nat) (hn : n < 32) (x : Int32) {i : Nat} (hi : i < 32) : bt (x >>> (nI n &&& 31)) i = if n + i < 32 then bt x (n + i) else bt x 31 := by
  unfold bt
  rw [Int32.toBitVec_shiftRight]
  show (x.toBitVec.sshiftRight ((nI n &&& 31).toBitVec.smod 32).toNat).getLsbD i = _
  rw [s_l n hn, BitVec.getLsbD_sshiftRight, BitVec.msb_eq_getLsbD_last]
  simp [hi]
end
section
/-! packed assignments: three bits an agent; ab_fd p a is 0 for 'not in it', else the value plus 1 -/
def ab_fd (p : Int32) (a : Nat) : Nat := (bt p (3 * a)).toNat + 2 * (bt p (3 * a + 1)).toNat + 4 * (bt p (3 * a + 2)).toNat
def ab_Pk (p : Int32) : Prop := ∀ i, 15 ≤ i → bt p i = false
theorem ab_fd_lt (p : Int32) (a : Nat) : ab_fd p a < 8 := by
  unfold ab_fd
  cases bt p (3 * a) <;> cases bt p (3 * a + 1) <;> cases bt p (3 * a + 2) <;> decide
theorem ab_fd_eq {p q : Int32} {a : Nat} (h0 : bt p (3 * a) = bt q (3 * a)) (h1 : bt p (3 * a + 1) = bt q (3 * a + 1)) (h2 : bt p (3 * a + 2) = bt q (3 * a + 2)) : ab_fd p a = ab_fd q a := by
  unfold ab_fd; rw [h0, h1, h2]
theorem ab_fd_inj {p q : Int32} {a : Nat} (h : ab_fd p a = ab_fd q a) : bt p (3 * a) = bt q (3 * a) ∧ bt p (3 * a + 1) = bt q (3 * a + 1) ∧ bt p (3 * a + 2) = bt q (3 * a + 2) := by
  unfold ab_fd at h
  revert h
  cases bt p (3 * a) <;> cases bt p (3 * a + 1) <;> cases bt p (3 * a + 2) <;> cases bt q (3 * a) <;> cases bt q (3 * a + 1) <;> cases bt q (3 * a + 2) <;> decide
theorem ab_fd_zero {p : Int32} {a : Nat} (h : ab_fd p a = 0) : bt p (3 * a) = false ∧ bt p (3 * a + 1) = false ∧ bt p (3 * a + 2) = false := by
  unfold ab_fd at h
  revert h
  cases bt p (3 * a) <;> cases bt p (3 * a + 1) <;> cases bt p (3 * a + 2) <;> decide
theorem ab_fd_or_l {p q : Int32} {a : Nat} (h : ab_fd p a = 0) : ab_fd (p ||| q) a = ab_fd q a := by
  obtain ⟨h0, h1, h2⟩ := ab_fd_zero h
  apply ab_fd_eq <;> rw [b_or] <;> simp [h0, h1, h2]
theorem ab_fd_or_r {p q : Int32} {a : Nat} (h : ab_fd q a = 0) : ab_fd (p ||| q) a = ab_fd p a := by
  obtain ⟨h0, h1, h2⟩ := ab_fd_zero h
  apply ab_fd_eq <;> rw [b_or] <;> simp [h0, h1, h2]
theorem ab_fd_or_s {p q : Int32} {a : Nat} (h : ab_fd p a = ab_fd q a) : ab_fd (p ||| q) a = ab_fd q a := by
  obtain ⟨h0, h1, h2⟩ := ab_fd_inj h
  apply ab_fd_eq <;> rw [b_or] <;> simp [h0, h1, h2]
theorem ab_fd_0 (a : Nat) : ab_fd 0 a = 0 := by
  unfold ab_fd; simp only [b_0]; rfl
theorem ab_fd_hi {p : Int32} (h : ab_Pk p) {a : Nat} (ha : 5 ≤ a) : ab_fd p a = 0 := by
  unfold ab_fd
  rw [h _ (by omega), h _ (by omega), h _ (by omega)]; rfl
theorem ab_Pk_0 : ab_Pk 0 := fun i _ => b_0 i
theorem ab_Pk_or {p q : Int32} (hp : ab_Pk p) (hq : ab_Pk q) : ab_Pk (p ||| q) := fun i hi => by rw [b_or, hp i hi, hq i hi]; rfl
theorem ab_Pk_and {p : Int32} (q : Int32) (hp : ab_Pk p) : ab_Pk (p &&& q) := fun i hi => by rw [b_and, hp i hi]; rfl
theorem ab_Pk_ext {p q : Int32} (hp : ab_Pk p) (hq : ab_Pk q) (h : ∀ a, a < 5 → ab_fd p a = ab_fd q a) : p = q := by
  apply b_ext
  intro i hi
  rcases Nat.lt_or_ge i 15 with h15 | h15
  · have hd := ab_fd_inj (h (i / 3) (by omega))
    have hm : i = 3 * (i / 3) ∨ i = 3 * (i / 3) + 1 ∨ i = 3 * (i / 3) + 2 := by omega
    rcases hm with e | e | e
    · rw [e]; exact hd.1
    · rw [e]; exact hd.2.1
    · rw [e]; exact hd.2.2
  · rw [hp i h15, hq i h15]
theorem ab_neg (x : Int32) : x < 0 ↔ bt x 31 = true := by
  rw [Int32.lt_iff_toInt_lt]
  show x.toBitVec.toInt < 0 ↔ x.toBitVec.getLsbD 31 = true
  have e := BitVec.msb_eq_toInt (x := x.toBitVec)
  rw [BitVec.msb_eq_getLsbD_last] at e
  rw [show x.toBitVec.getLsbD 31 = decide (x.toBitVec.toInt < 0) from e, decide_eq_true_eq]
theorem ab_nn {x : Int32} (h : bt x 31 = false) : ¬ x < 0 := by
  rw [ab_neg, h]; decide
theorem ab_Pk_nn {p : Int32} (h : ab_Pk p) : ¬ p < 0 := ab_nn (h 31 (by omega))
theorem ab_Pk_ge {p : Int32} (h : ab_Pk p) : 0 ≤ p := Int32.not_lt.mp (ab_Pk_nn h)
theorem ab_m1_neg : (-1 : Int32) < 0 := by decide
theorem ab_m1_nle : ¬ (0 : Int32) ≤ -1 := by decide
/-! one bit of a set -/
theorem ab_bit (x : Int32) {a : Nat} (ha : a < 32) : ((x >>> (nI a &&& 31)) &&& 1) = if bt x a then 1 else 0 := by
  apply b_ext
  intro i hi
  rw [b_and, b_sshr a ha x hi]
  have h1 : ∀ i, i < 32 → bt 1 i = decide (i = 0) := by decide +kernel
  rw [h1 i hi]
  by_cases e : i = 0
  · subst e
    rw [if_pos (by omega)]
    cases bt x (a + 0) <;> rfl
  · rw [decide_eq_false e, Bool.and_false]
    cases bt x a
    · exact (b_0 i).symm
    · show false = bt 1 i
      rw [h1 i hi, decide_eq_false e]
theorem ab_bit0 {x : Int32} {a : Nat} (ha : a < 32) : ((x >>> (nI a &&& 31)) &&& 1) = 0 ↔ bt x a = false := by
  rw [ab_bit x ha]
  cases bt x a <;> decide
theorem ab_bit1 {x : Int32} {a : Nat} (ha : a < 32) : ((x >>> (nI a &&& 31)) &&& 1) = 1 ↔ bt x a = true := by
  rw [ab_bit x ha]
  cases bt x a <;> decide
theorem ab_one : ∀ a, a < 32 → ∀ i, i < 32 → bt ((1 : Int32) <<< (nI a &&& 31)) i = decide (i = a) := by
  intro a ha i hi
  rw [b_shl a ha _ hi]
  have h1 : ∀ i, i < 32 → bt 1 i = decide (i = 0) := by decide +kernel
  rw [h1 (i - a) (by omega)]
  by_cases e : i = a
  · subst e; simp
  · rw [decide_eq_false e]
    by_cases f : a ≤ i
    · rw [decide_eq_false (show ¬ i - a = 0 by omega), Bool.and_false]
    · rw [decide_eq_false f, Bool.false_and]
theorem ab_set {x : Int32} {a : Nat} (ha : a < 32) (i : Nat) : bt (x ||| ((1 : Int32) <<< (nI a &&& 31))) i = (bt x i || decide (i = a)) := by
  rcases Nat.lt_or_ge i 32 with hi | hi
  · rw [b_or, ab_one a ha i hi]
  · rw [b_big hi, b_big hi, decide_eq_false (by omega)]; rfl
theorem ab_clr {x : Int32} {a : Nat} (ha : a < 32) (i : Nat) : bt (x &&& (((1 : Int32) <<< (nI a &&& 31)) ^^^ (-1))) i = (bt x i && !decide (i = a)) := by
  rcases Nat.lt_or_ge i 32 with hi | hi
  · rw [b_and, b_xor, ab_one a ha i hi, b_m1 i hi, Bool.xor_true]
  · rw [b_big hi, b_big hi]; rfl
theorem ab_low {a : Nat} (ha : a < 6) (i : Nat) : bt (((1 : Int32) <<< (nI a &&& 31)) - 1) i = decide (i < a) := by
  rcases Nat.lt_or_ge i 32 with hi | hi
  · exact (by decide +kernel : ∀ a, a < 6 → ∀ i, i < 32 → bt (((1 : Int32) <<< (nI a &&& 31)) - 1) i = decide (i < a)) a ha i hi
  · rw [b_big hi, decide_eq_false (by omega)]
theorem ab_not (x : Int32) {i : Nat} (hi : i < 32) : bt (x ^^^ (-1)) i = !bt x i := by
  rw [b_xor, b_m1 i hi, Bool.xor_true]
theorem ab_ext0 {x : Int32} : x = 0 ↔ ∀ i, i < 32 → bt x i = false := by
  constructor
  · intro h i _; rw [h]; exact b_0 i
  · intro h
    apply b_ext
    intro i hi
    rw [h i hi, b_0]
/-! the field of an agent -/
theorem ab_m3 (a : Nat) : (3 : Int32) * nI a = nI (3 * a) := pk_mul 3 a
theorem ab_7 : ∀ i, i < 32 → bt 7 i = decide (i < 3) := by decide +kernel
theorem ab_n8 : ∀ b0 b1 b2 : Bool, ∀ i, i < 32 → bt (nI (b0.toNat + 2 * b1.toNat + 4 * b2.toNat)) i = (if i = 0 then b0 else if i = 1 then b1 else if i = 2 then b2 else false) := by decide +kernel
theorem ab_field (p : Int32) {a : Nat} (ha : a < 10) : ((p >>> (((3 : Int32) * nI a) &&& 31)) &&& 7) = nI (ab_fd p a) := by
  apply b_ext
  intro i hi
  rw [ab_m3, b_and, ab_7 i hi, b_sshr (3 * a) (by omega) p hi]
  unfold ab_fd
  rw [ab_n8 _ _ _ i hi]
  rcases Nat.lt_or_ge i 3 with h | h
  · rw [if_pos (by omega), decide_eq_true h, Bool.and_true]
    have : i = 0 ∨ i = 1 ∨ i = 2 := by omega
    rcases this with e | e | e <;> subst e <;> rfl
  · rw [decide_eq_false (by omega), Bool.and_false, if_neg (by omega), if_neg (by omega), if_neg (by omega)]
theorem ab_mask : ∀ a, a < 5 → ∀ i, i < 32 → bt ((7 : Int32) <<< ((3 * nI a) &&& 31)) i = decide (3 * a ≤ i ∧ i < 3 * a + 3) := by decide +kernel
theorem ab_nmask {a : Nat} (ha : a < 5) {i : Nat} (hi : i < 32) : bt (((7 : Int32) <<< ((3 * nI a) &&& 31)) ^^^ (-1)) i = !decide (3 * a ≤ i ∧ i < 3 * a + 3) := by
  rw [ab_not _ hi, ab_mask a ha i hi]
theorem ab_fd_off (p : Int32) {h a : Nat} (hh : h < 5) (ha : a < 10) : ab_fd (p &&& (((7 : Int32) <<< ((3 * nI h) &&& 31)) ^^^ (-1))) a = if a = h then 0 else ab_fd p a := by
  by_cases e : a = h
  · subst e
    rw [if_pos rfl]
    unfold ab_fd
    rw [b_and, b_and, b_and, ab_nmask hh (by omega), ab_nmask hh (by omega), ab_nmask hh (by omega), decide_eq_true (by omega), decide_eq_true (by omega), decide_eq_true (by omega)]
    simp
  · rw [if_neg e]
    apply ab_fd_eq
    · rw [b_and, ab_nmask hh (by omega), decide_eq_false (by omega)]; simp
    · rw [b_and, ab_nmask hh (by omega), decide_eq_false (by omega)]; simp
    · rw [b_and, ab_nmask hh (by omega), decide_eq_false (by omega)]; simp
theorem ab_fd_on (p : Int32) {h a : Nat} (hh : h < 5) (ha : a < 10) : ab_fd (p &&& ((7 : Int32) <<< ((3 * nI h) &&& 31))) a = if a = h then ab_fd p a else 0 := by
  by_cases e : a = h
  · subst e
    rw [if_pos rfl]
    apply ab_fd_eq
    · rw [b_and, ab_mask _ hh _ (by omega), decide_eq_true (by omega)]; simp
    · rw [b_and, ab_mask _ hh _ (by omega), decide_eq_true (by omega)]; simp
    · rw [b_and, ab_mask _ hh _ (by omega), decide_eq_true (by omega)]; simp
  · rw [if_neg e]
    unfold ab_fd
    rw [b_and, b_and, b_and, ab_mask _ hh _ (by omega), ab_mask _ hh _ (by omega), ab_mask _ hh _ (by omega), decide_eq_false (by omega), decide_eq_false (by omega), decide_eq_false (by omega)]
    simp
/-- the packed assignment of one agent -/
def ab_pk (h v : Nat) : Int32 := (nI v + 1) <<< ((3 * nI h) &&& 31)
theorem ab_fd_pk {h v a : Nat} (hh : h < 5) (hv : v < 7) (ha : a < 10) : ab_fd (ab_pk h v) a = if a = h then v + 1 else 0 :=
  (by decide +kernel : ∀ h, h < 5 → ∀ v, v < 7 → ∀ a, a < 10 → ab_fd ((nI v + 1) <<< ((3 * nI h) &&& 31)) a = if a = h then v + 1 else 0) h hh v hv a ha
theorem ab_Pk_pk {h v : Nat} (hh : h < 5) (hv : v < 7) : ab_Pk (ab_pk h v) := by
  intro i hi
  rcases Nat.lt_or_ge i 32 with h32 | h32
  · exact (by decide +kernel : ∀ h, h < 5 → ∀ v, v < 7 → ∀ i, i < 32 → 15 ≤ i → bt ((nI v + 1) <<< ((3 * nI h) &&& 31)) i = false) h hh v hv i h32 hi
  · exact b_big h32
theorem ab_big (p : Int32) {a : Nat} (ha : 11 ≤ a) : ab_fd p a = 0 := by
  unfold ab_fd
  rw [b_big (by omega), b_big (by omega), b_big (by omega)]; rfl
theorem ab_p1 {c : Nat} (h : c ≠ 0) : nI c - 1 = nI (c - 1) := pk_sub (b := 1) (by omega)
theorem ab_p0 : nI 0 - 1 = -1 := by decide
end
section
/-! X's small methods, each with a general post -/
def ab_Hd (c s : Int32) : Prop := ∀ a, a < 5 → ab_fd c a ≠ 0 → ab_fd c a = ab_fd s a
def ab_Cm (c s : Int32) : Prop := ∀ a, a < 5 → ab_fd c a ≠ 0 → ab_fd s a ≠ 0 → ab_fd c a = ab_fd s a
def ab_Ls (p : Int32) (l : Nat) : Prop := l < 5 ∧ ab_fd p l ≠ 0 ∧ ∀ a, l < a → a < 5 → ab_fd p a = 0
def ab_Ac (lv p : Int32) : Prop := ∀ a, a < 5 → ab_fd p a ≠ 0 → bt lv a = true
def ab_cl (tb : Nat → Int32) (a va b vb : Nat) : Prop := bt (tb (5 * a + b)) (4 * va + vb) = true
def ab_off (b : Nat) (p : Int32) : Int32 := p &&& (((7 : Int32) <<< ((3 * nI b) &&& 31)) ^^^ (-1))
def ab_Rx (rc : Nat) (lv : Int32) (rf vw : Nat → Int32) (b v : Nat) (c : Int32) : Prop := ∃ r, r < rc ∧ ab_Ac lv (rf r) ∧ ab_Ls (rf r) b ∧ ab_fd (rf r) b = v + 1 ∧ c = ab_off b (rf r) ∧ ab_Hd c (vw b)
def ab_Tx (tb vw : Nat → Int32) (b v : Nat) (c : Int32) : Prop := ∃ h, h < b ∧ ab_fd (vw b) h ≠ 0 ∧ ab_cl tb h (ab_fd (vw b) h - 1) b v ∧ c = ab_pk h (ab_fd (vw b) h - 1)
def ab_Sx (vw ex : Nat → Int32) (b v : Nat) (c : Int32) : Prop := c = ex (4 * b + v) ∧ ¬ c < 0 ∧ ab_Hd c (vw b)
def ab_Cx (rc : Nat) (lv : Int32) (tb rf dm vw ex : Nat → Int32) (b v : Nat) (c : Int32) : Prop := (bt (dm b) v = false ∧ c = 0) ∨ (bt (dm b) v = true ∧ ab_Sx vw ex b v c) ∨ ab_Tx tb vw b v c ∨ ab_Rx rc lv rf vw b v c
def ab_Cl (vw ex ex' : Nat → Int32) (b : Nat) : Prop := ∀ i, ex' i = ex i ∨ (ex' i = -1 ∧ ∃ v, v < 4 ∧ i = 4 * b + v ∧ ¬ ab_Sx vw ex b v (ex i))
theorem ab_dn {P : Nat → Prop} {a i : Nat} (h : ¬ P a) : (i < a ∧ P i) ↔ (i < a + 1 ∧ P i) := by
  constructor
  · intro z; exact ⟨by omega, z.2⟩
  · intro z
    refine ⟨?_, z.2⟩
    have : i ≠ a := fun e => h (e ▸ z.2)
    omega
theorem ab_dy {P : Nat → Prop} [DecidablePred P] {a i : Nat} (h : P a) : (decide (i < a ∧ P i) || decide (i = a)) = decide (i < a + 1 ∧ P i) := by
  by_cases e : i = a
  · subst e
    rw [decide_eq_true (p := i = i) rfl, Bool.or_true, decide_eq_true ⟨by omega, h⟩]
  · rw [decide_eq_false e, Bool.or_false]
    apply decide_eq_decide.mpr
    constructor
    · intro z; exact ⟨by omega, z.2⟩
    · intro z; exact ⟨by omega, z.2⟩
theorem ab_m1nI (j : Nat) (h : j < 2 ^ 31) : ¬ (-1 : Int32) = nI j := fun e => nI_pos h (e ▸ ab_m1_neg)
theorem ab_nIm1 (j : Nat) (h : j < 2 ^ 31) : ¬ nI j = (-1 : Int32) := fun e => ab_m1nI j h e.symm
theorem ab_fdn (p : Int32) (a : Nat) : ab_fd p a - 1 < 2 ^ 31 := by have := ab_fd_lt p a; omega
theorem ab_act {m lv p : Int32} (hm : ∀ i, bt m i = decide (i < 5 ∧ ab_fd p i ≠ 0)) : (m &&& (lv ^^^ (-1))) = 0 ↔ ab_Ac lv p := by
  rw [ab_ext0]
  constructor
  · intro h a ha hf
    have := h a (by omega)
    rw [b_and, hm, ab_not lv (by omega), decide_eq_true ⟨ha, hf⟩] at this
    simpa using this
  · intro h i hi
    rw [b_and, hm, ab_not lv hi]
    by_cases e : i < 5 ∧ ab_fd p i ≠ 0
    · rw [h i e.1 e.2]; simp
    · rw [decide_eq_false e]; rfl
section
variable {n d rc : Nat} {aw st rs lv fl : Int32} {tb rf dm cu vw lk ex de wi : Nat → Int32}
theorem ab_xfield {post : Int32 → Prop} {u : SX} {p : Int32} {a : Nat} (ha : a < 10) (h0 : ab_fd p a = 0 → post (-1)) (h1 : ab_fd p a ≠ 0 → post (nI (ab_fd p a - 1))) : wpX_field post u p (nI a) := by
  obtain ⟨_, _, _, _, _, _, _, _, _, _, _, _, _, _, _, _, _⟩ := u
  show post (((p >>> ((3 * nI a) &&& 31)) &&& 7) - 1)
  rw [ab_field p ha]
  by_cases e : ab_fd p a = 0
  · rw [e, ab_p0]; exact h0 e
  · rw [ab_p1 e]; exact h1 e
theorem ab_xhas {post : Int32 → Prop} {u : SX} {p : Int32} {a : Nat} (ha : a < 32) (h0 : bt p a = false → post 0) (h1 : bt p a = true → post 1) : wpX_has post u p (nI a) := by
  obtain ⟨_, _, _, _, _, _, _, _, _, _, _, _, _, _, _, _, _⟩ := u
  show (((p >>> (nI a &&& 31)) &&& 1) = 0 → post 0) ∧ (¬ ((p >>> (nI a &&& 31)) &&& 1) = 0 → post 1)
  rw [ab_bit0 ha]
  exact ⟨h0, fun z => h1 (by cases h : bt p a; exact absurd h z; rfl)⟩
theorem ab_xmembers_4 {post : Int32 → Prop} {p : Int32} : ∀ (j a : Nat) (s : Int32), a + j = 5 → (∀ i, bt s i = decide (i < a ∧ ab_fd p i ≠ 0)) → (∀ m, (∀ i, bt m i = decide (i < 5 ∧ ab_fd p i ≠ 0)) → post m) → wX_members_4 post p (nI n) (nI d) (nI rc) aw st rs lv fl tb rf dm cu vw lk ex de wi (j + 1) s (nI a) := by
  intro j
  induction j with
  | zero =>
    intro a s ha hs K
    obtain rfl : a = 5 := by omega
    exact br_t (by decide) (K s hs)
  | succ j ih =>
    intro a s ha hs K
    refine br_f (nI_ge (b := 5) (by omega) (by decide)) (ab_xfield (by omega) (fun h0 => br_t ab_m1_neg (nm_r (nI_1 a) (ih (a + 1) s (by omega) ?_ K))) (fun h1 => br_f (nI_pos (ab_fdn p a)) (nm_e (nm_r (nI_1 a) (ih (a + 1) _ (by omega) ?_ K)))))
    · intro i
      rw [hs i]
      exact decide_eq_decide.mpr (ab_dn (P := fun i => ab_fd p i ≠ 0) (fun z => z h0))
    · intro i
      rw [ab_set (by omega), hs i]
      exact ab_dy (P := fun i => ab_fd p i ≠ 0) h1
theorem ab_xmembers {post : Int32 → Prop} {p : Int32} (K : ∀ m, (∀ i, bt m i = decide (i < 5 ∧ ab_fd p i ≠ 0)) → post m) : wpX_members post (nI n, nI d, nI rc, aw, st, rs, lv, fl, tb, rf, dm, cu, vw, lk, ex, de, wi) p :=
  ⟨6, ab_xmembers_4 5 0 0 rfl (fun i => by rw [b_0, decide_eq_false]; omega) K⟩
theorem ab_xlast_4 {post : Int32 → Prop} {p : Int32} (H0 : (∀ a, a < 5 → ab_fd p a = 0) → post (-1)) (H1 : ∀ l, ab_Ls p l → post (nI l)) : ∀ (j a : Nat) (s : Int32), a + j = 5 → ((s = -1 ∧ ∀ i, i < a → ab_fd p i = 0) ∨ ∃ l, l < a ∧ s = nI l ∧ ab_fd p l ≠ 0 ∧ ∀ i, l < i → i < a → ab_fd p i = 0) → wX_lastMember_4 post p (nI n) (nI d) (nI rc) aw st rs lv fl tb rf dm cu vw lk ex de wi (j + 1) s (nI a) := by
  intro j
  induction j with
  | zero =>
    intro a s ha hs
    obtain rfl : a = 5 := by omega
    refine br_t (by decide) ?_
    rcases hs with ⟨rfl, h⟩ | ⟨l, hl, rfl, h, h'⟩
    · exact H0 h
    · exact H1 l ⟨hl, h, h'⟩
  | succ j ih =>
    intro a s ha hs
    refine br_f (nI_ge (b := 5) (by omega) (by decide)) (ab_xfield (by omega) (fun h0 => br_t ab_m1_neg (nm_r (nI_1 a) (ih (a + 1) s (by omega) ?_))) (fun h1 => br_f (nI_pos (ab_fdn p a)) (nm_r (nI_1 a) (ih (a + 1) _ (by omega) ?_))))
    · rcases hs with ⟨rfl, h⟩ | ⟨l, hl, rfl, h, h'⟩
      · refine Or.inl ⟨rfl, fun i hi => ?_⟩
        by_cases e : i = a
        · rw [e]; exact h0
        · exact h i (by omega)
      · refine Or.inr ⟨l, by omega, rfl, h, fun i hi hi2 => ?_⟩
        by_cases e : i = a
        · rw [e]; exact h0
        · exact h' i hi (by omega)
    · exact Or.inr ⟨a, by omega, rfl, h1, fun i hi hi2 => by omega⟩
theorem ab_xlast {post : Int32 → Prop} {p : Int32} (H0 : (∀ a, a < 5 → ab_fd p a = 0) → post (-1)) (H1 : ∀ l, ab_Ls p l → post (nI l)) : wpX_lastMember post (nI n, nI d, nI rc, aw, st, rs, lv, fl, tb, rf, dm, cu, vw, lk, ex, de, wi) p :=
  ⟨6, ab_xlast_4 H0 H1 5 0 (-1) rfl (Or.inl ⟨rfl, fun i hi => by omega⟩)⟩
theorem ab_xholds_2 {post : Int32 → Prop} {c s : Int32} (H1 : ab_Hd c s → post 1) (H0 : ¬ ab_Hd c s → post 0) : ∀ (j a : Nat), a + j = 5 → (∀ i, i < a → ab_fd c i ≠ 0 → ab_fd c i = ab_fd s i) → wX_holds_2 post c s (nI n) (nI d) (nI rc) aw st rs lv fl tb rf dm cu vw lk ex de wi (j + 1) (nI a) := by
  intro j
  induction j with
  | zero =>
    intro a ha hs
    obtain rfl : a = 5 := by omega
    exact br_t (by decide) (H1 hs)
  | succ j ih =>
    intro a ha hs
    have bad : ab_fd c a ≠ 0 → ab_fd c a ≠ ab_fd s a → post 0 := fun z z2 => H0 (fun h => z2 (h a (by omega) z))
    refine br_f (nI_ge (b := 5) (by omega) (by decide)) (ab_xfield (by omega) (fun h0 => br_t ab_m1_neg (nm_r (nI_1 a) (ih (a + 1) (by omega) ?_))) (fun h1 => br_f (nI_pos (ab_fdn c a)) (ab_xfield (by omega) (fun z0 => br_f (ab_nIm1 _ (ab_fdn c a)) (bad h1 (by omega))) (fun z1 => ?_))))
    · intro i hi z
      by_cases e : i = a
      · rw [e] at z; exact absurd h0 z
      · exact hs i (by omega) z
    · refine pk_eq (ab_fd c a - 1) (ab_fd s a - 1) (fun e => nm_r (nI_1 a) (ih (a + 1) (by omega) ?_)) (fun e => bad h1 (by omega)) rfl rfl (ab_fdn c a) (ab_fdn s a)
      intro i hi z
      by_cases e2 : i = a
      · rw [e2]; omega
      · exact hs i (by omega) z
theorem ab_xholds {post : Int32 → Prop} {c s : Int32} (H1 : ab_Hd c s → post 1) (H0 : ¬ ab_Hd c s → post 0) : wpX_holds post (nI n, nI d, nI rc, aw, st, rs, lv, fl, tb, rf, dm, cu, vw, lk, ex, de, wi) c s :=
  ⟨6, ab_xholds_2 H1 H0 5 0 rfl (fun i hi => by omega)⟩
theorem ab_xcompat_2 {post : Int32 → Prop} {c s : Int32} (H1 : ab_Cm c s → post 1) (H0 : ¬ ab_Cm c s → post 0) : ∀ (j a : Nat), a + j = 5 → (∀ i, i < a → ab_fd c i ≠ 0 → ab_fd s i ≠ 0 → ab_fd c i = ab_fd s i) → wX_compatible_2 post c s (nI n) (nI d) (nI rc) aw st rs lv fl tb rf dm cu vw lk ex de wi (j + 1) (nI a) := by
  intro j
  induction j with
  | zero =>
    intro a ha hs
    obtain rfl : a = 5 := by omega
    exact br_t (by decide) (H1 hs)
  | succ j ih =>
    intro a ha hs
    have bad : ab_fd c a ≠ 0 → ab_fd s a ≠ 0 → ab_fd c a ≠ ab_fd s a → post 0 := fun z z1 z2 => H0 (fun h => z2 (h a (by omega) z z1))
    have good : (ab_fd c a ≠ 0 → ab_fd s a ≠ 0 → ab_fd c a = ab_fd s a) → wX_compatible_2 post c s (nI n) (nI d) (nI rc) aw st rs lv fl tb rf dm cu vw lk ex de wi (j + 1) (nI (a + 1)) := by
      intro g
      refine ih (a + 1) (by omega) ?_
      intro i hi
      by_cases e : i = a
      · rw [e]; exact g
      · exact hs i (by omega)
    refine br_f (nI_ge (b := 5) (by omega) (by decide)) (ab_xfield (by omega) (fun h0 => ab_xfield (by omega) (fun z0 => br_t ab_m1_neg (nm_r (nI_1 a) (good (fun z => absurd h0 z)))) (fun z0 => br_t ab_m1_neg (nm_r (nI_1 a) (good (fun z => absurd h0 z))))) (fun h1 => ab_xfield (by omega) (fun z0 => br_f (nI_pos (ab_fdn c a)) (br_t ab_m1_neg (nm_r (nI_1 a) (good (fun _ z => absurd z0 z))))) (fun z1 => br_f (nI_pos (ab_fdn c a)) (br_f (nI_pos (ab_fdn s a)) ?_))))
    exact pk_eq (ab_fd c a - 1) (ab_fd s a - 1) (fun e => nm_r (nI_1 a) (good (fun _ _ => by omega))) (fun e => bad h1 z1 (by omega)) rfl rfl (ab_fdn c a) (ab_fdn s a)
theorem ab_xcompat {post : Int32 → Prop} {c s : Int32} (H1 : ab_Cm c s → post 1) (H0 : ¬ ab_Cm c s → post 0) : wpX_compatible post (nI n, nI d, nI rc, aw, st, rs, lv, fl, tb, rf, dm, cu, vw, lk, ex, de, wi) c s :=
  ⟨6, ab_xcompat_2 H1 H0 5 0 rfl (fun i hi => by omega)⟩
theorem ab_i5 (a b : Nat) : (5 : Int32) * nI a + nI b = nI (5 * a + b) := by
  rw [show (5 : Int32) = nI 5 from rfl, pk_mul, nI_add]
theorem ab_i4 (a b : Nat) : (4 : Int32) * nI a + nI b = nI (4 * a + b) := by
  rw [show (4 : Int32) = nI 4 from rfl, pk_mul, nI_add]
theorem ab_xclash {post : Int32 → Prop} {a va b vb : Nat} (ha : a < 5) (hva : va < 4) (hb : b < 5) (hvb : vb < 4) (h0 : ¬ ab_cl tb a va b vb → post 0) (h1 : ab_cl tb a va b vb → post 1) : wpX_clash post (nI n, nI d, nI rc, aw, st, rs, lv, fl, tb, rf, dm, cu, vw, lk, ex, de, wi) (nI a) (nI va) (nI b) (nI vb) := by
  unfold wpX_clash
  dsimp only
  rw [ab_i5, ab_i4, nI_clamp (show 5 * a + b < 2 ^ 31 by omega), ab_bit0 (show 4 * va + vb < 32 by omega)]
  refine ⟨vp_in_nI (by omega) (by decide), fun z => h0 (fun y => ?_), fun z => h1 ?_⟩
  · unfold ab_cl at y; rw [z] at y; cases y
  · unfold ab_cl; cases h : bt (tb (5 * a + b)) (4 * va + vb)
    · exact absurd h z
    · rfl
theorem ab_xtable_2 {post : Int32 → Prop} {b v : Nat} (hb : b < 5) (hv : v < 4) (hV : ∀ h, ab_fd (vw b) h ≤ 4) (H0 : (∀ c, ¬ ab_Tx tb vw b v c) → post (-1)) (H1 : ∀ c, ab_Tx tb vw b v c → post c) : ∀ (j h : Nat), h + j = b → (∀ i, i < h → ab_fd (vw b) i ≠ 0 → ¬ ab_cl tb i (ab_fd (vw b) i - 1) b v) → wX_tableExcuse_2 post (nI b) (nI v) (nI n) (nI d) (nI rc) aw st rs lv fl tb rf dm cu vw lk ex de wi (j + 1) (nI h) := by
  intro j
  induction j with
  | zero =>
    intro h hh hs
    obtain rfl : h = b := by omega
    refine br_t (Int32.le_refl _) (H0 ?_)
    rintro c ⟨i, hi, z, z2, _⟩
    exact hs i hi z z2
  | succ j ih =>
    intro h hh hs
    have hvb := hV h
    have next : (ab_fd (vw b) h ≠ 0 → ¬ ab_cl tb h (ab_fd (vw b) h - 1) b v) → wX_tableExcuse_2 post (nI b) (nI v) (nI n) (nI d) (nI rc) aw st rs lv fl tb rf dm cu vw lk ex de wi (j + 1) (nI (h + 1)) := by
      intro g
      refine ih (h + 1) (by omega) ?_
      intro i hi
      by_cases e : i = h
      · rw [e]; exact g
      · exact hs i (by omega)
    refine br_f (nI_ge (by omega) (by omega)) ⟨vp_in_nI hb (by decide), ?_⟩
    rw [nI_clamp (show b < 2 ^ 31 by omega)]
    refine ab_xfield (by omega) (fun h0 => br_t ab_m1_neg (nm_r (nI_1 h) (next (fun z => absurd h0 z)))) (fun h1 => br_f (nI_pos (ab_fdn _ h)) (ab_xclash (by omega) (by omega) hb hv (fun z => br_t rfl (nm_r (nI_1 h) (next (fun _ => z)))) (fun z => br_f (by decide) (H1 _ ⟨h, by omega, h1, z, rfl⟩))))
theorem ab_xtable {post : Int32 → Prop} {b v : Nat} (hb : b < 5) (hv : v < 4) (hV : ∀ h, ab_fd (vw b) h ≤ 4) (H0 : (∀ c, ¬ ab_Tx tb vw b v c) → post (-1)) (H1 : ∀ c, ab_Tx tb vw b v c → post c) : wpX_tableExcuse post (nI n, nI d, nI rc, aw, st, rs, lv, fl, tb, rf, dm, cu, vw, lk, ex, de, wi) (nI b) (nI v) :=
  ⟨b + 1, ab_xtable_2 hb hv hV H0 H1 b 0 (by omega) (fun i hi => by omega)⟩
theorem ab_xrefu_39 {post : Int32 → Prop} {J : Int32 → Prop} {b v r : Nat} {z0 : Int32} (hb : b < 5) (hv : v < 4) (hrc : r < rc) (hact : ¬ z0 = 0 ↔ ab_Ac lv (rf r)) (HJ : ¬ (ab_Ac lv (rf r) ∧ ab_Ls (rf r) b ∧ ab_fd (rf r) b = v + 1 ∧ ab_Hd (ab_off b (rf r)) (vw b)) → J (nI (r + 1))) (H1 : ∀ c, ab_Rx rc lv rf vw b v c → post c) : wX_refusalExcuse_39 post J (nI b) (nI v) (nI r) (rf r) z0 (nI n) (nI d) (nI rc) aw st rs lv fl tb rf dm cu vw lk ex de wi := by
  refine br_c (fun e => nm_r (nI_1 r) (HJ (fun z => hact.mpr z.1 e))) (fun e => ?_)
  have ha := hact.mp e
  refine ab_xlast (fun h0 => br_f (ab_m1nI b (by omega)) (nm_r (nI_1 r) (HJ (fun z => z.2.1.2.1 (h0 b hb))))) (fun l hl => ?_)
  refine pk_eq l b (fun e2 => ?_) (fun e2 => nm_r (nI_1 r) (HJ (fun z => ?_))) rfl rfl (by have := hl.1; omega) (by omega)
  · subst e2
    refine ab_xfield (by omega) (fun h0 => br_f (ab_m1nI v (by omega)) (nm_r (nI_1 r) (HJ (fun z => z.2.1.2.1 h0)))) (fun h1 => ?_)
    refine pk_eq (ab_fd (rf r) l - 1) v (fun e3 => nm_e ⟨vp_in_nI hb (by decide), ?_⟩) (fun e3 => nm_r (nI_1 r) (HJ (fun z => e3 (by omega)))) rfl rfl (ab_fdn _ _) (by omega)
    rw [nI_clamp (show l < 2 ^ 31 by omega)]
    exact ab_xholds (fun g => br_f (by decide) (H1 _ ⟨r, hrc, ha, hl, by omega, rfl, g⟩)) (fun g => br_t rfl (nm_r (nI_1 r) (HJ (fun z => g z.2.2.2))))
  · have h1 := z.2.1
    rcases Nat.lt_trichotomy l b with h | h | h
    · exact h1.2.1 (hl.2.2 b h hb)
    · exact e2 h
    · exact hl.2.1 (h1.2.2 l h hl.1)
theorem ab_xrefu_2 {post : Int32 → Prop} {b v : Nat} (hb : b < 5) (hv : v < 4) (hrc : rc ≤ 8) (H0 : (∀ c, ¬ ab_Rx rc lv rf vw b v c) → post (-1)) (H1 : ∀ c, ab_Rx rc lv rf vw b v c → post c) : ∀ (j r : Nat), r + j = rc → (∀ i, i < r → ¬ (ab_Ac lv (rf i) ∧ ab_Ls (rf i) b ∧ ab_fd (rf i) b = v + 1 ∧ ab_Hd (ab_off b (rf i)) (vw b))) → wX_refusalExcuse_2 post (nI b) (nI v) (nI n) (nI d) (nI rc) aw st rs lv fl tb rf dm cu vw lk ex de wi (j + 1) (nI r) := by
  intro j
  induction j with
  | zero =>
    intro r hr hs
    obtain rfl : r = rc := by omega
    refine br_t (Int32.le_refl _) (H0 ?_)
    rintro c ⟨i, hi, z, z2, z3, rfl, z4⟩
    exact hs i hi ⟨z, z2, z3, z4⟩
  | succ j ih =>
    intro r hr hs
    have next : ¬ (ab_Ac lv (rf r) ∧ ab_Ls (rf r) b ∧ ab_fd (rf r) b = v + 1 ∧ ab_Hd (ab_off b (rf r)) (vw b)) → wX_refusalExcuse_2 post (nI b) (nI v) (nI n) (nI d) (nI rc) aw st rs lv fl tb rf dm cu vw lk ex de wi (j + 1) (nI (r + 1)) := by
      intro g
      refine ih (r + 1) (by omega) ?_
      intro i hi
      by_cases e : i = r
      · rw [e]; exact g
      · exact hs i (by omega)
    refine br_f (nI_ge (by omega) (by omega)) ⟨vp_in_nI (by omega) (by decide), ?_⟩
    rw [nI_clamp (show r < 2 ^ 31 by omega)]
    refine nm_e (ab_xmembers (fun m hm => br_c (fun e => ?_) (fun e => ?_)))
    · exact ab_xrefu_39 hb hv (by omega) ⟨fun _ => (ab_act hm).mp e, fun _ => by decide⟩ next H1
    · exact ab_xrefu_39 hb hv (by omega) ⟨fun z => absurd rfl z, fun z => absurd ((ab_act hm).mpr z) e⟩ next H1
theorem ab_xrefu {post : Int32 → Prop} {b v : Nat} (hb : b < 5) (hv : v < 4) (hrc : rc ≤ 8) (H0 : (∀ c, ¬ ab_Rx rc lv rf vw b v c) → post (-1)) (H1 : ∀ c, ab_Rx rc lv rf vw b v c → post c) : wpX_refusalExcuse post (nI n, nI d, nI rc, aw, st, rs, lv, fl, tb, rf, dm, cu, vw, lk, ex, de, wi) (nI b) (nI v) :=
  ⟨rc + 1, ab_xrefu_2 hb hv hrc H0 H1 rc 0 (by omega) (fun i hi => by omega)⟩
end
end
section
/-! X: excuseFor, think, adopt, complain -/
theorem ab_Cl_r {vw ex : Nat → Int32} {b : Nat} : ab_Cl vw ex ex b := fun _ => Or.inl rfl
theorem ab_Cl_Sx {vw ex ex1 : Nat → Int32} {b v : Nat} {c : Int32} (h : ab_Cl vw ex ex1 b) : ab_Sx vw ex1 b v c ↔ ab_Sx vw ex b v c := by
  rcases h (4 * b + v) with e | ⟨e, v', hv', e2, hn⟩
  · unfold ab_Sx; rw [e]
  · obtain rfl : v = v' := by omega
    constructor
    · rintro ⟨h1, h2, _⟩
      exact absurd (h1.trans e ▸ ab_m1_neg) h2
    · rintro ⟨h1, h2, h3⟩
      rw [h1] at h2 h3
      exact absurd ⟨rfl, h2, h3⟩ hn
theorem ab_Cl_t {vw ex ex1 ex2 : Nat → Int32} {b : Nat} (h : ab_Cl vw ex ex1 b) (h2 : ab_Cl vw ex1 ex2 b) : ab_Cl vw ex ex2 b := by
  intro i
  rcases h2 i with e | ⟨e, v, hv, ei, hn⟩
  · rw [e]; exact h i
  · rcases h i with e' | ⟨e', v', hv', ei', hn'⟩
    · refine Or.inr ⟨e, v, hv, ei, fun z => hn ?_⟩
      rw [e']; exact (ab_Cl_Sx h).mpr z
    · exact Or.inr ⟨e, v', hv', ei', hn'⟩
theorem ab_Cl_Cx {rc : Nat} {lv : Int32} {tb rf dm vw ex ex1 : Nat → Int32} {b v : Nat} {c : Int32} (h : ab_Cl vw ex ex1 b) : ab_Cx rc lv tb rf dm vw ex1 b v c ↔ ab_Cx rc lv tb rf dm vw ex b v c := by
  unfold ab_Cx; rw [ab_Cl_Sx h]
theorem ab_Hd_0 (s : Int32) : ab_Hd 0 s := fun a _ z => absurd (ab_fd_0 a) z
theorem ab_Hd_t {p q s : Int32} (h : ab_Hd p q) (h2 : ab_Hd q s) : ab_Hd p s := fun a ha z => by
  have e := h a ha z
  rw [e]; exact h2 a ha (e ▸ z)
theorem ab_or_Hd {U c s : Int32} (h : ab_Hd U s) (h2 : ab_Hd c s) : ab_Hd (U ||| c) s ∧ ab_Hd U (U ||| c) ∧ ab_Hd c (U ||| c) := by
  have K : ∀ a, a < 5 → (ab_fd U a = 0 ∧ ab_fd (U ||| c) a = ab_fd c a) ∨ (ab_fd c a = 0 ∧ ab_fd (U ||| c) a = ab_fd U a) ∨ (ab_fd U a = ab_fd s a ∧ ab_fd c a = ab_fd s a ∧ ab_fd (U ||| c) a = ab_fd s a) := by
    intro a ha
    by_cases e : ab_fd U a = 0
    · exact Or.inl ⟨e, ab_fd_or_l e⟩
    · by_cases f : ab_fd c a = 0
      · exact Or.inr (Or.inl ⟨f, ab_fd_or_r f⟩)
      · have e1 := h a ha e
        have e2 := h2 a ha f
        exact Or.inr (Or.inr ⟨e1, e2, (ab_fd_or_s (e1.trans e2.symm)).trans e2⟩)
  refine ⟨fun a ha z => ?_, fun a ha z => ?_, fun a ha z => ?_⟩
  · rcases K a ha with ⟨k1, k2⟩ | ⟨k1, k2⟩ | ⟨k1, k2, k3⟩
    · rw [k2]; exact h2 a ha (k2 ▸ z)
    · rw [k2]; exact h a ha (k2 ▸ z)
    · exact k3
  · rcases K a ha with ⟨k1, k2⟩ | ⟨k1, k2⟩ | ⟨k1, k2, k3⟩
    · exact absurd k1 z
    · exact k2.symm
    · rw [k3]; exact k1
  · rcases K a ha with ⟨k1, k2⟩ | ⟨k1, k2⟩ | ⟨k1, k2, k3⟩
    · exact k2.symm
    · exact absurd k1 z
    · rw [k3]; exact k2
theorem ab_Cx_Hd {rc : Nat} {lv : Int32} {tb rf dm vw ex : Nat → Int32} {b v : Nat} {c : Int32} (hb : b < 5) (hV : ∀ h, ab_fd (vw b) h ≤ 4) (h : ab_Cx rc lv tb rf dm vw ex b v c) : ab_Hd c (vw b) := by
  rcases h with ⟨_, rfl⟩ | ⟨_, h⟩ | ⟨h, hh, z, _, rfl⟩ | ⟨r, _, _, _, _, _, h⟩
  · exact ab_Hd_0 _
  · exact h.2.2
  · intro a ha z2
    have := hV h
    rw [ab_fd_pk (by omega) (by omega) (by omega)] at z2 ⊢
    by_cases e : a = h
    · rw [if_pos e, e]; omega
    · rw [if_neg e] at z2; exact absurd rfl z2
  · exact h
theorem ab_Pk_off {p : Int32} (b : Nat) (h : ab_Pk p) : ab_Pk (ab_off b p) := ab_Pk_and _ h
theorem ab_Cx_Pk {rc : Nat} {lv : Int32} {tb rf dm vw ex : Nat → Int32} {b v : Nat} {c : Int32} (hb : b < 5) (hV : ∀ h, ab_fd (vw b) h ≤ 4) (hE : ex (4 * b + v) = -1 ∨ ab_Pk (ex (4 * b + v))) (hR : ∀ r, r < rc → ab_Pk (rf r)) (h : ab_Cx rc lv tb rf dm vw ex b v c) : ab_Pk c := by
  rcases h with ⟨_, rfl⟩ | ⟨_, h1, h2, _⟩ | ⟨h, hh, z, _, rfl⟩ | ⟨r, hr, _, _, _, rfl, _⟩
  · exact ab_Pk_0
  · rcases hE with e | e
    · rw [h1, e] at h2; exact absurd ab_m1_neg h2
    · rw [h1]; exact e
  · have := hV h
    exact ab_Pk_pk (by omega) (by omega)
  · exact ab_Pk_off b (hR r hr)
def ab_snd (n b : Nat) (x : Int32) (lk wi : Nat → Int32) : Nat → Int32 := fun i => if 5 * b + b < i ∧ i < 5 * b + n ∧ bt (lk b) (i - 5 * b) = true then x else wi i
def ab_Th (n d rc : Nat) (lv fl : Int32) (tb rf dm cu vw lk ex wi : Nat → Int32) (b : Nat) (fl' : Int32) (cu' ex' wi' : Nat → Int32) : Prop :=
  ab_Cl vw ex ex' b ∧
  ((∃ v, v < d ∧ (∀ c, ¬ ab_Cx rc lv tb rf dm vw ex b v c) ∧ (∀ v', v' < v → ∃ c, ab_Cx rc lv tb rf dm vw ex b v' c) ∧ fl' = fl ∧ ((cu b = nI v ∧ cu' = cu ∧ wi' = wi) ∨ (cu b ≠ nI v ∧ cu' = upd cu b (nI v) ∧ wi' = ab_snd n b (nI v) lk wi)))
  ∨ (∃ U, ab_Pk U ∧ ab_Hd U (vw b) ∧ (∀ v, v < d → ∃ c, ab_Cx rc lv tb rf dm vw ex b v c ∧ ab_Hd c U) ∧ cu' = upd cu b (-1) ∧ (((∀ a, a < 5 → ab_fd U a = 0) ∧ fl' = 1 ∧ wi' = wi) ∨ (∃ t, ab_Ls U t ∧ fl' = fl ∧ wi' = upd wi (5 * b + t) U))))
section
variable {n d rc : Nat} {aw st rs lv fl : Int32} {tb rf dm cu vw lk ex de wi : Nat → Int32}
theorem ab_xexc47 {post : Int32 → SX → Prop} {b v : Nat} (hb : b < 5) (hv : v < 4) (hrc : rc ≤ 8) (hV : ∀ h, ab_fd (vw b) h ≤ 4) (hdo : bt (dm b) v = true) (hn : ¬ ab_Sx vw ex b v (ex (4 * b + v)))
    (H1 : ∀ c ex', ab_Cx rc lv tb rf dm vw ex b v c → ab_Cl vw ex ex' b → post c (nI n, nI d, nI rc, aw, st, rs, lv, fl, tb, rf, dm, cu, vw, lk, ex', de, wi))
    (H0 : ∀ ex', (∀ c, ¬ ab_Cx rc lv tb rf dm vw ex b v c) → ab_Cl vw ex ex' b → post (-1) (nI n, nI d, nI rc, aw, st, rs, lv, fl, tb, rf, dm, cu, vw, lk, ex', de, wi)) : wX_excuseFor_47 post (nI b) (nI v) (nI n) (nI d) (nI rc) aw st rs lv fl tb rf dm cu vw lk ex de wi := by
  unfold wX_excuseFor_47
  rw [ab_i4, nI_clamp (show 4 * b + v < 2 ^ 31 by omega)]
  refine ⟨vp_in_nI (by omega) (by decide), nm_e ?_⟩
  have hcl : ab_Cl vw ex (upd ex (4 * b + v) (-1)) b := by
    intro i
    by_cases e : i = 4 * b + v
    · subst e
      exact Or.inr ⟨pk_us, v, hv, rfl, hn⟩
    · exact Or.inl (pk_un e)
  refine ab_xtable hb hv hV (fun h0 => br_t ab_m1_neg ?_) (fun c hc => br_f ?_ (H1 c _ (Or.inr (Or.inr (Or.inl hc))) hcl))
  · refine ab_xrefu hb hv hrc (fun h1 => H0 _ ?_ hcl) (fun c hc => H1 c _ (Or.inr (Or.inr (Or.inr hc))) hcl)
    rintro c (⟨h, _⟩ | ⟨_, h⟩ | h | h)
    · rw [hdo] at h; cases h
    · have h' := h
      rw [h.1] at h'
      exact hn h'
    · exact h0 c h
    · exact h1 c h
  · obtain ⟨h, hh, z, _, rfl⟩ := hc
    have := hV h
    exact ab_Pk_nn (ab_Pk_pk (by omega) (by omega))
theorem ab_xexcuse {post : Int32 → SX → Prop} {b v : Nat} (hb : b < 5) (hv : v < 4) (hrc : rc ≤ 8) (hV : ∀ h, ab_fd (vw b) h ≤ 4)
    (H1 : ∀ c ex', ab_Cx rc lv tb rf dm vw ex b v c → ab_Cl vw ex ex' b → post c (nI n, nI d, nI rc, aw, st, rs, lv, fl, tb, rf, dm, cu, vw, lk, ex', de, wi))
    (H0 : ∀ ex', (∀ c, ¬ ab_Cx rc lv tb rf dm vw ex b v c) → ab_Cl vw ex ex' b → post (-1) (nI n, nI d, nI rc, aw, st, rs, lv, fl, tb, rf, dm, cu, vw, lk, ex', de, wi)) : wpX_excuseFor post (nI n, nI d, nI rc, aw, st, rs, lv, fl, tb, rf, dm, cu, vw, lk, ex, de, wi) (nI b) (nI v) := by
  unfold wpX_excuseFor
  dsimp only
  rw [ab_i4, nI_clamp (show 4 * b + v < 2 ^ 31 by omega), nI_clamp (show b < 2 ^ 31 by omega)]
  refine ⟨vp_in_nI hb (by decide), ab_xhas (by omega) (fun e => br_t rfl (H1 0 ex (Or.inl ⟨e, rfl⟩) ab_Cl_r)) (fun e => br_f (by decide) ⟨vp_in_nI (by omega) (by decide), nm_e (br_c (fun hneg => ?_) (fun hpos => ⟨vp_in_nI hb (by decide), ab_xholds (fun h => br_f (by decide) ?_) (fun h => br_t rfl ?_)⟩))⟩)⟩
  · exact ab_xexc47 hb hv hrc hV e (fun z => z.2.1 hneg) H1 H0
  · exact H1 _ ex (Or.inr (Or.inl ⟨e, rfl, hpos, h⟩)) ab_Cl_r
  · exact ab_xexc47 hb hv hrc hV e (fun z => h z.2.2) H1 H0
theorem ab_snd_0 {b : Nat} {x : Int32} {lk wi : Nat → Int32} : ab_snd (b + 1) b x lk wi = wi := by
  funext i
  unfold ab_snd
  rw [if_neg (by omega)]
theorem ab_snd_s1 {c b : Nat} {x : Int32} {lk wi : Nat → Int32} (h : bt (lk b) c = true) (hc : b < c) : upd (ab_snd c b x lk wi) (5 * b + c) x = ab_snd (c + 1) b x lk wi := by
  funext i
  unfold upd ab_snd
  by_cases e : i = 5 * b + c
  · rw [if_pos e, if_pos]
    subst e
    refine ⟨by omega, by omega, ?_⟩
    rw [show 5 * b + c - 5 * b = c by omega]; exact h
  · rw [if_neg e]
    by_cases g : 5 * b + b < i ∧ i < 5 * b + c ∧ bt (lk b) (i - 5 * b) = true
    · rw [if_pos g, if_pos ⟨g.1, by omega, g.2.2⟩]
    · rw [if_neg g, if_neg]
      rintro ⟨g1, g2, g3⟩
      exact g ⟨g1, by omega, g3⟩
theorem ab_snd_s0 {c b : Nat} {x : Int32} {lk wi : Nat → Int32} (h : bt (lk b) c = false) : ab_snd c b x lk wi = ab_snd (c + 1) b x lk wi := by
  funext i
  unfold ab_snd
  by_cases g : 5 * b + b < i ∧ i < 5 * b + c ∧ bt (lk b) (i - 5 * b) = true
  · rw [if_pos g, if_pos ⟨g.1, by omega, g.2.2⟩]
  · rw [if_neg g, if_neg]
    rintro ⟨g1, g2, g3⟩
    by_cases e : i = 5 * b + c
    · rw [e, show 5 * b + c - 5 * b = c by omega, h] at g3; cases g3
    · exact g ⟨g1, by omega, g3⟩
theorem ab_xadopt_22 {post : SX → Prop} {b v : Nat} (hb : b < 5) (hn : n ≤ 5) (K : post (nI n, nI d, nI rc, aw, st, rs, lv, fl, tb, rf, dm, cu, vw, lk, ex, de, ab_snd n b (nI v) lk wi)) : ∀ (j c : Nat), c + j = n → b < c → wX_adopt_22 post (nI b) (nI v) (nI n) (nI d) (nI rc) aw st rs lv fl (j + 1) (nI c) tb rf dm cu vw lk ex de (ab_snd c b (nI v) lk wi) := by
  intro j
  induction j with
  | zero =>
    intro c hc hbc
    obtain rfl : c = n := by omega
    exact br_t (Int32.le_refl _) K
  | succ j ih =>
    intro c hc hbc
    refine br_f (nI_ge (by omega) (by omega)) ⟨vp_in_nI hb (by decide), ?_⟩
    rw [nI_clamp (show b < 2 ^ 31 by omega), ab_i5, nI_clamp (show 5 * b + c < 2 ^ 31 by omega)]
    refine ab_xhas (by omega) (fun e => br_t rfl (nm_r (nI_1 c) ?_)) (fun e => br_f (by decide) ⟨vp_in_nI (by omega) (by decide), nm_r (ab_snd_s1 e hbc) (nm_r (nI_1 c) (ih (c + 1) (by omega) (by omega)))⟩)
    rw [ab_snd_s0 e]
    exact ih (c + 1) (by omega) (by omega)
theorem ab_xadopt {post : SX → Prop} {b v : Nat} (hb : b < n) (hn : n ≤ 5) (K0 : cu b = nI v → post (nI n, nI d, nI rc, aw, st, rs, lv, fl, tb, rf, dm, cu, vw, lk, ex, de, wi)) (K1 : cu b ≠ nI v → post (nI n, nI d, nI rc, aw, st, rs, lv, fl, tb, rf, dm, upd cu b (nI v), vw, lk, ex, de, ab_snd n b (nI v) lk wi)) : wpX_adopt post (nI n, nI d, nI rc, aw, st, rs, lv, fl, tb, rf, dm, cu, vw, lk, ex, de, wi) (nI b) (nI v) := by
  unfold wpX_adopt
  dsimp only
  rw [nI_clamp (show b < 2 ^ 31 by omega)]
  refine ⟨vp_in_nI (by omega) (by decide), br_c K0 (fun e => ⟨vp_in_nI (by omega) (by decide), nm_e (nm_r (nI_1 b) ⟨n - (b + 1) + 1, ?_⟩)⟩)⟩
  have h := ab_xadopt_22 (aw := aw) (st := st) (rs := rs) (lv := lv) (fl := fl) (tb := tb) (rf := rf) (dm := dm) (cu := upd cu b (nI v)) (vw := vw) (lk := lk) (ex := ex) (de := de) (wi := wi) (d := d) (rc := rc) (post := post) (b := b) (v := v) (by omega) hn (K1 e) (n - (b + 1)) (b + 1) (by omega) (by omega)
  rw [ab_snd_0] at h
  exact h
theorem ab_xcomplain {post : SX → Prop} {b : Nat} {U : Int32} (hb : b < 5) (K0 : (∀ a, a < 5 → ab_fd U a = 0) → post (nI n, nI d, nI rc, aw, st, rs, lv, 1, tb, rf, dm, cu, vw, lk, ex, de, wi)) (K1 : ∀ t, ab_Ls U t → post (nI n, nI d, nI rc, aw, st, rs, lv, fl, tb, rf, dm, cu, vw, lk, ex, de, upd wi (5 * b + t) U)) : wpX_complain post (nI n, nI d, nI rc, aw, st, rs, lv, fl, tb, rf, dm, cu, vw, lk, ex, de, wi) (nI b) U := by
  unfold wpX_complain
  dsimp only
  refine ab_xlast (fun h0 => br_f ab_m1_nle (K0 h0)) (fun t ht => br_t (nI_pos' (by have := ht.1; omega)) ?_)
  have := ht.1
  rw [ab_i5, nI_clamp (show 5 * b + t < 2 ^ 31 by omega)]
  exact ⟨vp_in_nI (by omega) (by decide), nm_e (K1 t ht)⟩
theorem ab_xthink_51a {post : SX → Prop} {b v : Nat} {U : Int32} (hb : b < n) (hn : n ≤ 5) (hv : v < 4) (K0 : cu b = nI v → post (nI n, nI d, nI rc, aw, st, rs, lv, fl, tb, rf, dm, cu, vw, lk, ex, de, wi)) (K1 : cu b ≠ nI v → post (nI n, nI d, nI rc, aw, st, rs, lv, fl, tb, rf, dm, upd cu b (nI v), vw, lk, ex, de, ab_snd n b (nI v) lk wi)) : wX_think_51 post (nI b) U (nI v) (nI n) (nI d) (nI rc) aw st rs lv fl tb rf dm cu vw lk ex de wi :=
  br_f (nI_pos (by omega)) (ab_xadopt hb hn K0 K1)
theorem ab_xthink_51c {post : SX → Prop} {b : Nat} {U : Int32} (hb : b < 5) (K0 : (∀ a, a < 5 → ab_fd U a = 0) → post (nI n, nI d, nI rc, aw, st, rs, lv, 1, tb, rf, dm, upd cu b (-1), vw, lk, ex, de, wi)) (K1 : ∀ t, ab_Ls U t → post (nI n, nI d, nI rc, aw, st, rs, lv, fl, tb, rf, dm, upd cu b (-1), vw, lk, ex, de, upd wi (5 * b + t) U)) : wX_think_51 post (nI b) U (-1) (nI n) (nI d) (nI rc) aw st rs lv fl tb rf dm cu vw lk ex de wi := by
  unfold wX_think_51
  rw [nI_clamp (show b < 2 ^ 31 by omega)]
  exact br_t ab_m1_neg ⟨vp_in_nI hb (by decide), nm_e (ab_xcomplain hb K0 K1)⟩
theorem ab_xthink_7 {post : SX → Prop} {b : Nat} (hb : b < n) (hn : n ≤ 5) (hd : d ≤ 4) (hrc : rc ≤ 8) (hV : ∀ h, ab_fd (vw b) h ≤ 4) (hE : ∀ v, v < 4 → ex (4 * b + v) = -1 ∨ ab_Pk (ex (4 * b + v))) (hR : ∀ r, r < rc → ab_Pk (rf r))
    (K : ∀ fl' cu' ex' wi', ab_Th n d rc lv fl tb rf dm cu vw lk ex wi b fl' cu' ex' wi' → post (nI n, nI d, nI rc, aw, st, rs, lv, fl', tb, rf, dm, cu', vw, lk, ex', de, wi')) :
    ∀ (j v : Nat) (U : Int32) (ex1 : Nat → Int32), v + j = d → ab_Cl vw ex ex1 b → ab_Pk U → ab_Hd U (vw b) → (∀ v', v' < v → ∃ c, ab_Cx rc lv tb rf dm vw ex b v' c ∧ ab_Hd c U) → wX_think_7 post (nI b) (j + 2) U (-1) (nI v) (nI n) (nI d) (nI rc) aw st rs lv fl tb rf dm cu vw lk ex1 de wi := by
  intro j
  induction j with
  | zero =>
    intro v U ex1 hv hcl hP hH hx
    obtain rfl : v = d := by omega
    refine br_t (Int32.le_refl _) (ab_xthink_51c (by omega) (fun h0 => ?_) (fun t ht => ?_))
    · exact K _ _ _ _ ⟨hcl, Or.inr ⟨U, hP, hH, hx, rfl, Or.inl ⟨h0, rfl, rfl⟩⟩⟩
    · exact K _ _ _ _ ⟨hcl, Or.inr ⟨U, hP, hH, hx, rfl, Or.inr ⟨t, ht, rfl, rfl⟩⟩⟩
  | succ j ih =>
    intro v U ex1 hv hcl hP hH hx
    refine br_f (nI_ge (by omega) (by omega)) (br_f ab_m1_nle (ab_xexcuse (by omega) (by omega) hrc hV (fun c ex2 hc hcl2 => ?_) (fun ex2 hc hcl2 => ?_)))
    · have hc' := (ab_Cl_Cx hcl).mp hc
      have hcP := ab_Cx_Pk (by omega) hV (hE v (by omega)) hR hc'
      have ho := ab_or_Hd hH (ab_Cx_Hd (by omega) hV hc')
      refine br_t (ab_Pk_ge hcP) (nm_e (nm_r (nI_1 v) (ih (v + 1) (U ||| c) ex2 (by omega) (ab_Cl_t hcl hcl2) (ab_Pk_or hP hcP) ho.1 ?_)))
      intro v' hv'
      by_cases e : v' = v
      · rw [e]; exact ⟨c, hc', ho.2.2⟩
      · obtain ⟨c', h1, h2⟩ := hx v' (by omega)
        exact ⟨c', h1, ab_Hd_t h2 ho.2.1⟩
    · have hc' : ∀ c, ¬ ab_Cx rc lv tb rf dm vw ex b v c := fun c z => hc c ((ab_Cl_Cx hcl).mpr z)
      have hlow : ∀ v', v' < v → ∃ c, ab_Cx rc lv tb rf dm vw ex b v' c := fun v' h' => by
        obtain ⟨c, h, _⟩ := hx v' h'
        exact ⟨c, h⟩
      have hdone : wX_think_51 post (nI b) U (nI v) (nI n) (nI d) (nI rc) aw st rs lv fl tb rf dm cu vw lk ex2 de wi := by
        refine ab_xthink_51a hb hn (by omega) (fun e => ?_) (fun e => ?_)
        · exact K _ _ _ _ ⟨ab_Cl_t hcl hcl2, Or.inl ⟨v, by omega, hc', hlow, rfl, Or.inl ⟨e, rfl, rfl⟩⟩⟩
        · exact K _ _ _ _ ⟨ab_Cl_t hcl hcl2, Or.inl ⟨v, by omega, hc', hlow, rfl, Or.inr ⟨e, rfl, rfl⟩⟩⟩
      exact br_f ab_m1_nle (nm_r (nI_1 v) (br_c (fun _ => hdone) (fun _ => br_t (nI_pos' (by omega)) hdone)))
theorem ab_xthink {post : SX → Prop} {b : Nat} (hb : b < n) (hn : n ≤ 5) (hd : d ≤ 4) (hrc : rc ≤ 8) (hV : ∀ h, ab_fd (vw b) h ≤ 4) (hE : ∀ v, v < 4 → ex (4 * b + v) = -1 ∨ ab_Pk (ex (4 * b + v))) (hR : ∀ r, r < rc → ab_Pk (rf r))
    (K : ∀ fl' cu' ex' wi', ab_Th n d rc lv fl tb rf dm cu vw lk ex wi b fl' cu' ex' wi' → post (nI n, nI d, nI rc, aw, st, rs, lv, fl', tb, rf, dm, cu', vw, lk, ex', de, wi')) : wpX_think post (nI n, nI d, nI rc, aw, st, rs, lv, fl, tb, rf, dm, cu, vw, lk, ex, de, wi) (nI b) :=
  ⟨d + 2, ab_xthink_7 hb hn hd hrc hV hE hR K d 0 0 ex (by omega) ab_Cl_r ab_Pk_0 (ab_Hd_0 _) (fun v' h => by omega)⟩
end
end
section
/-! X: learn, weigh, hear, addLink, pass -/
def ab_ask (h b : Nat) (c s : Int32) (de : Nat → Int32) : Nat → Int32 := fun i => if 5 * b ≤ i ∧ i < 5 * b + h ∧ ab_fd c (i - 5 * b) ≠ 0 ∧ ab_fd s (i - 5 * b) = 0 then 1 else de i
theorem ab_ask_0 {b : Nat} {c s : Int32} {de : Nat → Int32} : ab_ask 0 b c s de = de := by
  funext i
  unfold ab_ask
  rw [if_neg (by omega)]
theorem ab_ask_s0 {h b : Nat} {c s : Int32} {de : Nat → Int32} (g : ¬ (ab_fd c h ≠ 0 ∧ ab_fd s h = 0)) : ab_ask h b c s de = ab_ask (h + 1) b c s de := by
  funext i
  unfold ab_ask
  by_cases e : i = 5 * b + h
  · subst e
    rw [show 5 * b + h - 5 * b = h by omega, if_neg (by omega), if_neg (fun z => g z.2.2)]
  · by_cases z : 5 * b ≤ i ∧ i < 5 * b + h ∧ ab_fd c (i - 5 * b) ≠ 0 ∧ ab_fd s (i - 5 * b) = 0
    · rw [if_pos z, if_pos ⟨z.1, by omega, z.2.2⟩]
    · rw [if_neg z, if_neg (fun y => z ⟨y.1, by omega, y.2.2⟩)]
theorem ab_ask_s1 {h b : Nat} {c s : Int32} {de : Nat → Int32} (g : ab_fd c h ≠ 0) (g2 : ab_fd s h = 0) : upd (ab_ask h b c s de) (5 * b + h) (vp_nar .boolean 1) = ab_ask (h + 1) b c s de := by
  funext i
  unfold upd ab_ask
  by_cases e : i = 5 * b + h
  · subst e
    rw [if_pos rfl, show 5 * b + h - 5 * b = h by omega, if_pos ⟨by omega, by omega, g, g2⟩]; rfl
  · rw [if_neg e]
    by_cases z : 5 * b ≤ i ∧ i < 5 * b + h ∧ ab_fd c (i - 5 * b) ≠ 0 ∧ ab_fd s (i - 5 * b) = 0
    · rw [if_pos z, if_pos ⟨z.1, by omega, z.2.2⟩]
    · rw [if_neg z, if_neg (fun y => z ⟨y.1, by omega, y.2.2⟩)]
theorem ab_uu {f : Nat → Int32} {k : Nat} {x y : Int32} : upd (upd f k x) k y = upd f k y := by
  funext i
  unfold upd
  by_cases e : i = k
  · rw [if_pos e, if_pos e]
  · rw [if_neg e, if_neg e, if_neg e]
theorem ab_ui {f : Nat → Int32} {k : Nat} : upd f k (f k) = f := by
  funext i
  unfold upd
  by_cases e : i = k
  · rw [if_pos e, e]
  · rw [if_neg e]
def ab_Lr (h : Nat) (c s x : Int32) : Prop := ab_Pk x ∧ ∀ a, a < 5 → ab_fd x a = if a < h ∧ ab_fd s a = 0 then ab_fd c a else ab_fd s a
section
variable {n d rc : Nat} {aw st rs lv fl : Int32} {tb rf dm cu vw lk ex de wi : Nat → Int32}
theorem ab_xlearn_2 {post : SX → Prop} {b : Nat} {c : Int32} (hb : b < 5) (hc : ab_Pk c) (K : ∀ x, ab_Lr b c (vw b) x → post (nI n, nI d, nI rc, aw, st, rs, lv, fl, tb, rf, dm, cu, upd vw b x, lk, ex, ab_ask b b c (vw b) de, wi)) : ∀ (j h : Nat) (x : Int32), h + j = b → ab_Lr h c (vw b) x → wX_learn_2 post (nI b) c (nI n) (nI d) (nI rc) aw st rs lv fl (j + 1) (nI h) tb rf dm cu (upd vw b x) lk ex (ab_ask h b c (vw b) de) wi := by
  intro j
  induction j with
  | zero =>
    intro h x hh hx
    obtain rfl : h = b := by omega
    exact br_t (Int32.le_refl _) (K x hx)
  | succ j ih =>
    intro h x hh hx
    have same : ¬ (ab_fd c h ≠ 0 ∧ ab_fd (vw b) h = 0) → wX_learn_2 post (nI b) c (nI n) (nI d) (nI rc) aw st rs lv fl (j + 1) (nI (h + 1)) tb rf dm cu (upd vw b x) lk ex (ab_ask h b c (vw b) de) wi := by
      intro g
      rw [ab_ask_s0 g]
      refine ih (h + 1) x (by omega) ⟨hx.1, fun a ha => ?_⟩
      rw [hx.2 a ha]
      by_cases e : a = h
      · rw [e, if_neg (by omega)]
        by_cases z : ab_fd (vw b) h = 0
        · rw [if_pos ⟨by omega, z⟩, z]
          by_cases z2 : ab_fd c h = 0
          · exact z2.symm
          · exact absurd ⟨z2, z⟩ g
        · rw [if_neg (fun y => z y.2)]
      · by_cases z : a < h ∧ ab_fd (vw b) a = 0
        · rw [if_pos z, if_pos ⟨by omega, z.2⟩]
        · rw [if_neg z, if_neg (fun y => z ⟨by omega, y.2⟩)]
    have hxh : ab_fd x h = ab_fd (vw b) h := by rw [hx.2 h (by omega), if_neg (by omega)]
    refine br_f (nI_ge (by omega) (by omega)) (ab_xfield (by omega) (fun h0 => br_t ab_m1_neg (nm_r (nI_1 h) (same (fun z => z.1 h0)))) (fun h1 => br_f (nI_pos (ab_fdn c h)) ⟨vp_in_nI hb (by decide), ?_⟩))
    rw [nI_clamp (show b < 2 ^ 31 by omega), pk_us, ab_i5, nI_clamp (show 5 * b + h < 2 ^ 31 by omega), ab_uu]
    refine ab_xfield (by omega) (fun g0 => br_f ab_m1_nle ⟨vp_in_nI hb (by decide), vp_in_nI hb (by decide), nm_e ⟨vp_in_nI (by omega) (by decide), nm_r (ab_ask_s1 h1 (by omega)) (nm_r (nI_1 h) (ih (h + 1) _ (by omega) ⟨ab_Pk_or hx.1 (ab_Pk_and _ hc), fun a ha => ?_⟩))⟩⟩) (fun g1 => br_t (nI_pos' (ab_fdn x h)) (nm_r (nI_1 h) (same (fun z => g1 (by omega)))))
    by_cases e : a = h
    · rw [e, if_pos ⟨by omega, by omega⟩, ab_fd_or_l g0, ab_fd_on c (by omega) (by omega), if_pos rfl]
    · rw [ab_fd_or_r (by rw [ab_fd_on c (by omega) (by omega), if_neg e]), hx.2 a ha]
      by_cases z : a < h ∧ ab_fd (vw b) a = 0
      · rw [if_pos z, if_pos ⟨by omega, z.2⟩]
      · rw [if_neg z, if_neg (fun y => z ⟨by omega, y.2⟩)]
theorem ab_xlearn {post : SX → Prop} {b : Nat} {c : Int32} (hb : b < 5) (hc : ab_Pk c) (hv : ab_Pk (vw b)) (K : ∀ x, ab_Lr b c (vw b) x → post (nI n, nI d, nI rc, aw, st, rs, lv, fl, tb, rf, dm, cu, upd vw b x, lk, ex, ab_ask b b c (vw b) de, wi)) : wpX_learn post (nI n, nI d, nI rc, aw, st, rs, lv, fl, tb, rf, dm, cu, vw, lk, ex, de, wi) (nI b) c := by
  refine ⟨b + 1, ?_⟩
  have h := ab_xlearn_2 (n := n) (d := d) (rc := rc) (aw := aw) (st := st) (rs := rs) (lv := lv) (fl := fl) (tb := tb) (rf := rf) (dm := dm) (cu := cu) (vw := vw) (lk := lk) (ex := ex) (de := de) (wi := wi) (post := post) hb hc K b 0 (vw b) (by omega) ⟨hv, fun a ha => by rw [if_neg (by omega)]⟩
  rw [ab_ask_0, ab_ui] at h
  exact h
theorem ab_xweigh {post : SX → Prop} {t f : Nat} {N : Int32} (ht : t < n) (hf : f < 5) (hn : n ≤ 5) (hd : d ≤ 4) (hrc : rc ≤ 8) (hN : ab_fd N t ≠ 0) (hN4 : ab_fd N t ≤ 4) (hNP : ab_Pk N) (hP : ab_Pk (vw t)) (hV : ∀ x, ab_Lr t (ab_off t N) (vw t) x → ∀ h, ab_fd x h ≤ 4) (hE : ∀ v, v < 4 → ex (4 * t + v) = -1 ∨ ab_Pk (ex (4 * t + v))) (hR : ∀ r, r < rc → ab_Pk (rf r))
    (Hi : cu t ≠ nI (ab_fd N t - 1) → post (nI n, nI d, nI rc, aw, st, rs, lv, fl, tb, rf, dm, cu, vw, lk, ex, de, wi))
    (Hr : cu t = nI (ab_fd N t - 1) → ¬ ab_Cm (ab_off t N) (vw t) → post (nI n, nI d, nI rc, aw, st, rs, lv, fl, tb, rf, dm, cu, vw, lk, ex, de, upd wi (5 * t + f) (nI (ab_fd N t - 1))))
    (Ha : cu t = nI (ab_fd N t - 1) → ab_Cm (ab_off t N) (vw t) → ∀ x, ab_Lr t (ab_off t N) (vw t) x → ∀ fl' cu' ex' wi', ab_Th n d rc lv fl tb rf dm cu (upd vw t x) lk (upd ex (4 * t + (ab_fd N t - 1)) (ab_off t N)) wi t fl' cu' ex' wi' → post (nI n, nI d, nI rc, aw, st, rs, lv, fl', tb, rf, dm, cu', upd vw t x, lk, ex', ab_ask t t (ab_off t N) (vw t) de, wi')) : wpX_weigh post (nI n, nI d, nI rc, aw, st, rs, lv, fl, tb, rf, dm, cu, vw, lk, ex, de, wi) (nI t) (nI f) N := by
  unfold wpX_weigh
  dsimp only
  rw [nI_clamp (show t < 2 ^ 31 by omega)]
  refine ab_xfield (by omega) (fun h0 => absurd h0 hN) (fun _ => br_f (nI_pos (ab_fdn N t)) ⟨vp_in_nI (by omega) (by decide), br_c (fun e => nm_e ⟨vp_in_nI (by omega) (by decide), ?_⟩) (fun e => Hi (fun z => e z.symm))⟩)
  refine ab_xcompat (fun hc => br_f (by decide) (ab_xlearn (by omega) (ab_Pk_off t hNP) hP (fun x hx => ?_))) (fun hc => br_t rfl ?_)
  · dsimp only
    rw [ab_i4, nI_clamp (show 4 * t + (ab_fd N t - 1) < 2 ^ 31 by omega)]
    refine ⟨vp_in_nI (by omega) (by decide), nm_e (ab_xthink ht hn hd hrc ?_ ?_ hR (fun fl' cu' ex' wi' hT => Ha e.symm hc x hx fl' cu' ex' wi' hT))⟩
    · intro h; rw [pk_us]; exact hV x hx h
    · intro v hv
      by_cases z : v = ab_fd N t - 1
      · rw [z, pk_us]; exact Or.inr (ab_Pk_off t hNP)
      · rw [pk_un (by omega)]; exact hE v hv
  · rw [ab_i5, nI_clamp (show 5 * t + f < 2 ^ 31 by omega)]
    exact ⟨vp_in_nI (by omega) (by decide), nm_e (Hr e.symm hc)⟩
theorem ab_xhear {post : SX → Prop} {b h v : Nat} (hb : b < n) (hh : h < 5) (hn : n ≤ 5) (hd : d ≤ 4) (hrc : rc ≤ 8) (hv : v < 4) (hV : ∀ a, ab_fd (ab_off h (vw b) ||| ab_pk h v) a ≤ 4) (hE : ∀ v, v < 4 → ex (4 * b + v) = -1 ∨ ab_Pk (ex (4 * b + v))) (hR : ∀ r, r < rc → ab_Pk (rf r))
    (K : ∀ fl' cu' ex' wi', ab_Th n d rc lv fl tb rf dm cu (upd vw b (ab_off h (vw b) ||| ab_pk h v)) lk ex wi b fl' cu' ex' wi' → post (nI n, nI d, nI rc, aw, st, rs, lv, fl', tb, rf, dm, cu', upd vw b (ab_off h (vw b) ||| ab_pk h v), lk, ex', de, wi')) : wpX_hear post (nI n, nI d, nI rc, aw, st, rs, lv, fl, tb, rf, dm, cu, vw, lk, ex, de, wi) (nI b) (nI h) (nI v) := by
  unfold wpX_hear wpX_pack
  dsimp only
  rw [nI_clamp (show b < 2 ^ 31 by omega)]
  refine ⟨vp_in_nI (by omega) (by decide), nm_e ⟨vp_in_nI (by omega) (by decide), nm_e (ab_xthink hb hn hd hrc ?_ hE hR (fun fl' cu' ex' wi' hT => K fl' cu' ex' wi' hT))⟩⟩
  intro a; rw [pk_us]; exact hV a
theorem ab_xaddLink {post : SX → Prop} {t f : Nat} (ht : t < 5) (hf : f < 5) (K0 : cu t < 0 → post (nI n, nI d, nI rc, aw, st, rs, lv, fl, tb, rf, dm, cu, vw, upd lk t (lk t ||| ((1 : Int32) <<< (nI f &&& 31))), ex, de, wi)) (K1 : ¬ cu t < 0 → post (nI n, nI d, nI rc, aw, st, rs, lv, fl, tb, rf, dm, cu, vw, upd lk t (lk t ||| ((1 : Int32) <<< (nI f &&& 31))), ex, de, upd wi (5 * t + f) (cu t))) : wpX_addLink post (nI n, nI d, nI rc, aw, st, rs, lv, fl, tb, rf, dm, cu, vw, lk, ex, de, wi) (nI t) (nI f) := by
  unfold wpX_addLink
  dsimp only
  rw [nI_clamp (show t < 2 ^ 31 by omega), ab_i5, nI_clamp (show 5 * t + f < 2 ^ 31 by omega)]
  have h5 : vp_in (nI t) 5 := vp_in_nI ht (by decide)
  exact ⟨h5, h5, nm_e ⟨h5, br_c (fun e => K0 e) (fun e => ⟨h5, vp_in_nI (by omega) (by decide), nm_e (K1 e)⟩)⟩⟩
theorem ab_xpass {post : Int32 → SX → Prop} {f t : Nat} (hf : f < n) (ht : t < n) (hn : n ≤ 5) (hd : d ≤ 4) (hrc : rc ≤ 8) (hR : ∀ r, r < rc → ab_Pk (rf r)) (hE : ∀ v, v < 4 → ex (4 * t + v) = -1 ∨ ab_Pk (ex (4 * t + v))) (hP : ab_Pk (vw t))
    (hT : wi (5 * f + t) < 0 ∨ (f < t ∧ ∃ v, v < 4 ∧ wi (5 * f + t) = nI v) ∨ (t < f ∧ ab_Pk (wi (5 * f + t)) ∧ ab_fd (wi (5 * f + t)) t ≠ 0 ∧ ab_fd (wi (5 * f + t)) t ≤ 4))
    (hV1 : ∀ v, v < 4 → f < t → wi (5 * f + t) = nI v → ∀ a, ab_fd (ab_off f (vw t) ||| ab_pk f v) a ≤ 4)
    (hV2 : t < f → ¬ wi (5 * f + t) < 0 → ∀ x, ab_Lr t (ab_off t (wi (5 * f + t))) (vw t) x → ∀ h, ab_fd x h ≤ 4)
    (H0 : de (5 * f + t) = 0 → wi (5 * f + t) < 0 → post 0 (nI n, nI d, nI rc, aw, st, rs, lv, fl, tb, rf, dm, cu, vw, lk, ex, de, wi))
    (Hd0 : de (5 * f + t) ≠ 0 → cu t < 0 → post 1 (nI n, nI d, nI rc, aw, st, rs, lv, fl, tb, rf, dm, cu, vw, upd lk t (lk t ||| ((1 : Int32) <<< (nI f &&& 31))), ex, upd de (5 * f + t) 0, wi))
    (Hd1 : de (5 * f + t) ≠ 0 → ¬ cu t < 0 → post 1 (nI n, nI d, nI rc, aw, st, rs, lv, fl, tb, rf, dm, cu, vw, upd lk t (lk t ||| ((1 : Int32) <<< (nI f &&& 31))), ex, upd de (5 * f + t) 0, upd wi (5 * t + f) (cu t)))
    (Hh : de (5 * f + t) = 0 → f < t → ∀ v, v < 4 → wi (5 * f + t) = nI v → ∀ fl' cu' ex' wi', ab_Th n d rc lv fl tb rf dm cu (upd vw t (ab_off f (vw t) ||| ab_pk f v)) lk ex (upd wi (5 * f + t) (-1)) t fl' cu' ex' wi' → post 1 (nI n, nI d, nI rc, aw, st, rs, lv, fl', tb, rf, dm, cu', upd vw t (ab_off f (vw t) ||| ab_pk f v), lk, ex', de, wi'))
    (Hi : de (5 * f + t) = 0 → t < f → ∀ N, N = wi (5 * f + t) → ab_fd N t ≠ 0 → ab_Pk N → cu t ≠ nI (ab_fd N t - 1) → post 1 (nI n, nI d, nI rc, aw, st, rs, lv, fl, tb, rf, dm, cu, vw, lk, ex, de, upd wi (5 * f + t) (-1)))
    (Hr : de (5 * f + t) = 0 → t < f → ∀ N, N = wi (5 * f + t) → ab_fd N t ≠ 0 → ab_Pk N → cu t = nI (ab_fd N t - 1) → ¬ ab_Cm (ab_off t N) (vw t) → post 1 (nI n, nI d, nI rc, aw, st, rs, lv, fl, tb, rf, dm, cu, vw, lk, ex, de, upd (upd wi (5 * f + t) (-1)) (5 * t + f) (nI (ab_fd N t - 1))))
    (Ha : de (5 * f + t) = 0 → t < f → ∀ N, N = wi (5 * f + t) → ab_fd N t ≠ 0 → ab_Pk N → cu t = nI (ab_fd N t - 1) → ab_Cm (ab_off t N) (vw t) → ∀ x, ab_Lr t (ab_off t N) (vw t) x → ∀ fl' cu' ex' wi', ab_Th n d rc lv fl tb rf dm cu (upd vw t x) lk (upd ex (4 * t + (ab_fd N t - 1)) (ab_off t N)) (upd wi (5 * f + t) (-1)) t fl' cu' ex' wi' → post 1 (nI n, nI d, nI rc, aw, st, rs, lv, fl', tb, rf, dm, cu', upd vw t x, lk, ex', ab_ask t t (ab_off t N) (vw t) de, wi')) :
    wpX_pass post (nI n, nI d, nI rc, aw, st, rs, lv, fl, tb, rf, dm, cu, vw, lk, ex, de, wi) (nI f) (nI t) := by
  unfold wpX_pass
  dsimp only
  rw [ab_i5]
  have hin : vp_in (nI (5 * f + t)) 25 := vp_in_nI (by omega) (by decide)
  refine nm_e ⟨hin, ?_⟩
  rw [nI_clamp (show 5 * f + t < 2 ^ 31 by omega)]
  refine br_c (fun e => ⟨hin, nm_e (br_c (fun h0 => ⟨hin, nm_e ?_⟩) (fun h0 => H0 e (Int32.not_le.mp h0)))⟩) (fun e => ⟨hin, nm_e (ab_xaddLink (by omega) (by omega) (fun z => Hd0 e z) (fun z => Hd1 e z))⟩)
  rcases hT with h | ⟨hft, v, hv, ev⟩ | ⟨hft, hNP, hN, hN4⟩
  · exact absurd h (Int32.not_lt.mpr h0)
  · refine br_f (nI_ge hft (by omega)) ?_
    rw [ev]
    exact ab_xhear ht (by omega) hn hd hrc hv (hV1 v hv hft ev) hE hR (fun fl' cu' ex' wi' hT' => Hh e hft v hv ev fl' cu' ex' wi' hT')
  · refine br_t (nI_le (by omega) (by omega)) ?_
    exact ab_xweigh ht (by omega) hn hd hrc hN hN4 hNP hP (hV2 hft (ab_Pk_nn hNP)) hE hR (fun z => Hi e hft _ rfl hN hNP z) (fun z z2 => Hr e hft _ rfl hN hNP z z2) (fun z z2 x hx fl' cu' ex' wi' hT' => Ha e hft _ rfl hN hNP z z2 x hx fl' cu' ex' wi' hT')
end
end
section
/-! the network's invariant -/
def ab_dc (x : Int32) : Nat := (x + 1).toNatClampNeg
def ab_Ok (d : Nat) (x : Int32) : Prop := x = nI (ab_dc x) - 1 ∧ ab_dc x ≤ d
theorem ab_dc_nI {v : Nat} (h : v + 1 < 2 ^ 31) : ab_dc (nI v) = v + 1 := by unfold ab_dc; rw [nI_1, nI_clamp h]
theorem ab_dc_m1 : ab_dc (-1) = 0 := by decide
theorem ab_Ok_m1 {d : Nat} : ab_Ok d (-1) := ⟨by decide, by rw [ab_dc_m1]; omega⟩
theorem ab_Ok_nI {d v : Nat} (h : v < d) (hd : d ≤ 4) : ab_Ok d (nI v) := by
  have e : ab_dc (nI v) = v + 1 := ab_dc_nI (by omega)
  refine ⟨?_, by omega⟩
  rw [e, ab_p1 (by omega), Nat.add_sub_cancel]
theorem ab_Ok_v {d : Nat} {x : Int32} (h : ab_Ok d x) (z : ab_dc x ≠ 0) : x = nI (ab_dc x - 1) := by rw [← ab_p1 z]; exact h.1
theorem ab_Ok_0 {d : Nat} {x : Int32} (h : ab_Ok d x) (z : ab_dc x = 0) : x = -1 := by rw [← ab_p0, ← z]; exact h.1
theorem ab_Ok_neg {d : Nat} {x : Int32} (hd : d ≤ 4) (h : ab_Ok d x) : x < 0 ↔ ab_dc x = 0 := by
  constructor
  · intro z
    by_cases e : ab_dc x = 0
    · exact e
    · rw [ab_Ok_v h e] at z
      exact absurd z (nI_pos (by have := h.2; omega))
  · intro z
    rw [ab_Ok_0 h z]; exact ab_m1_neg
theorem ab_Ok_eq {d v : Nat} {x : Int32} (hd : d ≤ 4) (hv : v < 10) (h : ab_Ok d x) : x = nI v ↔ ab_dc x = v + 1 := by
  constructor
  · intro z; rw [z, ab_dc_nI (by omega)]
  · intro z; rw [ab_Ok_v h (by omega), z, Nat.add_sub_cancel]
def ab_Ag (p : Int32) (σ : Nat → Nat) : Prop := ∀ a, a < 5 → ab_fd p a ≠ 0 → ab_fd p a = σ a + 1
def ab_Sol (d rc : Nat) (lv : Int32) (tb rf dm : Nat → Int32) (σ : Nat → Nat) : Prop :=
  (∀ a, a < 5 → bt lv a = true → σ a < d ∧ bt (dm a) (σ a) = true) ∧
  (∀ a b, a < b → b < 5 → bt lv a = true → bt lv b = true → ¬ ab_cl tb a (σ a) b (σ b)) ∧
  (∀ r, r < rc → ab_Ac lv (rf r) → ¬ ab_Ag (rf r) σ)
def ab_KW (n d rc : Nat) (lv : Int32) (rf : Nat → Int32) : Prop :=
  2 ≤ n ∧ n ≤ 5 ∧ 2 ≤ d ∧ d ≤ 4 ∧ rc ≤ 8 ∧ (∀ a, bt lv a = true → a < n) ∧ (∀ r, r < rc → ab_Pk (rf r) ∧ (∀ a, ab_fd (rf r) a ≤ d) ∧ ∃ a, a < 5 ∧ ab_fd (rf r) a ≠ 0)
def ab_TC (d : Nat) (lv : Int32) (cu : Nat → Int32) : Prop := ∀ a, a < 5 → ab_Ok d (cu a) ∧ (bt lv a = false → ab_dc (cu a) = 0)
def ab_TV (d : Nat) (lv : Int32) (vw : Nat → Int32) : Prop := ∀ b, b < 5 → ab_Pk (vw b) ∧ ∀ h, ab_fd (vw b) h ≠ 0 → ab_fd (vw b) h ≤ d ∧ h < b ∧ bt lv h = true ∧ bt lv b = true
def ab_TL (lv : Int32) (lk : Nat → Int32) : Prop := ∀ a, a < 5 → ∀ b, bt (lk a) b = true → a < b ∧ bt lv a = true ∧ bt lv b = true
def ab_TE (ex : Nat → Int32) : Prop := ∀ b, b < 5 → ∀ v, v < 4 → ex (4 * b + v) = -1 ∨ (ab_Pk (ex (4 * b + v)) ∧ ∀ h, ab_fd (ex (4 * b + v)) h ≠ 0 → h < b)
def ab_TD (vw de : Nat → Int32) : Prop := ∀ f, f < 5 → ∀ t, t < 5 → de (5 * f + t) = 0 ∨ (de (5 * f + t) = 1 ∧ t < f ∧ ab_fd (vw f) t ≠ 0)
def ab_TW1 (d : Nat) (lk wi : Nat → Int32) : Prop := ∀ f t, f < t → t < 5 → ab_Ok d (wi (5 * f + t)) ∧ (ab_dc (wi (5 * f + t)) ≠ 0 → bt (lk f) t = true)
def ab_NgT (d : Nat) (lv : Int32) (t : Nat) (N : Int32) : Prop := ab_Pk N ∧ ab_fd N t ≠ 0 ∧ ∀ a, ab_fd N a ≠ 0 → ab_fd N a ≤ d ∧ a ≤ t ∧ bt lv a = true
def ab_TW2 (d : Nat) (lv : Int32) (vw wi : Nat → Int32) : Prop := ∀ f t, t < f → f < 5 → wi (5 * f + t) = -1 ∨ (ab_NgT d lv t (wi (5 * f + t)) ∧ ab_fd (vw f) t ≠ 0)
def ab_TW3 (wi : Nat → Int32) : Prop := ∀ f, f < 5 → wi (5 * f + f) = -1
def ab_SE (d rc : Nat) (lv : Int32) (tb rf dm ex : Nat → Int32) : Prop := ∀ b, b < 5 → ∀ v, v < 4 → ¬ ex (4 * b + v) < 0 → ∀ σ, ab_Sol d rc lv tb rf dm σ → ab_Ag (ex (4 * b + v)) σ → σ b ≠ v
def ab_SW (d rc : Nat) (lv : Int32) (tb rf dm wi : Nat → Int32) : Prop := ∀ f t, t < f → f < 5 → ¬ wi (5 * f + t) < 0 → ∀ σ, ab_Sol d rc lv tb rf dm σ → ¬ ab_Ag (wi (5 * f + t)) σ
def ab_SF (d rc : Nat) (lv : Int32) (tb rf dm : Nat → Int32) (fl : Int32) : Prop := fl = 0 ∨ (fl = 1 ∧ ∀ σ, ¬ ab_Sol d rc lv tb rf dm σ)
def ab_Tt (d rc : Nat) (lv : Int32) (tb rf dm cu vw ex : Nat → Int32) (b : Nat) : Prop :=
  (ab_dc (cu b) = 0 → ∀ v, v < d → ∃ c, ab_Cx rc lv tb rf dm vw ex b v c) ∧
  (ab_dc (cu b) ≠ 0 → (∀ c, ¬ ab_Cx rc lv tb rf dm vw ex b (ab_dc (cu b) - 1) c) ∧ ∀ v, v < ab_dc (cu b) - 1 → ∃ c, ab_Cx rc lv tb rf dm vw ex b v c)
def ab_G1 (d rc : Nat) (lv : Int32) (tb rf dm cu vw ex : Nat → Int32) (E : Nat → Prop) : Prop := ∀ b, b < 5 → bt lv b = true → E b → ab_Tt d rc lv tb rf dm cu vw ex b
def ab_G2 (vw lk de : Nat → Int32) : Prop := ∀ h b, h < b → b < 5 → ab_fd (vw b) h ≠ 0 → bt (lk h) b = true ∨ de (5 * b + h) ≠ 0
def ab_G3 (cu vw lk wi : Nat → Int32) : Prop := ∀ h b, h < b → b < 5 → bt (lk h) b = true → ab_dc (cu h) ≠ 0 → ab_dc (wi (5 * h + b)) = ab_dc (cu h) ∨ (ab_dc (wi (5 * h + b)) = 0 ∧ ab_fd (vw b) h = ab_dc (cu h))
/-- what a waiting agent h waits for at t -/
def ab_Wf (cu vw de wi : Nat → Int32) (h t : Nat) : Prop := de (5 * h + t) ≠ 0 ∨ (¬ wi (5 * h + t) < 0 ∧ ab_Hd (wi (5 * h + t)) (vw h)) ∨ ab_dc (wi (5 * t + h)) ≠ 0 ∨ ab_dc (cu t) ≠ ab_fd (vw h) t
def ab_G5 (lv fl : Int32) (cu vw de wi : Nat → Int32) (E : Nat → Prop) : Prop := fl = 0 → ∀ h, h < 5 → bt lv h = true → E h → ab_dc (cu h) = 0 → ∃ t, t < h ∧ ab_fd (vw h) t ≠ 0 ∧ ab_Wf cu vw de wi h t
def ab_Z1 (lv : Int32) (tb lk : Nat → Int32) : Prop := ∀ a b, a < b → b < 5 → bt lv a = true → bt lv b = true → tb (5 * a + b) ≠ 0 → bt (lk a) b = true
def ab_Z2 (rc : Nat) (lv : Int32) (rf lk : Nat → Int32) : Prop := ∀ r, r < rc → ab_Ac lv (rf r) → ∀ l, ab_Ls (rf r) l → ∀ a, a < l → ab_fd (rf r) a ≠ 0 → bt (lk a) l = true
/-- typing, soundness and the links: all but the thoughts and the waiting -/
def ab_Inv0 (n d rc : Nat) (lv : Int32) (tb rf dm : Nat → Int32) (fl : Int32) (cu vw lk ex de wi : Nat → Int32) : Prop :=
  ab_KW n d rc lv rf ∧ ab_TC d lv cu ∧ ab_TV d lv vw ∧ ab_TL lv lk ∧ ab_TE ex ∧ ab_TD vw de ∧ ab_TW1 d lk wi ∧ ab_TW2 d lv vw wi ∧ ab_TW3 wi ∧
  ab_SE d rc lv tb rf dm ex ∧ ab_SW d rc lv tb rf dm wi ∧ ab_SF d rc lv tb rf dm fl ∧ ab_G2 vw lk de ∧ ab_G3 cu vw lk wi ∧ ab_Z1 lv tb lk ∧ ab_Z2 rc lv rf lk
def ab_Inv (n d rc : Nat) (lv : Int32) (tb rf dm : Nat → Int32) (fl : Int32) (cu vw lk ex de wi : Nat → Int32) (E : Nat → Prop) : Prop :=
  ab_Inv0 n d rc lv tb rf dm fl cu vw lk ex de wi ∧ ab_G1 d rc lv tb rf dm cu vw ex E ∧ ab_G5 lv fl cu vw de wi E
/-! soundness of an excuse -/
theorem ab_Ag_Hd {p q : Int32} {σ : Nat → Nat} (h : ab_Hd p q) (g : ab_Ag q σ) : ab_Ag p σ := fun a ha z => by
  have e := h a ha z
  rw [e]; exact g a ha (e ▸ z)
theorem ab_fd_off' (p : Int32) {h a : Nat} (hh : h < 5) (ha : a < 10) : ab_fd (ab_off h p) a = if a = h then 0 else ab_fd p a := ab_fd_off p hh ha
theorem ab_Ag_off {p : Int32} {σ : Nat → Nat} {b : Nat} (hb : b < 5) (h : ab_Ag (ab_off b p) σ) (h2 : ab_fd p b = σ b + 1) : ab_Ag p σ := by
  intro a ha z
  by_cases e : a = b
  · rw [e]; exact h2
  · have := h a ha
    rw [ab_fd_off' p hb (by omega), if_neg e] at this
    exact this z
theorem ab_Cx_sound {d rc : Nat} {lv : Int32} {tb rf dm vw ex : Nat → Int32} {b v : Nat} {c : Int32} (hb : b < 5) (hv : v < 4) (hl : bt lv b = true) (hTV : ab_TV d lv vw) (hd : d ≤ 4) (hSE : ab_SE d rc lv tb rf dm ex) (h : ab_Cx rc lv tb rf dm vw ex b v c) {σ : Nat → Nat} (hs : ab_Sol d rc lv tb rf dm σ) (hg : ab_Ag c σ) : σ b ≠ v := by
  intro e
  subst e
  rcases h with ⟨h, rfl⟩ | ⟨_, rfl, h2, _⟩ | ⟨h, hh, z, hc, rfl⟩ | ⟨r, hr, hac, hls, hf, rfl, _⟩
  · have := (hs.1 b hb hl).2
    rw [h] at this; cases this
  · exact hSE b hb _ hv h2 σ hs hg rfl
  · have hT := (hTV b hb).2 h z
    have e := hg h (by omega)
    rw [ab_fd_pk (by omega) (by omega) (by omega), if_pos rfl] at e
    have e2 := e (by omega)
    have e3 : ab_fd (vw b) h - 1 = σ h := by omega
    rw [e3] at hc
    exact hs.2.1 h b hh hb hT.2.2.1 hl hc
  · exact hs.2.2 r hr hac (ab_Ag_off hb hg hf)
end
section
/-! a thought keeps the invariant -/
theorem ab_snd_at {n b f t : Nat} {x : Int32} {lk wi : Nat → Int32} (hn : n ≤ 5) (hb : b < 5) (ht : t < 5) : ab_snd n b x lk wi (5 * f + t) = if f = b ∧ b < t ∧ t < n ∧ bt (lk b) t = true then x else wi (5 * f + t) := by
  unfold ab_snd
  by_cases e : f = b ∧ b < t ∧ t < n ∧ bt (lk b) t = true
  · rw [if_pos e, if_pos]
    obtain ⟨rfl, h1, h2, h3⟩ := e
    refine ⟨by omega, by omega, ?_⟩
    rw [show 5 * f + t - 5 * f = t by omega]; exact h3
  · rw [if_neg e, if_neg]
    rintro ⟨h1, h2, h3⟩
    have hf : f = b := by omega
    subst hf
    rw [show 5 * f + t - 5 * f = t by omega] at h3
    exact e ⟨rfl, by omega, by omega, h3⟩
theorem ab_upd_at {f t f' t' : Nat} {x : Int32} {wi : Nat → Int32} (ht : t < 5) (ht' : t' < 5) : upd wi (5 * f + t) x (5 * f' + t') = if f' = f ∧ t' = t then x else wi (5 * f' + t') := by
  unfold upd
  by_cases e : f' = f ∧ t' = t
  · rw [if_pos e, if_pos (by omega)]
  · rw [if_neg e, if_neg (by omega)]
section
variable {n d rc : Nat} {lv fl fl' : Int32} {tb rf dm cu vw lk ex de wi cu' ex' wi' : Nat → Int32} {b : Nat} {E E' : Nat → Prop}
theorem ab_TC_u {x : Int32} (h : ab_TC d lv cu) (hx : ab_Ok d x) (hl : bt lv b = true) : ab_TC d lv (upd cu b x) := by
  intro a ha
  by_cases e : a = b
  · subst e; rw [pk_us]; exact ⟨hx, fun z => by rw [hl] at z; cases z⟩
  · rw [pk_un e]; exact h a ha
theorem ab_TE_c (hc : ab_Cl vw ex ex' b) (h : ab_TE ex) : ab_TE ex' := by
  intro b' hb' v hv
  rcases hc (4 * b' + v) with e | ⟨e, _⟩
  · rw [e]; exact h b' hb' v hv
  · exact Or.inl e
theorem ab_SE_c (hc : ab_Cl vw ex ex' b) (h : ab_SE d rc lv tb rf dm ex) : ab_SE d rc lv tb rf dm ex' := by
  intro b' hb' v hv
  rcases hc (4 * b' + v) with e | ⟨e, _⟩
  · rw [e]; exact h b' hb' v hv
  · rw [e]; intro z; exact absurd ab_m1_neg z
theorem ab_Cx_c {b' v : Nat} {c : Int32} (hc : ab_Cl vw ex ex' b) (hv : v < 4) : ab_Cx rc lv tb rf dm vw ex' b' v c ↔ ab_Cx rc lv tb rf dm vw ex b' v c := by
  by_cases e : b' = b
  · subst e; exact ab_Cl_Cx hc
  · have : ex' (4 * b' + v) = ex (4 * b' + v) := by
      rcases hc (4 * b' + v) with e1 | ⟨_, v', hv', e2, _⟩
      · exact e1
      · omega
    unfold ab_Cx ab_Sx
    rw [this]
theorem ab_Tt_c {b' : Nat} (hd : d ≤ 4) (hcu : cu' b' = cu b') (hok : ab_dc (cu b') ≤ d) (hc : ab_Cl vw ex ex' b) (h : ab_Tt d rc lv tb rf dm cu vw ex b') : ab_Tt d rc lv tb rf dm cu' vw ex' b' := by
  unfold ab_Tt
  rw [hcu]
  refine ⟨fun z v hv => ?_, fun z => ⟨fun c hx => ?_, fun v hv => ?_⟩⟩
  · obtain ⟨c, hx⟩ := h.1 z v hv
    exact ⟨c, (ab_Cx_c hc (by omega)).mpr hx⟩
  · exact (h.2 z).1 c ((ab_Cx_c hc (by omega)).mp hx)
  · obtain ⟨c, hx⟩ := (h.2 z).2 v hv
    exact ⟨c, (ab_Cx_c hc (by omega)).mpr hx⟩
theorem ab_Th_cu (hT : ab_Th n d rc lv fl tb rf dm cu vw lk ex wi b fl' cu' ex' wi') {a : Nat} (ha : a ≠ b) : cu' a = cu a := by
  obtain ⟨hcl, ⟨v, hv, hnx, hlow, _, ⟨hcb, rfl, _⟩ | ⟨hcb, rfl, _⟩⟩ | ⟨U, hUP, hUH, hUx, rfl, _⟩⟩ := hT
  · rfl
  · exact pk_un ha
  · exact pk_un ha
theorem ab_Th_Tt (hd : d ≤ 4) (hT : ab_Th n d rc lv fl tb rf dm cu vw lk ex wi b fl' cu' ex' wi') : ab_Tt d rc lv tb rf dm cu' vw ex' b := by
  obtain ⟨hcl, ⟨v, hv, hnx, hlow, _, hor⟩ | ⟨U, hUP, hUH, hUx, rfl, _⟩⟩ := hT
  · have e : ab_dc (cu' b) = v + 1 := by
      rcases hor with ⟨hcb, rfl, _⟩ | ⟨hcb, rfl, _⟩
      · rw [hcb, ab_dc_nI (by omega)]
      · rw [pk_us, ab_dc_nI (by omega)]
    unfold ab_Tt
    rw [e, Nat.add_sub_cancel]
    refine ⟨fun z => absurd z (by omega), fun _ => ⟨fun c hx => hnx c ((ab_Cx_c hcl (by omega)).mp hx), fun v' hv' => ?_⟩⟩
    obtain ⟨c, hx⟩ := hlow v' hv'
    exact ⟨c, (ab_Cx_c hcl (by omega)).mpr hx⟩
  · unfold ab_Tt
    rw [pk_us, ab_dc_m1]
    refine ⟨fun _ v hv => ?_, fun z => absurd rfl z⟩
    obtain ⟨c, hx, _⟩ := hUx v hv
    exact ⟨c, (ab_Cx_c hcl (by omega)).mpr hx⟩
theorem ab_Th_G1 (hd : d ≤ 4) (hTC : ab_TC d lv cu) (hT : ab_Th n d rc lv fl tb rf dm cu vw lk ex wi b fl' cu' ex' wi') (hE : ∀ h, E' h → h = b ∨ (h ≠ b ∧ E h)) (h : ab_G1 d rc lv tb rf dm cu vw ex (fun a => a ≠ b ∧ E a)) : ab_G1 d rc lv tb rf dm cu' vw ex' E' := by
  intro b' hb' hl' he
  rcases hE b' he with rfl | e
  · exact ab_Th_Tt hd hT
  · exact ab_Tt_c hd (ab_Th_cu hT e.1) (hTC b' hb').1.2 hT.1 (h b' hb' hl' e)
theorem ab_Th_TC (hd : d ≤ 4) (hl : bt lv b = true) (hTC : ab_TC d lv cu) (hT : ab_Th n d rc lv fl tb rf dm cu vw lk ex wi b fl' cu' ex' wi') : ab_TC d lv cu' := by
  obtain ⟨hcl, ⟨v, hv, hnx, hlow, _, ⟨hcb, rfl, _⟩ | ⟨hcb, rfl, _⟩⟩ | ⟨U, hUP, hUH, hUx, rfl, _⟩⟩ := hT
  · exact hTC
  · exact ab_TC_u hTC (ab_Ok_nI hv hd) hl
  · exact ab_TC_u hTC ab_Ok_m1 hl
/-- the union is sound -/
theorem ab_U_sound {U : Int32} (hb : b < 5) (hd : d ≤ 4) (hl : bt lv b = true) (hTV : ab_TV d lv vw) (hSE : ab_SE d rc lv tb rf dm ex) (hUx : ∀ v, v < d → ∃ c, ab_Cx rc lv tb rf dm vw ex b v c ∧ ab_Hd c U) {σ : Nat → Nat} (hs : ab_Sol d rc lv tb rf dm σ) : ¬ ab_Ag U σ := by
  intro hg
  have hv := (hs.1 b hb hl).1
  obtain ⟨c, hx, hc⟩ := hUx (σ b) hv
  exact ab_Cx_sound hb (by omega) hl hTV hd hSE hx hs (ab_Ag_Hd hc hg) rfl
theorem ab_U_ty {U : Int32} {t : Nat} (hb : b < 5) (hTV : ab_TV d lv vw) (hUP : ab_Pk U) (hUH : ab_Hd U (vw b)) (ht : ab_Ls U t) : t < b ∧ ab_NgT d lv t U ∧ ab_fd (vw b) t ≠ 0 := by
  have e := hUH t ht.1 ht.2.1
  have hne : ab_fd (vw b) t ≠ 0 := e ▸ ht.2.1
  refine ⟨((hTV b hb).2 t hne).2.1, ⟨hUP, ht.2.1, fun a z => ?_⟩, hne⟩
  have ha : a < 5 := by
    rcases Nat.lt_or_ge a 5 with h | h
    · exact h
    · exact absurd (ab_fd_hi hUP h) z
  have e2 := hUH a ha z
  have h2 := (hTV b hb).2 a (e2 ▸ z)
  refine ⟨by omega, ?_, h2.2.2.1⟩
  rcases Nat.lt_or_ge t a with h | h
  · exact absurd (ht.2.2 a h ha) z
  · exact h
theorem ab_Th_TW1 (hn : n ≤ 5) (hd : d ≤ 4) (hb : b < 5) (hTV : ab_TV d lv vw) (h : ab_TW1 d lk wi) (hT : ab_Th n d rc lv fl tb rf dm cu vw lk ex wi b fl' cu' ex' wi') : ab_TW1 d lk wi' := by
  obtain ⟨hcl, ⟨v, hv, hnx, hlow, _, ⟨hcb, _, rfl⟩ | ⟨hcb, _, rfl⟩⟩ | ⟨U, hUP, hUH, hUx, _, ⟨_, _, rfl⟩ | ⟨t0, ht0, _, rfl⟩⟩⟩ := hT
  · exact h
  · intro f t hft ht
    rw [ab_snd_at hn hb ht]
    by_cases e : f = b ∧ b < t ∧ t < n ∧ bt (lk b) t = true
    · rw [if_pos e]
      refine ⟨ab_Ok_nI hv hd, fun _ => ?_⟩
      rw [e.1]; exact e.2.2.2
    · rw [if_neg e]; exact h f t hft ht
  · exact h
  · intro f t hft ht
    have := (ab_U_ty hb hTV hUP hUH ht0).1
    rw [ab_upd_at (by omega) ht, if_neg (by omega)]
    exact h f t hft ht
theorem ab_Th_TW2 (hn : n ≤ 5) (hb : b < 5) (hTV : ab_TV d lv vw) (h : ab_TW2 d lv vw wi) (hT : ab_Th n d rc lv fl tb rf dm cu vw lk ex wi b fl' cu' ex' wi') : ab_TW2 d lv vw wi' := by
  obtain ⟨hcl, ⟨v, hv, hnx, hlow, _, ⟨hcb, _, rfl⟩ | ⟨hcb, _, rfl⟩⟩ | ⟨U, hUP, hUH, hUx, _, ⟨_, _, rfl⟩ | ⟨t0, ht0, _, rfl⟩⟩⟩ := hT
  · exact h
  · intro f t hft hf
    rw [ab_snd_at hn hb (by omega), if_neg (by omega)]
    exact h f t hft hf
  · exact h
  · intro f t hft hf
    have hU := ab_U_ty hb hTV hUP hUH ht0
    rw [ab_upd_at (by omega) (by omega)]
    by_cases e : f = b ∧ t = t0
    · rw [if_pos e, e.1, e.2]; exact Or.inr hU.2
    · rw [if_neg e]; exact h f t hft hf
theorem ab_Th_TW3 (hn : n ≤ 5) (hb : b < 5) (hTV : ab_TV d lv vw) (h : ab_TW3 wi) (hT : ab_Th n d rc lv fl tb rf dm cu vw lk ex wi b fl' cu' ex' wi') : ab_TW3 wi' := by
  obtain ⟨hcl, ⟨v, hv, hnx, hlow, _, ⟨hcb, _, rfl⟩ | ⟨hcb, _, rfl⟩⟩ | ⟨U, hUP, hUH, hUx, _, ⟨_, _, rfl⟩ | ⟨t0, ht0, _, rfl⟩⟩⟩ := hT
  · exact h
  · intro f hf
    rw [ab_snd_at hn hb (by omega), if_neg (by omega)]
    exact h f hf
  · exact h
  · intro f hf
    have hU := ab_U_ty hb hTV hUP hUH ht0
    rw [ab_upd_at (by omega) (by omega), if_neg (by omega)]
    exact h f hf
theorem ab_Th_SW (hn : n ≤ 5) (hd : d ≤ 4) (hb : b < 5) (hl : bt lv b = true) (hTV : ab_TV d lv vw) (hSE : ab_SE d rc lv tb rf dm ex) (h : ab_SW d rc lv tb rf dm wi) (hT : ab_Th n d rc lv fl tb rf dm cu vw lk ex wi b fl' cu' ex' wi') : ab_SW d rc lv tb rf dm wi' := by
  obtain ⟨hcl, ⟨v, hv, hnx, hlow, _, ⟨hcb, _, rfl⟩ | ⟨hcb, _, rfl⟩⟩ | ⟨U, hUP, hUH, hUx, _, ⟨_, _, rfl⟩ | ⟨t0, ht0, _, rfl⟩⟩⟩ := hT
  · exact h
  · intro f t hft hf
    rw [ab_snd_at hn hb (by omega), if_neg (by omega)]
    exact h f t hft hf
  · exact h
  · intro f t hft hf
    have hU := ab_U_ty hb hTV hUP hUH ht0
    rw [ab_upd_at (by omega) (by omega)]
    by_cases e : f = b ∧ t = t0
    · rw [if_pos e]; intro _ σ hs; exact ab_U_sound hb hd hl hTV hSE hUx hs
    · rw [if_neg e]; exact h f t hft hf
theorem ab_Th_SF (hd : d ≤ 4) (hb : b < 5) (hl : bt lv b = true) (hTV : ab_TV d lv vw) (hSE : ab_SE d rc lv tb rf dm ex) (h : ab_SF d rc lv tb rf dm fl) (hT : ab_Th n d rc lv fl tb rf dm cu vw lk ex wi b fl' cu' ex' wi') : ab_SF d rc lv tb rf dm fl' := by
  obtain ⟨hcl, ⟨v, hv, hnx, hlow, rfl, _⟩ | ⟨U, hUP, hUH, hUx, _, ⟨hU0, rfl, _⟩ | ⟨t0, ht0, rfl, _⟩⟩⟩ := hT
  · exact h
  · refine Or.inr ⟨rfl, fun σ hs => ab_U_sound hb hd hl hTV hSE hUx hs (fun a ha z => absurd (hU0 a ha) z)⟩
  · exact h
theorem ab_Th_G3 (hn : n ≤ 5) (hd : d ≤ 4) (hb : b < 5) (hlv : ∀ a, bt lv a = true → a < n) (hTV : ab_TV d lv vw) (hTL : ab_TL lv lk) (h : ab_G3 cu vw lk wi) (hT : ab_Th n d rc lv fl tb rf dm cu vw lk ex wi b fl' cu' ex' wi') : ab_G3 cu' vw lk wi' := by
  obtain ⟨hcl, ⟨v, hv, hnx, hlow, _, ⟨hcb, rfl, rfl⟩ | ⟨hcb, rfl, rfl⟩⟩ | ⟨U, hUP, hUH, hUx, rfl, ⟨_, _, rfl⟩ | ⟨t0, ht0, _, rfl⟩⟩⟩ := hT
  · exact h
  · intro a c hac hc hlk hne
    rw [ab_snd_at hn hb hc]
    by_cases e : a = b
    · subst e
      rw [if_pos ⟨rfl, hac, hlv c (hTL a hb c hlk).2.2, hlk⟩, pk_us]
      exact Or.inl rfl
    · rw [if_neg (fun z => e z.1), pk_un e]
      rw [pk_un e] at hne
      exact h a c hac hc hlk hne
  · intro a c hac hc hlk hne
    by_cases e : a = b
    · subst e; rw [pk_us, ab_dc_m1] at hne; exact absurd rfl hne
    · rw [pk_un e] at hne ⊢
      exact h a c hac hc hlk hne
  · intro a c hac hc hlk hne
    have hU := (ab_U_ty hb hTV hUP hUH ht0).1
    by_cases e : a = b
    · subst e; rw [pk_us, ab_dc_m1] at hne; exact absurd rfl hne
    · rw [ab_upd_at (by omega) hc, if_neg (by omega), pk_un e]
      rw [pk_un e] at hne
      exact h a c hac hc hlk hne
/-- the waiting of the others, ahead of a thought of b -/
def ab_G5' (rc : Nat) (lv fl : Int32) (tb rf dm cu vw ex de wi : Nat → Int32) (E : Nat → Prop) (b : Nat) : Prop := fl = 0 → ∀ h, h < 5 → bt lv h = true → E h → h ≠ b → ab_dc (cu h) = 0 → ∃ t, t < h ∧ ab_fd (vw h) t ≠ 0 ∧ (ab_Wf cu vw de wi h t ∨ (t = b ∧ ∃ c, ab_Cx rc lv tb rf dm vw ex b (ab_fd (vw h) b - 1) c))
theorem ab_G5_w (h : ab_G5 lv fl cu vw de wi E) : ab_G5' rc lv fl tb rf dm cu vw ex de wi E b := by
  intro hf a ha hl he _ hz
  obtain ⟨t, h1, h2, h3⟩ := h hf a ha hl he hz
  exact ⟨t, h1, h2, Or.inl h3⟩
theorem ab_Th_G5 (hn : n ≤ 5) (hd : d ≤ 4) (hb : b < 5) (hlv : ∀ a, bt lv a = true → a < n) (hTV : ab_TV d lv vw) (hG2 : ab_G2 vw lk de) (hE : ∀ h, E' h → h = b ∨ (h ≠ b ∧ E h)) (h : ab_G5' rc lv fl tb rf dm cu vw ex de wi E b) (hT : ab_Th n d rc lv fl tb rf dm cu vw lk ex wi b fl' cu' ex' wi') : ab_G5 lv fl' cu' vw de wi' E' := by
  obtain ⟨hcl, ⟨v, hv, hnx, hlow, rfl, ⟨hcb, rfl, rfl⟩ | ⟨hcb, rfl, rfl⟩⟩ | ⟨U, hUP, hUH, hUx, rfl, ⟨_, rfl, rfl⟩ | ⟨t0, ht0, rfl, rfl⟩⟩⟩ := hT
  · intro hf a ha hla he hz
    rcases hE a he with rfl | ⟨hab, hea⟩
    · rw [hcb, ab_dc_nI (by omega)] at hz; omega
    · obtain ⟨t, h1, h2, h3 | ⟨rfl, c, hx⟩⟩ := h hf a ha hla hea hab hz
      · exact ⟨t, h1, h2, h3⟩
      · refine ⟨t, h1, h2, Or.inr (Or.inr (Or.inr ?_))⟩
        rw [hcb, ab_dc_nI (by omega)]
        intro e
        rw [← e, Nat.add_sub_cancel] at hx
        exact hnx c hx
  · intro hf a ha hla he hz
    rcases hE a he with rfl | ⟨hab, hea⟩
    · rw [pk_us, ab_dc_nI (by omega)] at hz; omega
    · rw [pk_un hab] at hz
      obtain ⟨t, h1, h2, h3⟩ := h hf a ha hla hea hab hz
      refine ⟨t, h1, h2, ?_⟩
      unfold ab_Wf
      rw [ab_snd_at hn hb (show t < 5 by omega), if_neg (by omega), ab_snd_at hn hb ha]
      by_cases e : t = b
      · subst e
        by_cases hk : bt (lk t) a = true
        · rw [if_pos ⟨rfl, h1, hlv a hla, hk⟩, ab_dc_nI (by omega)]
          exact Or.inr (Or.inr (Or.inl (by omega)))
        · have := hG2 t a h1 ha h2
          rcases this with g | g
          · exact absurd g hk
          · exact Or.inl g
      · rw [if_neg (fun z => e z.1), pk_un e]
        rcases h3 with h3 | h3
        · exact h3
        · exact absurd h3.1 e
  · intro hf; exact absurd hf (by decide)
  · have hU := ab_U_ty hb hTV hUP hUH ht0
    intro hf a ha hla he hz
    rcases hE a he with rfl | ⟨hab, hea⟩
    · refine ⟨t0, hU.1, hU.2.2, Or.inr (Or.inl ?_)⟩
      rw [ab_upd_at ht0.1 ht0.1, if_pos ⟨rfl, rfl⟩]
      exact ⟨ab_Pk_nn hUP, hUH⟩
    · rw [pk_un hab] at hz
      obtain ⟨t, h1, h2, h3⟩ := h hf a ha hla hea hab hz
      refine ⟨t, h1, h2, ?_⟩
      unfold ab_Wf
      rw [ab_upd_at ht0.1 (show t < 5 by omega), if_neg (fun z => hab z.1), ab_upd_at ht0.1 ha]
      by_cases e : t = b
      · subst e
        rw [pk_us, ab_dc_m1]
        exact Or.inr (Or.inr (Or.inr (fun z => h2 z.symm)))
      · rw [if_neg (fun z => e z.1), pk_un e]
        rcases h3 with h3 | h3
        · exact h3
        · exact absurd h3.1 e
theorem ab_Th_inv (hI : ab_Inv0 n d rc lv tb rf dm fl cu vw lk ex de wi) (hb : b < 5) (hl : bt lv b = true) (hE : ∀ h, E' h → h = b ∨ (h ≠ b ∧ E h)) (hG1 : ab_G1 d rc lv tb rf dm cu vw ex (fun a => a ≠ b ∧ E a)) (hG5 : ab_G5' rc lv fl tb rf dm cu vw ex de wi E b) (hT : ab_Th n d rc lv fl tb rf dm cu vw lk ex wi b fl' cu' ex' wi') : ab_Inv n d rc lv tb rf dm fl' cu' vw lk ex' de wi' E' := by
  obtain ⟨hK, hTC, hTV, hTL, hTE, hTD, hW1, hW2, hW3, hSE, hSW, hSF, hG2, hG3, hZ1, hZ2⟩ := hI
  have hK' := hK
  obtain ⟨_, hn, _, hd, _, hlv, _⟩ := hK'
  exact ⟨⟨hK, ab_Th_TC hd hl hTC hT, hTV, hTL, ab_TE_c hT.1 hTE, hTD, ab_Th_TW1 hn hd hb hTV hW1 hT, ab_Th_TW2 hn hb hTV hW2 hT, ab_Th_TW3 hn hb hTV hW3 hT, ab_SE_c hT.1 hSE, ab_Th_SW hn hd hb hl hTV hSE hSW hT, ab_Th_SF hd hb hl hTV hSE hSF hT, hG2, ab_Th_G3 hn hd hb hlv hTV hTL hG3 hT, hZ1, hZ2⟩, ab_Th_G1 hd hTC hT hE hG1, ab_Th_G5 hn hd hb hlv hTV hG2 hE hG5 hT⟩
end
end
section
/-! the potential -/
def ab_p (d : Nat) (cu : Nat → Int32) (a : Nat) : Nat := if ab_dc (cu a) = 0 then 0 else d + 1 - ab_dc (cu a)
def ab_df (cu vw wi : Nat → Int32) (h b : Nat) : Nat := if ab_dc (cu h) = 0 then (if ab_dc (wi (5 * h + b)) = 0 ∨ ab_fd (vw b) h = ab_dc (wi (5 * h + b)) then 0 else 1) else (if ab_fd (vw b) h = ab_dc (cu h) then 0 else 1)
def ab_q (vw de : Nat → Int32) (h b : Nat) : Nat := (if ab_fd (vw b) h = 0 then 2 else 0) + (if de (5 * b + h) = 0 then 0 else 1)
def ab_S (P : Nat → Nat) (F Q : Nat → Nat → Nat) : Nat :=
  1296 * P 0 + 216 * P 1 + 36 * P 2 + 6 * P 3 + P 4 + 1080 * F 0 1 + 180 * (F 0 2 + F 1 2) + 30 * (F 0 3 + F 1 3 + F 2 3) + 5 * (F 0 4 + F 1 4 + F 2 4 + F 3 4) +
  (Q 0 1 + Q 0 2 + Q 1 2 + Q 0 3 + Q 1 3 + Q 2 3 + Q 0 4 + Q 1 4 + Q 2 4 + Q 3 4)
def ab_Ph (d : Nat) (cu vw de wi : Nat → Int32) : Nat := ab_S (ab_p d cu) (ab_df cu vw wi) (ab_q vw de)
theorem ab_S_le {P P' : Nat → Nat} {F F' Q Q' : Nat → Nat → Nat} (hP : ∀ a, a < 5 → P' a ≤ P a) (hF : ∀ h b, h < b → b < 5 → F' h b ≤ F h b) (hQ : ∀ h b, h < b → b < 5 → Q' h b ≤ Q h b) : ab_S P' F' Q' ≤ ab_S P F Q := by
  unfold ab_S
  have p0 := hP 0 (by decide); have p1 := hP 1 (by decide); have p2 := hP 2 (by decide); have p3 := hP 3 (by decide); have p4 := hP 4 (by decide)
  have f1 := hF 0 1 (by decide) (by decide); have f2 := hF 0 2 (by decide) (by decide); have f3 := hF 1 2 (by decide) (by decide); have f4 := hF 0 3 (by decide) (by decide); have f5 := hF 1 3 (by decide) (by decide)
  have f6 := hF 2 3 (by decide) (by decide); have f7 := hF 0 4 (by decide) (by decide); have f8 := hF 1 4 (by decide) (by decide); have f9 := hF 2 4 (by decide) (by decide); have f10 := hF 3 4 (by decide) (by decide)
  have q1 := hQ 0 1 (by decide) (by decide); have q2 := hQ 0 2 (by decide) (by decide); have q3 := hQ 1 2 (by decide) (by decide); have q4 := hQ 0 3 (by decide) (by decide); have q5 := hQ 1 3 (by decide) (by decide)
  have q6 := hQ 2 3 (by decide) (by decide); have q7 := hQ 0 4 (by decide) (by decide); have q8 := hQ 1 4 (by decide) (by decide); have q9 := hQ 2 4 (by decide) (by decide); have q10 := hQ 3 4 (by decide) (by decide)
  omega
theorem ab_S_q {P P' : Nat → Nat} {F F' Q Q' : Nat → Nat → Nat} {h0 b0 : Nat} (hh : h0 < b0) (hb : b0 < 5) (hP : ∀ a, a < 5 → P' a ≤ P a) (hF : ∀ h b, h < b → b < 5 → F' h b ≤ F h b) (hQ : ∀ h b, h < b → b < 5 → Q' h b ≤ Q h b) (hq : Q' h0 b0 < Q h0 b0) : ab_S P' F' Q' < ab_S P F Q := by
  unfold ab_S
  have p0 := hP 0 (by decide); have p1 := hP 1 (by decide); have p2 := hP 2 (by decide); have p3 := hP 3 (by decide); have p4 := hP 4 (by decide)
  have f1 := hF 0 1 (by decide) (by decide); have f2 := hF 0 2 (by decide) (by decide); have f3 := hF 1 2 (by decide) (by decide); have f4 := hF 0 3 (by decide) (by decide); have f5 := hF 1 3 (by decide) (by decide)
  have f6 := hF 2 3 (by decide) (by decide); have f7 := hF 0 4 (by decide) (by decide); have f8 := hF 1 4 (by decide) (by decide); have f9 := hF 2 4 (by decide) (by decide); have f10 := hF 3 4 (by decide) (by decide)
  have q1 := hQ 0 1 (by decide) (by decide); have q2 := hQ 0 2 (by decide) (by decide); have q3 := hQ 1 2 (by decide) (by decide); have q4 := hQ 0 3 (by decide) (by decide); have q5 := hQ 1 3 (by decide) (by decide)
  have q6 := hQ 2 3 (by decide) (by decide); have q7 := hQ 0 4 (by decide) (by decide); have q8 := hQ 1 4 (by decide) (by decide); have q9 := hQ 2 4 (by decide) (by decide); have q10 := hQ 3 4 (by decide) (by decide)
  have hb' : b0 = 1 ∨ b0 = 2 ∨ b0 = 3 ∨ b0 = 4 := by omega
  have hh' : h0 = 0 ∨ h0 = 1 ∨ h0 = 2 ∨ h0 = 3 := by omega
  rcases hb' with rfl | rfl | rfl | rfl <;> rcases hh' with rfl | rfl | rfl | rfl <;> omega
/-- a change at t: its own rank, the gaps behind it and ahead of it -/
theorem ab_S_lt {P P' : Nat → Nat} {F F' Q Q' : Nat → Nat → Nat} {t : Nat} (ht : t < 5) (hP : ∀ a, a < 5 → a ≠ t → P' a = P a) (hF : ∀ h b, h < b → b < 5 → h ≠ t → b ≠ t → F' h b = F h b) (hQ : ∀ h b, h < b → b < 5 → Q' h b ≤ Q h b) (hF1 : ∀ b, t < b → b < 5 → F' t b ≤ 1) (hF2 : ∀ h, h < t → F' h t ≤ F h t)
    (hor : P' t + 1 ≤ P t ∨ (P' t ≤ 4 ∧ ∃ f, f < t ∧ F' f t + 1 ≤ F f t)) : ab_S P' F' Q' < ab_S P F Q := by
  unfold ab_S
  have q1 := hQ 0 1 (by decide) (by decide); have q2 := hQ 0 2 (by decide) (by decide); have q3 := hQ 1 2 (by decide) (by decide); have q4 := hQ 0 3 (by decide) (by decide); have q5 := hQ 1 3 (by decide) (by decide)
  have q6 := hQ 2 3 (by decide) (by decide); have q7 := hQ 0 4 (by decide) (by decide); have q8 := hQ 1 4 (by decide) (by decide); have q9 := hQ 2 4 (by decide) (by decide); have q10 := hQ 3 4 (by decide) (by decide)
  have ht' : t = 0 ∨ t = 1 ∨ t = 2 ∨ t = 3 ∨ t = 4 := by omega
  rcases ht' with rfl | rfl | rfl | rfl | rfl
  · have p1 := hP 1 (by decide) (by decide); have p2 := hP 2 (by decide) (by decide); have p3 := hP 3 (by decide) (by decide); have p4 := hP 4 (by decide) (by decide)
    have f1 := hF1 1 (by decide) (by decide); have f2 := hF1 2 (by decide) (by decide); have f3 := hF1 3 (by decide) (by decide); have f4 := hF1 4 (by decide) (by decide)
    have g1 := hF 1 2 (by decide) (by decide) (by decide) (by decide); have g2 := hF 1 3 (by decide) (by decide) (by decide) (by decide); have g3 := hF 2 3 (by decide) (by decide) (by decide) (by decide); have g4 := hF 1 4 (by decide) (by decide) (by decide) (by decide); have g5 := hF 2 4 (by decide) (by decide) (by decide) (by decide); have g6 := hF 3 4 (by decide) (by decide) (by decide) (by decide)
    rcases hor with h | ⟨_, f, hf, _⟩
    · omega
    · omega
  · have p1 := hP 0 (by decide) (by decide); have p2 := hP 2 (by decide) (by decide); have p3 := hP 3 (by decide) (by decide); have p4 := hP 4 (by decide) (by decide)
    have f2 := hF1 2 (by decide) (by decide); have f3 := hF1 3 (by decide) (by decide); have f4 := hF1 4 (by decide) (by decide)
    have e1 := hF2 0 (by decide)
    have g1 := hF 0 2 (by decide) (by decide) (by decide) (by decide); have g2 := hF 0 3 (by decide) (by decide) (by decide) (by decide); have g3 := hF 2 3 (by decide) (by decide) (by decide) (by decide); have g4 := hF 0 4 (by decide) (by decide) (by decide) (by decide); have g5 := hF 2 4 (by decide) (by decide) (by decide) (by decide); have g6 := hF 3 4 (by decide) (by decide) (by decide) (by decide)
    rcases hor with h | ⟨h, f, hf, hg⟩
    · omega
    · obtain rfl : f = 0 := by omega
      omega
  · have p1 := hP 0 (by decide) (by decide); have p2 := hP 1 (by decide) (by decide); have p3 := hP 3 (by decide) (by decide); have p4 := hP 4 (by decide) (by decide)
    have f3 := hF1 3 (by decide) (by decide); have f4 := hF1 4 (by decide) (by decide)
    have e1 := hF2 0 (by decide); have e2 := hF2 1 (by decide)
    have g1 := hF 0 1 (by decide) (by decide) (by decide) (by decide); have g2 := hF 0 3 (by decide) (by decide) (by decide) (by decide); have g3 := hF 1 3 (by decide) (by decide) (by decide) (by decide); have g4 := hF 0 4 (by decide) (by decide) (by decide) (by decide); have g5 := hF 1 4 (by decide) (by decide) (by decide) (by decide); have g6 := hF 3 4 (by decide) (by decide) (by decide) (by decide)
    rcases hor with h | ⟨h, f, hf, hg⟩
    · omega
    · have : f = 0 ∨ f = 1 := by omega
      rcases this with rfl | rfl <;> omega
  · have p1 := hP 0 (by decide) (by decide); have p2 := hP 1 (by decide) (by decide); have p3 := hP 2 (by decide) (by decide); have p4 := hP 4 (by decide) (by decide)
    have f4 := hF1 4 (by decide) (by decide)
    have e1 := hF2 0 (by decide); have e2 := hF2 1 (by decide); have e3 := hF2 2 (by decide)
    have g1 := hF 0 1 (by decide) (by decide) (by decide) (by decide); have g2 := hF 0 2 (by decide) (by decide) (by decide) (by decide); have g3 := hF 1 2 (by decide) (by decide) (by decide) (by decide); have g4 := hF 0 4 (by decide) (by decide) (by decide) (by decide); have g5 := hF 1 4 (by decide) (by decide) (by decide) (by decide); have g6 := hF 2 4 (by decide) (by decide) (by decide) (by decide)
    rcases hor with h | ⟨h, f, hf, hg⟩
    · omega
    · have : f = 0 ∨ f = 1 ∨ f = 2 := by omega
      rcases this with rfl | rfl | rfl <;> omega
  · have p1 := hP 0 (by decide) (by decide); have p2 := hP 1 (by decide) (by decide); have p3 := hP 2 (by decide) (by decide); have p4 := hP 3 (by decide) (by decide)
    have e1 := hF2 0 (by decide); have e2 := hF2 1 (by decide); have e3 := hF2 2 (by decide); have e4 := hF2 3 (by decide)
    have g1 := hF 0 1 (by decide) (by decide) (by decide) (by decide); have g2 := hF 0 2 (by decide) (by decide) (by decide) (by decide); have g3 := hF 1 2 (by decide) (by decide) (by decide) (by decide); have g4 := hF 0 3 (by decide) (by decide) (by decide) (by decide); have g5 := hF 1 3 (by decide) (by decide) (by decide) (by decide); have g6 := hF 2 3 (by decide) (by decide) (by decide) (by decide)
    rcases hor with h | ⟨h, f, hf, hg⟩
    · omega
    · have : f = 0 ∨ f = 1 ∨ f = 2 ∨ f = 3 := by omega
      rcases this with rfl | rfl | rfl | rfl <;> omega
theorem ab_S_bd {P : Nat → Nat} {F Q : Nat → Nat → Nat} (hP : ∀ a, P a ≤ 4) (hF : ∀ h b, F h b ≤ 1) (hQ : ∀ h b, Q h b ≤ 3) : ab_S P F Q ≤ 7800 := by
  unfold ab_S
  have p0 := hP 0; have p1 := hP 1; have p2 := hP 2; have p3 := hP 3; have p4 := hP 4
  have f1 := hF 0 1; have f2 := hF 0 2; have f3 := hF 1 2; have f4 := hF 0 3; have f5 := hF 1 3
  have f6 := hF 2 3; have f7 := hF 0 4; have f8 := hF 1 4; have f9 := hF 2 4; have f10 := hF 3 4
  have q1 := hQ 0 1; have q2 := hQ 0 2; have q3 := hQ 1 2; have q4 := hQ 0 3; have q5 := hQ 1 3
  have q6 := hQ 2 3; have q7 := hQ 0 4; have q8 := hQ 1 4; have q9 := hQ 2 4; have q10 := hQ 3 4
  omega
theorem ab_df1 (cu vw wi : Nat → Int32) (h b : Nat) : ab_df cu vw wi h b ≤ 1 := by
  unfold ab_df
  split <;> split <;> omega
theorem ab_q3 (vw de : Nat → Int32) (h b : Nat) : ab_q vw de h b ≤ 3 := by
  unfold ab_q
  split <;> split <;> omega
theorem ab_p4 {d : Nat} (hd : d ≤ 4) (cu : Nat → Int32) (a : Nat) : ab_p d cu a ≤ 4 := by
  unfold ab_p
  split <;> omega
theorem ab_Ph_bd {d : Nat} (hd : d ≤ 4) (cu vw de wi : Nat → Int32) : ab_Ph d cu vw de wi ≤ 7800 := ab_S_bd (ab_p4 hd cu) (ab_df1 cu vw wi) (ab_q3 vw de)
end
section
/-! a value arrives -/
def ab_Qt (f t : Nat) (cu vw de wi wi' : Nat → Int32) : Prop :=
  de (5 * f + t) = 0 ∧
  ((f < t ∧ ab_dc (wi (5 * f + t)) ≠ 0 ∧ ab_fd (vw t) f = ab_dc (wi (5 * f + t)) ∧ ((ab_dc (cu t) ≠ 0 ∧ wi' = upd wi (5 * f + t) (-1)) ∨ (ab_dc (cu t) = 0 ∧ ∃ t2 U, t2 < t ∧ ab_fd (vw t) t2 ≠ 0 ∧ ab_Pk U ∧ ab_Hd U (vw t) ∧ wi' = upd (upd wi (5 * f + t) (-1)) (5 * t + t2) U)))
  ∨ (t < f ∧ ¬ wi (5 * f + t) < 0 ∧ ¬ (ab_fd (wi (5 * f + t)) t = ab_dc (cu t) ∧ ab_Cm (ab_off t (wi (5 * f + t))) (vw t)) ∧ (wi' = upd wi (5 * f + t) (-1) ∨ (ab_dc (cu t) ≠ 0 ∧ wi' = upd (upd wi (5 * f + t) (-1)) (5 * t + f) (cu t)))))
/-- what one delivery comes to -/
def ab_PO (d f t : Nat) (fl : Int32) (cu vw lk de wi : Nat → Int32) (fl' : Int32) (cu' vw' lk' de' wi' : Nat → Int32) : Prop :=
  fl' ≠ 0 ∨ ab_Ph d cu' vw' de' wi' < ab_Ph d cu vw de wi ∨ (fl' = fl ∧ cu' = cu ∧ vw' = vw ∧ lk' = lk ∧ de' = de ∧ ab_Ph d cu' vw' de' wi' ≤ ab_Ph d cu vw de wi ∧ ab_Qt f t cu vw de wi wi')
theorem ab_fd_new {p : Int32} {h v : Nat} (hp : ab_Pk p) (hh : h < 5) (hv : v < 4) (a : Nat) : ab_fd (ab_off h p ||| ab_pk h v) a = if a = h then v + 1 else ab_fd p a := by
  rcases Nat.lt_or_ge a 5 with ha | ha
  · by_cases e : a = h
    · rw [if_pos e, ab_fd_or_l (by rw [ab_fd_off' p hh (by omega), if_pos e]), ab_fd_pk hh (by omega) (by omega), if_pos e]
    · rw [if_neg e, ab_fd_or_r (by rw [ab_fd_pk hh (by omega) (by omega), if_neg e]), ab_fd_off' p hh (by omega), if_neg e]
  · rw [ab_fd_hi (ab_Pk_or (ab_Pk_off h hp) (ab_Pk_pk hh (by omega))) ha, if_neg (by omega), ab_fd_hi hp ha]
theorem ab_Cx_congr {rc : Nat} {lv : Int32} {tb rf dm vw ex vw' ex' : Nat → Int32} {b v : Nat} {c : Int32} (h1 : vw' b = vw b) (h2 : ex' (4 * b + v) = ex (4 * b + v)) : ab_Cx rc lv tb rf dm vw' ex' b v c ↔ ab_Cx rc lv tb rf dm vw ex b v c := by
  unfold ab_Cx ab_Sx ab_Tx ab_Rx
  rw [h1, h2]
theorem ab_Tt_congr {d rc : Nat} {lv : Int32} {tb rf dm cu vw ex vw' ex' : Nat → Int32} {b : Nat} (hd : d ≤ 4) (hok : ab_dc (cu b) ≤ d) (h1 : vw' b = vw b) (h2 : ∀ v, v < 4 → ex' (4 * b + v) = ex (4 * b + v)) (h : ab_Tt d rc lv tb rf dm cu vw ex b) : ab_Tt d rc lv tb rf dm cu vw' ex' b := by
  refine ⟨fun z v hv => ?_, fun z => ⟨fun c hx => ?_, fun v hv => ?_⟩⟩
  · obtain ⟨c, hx⟩ := h.1 z v hv
    exact ⟨c, (ab_Cx_congr h1 (h2 v (by omega))).mpr hx⟩
  · exact (h.2 z).1 c ((ab_Cx_congr h1 (h2 _ (by omega))).mp hx)
  · obtain ⟨c, hx⟩ := (h.2 z).2 v hv
    exact ⟨c, (ab_Cx_congr h1 (h2 v (by omega))).mpr hx⟩
theorem ab_df_eq {cu vw wi cu' vw' wi' : Nat → Int32} {h b : Nat} (h1 : cu' h = cu h) (h2 : ab_fd (vw' b) h = ab_fd (vw b) h) (h3 : wi' (5 * h + b) = wi (5 * h + b)) : ab_df cu' vw' wi' h b = ab_df cu vw wi h b := by
  unfold ab_df; rw [h1, h2, h3]
theorem ab_df_0 {cu vw wi : Nat → Int32} {h b : Nat} (h1 : ab_dc (cu h) ≠ 0 → ab_fd (vw b) h = ab_dc (cu h)) (h2 : ab_dc (cu h) = 0 → ab_dc (wi (5 * h + b)) = 0 ∨ ab_fd (vw b) h = ab_dc (wi (5 * h + b))) : ab_df cu vw wi h b = 0 := by
  unfold ab_df
  by_cases e : ab_dc (cu h) = 0
  · rw [if_pos e, if_pos (h2 e)]
  · rw [if_neg e, if_pos (h1 e)]
theorem ab_df_1 {cu vw wi : Nat → Int32} {h b : Nat} (h1 : ab_dc (cu h) ≠ 0 → ab_fd (vw b) h ≠ ab_dc (cu h)) (h2 : ab_dc (cu h) = 0 → ab_dc (wi (5 * h + b)) ≠ 0 ∧ ab_fd (vw b) h ≠ ab_dc (wi (5 * h + b))) : ab_df cu vw wi h b = 1 := by
  unfold ab_df
  by_cases e : ab_dc (cu h) = 0
  · rw [if_pos e, if_neg (fun z => z.elim (h2 e).1 (h2 e).2)]
  · rw [if_neg e, if_neg (h1 e)]
section
variable {n d rc : Nat} {lv fl fl' : Int32} {tb rf dm cu vw lk ex de wi cu' ex' wi' : Nat → Int32} {b f t v : Nat} {E E' : Nat → Prop}
theorem ab_Th_wi (hn : n ≤ 5) (hb : b < 5) (hT : ab_Th n d rc lv fl tb rf dm cu vw lk ex wi b fl' cu' ex' wi') {a c : Nat} (ha : a ≠ b) (hc : c < 5) : wi' (5 * a + c) = wi (5 * a + c) := by
  obtain ⟨hcl, ⟨v, hv, hnx, hlow, _, ⟨hcb, _, rfl⟩ | ⟨hcb, _, rfl⟩⟩ | ⟨U, hUP, hUH, hUx, _, ⟨_, _, rfl⟩ | ⟨t0, ht0, _, rfl⟩⟩⟩ := hT
  · rfl
  · rw [ab_snd_at hn hb hc, if_neg (fun z => ha z.1)]
  · rfl
  · rw [ab_upd_at ht0.1 hc, if_neg (fun z => ha z.1)]
/-- thinking again over the same view changes nothing -/
theorem ab_Th_same (hd : d ≤ 4) (hn : n ≤ 5) (hb : b < 5) (hTC : ab_TC d lv cu) (hTV : ab_TV d lv vw) (hTt : ab_Tt d rc lv tb rf dm cu vw ex b) (hT : ab_Th n d rc lv fl tb rf dm cu vw lk ex wi b fl' cu' ex' wi') :
    cu' = cu ∧ ((fl' = fl ∧ ab_dc (cu b) ≠ 0 ∧ wi' = wi) ∨ fl' = 1 ∨ (fl' = fl ∧ ab_dc (cu b) = 0 ∧ ∃ t2 U, t2 < b ∧ ab_fd (vw b) t2 ≠ 0 ∧ ab_Pk U ∧ ab_Hd U (vw b) ∧ wi' = upd wi (5 * b + t2) U)) := by
  have hOk := (hTC b hb).1
  obtain ⟨hcl, ⟨v, hv, hnx, hlow, rfl, hor⟩ | ⟨U, hUP, hUH, hUx, rfl, hor⟩⟩ := hT
  · have hne : ab_dc (cu b) ≠ 0 := fun z => by
      obtain ⟨c, hx⟩ := hTt.1 z v hv
      exact hnx c hx
    have h2 := hTt.2 hne
    have e : ab_dc (cu b) = v + 1 := by
      rcases Nat.lt_trichotomy (ab_dc (cu b) - 1) v with h | h | h
      · obtain ⟨c, hx⟩ := hlow _ h
        exact absurd hx (h2.1 c)
      · omega
      · obtain ⟨c, hx⟩ := h2.2 v h
        exact absurd hx (hnx c)
    have e2 := (ab_Ok_eq hd (by omega) hOk).mpr e
    rcases hor with ⟨_, rfl, rfl⟩ | ⟨z, _⟩
    · exact ⟨rfl, Or.inl ⟨rfl, hne, rfl⟩⟩
    · exact absurd e2 z
  · have he : ab_dc (cu b) = 0 := by
      by_cases z : ab_dc (cu b) = 0
      · exact z
      · obtain ⟨c, hx, _⟩ := hUx (ab_dc (cu b) - 1) (by have := hOk.2; omega)
        exact absurd hx ((hTt.2 z).1 c)
    have e2 := ab_Ok_0 hOk he
    refine ⟨by rw [← e2, ab_ui], ?_⟩
    rcases hor with ⟨_, rfl, rfl⟩ | ⟨t0, ht0, rfl, rfl⟩
    · exact Or.inr (Or.inl rfl)
    · have hU := ab_U_ty hb hTV hUP hUH ht0
      exact Or.inr (Or.inr ⟨rfl, he, t0, U, hU.1, hU.2.2, hUP, hUH, rfl⟩)
theorem ab_hear_inv0 (hI : ab_Inv0 n d rc lv tb rf dm fl cu vw lk ex de wi) (hft : f < t) (ht : t < 5) (hv : v < 4) (hw : wi (5 * f + t) = nI v) : ab_Inv0 n d rc lv tb rf dm fl cu (upd vw t (ab_off f (vw t) ||| ab_pk f v)) lk ex de (upd wi (5 * f + t) (-1)) := by
  obtain ⟨hK, hTC, hTV, hTL, hTE, hTD, hW1, hW2, hW3, hSE, hSW, hSF, hG2, hG3, hZ1, hZ2⟩ := hI
  have hfd := ab_fd_new (p := vw t) (h := f) (v := v) (hTV t ht).1 (by omega) hv
  have hdc : ab_dc (wi (5 * f + t)) = v + 1 := by rw [hw, ab_dc_nI (by omega)]
  have hlk : bt (lk f) t = true := (hW1 f t hft ht).2 (by omega)
  have hvd : v + 1 ≤ d := by have := (hW1 f t hft ht).1.2; omega
  have hL := hTL f (by omega) t hlk
  have hne : ∀ b h, ab_fd (vw b) h ≠ 0 → ab_fd (upd vw t (ab_off f (vw t) ||| ab_pk f v) b) h ≠ 0 := by
    intro b h z
    by_cases e : b = t
    · rw [e, pk_us, hfd]
      by_cases e2 : h = f
      · rw [if_pos e2]; omega
      · rw [if_neg e2, ← e]; exact z
    · rw [pk_un e]; exact z
  refine ⟨hK, hTC, ?_, hTL, hTE, ?_, ?_, ?_, ?_, hSE, ?_, hSF, ?_, ?_, hZ1, hZ2⟩
  · intro b hb
    by_cases e : b = t
    · subst e
      rw [pk_us]
      refine ⟨ab_Pk_or (ab_Pk_off f (hTV b hb).1) (ab_Pk_pk (by omega) (by omega)), fun h z => ?_⟩
      rw [hfd] at z ⊢
      by_cases e2 : h = f
      · rw [if_pos e2, e2]; exact ⟨hvd, hft, hL.2.1, hL.2.2⟩
      · rw [if_neg e2] at z ⊢
        exact (hTV b hb).2 h z
    · rw [pk_un e]; exact hTV b hb
  · intro a ha b hb
    rcases hTD a ha b hb with h | ⟨h1, h2, h3⟩
    · exact Or.inl h
    · exact Or.inr ⟨h1, h2, hne a b h3⟩
  · intro a b hab hb
    rw [ab_upd_at ht hb]
    by_cases e : a = f ∧ b = t
    · rw [if_pos e]; exact ⟨ab_Ok_m1, fun z => absurd ab_dc_m1 z⟩
    · rw [if_neg e]; exact hW1 a b hab hb
  · intro a b hab hb
    rw [ab_upd_at ht (by omega), if_neg (by omega)]
    rcases hW2 a b hab hb with h | h
    · exact Or.inl h
    · exact Or.inr ⟨h.1, hne a b h.2⟩
  · intro a ha
    rw [ab_upd_at ht ha, if_neg (by omega)]
    exact hW3 a ha
  · intro a b hab hb
    rw [ab_upd_at ht (by omega), if_neg (by omega)]
    exact hSW a b hab hb
  · intro h b hhb hb z
    by_cases e : b = t
    · subst e
      rw [pk_us, hfd] at z
      by_cases e2 : h = f
      · rw [e2]; exact Or.inl hlk
      · rw [if_neg e2] at z; exact hG2 h b hhb hb z
    · rw [pk_un e] at z; exact hG2 h b hhb hb z
  · intro h b hhb hb hl hz
    have g := hG3 h b hhb hb hl hz
    rw [ab_upd_at ht hb]
    by_cases e : h = f ∧ b = t
    · obtain ⟨rfl, rfl⟩ := e
      rw [if_pos ⟨rfl, rfl⟩, pk_us, hfd, if_pos rfl, ab_dc_m1]
      rcases g with g | g
      · exact Or.inr ⟨rfl, by omega⟩
      · omega
    · rw [if_neg e]
      by_cases e2 : b = t
      · subst e2
        rw [pk_us, hfd, if_neg (fun z => e ⟨z, rfl⟩)]; exact g
      · rw [pk_un e2]; exact g
theorem ab_hear (hI : ab_Inv n d rc lv tb rf dm fl cu vw lk ex de wi (fun _ => True)) (hft : f < t) (ht : t < 5) (hv : v < 4) (hw : wi (5 * f + t) = nI v) (hde : de (5 * f + t) = 0)
    (hT : ab_Th n d rc lv fl tb rf dm cu (upd vw t (ab_off f (vw t) ||| ab_pk f v)) lk ex (upd wi (5 * f + t) (-1)) t fl' cu' ex' wi') :
    ab_Inv n d rc lv tb rf dm fl' cu' (upd vw t (ab_off f (vw t) ||| ab_pk f v)) lk ex' de wi' (fun _ => True) ∧ ab_PO d f t fl cu vw lk de wi fl' cu' (upd vw t (ab_off f (vw t) ||| ab_pk f v)) lk de wi' := by
  have hI0 := ab_hear_inv0 hI.1 hft ht hv hw
  obtain ⟨⟨hK, hTC, hTV, hTL, hTE, hTD, hW1, hW2, hW3, hSE, hSW, hSF, hG2, hG3, hZ1, hZ2⟩, hG1, hG5⟩ := hI
  have hfd := ab_fd_new (p := vw t) (h := f) (v := v) (hTV t ht).1 (by omega) hv
  have hdc : ab_dc (wi (5 * f + t)) = v + 1 := by rw [hw, ab_dc_nI (by omega)]
  have hlk : bt (lk f) t = true := (hW1 f t hft ht).2 (by omega)
  have hL := hTL f (by omega) t hlk
  have hn := hK.2.1
  have hd := hK.2.2.2.1
  constructor
  · refine ab_Th_inv (E := fun _ => True) hI0 ht hL.2.2 (fun h _ => ?_) ?_ ?_ hT
    · by_cases e : h = t
      · exact Or.inl e
      · exact Or.inr ⟨e, trivial⟩
    · intro b hb hlb he
      exact ab_Tt_congr hd (hTC b hb).1.2 (pk_un he.1) (fun _ _ => rfl) (hG1 b hb hlb trivial)
    · intro hf0 h hh hlh _ hne hz
      obtain ⟨t', h1, h2, h3⟩ := hG5 hf0 h hh hlh trivial hz
      refine ⟨t', h1, by rw [pk_un hne]; exact h2, Or.inl ?_⟩
      unfold ab_Wf at h3 ⊢
      rw [ab_upd_at ht (by omega), if_neg (by omega), ab_upd_at ht hh, if_neg (fun z => hne z.2), pk_un hne]
      exact h3
  · by_cases hc : ab_fd (vw t) f = v + 1
    · have hx : ab_off f (vw t) ||| ab_pk f v = vw t := by
        refine ab_Pk_ext (ab_Pk_or (ab_Pk_off f (hTV t ht).1) (ab_Pk_pk (by omega) (by omega))) (hTV t ht).1 (fun a ha => ?_)
        rw [hfd]
        by_cases e : a = f
        · rw [if_pos e, e, hc]
        · rw [if_neg e]
      have hvw : upd vw t (ab_off f (vw t) ||| ab_pk f v) = vw := by rw [hx, ab_ui]
      rw [hvw] at hT ⊢
      have hS := ab_Th_same hd hn ht hTC hTV (hG1 t ht hL.2.2 trivial) hT
      have hle : ∀ h b, h < b → b < 5 → (wi' (5 * h + b) = upd wi (5 * f + t) (-1) (5 * h + b)) → ab_df cu vw wi' h b ≤ ab_df cu vw wi h b := by
        intro h b hhb hb e
        by_cases e2 : h = f ∧ b = t
        · rw [ab_upd_at ht hb, if_pos e2] at e
          by_cases e3 : ab_dc (cu h) = 0
          · rw [ab_df_0 (fun z => absurd e3 z) (fun _ => Or.inl (by rw [e, ab_dc_m1]))]; omega
          · unfold ab_df; rw [if_neg e3, if_neg e3]; omega
        · rw [ab_upd_at ht hb, if_neg e2] at e
          exact Nat.le_of_eq (ab_df_eq rfl rfl e)
      obtain ⟨rfl, ⟨hf, hz, rfl⟩ | hf | ⟨hf, hz, t2, U, h1, h2, h3, h4, rfl⟩⟩ := hS
      · refine Or.inr (Or.inr ⟨hf, rfl, rfl, rfl, rfl, ?_, hde, Or.inl ⟨hft, by omega, by omega, Or.inl ⟨hz, rfl⟩⟩⟩)
        exact ab_S_le (fun _ _ => Nat.le_refl _) (fun h b hhb hb => hle h b hhb hb rfl) (fun _ _ _ _ => Nat.le_refl _)
      · exact Or.inl (by rw [hf]; decide)
      · refine Or.inr (Or.inr ⟨hf, rfl, rfl, rfl, rfl, ?_, hde, Or.inl ⟨hft, by omega, by omega, Or.inr ⟨hz, t2, U, h1, h2, h3, h4, rfl⟩⟩⟩)
        refine ab_S_le (fun _ _ => Nat.le_refl _) (fun h b hhb hb => hle h b hhb hb ?_) (fun _ _ _ _ => Nat.le_refl _)
        rw [ab_upd_at (by omega) hb, if_neg (by omega)]
    · have hwft : wi' (5 * f + t) = -1 := by rw [ab_Th_wi hn ht hT (by omega) ht, ab_upd_at ht ht, if_pos ⟨rfl, rfl⟩]
      have hcf : cu' f = cu f := ab_Th_cu hT (by omega)
      have hF0 : ab_df cu' (upd vw t (ab_off f (vw t) ||| ab_pk f v)) wi' f t = 0 := by
        refine ab_df_0 (fun z => ?_) (fun z => Or.inl (by rw [hwft, ab_dc_m1]))
        rw [hcf] at z ⊢
        have g := hG3 f t hft ht hlk z
        rw [pk_us, hfd, if_pos rfl]; omega
      have hF1 : ab_df cu vw wi f t = 1 := by
        refine ab_df_1 (fun z => ?_) (fun z => ⟨by omega, by omega⟩)
        have g := hG3 f t hft ht hlk z
        omega
      refine Or.inr (Or.inl (ab_S_lt (t := t) ht (fun a ha hne => ?_) (fun h b hhb hb h1 h2 => ?_) (fun h b hhb hb => ?_) (fun b _ _ => ab_df1 _ _ _ _ _) (fun h hht => ?_) (Or.inr ⟨ab_p4 hd _ _, f, hft, by omega⟩)))
      · unfold ab_p; rw [ab_Th_cu hT hne]
      · refine ab_df_eq (ab_Th_cu hT h1) (by rw [pk_un h2]) ?_
        rw [ab_Th_wi hn ht hT h1 hb, ab_upd_at ht hb, if_neg (fun z => h2 z.2)]
      · unfold ab_q
        by_cases e : b = t
        · subst e
          rw [pk_us, hfd]
          by_cases e2 : h = f
          · rw [if_pos e2, if_neg (show ¬ v + 1 = 0 by omega)]; omega
          · rw [if_neg e2]; omega
        · rw [pk_un e]; omega
      · by_cases e : h = f
        · subst e; omega
        · refine Nat.le_of_eq (ab_df_eq (ab_Th_cu hT (by omega)) (by rw [pk_us, hfd, if_neg e]) ?_)
          rw [ab_Th_wi hn ht hT (by omega) ht, ab_upd_at ht ht, if_neg (fun z => e z.1)]
end
end
section
/-! a nogood is taken over -/
theorem ab_ask_at {b f t : Nat} {c s : Int32} {de : Nat → Int32} (hb : b < 5) (ht : t < 5) : ab_ask b b c s de (5 * f + t) = if f = b ∧ t < b ∧ ab_fd c t ≠ 0 ∧ ab_fd s t = 0 then 1 else de (5 * f + t) := by
  unfold ab_ask
  by_cases e : f = b ∧ t < b ∧ ab_fd c t ≠ 0 ∧ ab_fd s t = 0
  · rw [if_pos e, if_pos]
    obtain ⟨rfl, h1, h2, h3⟩ := e
    rw [show 5 * f + t - 5 * f = t by omega]
    exact ⟨by omega, by omega, h2, h3⟩
  · rw [if_neg e, if_neg]
    rintro ⟨h1, h2, h3, h4⟩
    have hf : f = b := by omega
    subst hf
    rw [show 5 * f + t - 5 * f = t by omega] at h3 h4
    exact e ⟨rfl, by omega, h3, h4⟩
section
variable {n d rc : Nat} {lv fl fl' : Int32} {tb rf dm cu vw lk ex de wi cu' ex' wi' : Nat → Int32} {b f t v : Nat} {N x : Int32} {E E' : Nat → Prop}
theorem ab_Lr_all (hx : ab_Lr t (ab_off t N) (vw t) x) (hN : ab_NgT d lv t N) (ht : t < 5) (hV : ab_Pk (vw t)) (a : Nat) : ab_fd x a = if a < t ∧ ab_fd (vw t) a = 0 then ab_fd N a else ab_fd (vw t) a := by
  rcases Nat.lt_or_ge a 5 with ha | ha
  · rw [hx.2 a ha]
    by_cases e : a < t ∧ ab_fd (vw t) a = 0
    · rw [if_pos e, if_pos e, ab_fd_off' N ht (by omega), if_neg (by omega)]
    · rw [if_neg e, if_neg e]
  · rw [ab_fd_hi hx.1 ha, ab_fd_hi hV ha, if_neg (by omega)]
/-- the stored context holds in the new view -/
theorem ab_acc_Hd (hx : ab_Lr t (ab_off t N) (vw t) x) (hN : ab_NgT d lv t N) (ht : t < 5) (hV : ab_Pk (vw t)) (hC : ab_Cm (ab_off t N) (vw t)) : ab_Hd (ab_off t N) x := by
  intro a ha z
  have z' := z
  rw [ab_fd_off' N ht (by omega)] at z'
  by_cases e : a = t
  · rw [if_pos e] at z'; exact absurd rfl z'
  · rw [if_neg e] at z'
    have hat := (hN.2.2 a z').2.1
    rw [hx.2 a ha]
    by_cases e2 : ab_fd (vw t) a = 0
    · rw [if_pos ⟨by omega, e2⟩]
    · rw [if_neg (fun y => e2 y.2)]
      exact hC a ha z e2
theorem ab_acc_Cx (hx : ab_Lr t (ab_off t N) (vw t) x) (hN : ab_NgT d lv t N) (ht : t < 5) (hV : ab_Pk (vw t)) (hC : ab_Cm (ab_off t N) (vw t)) : ∃ c, ab_Cx rc lv tb rf dm (upd vw t x) (upd ex (4 * t + (ab_fd N t - 1)) (ab_off t N)) t (ab_fd N t - 1) c := by
  cases hdm : bt (dm t) (ab_fd N t - 1)
  · exact ⟨0, Or.inl ⟨hdm, rfl⟩⟩
  · refine ⟨ab_off t N, Or.inr (Or.inl ⟨hdm, ?_⟩)⟩
    unfold ab_Sx
    rw [pk_us, pk_us]
    exact ⟨rfl, ab_Pk_nn (ab_Pk_off t hN.1), ab_acc_Hd hx hN ht hV hC⟩
theorem ab_acc_ext (hx : ab_Lr t (ab_off t N) (vw t) x) {a : Nat} (ha : a < 5) (z : ab_fd (vw t) a ≠ 0) : ab_fd x a = ab_fd (vw t) a := by
  rw [hx.2 a ha, if_neg (fun y => z y.2)]
theorem ab_acc_mono {c : Int32} (ht : t < 5) (hx : ab_Lr t (ab_off t N) (vw t) x) (hv : v ≠ ab_fd N t - 1) (h : ab_Cx rc lv tb rf dm vw ex t v c) : ab_Cx rc lv tb rf dm (upd vw t x) (upd ex (4 * t + (ab_fd N t - 1)) (ab_off t N)) t v c := by
  have hH : ∀ {q : Int32}, ab_Hd q (vw t) → ab_Hd q x := by
    intro q hq a ha z
    have e := hq a ha z
    rw [e]; exact (ab_acc_ext hx ha (e ▸ z)).symm
  rcases h with h | ⟨h, h1, h2, h3⟩ | ⟨h, hh, z, hc, rfl⟩ | ⟨r, hr, hac, hls, hf, rfl, hhd⟩
  · exact Or.inl h
  · refine Or.inr (Or.inl ⟨h, ?_⟩)
    unfold ab_Sx
    rw [pk_un (by omega), pk_us]
    exact ⟨h1, h2, hH h3⟩
  · refine Or.inr (Or.inr (Or.inl ⟨h, hh, ?_⟩))
    rw [pk_us, ab_acc_ext hx (by omega) z]
    exact ⟨z, hc, rfl⟩
  · refine Or.inr (Or.inr (Or.inr ⟨r, hr, hac, hls, hf, rfl, ?_⟩))
    rw [pk_us]; exact hH hhd
theorem ab_acc_inv0 (hI : ab_Inv0 n d rc lv tb rf dm fl cu vw lk ex de wi) (htf : t < f) (hf : f < 5) (hN : N = wi (5 * f + t)) (hNn : ¬ N < 0) (hC : ab_Cm (ab_off t N) (vw t)) (hx : ab_Lr t (ab_off t N) (vw t) x) : ab_Inv0 n d rc lv tb rf dm fl cu (upd vw t x) lk (upd ex (4 * t + (ab_fd N t - 1)) (ab_off t N)) (ab_ask t t (ab_off t N) (vw t) de) (upd wi (5 * f + t) (-1)) := by
  obtain ⟨hK, hTC, hTV, hTL, hTE, hTD, hW1, hW2, hW3, hSE, hSW, hSF, hG2, hG3, hZ1, hZ2⟩ := hI
  have ht : t < 5 := by omega
  have hNT : ab_NgT d lv t N ∧ ab_fd (vw f) t ≠ 0 := by
    rcases hW2 f t htf hf with h | h
    · rw [hN, h] at hNn; exact absurd ab_m1_neg hNn
    · rw [hN]; exact h
  have hd := hK.2.2.2.1
  have hVf := (hTV f hf).2 t hNT.2
  have hfd := ab_Lr_all hx hNT.1 ht (hTV t ht).1
  have hne : ∀ b h, b < 5 → ab_fd (vw b) h ≠ 0 → ab_fd (upd vw t x b) h ≠ 0 := by
    intro b h hb z
    by_cases e : b = t
    · rw [e] at z ⊢
      rw [pk_us, hfd, if_neg (fun y => z y.2)]; exact z
    · rw [pk_un e]; exact z
  refine ⟨hK, hTC, ?_, hTL, ?_, ?_, ?_, ?_, ?_, ?_, ?_, hSF, ?_, ?_, hZ1, hZ2⟩
  · intro b hb
    by_cases e : b = t
    · subst e
      rw [pk_us]
      refine ⟨hx.1, fun h z => ?_⟩
      rw [hfd] at z ⊢
      by_cases e2 : h < b ∧ ab_fd (vw b) h = 0
      · rw [if_pos e2] at z ⊢
        have g := hNT.1.2.2 h z
        exact ⟨g.1, e2.1, g.2.2, hVf.2.2.1⟩
      · rw [if_neg e2] at z ⊢
        exact (hTV b hb).2 h z
    · rw [pk_un e]; exact hTV b hb
  · intro b hb v hv
    by_cases e : b = t ∧ v = ab_fd N t - 1
    · obtain ⟨rfl, rfl⟩ := e
      rw [pk_us]
      refine Or.inr ⟨ab_Pk_off b hNT.1.1, fun h z => ?_⟩
      rcases Nat.lt_or_ge h 5 with h5 | h5
      · rw [ab_fd_off' N ht (by omega)] at z
        by_cases e2 : h = b
        · rw [if_pos e2] at z; exact absurd rfl z
        · rw [if_neg e2] at z
          have := (hNT.1.2.2 h z).2.1
          omega
      · exact absurd (ab_fd_hi (ab_Pk_off b hNT.1.1) h5) z
    · have hb4 := hNT.1.2.2 t hNT.1.2.1
      rw [pk_un (by omega)]; exact hTE b hb v hv
  · intro a ha b hb
    rw [ab_ask_at ht hb]
    by_cases e : a = t ∧ b < t ∧ ab_fd (ab_off t N) b ≠ 0 ∧ ab_fd (vw t) b = 0
    · rw [if_pos e]
      refine Or.inr ⟨rfl, by omega, ?_⟩
      rw [e.1, pk_us, hx.2 b hb, if_pos ⟨e.2.1, e.2.2.2⟩]
      exact e.2.2.1
    · rw [if_neg e]
      rcases hTD a ha b hb with h | ⟨h1, h2, h3⟩
      · exact Or.inl h
      · exact Or.inr ⟨h1, h2, hne a b ha h3⟩
  · intro a b hab hb
    rw [ab_upd_at ht hb, if_neg (by omega)]
    exact hW1 a b hab hb
  · intro a b hab hb
    rw [ab_upd_at ht (by omega)]
    by_cases e : a = f ∧ b = t
    · rw [if_pos e]; exact Or.inl rfl
    · rw [if_neg e]
      rcases hW2 a b hab hb with h | h
      · exact Or.inl h
      · exact Or.inr ⟨h.1, hne a b hb h.2⟩
  · intro a ha
    rw [ab_upd_at ht ha, if_neg (by omega)]
    exact hW3 a ha
  · intro b hb v hv
    by_cases e : b = t ∧ v = ab_fd N t - 1
    · obtain ⟨rfl, rfl⟩ := e
      rw [pk_us]
      intro _ σ hs hg hσ
      have hNn' : ¬ wi (5 * f + b) < 0 := by rw [← hN]; exact hNn
      refine hSW f b htf hf hNn' σ hs ?_
      rw [← hN]
      exact ab_Ag_off hb hg (by have := hNT.1.2.1; omega)
    · have hb4 := hNT.1.2.2 t hNT.1.2.1
      rw [pk_un (by omega)]; exact hSE b hb v hv
  · intro a b hab hb
    rw [ab_upd_at ht (by omega)]
    by_cases e : a = f ∧ b = t
    · rw [if_pos e]; intro z; exact absurd ab_m1_neg z
    · rw [if_neg e]; exact hSW a b hab hb
  · intro h b hhb hb z
    rw [ab_ask_at ht (by omega)]
    by_cases e : b = t ∧ h < t ∧ ab_fd (ab_off t N) h ≠ 0 ∧ ab_fd (vw t) h = 0
    · rw [if_pos e]; exact Or.inr (by decide)
    · rw [if_neg e]
      by_cases e2 : b = t
      · subst e2
        rw [pk_us, hx.2 h (by omega)] at z
        by_cases e3 : h < b ∧ ab_fd (vw b) h = 0
        · rw [if_pos e3] at z; exact absurd ⟨rfl, e3.1, z, e3.2⟩ e
        · rw [if_neg e3] at z; exact hG2 h b hhb hb z
      · rw [pk_un e2] at z; exact hG2 h b hhb hb z
  · intro h b hhb hb hl hz
    have g := hG3 h b hhb hb hl hz
    rw [ab_upd_at ht hb, if_neg (by omega)]
    by_cases e2 : b = t
    · subst e2
      rcases g with g | g
      · exact Or.inl g
      · refine Or.inr ⟨g.1, ?_⟩
        rw [pk_us, ab_acc_ext hx (by omega) (by omega)]; exact g.2
    · rw [pk_un e2]; exact g
theorem ab_accept (hI : ab_Inv n d rc lv tb rf dm fl cu vw lk ex de wi (fun _ => True)) (htf : t < f) (hf : f < 5) (hN : N = wi (5 * f + t)) (hNn : ¬ N < 0) (hcu : cu t = nI (ab_fd N t - 1)) (hC : ab_Cm (ab_off t N) (vw t)) (hx : ab_Lr t (ab_off t N) (vw t) x)
    (hT : ab_Th n d rc lv fl tb rf dm cu (upd vw t x) lk (upd ex (4 * t + (ab_fd N t - 1)) (ab_off t N)) (upd wi (5 * f + t) (-1)) t fl' cu' ex' wi') :
    ab_Inv n d rc lv tb rf dm fl' cu' (upd vw t x) lk ex' (ab_ask t t (ab_off t N) (vw t) de) wi' (fun _ => True) ∧ ab_Ph d cu' (upd vw t x) (ab_ask t t (ab_off t N) (vw t) de) wi' < ab_Ph d cu vw de wi := by
  have hI0 := ab_acc_inv0 hI.1 htf hf hN hNn hC hx
  obtain ⟨⟨hK, hTC, hTV, hTL, hTE, hTD, hW1, hW2, hW3, hSE, hSW, hSF, hG2, hG3, hZ1, hZ2⟩, hG1, hG5⟩ := hI
  have ht : t < 5 := by omega
  have hNT : ab_NgT d lv t N ∧ ab_fd (vw f) t ≠ 0 := by
    rcases hW2 f t htf hf with h | h
    · rw [hN, h] at hNn; exact absurd ab_m1_neg hNn
    · rw [hN]; exact h
  have hn := hK.2.1
  have hd := hK.2.2.2.1
  have hVf := (hTV f hf).2 t hNT.2
  have hb4 := hNT.1.2.2 t hNT.1.2.1
  have hN0 := hNT.1.2.1
  have hdct : ab_dc (cu t) = ab_fd N t := by rw [hcu, ab_dc_nI (by omega)]; omega
  have hCx := ab_acc_Cx (rc := rc) (lv := lv) (tb := tb) (rf := rf) (dm := dm) (ex := ex) hx hNT.1 ht (hTV t ht).1 hC
  constructor
  · refine ab_Th_inv (E := fun _ => True) hI0 ht hVf.2.2.1 (fun h _ => ?_) ?_ ?_ hT
    · by_cases e : h = t
      · exact Or.inl e
      · exact Or.inr ⟨e, trivial⟩
    · intro b hb hlb he
      exact ab_Tt_congr hd (hTC b hb).1.2 (pk_un he.1) (fun v hv => pk_un (by have := he.1; omega)) (hG1 b hb hlb trivial)
    · intro hf0 h hh hlh _ hne hz
      obtain ⟨t', h1, h2, h3⟩ := hG5 hf0 h hh hlh trivial hz
      refine ⟨t', h1, by rw [pk_un hne]; exact h2, ?_⟩
      rcases h3 with h3 | h3 | h3 | h3
      · refine Or.inl (Or.inl ?_)
        rw [ab_ask_at ht (by omega), if_neg (fun z => hne z.1)]; exact h3
      · by_cases e : h = f ∧ t' = t
        · obtain ⟨rfl, rfl⟩ := e
          refine Or.inr ⟨rfl, ?_⟩
          have e2 := h3.2 t' ht
          rw [← hN] at e2
          rw [pk_un hne, ← e2 hN0]
          exact hCx
        · refine Or.inl (Or.inr (Or.inl ?_))
          rw [ab_upd_at ht (by omega), if_neg e, pk_un hne]; exact h3
      · refine Or.inl (Or.inr (Or.inr (Or.inl ?_)))
        rw [ab_upd_at ht hh, if_neg (by omega)]; exact h3
      · refine Or.inl (Or.inr (Or.inr (Or.inr ?_)))
        rw [pk_un hne]; exact h3
  · have hfd := ab_Lr_all hx hNT.1 ht (hTV t ht).1
    refine ab_S_lt (t := t) ht (fun a ha hne => ?_) (fun h b hhb hb h1 h2 => ?_) (fun h b hhb hb => ?_) (fun b _ _ => ab_df1 _ _ _ _ _) (fun h hht => ?_) (Or.inl ?_)
    · unfold ab_p; rw [ab_Th_cu hT hne]
    · refine ab_df_eq (ab_Th_cu hT h1) (by rw [pk_un h2]) ?_
      rw [ab_Th_wi hn ht hT h1 hb, ab_upd_at ht hb, if_neg (fun z => h2 z.2)]
    · unfold ab_q
      rw [ab_ask_at ht (by omega)]
      by_cases e : b = t
      · subst e
        rw [pk_us, hfd]
        by_cases e2 : ab_fd (vw b) h = 0
        · by_cases e3 : ab_fd (ab_off b N) h = 0
          · rw [if_neg (fun z : b = b ∧ h < b ∧ ab_fd (ab_off b N) h ≠ 0 ∧ ab_fd (vw b) h = 0 => z.2.2.1 e3)]
            rw [ab_fd_off' N ht (by omega), if_neg (show ¬ h = b by omega)] at e3
            rw [if_pos (show h < b ∧ ab_fd (vw b) h = 0 from ⟨hhb, e2⟩), e3, e2]; omega
          · rw [if_pos (show b = b ∧ h < b ∧ ab_fd (ab_off b N) h ≠ 0 ∧ ab_fd (vw b) h = 0 from ⟨rfl, hhb, e3, e2⟩)]
            rw [ab_fd_off' N ht (by omega), if_neg (show ¬ h = b by omega)] at e3
            rw [if_pos (show h < b ∧ ab_fd (vw b) h = 0 from ⟨hhb, e2⟩), if_neg e3, if_neg (by decide), if_pos e2]; omega
        · rw [if_neg (fun z : b = b ∧ h < b ∧ ab_fd (ab_off b N) h ≠ 0 ∧ ab_fd (vw b) h = 0 => e2 z.2.2.2), if_neg (fun z : h < b ∧ ab_fd (vw b) h = 0 => e2 z.2)]; omega
      · rw [if_neg (fun z : b = t ∧ h < t ∧ ab_fd (ab_off t N) h ≠ 0 ∧ ab_fd (vw t) h = 0 => e z.1), pk_un e]; omega
    · have hw : wi' (5 * h + t) = wi (5 * h + t) := by
        rw [ab_Th_wi hn ht hT (by omega) ht, ab_upd_at ht ht, if_neg (by omega)]
      have hc := ab_Th_cu hT (show h ≠ t by omega)
      by_cases e : ab_fd (vw t) h = 0
      · by_cases e2 : ab_df cu vw wi h t = 1
        · rw [e2]; exact ab_df1 _ _ _ _ _
        · have z : ab_df cu' (upd vw t x) wi' h t = 0 := by
            refine ab_df_0 (fun z => ?_) (fun z => ?_)
            · rw [hc] at z
              exact absurd (ab_df_1 (fun _ => by omega) (fun y => absurd y z)) e2
            · rw [hc] at z
              rw [hw]
              by_cases e3 : ab_dc (wi (5 * h + t)) = 0
              · exact Or.inl e3
              · exact absurd (ab_df_1 (fun y => absurd z y) (fun y => ⟨e3, by omega⟩)) e2
          rw [z]; exact Nat.zero_le _
      · exact Nat.le_of_eq (ab_df_eq hc (by rw [pk_us, ab_acc_ext hx (by omega) e]) hw)
    · have hTt := hG1 t ht hVf.2.2.1 trivial
      have hlow := (hTt.2 (by omega)).2
      have hbd : ∀ v, v < ab_fd N t → ∃ c, ab_Cx rc lv tb rf dm (upd vw t x) (upd ex (4 * t + (ab_fd N t - 1)) (ab_off t N)) t v c := by
        intro v hv
        by_cases e : v = ab_fd N t - 1
        · rw [e]; exact hCx
        · obtain ⟨c, hc⟩ := hlow v (by omega)
          exact ⟨c, ab_acc_mono ht hx e hc⟩
      have hp : ab_p d cu t = d + 1 - ab_fd N t := by unfold ab_p; rw [if_neg (by omega), hdct]
      obtain ⟨hcl, ⟨v, hv, hnx, hlow', _, hor⟩ | ⟨U, hUP, hUH, hUx, rfl, _⟩⟩ := hT
      · have hge : ab_fd N t ≤ v := by
          rcases Nat.lt_or_ge v (ab_fd N t) with h | h
          · obtain ⟨c, hc⟩ := hbd v h
            exact absurd hc (hnx c)
          · exact h
        have e : ab_dc (cu' t) = v + 1 := by
          rcases hor with ⟨hcb, rfl, _⟩ | ⟨hcb, rfl, _⟩
          · rw [hcb, ab_dc_nI (by omega)]
          · rw [pk_us, ab_dc_nI (by omega)]
        have hp' : ab_p d cu' t = d + 1 - (v + 1) := by unfold ab_p; rw [e, if_neg (by omega)]
        omega
      · have hp' : ab_p d (upd cu t (-1)) t = 0 := by unfold ab_p; rw [pk_us, ab_dc_m1, if_pos rfl]
        omega
end
end
section
/-! a demand arrives; a nogood is set aside or sent back; a delivery -/
section
variable {n d rc : Nat} {aw st rs lv fl fl' : Int32} {tb rf dm cu vw lk ex de wi cu' ex' wi' : Nat → Int32} {b f t v : Nat} {N x : Int32} {E E' : Nat → Prop}
theorem ab_dem_lk (hf : f < 5) (a i : Nat) : bt (upd lk t (lk t ||| ((1 : Int32) <<< (nI f &&& 31))) a) i = (bt (lk a) i || decide (a = t ∧ i = f)) := by
  by_cases e : a = t
  · subst e
    rw [pk_us, ab_set (by omega)]
    by_cases e2 : i = f
    · rw [decide_eq_true e2, decide_eq_true ⟨rfl, e2⟩]
    · rw [decide_eq_false e2, decide_eq_false (fun z => e2 z.2)]
  · rw [pk_un e, decide_eq_false (fun z => e z.1), Bool.or_false]
/-- the demand of f for a link of t: w2 is the wires behind it -/
theorem ab_demand (hI : ab_Inv n d rc lv tb rf dm fl cu vw lk ex de wi (fun _ => True)) (hf : f < 5) (ht : t < 5) (hde : de (5 * f + t) ≠ 0) {w2 : Nat → Int32} (hw : (ab_dc (cu t) = 0 ∧ w2 = wi) ∨ (ab_dc (cu t) ≠ 0 ∧ w2 = upd wi (5 * t + f) (cu t))) :
    ab_Inv n d rc lv tb rf dm fl cu vw (upd lk t (lk t ||| ((1 : Int32) <<< (nI f &&& 31)))) ex (upd de (5 * f + t) 0) w2 (fun _ => True) ∧ ab_Ph d cu vw (upd de (5 * f + t) 0) w2 < ab_Ph d cu vw de wi := by
  obtain ⟨⟨hK, hTC, hTV, hTL, hTE, hTD, hW1, hW2, hW3, hSE, hSW, hSF, hG2, hG3, hZ1, hZ2⟩, hG1, hG5⟩ := hI
  have hD : t < f ∧ ab_fd (vw f) t ≠ 0 := by
    rcases hTD f hf t ht with h | h
    · exact absurd h hde
    · exact h.2
  have hV := (hTV f hf).2 t hD.2
  have hlk := fun a i => ab_dem_lk (lk := lk) (t := t) hf a i
  have hmono : ∀ a i, bt (lk a) i = true → bt (upd lk t (lk t ||| ((1 : Int32) <<< (nI f &&& 31))) a) i = true := by
    intro a i z
    rw [hlk, z, Bool.true_or]
  have hup : ∀ a c, c ≤ a → c < 5 → w2 (5 * a + c) = wi (5 * a + c) := by
    intro a c hac hc
    rcases hw with ⟨_, rfl⟩ | ⟨_, rfl⟩
    · rfl
    · rw [ab_upd_at hf hc, if_neg (by omega)]
  have hdn : ∀ a c, c < 5 → ¬ (a = t ∧ c = f) → w2 (5 * a + c) = wi (5 * a + c) := by
    intro a c hc hne
    rcases hw with ⟨_, rfl⟩ | ⟨_, rfl⟩
    · rfl
    · rw [ab_upd_at hf hc, if_neg hne]
  have htf : ab_dc (cu t) ≠ 0 → w2 (5 * t + f) = cu t := by
    intro z
    rcases hw with ⟨z2, _⟩ | ⟨_, rfl⟩
    · exact absurd z2 z
    · exact pk_us
  have htf0 : ab_dc (cu t) = 0 → w2 (5 * t + f) = wi (5 * t + f) := by
    intro z
    rcases hw with ⟨_, rfl⟩ | ⟨z2, _⟩
    · rfl
    · exact absurd z z2
  refine ⟨⟨⟨hK, hTC, hTV, ?_, hTE, ?_, ?_, ?_, ?_, hSE, ?_, hSF, ?_, ?_, ?_, ?_⟩, hG1, ?_⟩, ?_⟩
  · intro a ha i z
    rw [hlk] at z
    by_cases e : a = t ∧ i = f
    · rw [e.1, e.2]; exact ⟨hD.1, hV.2.2.1, hV.2.2.2⟩
    · rw [decide_eq_false e, Bool.or_false] at z; exact hTL a ha i z
  · intro a ha c hc
    rw [ab_upd_at ht hc]
    by_cases e : a = f ∧ c = t
    · rw [if_pos e]; exact Or.inl rfl
    · rw [if_neg e]; exact hTD a ha c hc
  · intro a c hac hc
    by_cases e : a = t ∧ c = f
    · obtain ⟨rfl, rfl⟩ := e
      refine ⟨?_, fun _ => by rw [hlk, decide_eq_true ⟨rfl, rfl⟩, Bool.or_true]⟩
      by_cases z : ab_dc (cu a) = 0
      · rw [htf0 z]; exact (hW1 a c hac hc).1
      · rw [htf z]; exact (hTC a ht).1
    · rw [hdn a c hc e]
      exact ⟨(hW1 a c hac hc).1, fun z => hmono _ _ ((hW1 a c hac hc).2 z)⟩
  · intro a c hac hc
    rw [hup a c (by omega) (by omega)]; exact hW2 a c hac hc
  · intro a ha
    rw [hup a a (by omega) ha]; exact hW3 a ha
  · intro a c hac hc
    rw [hup a c (by omega) (by omega)]; exact hSW a c hac hc
  · intro h c hhc hc z
    by_cases e : h = t ∧ c = f
    · exact Or.inl (by rw [hlk, decide_eq_true e, Bool.or_true])
    · rcases hG2 h c hhc hc z with g | g
      · exact Or.inl (hmono _ _ g)
      · refine Or.inr ?_
        rw [ab_upd_at ht (by omega), if_neg (by omega)]; exact g
  · intro h c hhc hc z hz
    by_cases e : h = t ∧ c = f
    · obtain ⟨rfl, rfl⟩ := e
      rw [htf hz]; exact Or.inl rfl
    · rw [hlk, decide_eq_false e, Bool.or_false] at z
      rw [hdn h c hc e]
      exact hG3 h c hhc hc z hz
  · intro a c hac hc h1 h2 h3
    exact hmono _ _ (hZ1 a c hac hc h1 h2 h3)
  · intro r hr hac l hl a hal hz
    exact hmono _ _ (hZ2 r hr hac l hl a hal hz)
  · intro hf0 h hh hlh _ hz
    obtain ⟨t', h1, h2, h3⟩ := hG5 hf0 h hh hlh trivial hz
    refine ⟨t', h1, h2, ?_⟩
    unfold ab_Wf
    rw [ab_upd_at ht (by omega), hup h t' (by omega) (by omega)]
    by_cases e : t' = t ∧ h = f
    · obtain ⟨rfl, rfl⟩ := e
      by_cases z : ab_dc (cu t') = 0
      · exact Or.inr (Or.inr (Or.inr (fun y => h2 (by omega))))
      · refine Or.inr (Or.inr (Or.inl ?_))
        rw [htf z]; exact z
    · rw [if_neg (by omega), hdn t' h hh e]
      exact h3
  · refine ab_S_q hD.1 hf (fun _ _ => Nat.le_refl _) (fun h c hhc hc => ?_) (fun h c hhc hc => ?_) ?_
    · by_cases e : h = t ∧ c = f
      · obtain ⟨rfl, rfl⟩ := e
        by_cases z : ab_dc (cu h) = 0
        · exact Nat.le_of_eq (ab_df_eq rfl rfl (htf0 z))
        · unfold ab_df; rw [if_neg z, if_neg z]; omega
      · exact Nat.le_of_eq (ab_df_eq rfl rfl (hdn h c hc e))
    · unfold ab_q
      rw [ab_upd_at ht (by omega)]
      by_cases e : c = f ∧ h = t
      · rw [if_pos e, if_pos rfl]; omega
      · rw [if_neg e]; omega
    · unfold ab_q
      rw [pk_us, if_pos rfl, if_neg hde]; omega
/-- a nogood of f leaves its wire to t without being taken over -/
theorem ab_aside (hI : ab_Inv n d rc lv tb rf dm fl cu vw lk ex de wi (fun _ => True)) (htf : t < f) (hf : f < 5) (hde : de (5 * f + t) = 0) (hN : N = wi (5 * f + t)) (hNn : ¬ N < 0) {w2 : Nat → Int32}
    (hw : (cu t ≠ nI (ab_fd N t - 1) ∧ w2 = upd wi (5 * f + t) (-1)) ∨ (cu t = nI (ab_fd N t - 1) ∧ ¬ ab_Cm (ab_off t N) (vw t) ∧ w2 = upd (upd wi (5 * f + t) (-1)) (5 * t + f) (nI (ab_fd N t - 1)))) :
    ab_Inv n d rc lv tb rf dm fl cu vw lk ex de w2 (fun _ => True) ∧ ab_Ph d cu vw de w2 ≤ ab_Ph d cu vw de wi ∧ ab_Qt f t cu vw de wi w2 := by
  obtain ⟨⟨hK, hTC, hTV, hTL, hTE, hTD, hW1, hW2, hW3, hSE, hSW, hSF, hG2, hG3, hZ1, hZ2⟩, hG1, hG5⟩ := hI
  have ht : t < 5 := by omega
  have hd := hK.2.2.2.1
  have hNT : ab_NgT d lv t N ∧ ab_fd (vw f) t ≠ 0 := by
    rcases hW2 f t htf hf with h | h
    · rw [hN, h] at hNn; exact absurd ab_m1_neg hNn
    · rw [hN]; exact h
  have hN0 := hNT.1.2.1
  have hb4 := hNT.1.2.2 t hN0
  have hlk : bt (lk t) f = true := by
    rcases hG2 t f htf hf hNT.2 with h | h
    · exact h
    · exact absurd hde h
  have hL := hTL t ht f hlk
  have hdct : cu t = nI (ab_fd N t - 1) ↔ ab_dc (cu t) = ab_fd N t := by
    rw [ab_Ok_eq hd (by omega) (hTC t ht).1]
    omega
  have hup : ∀ a c, c ≤ a → c < 5 → w2 (5 * a + c) = if a = f ∧ c = t then -1 else wi (5 * a + c) := by
    intro a c hac hc
    rcases hw with ⟨_, rfl⟩ | ⟨_, _, rfl⟩
    · exact ab_upd_at ht hc
    · rw [ab_upd_at hf hc, if_neg (by omega), ab_upd_at ht hc]
  have hdn : ∀ a c, a < c → c < 5 → (w2 (5 * a + c) = wi (5 * a + c)) ∨ (a = t ∧ c = f ∧ ab_dc (cu t) ≠ 0 ∧ w2 (5 * a + c) = cu t) := by
    intro a c hac hc
    rcases hw with ⟨_, rfl⟩ | ⟨e1, _, rfl⟩
    · refine Or.inl ?_
      rw [ab_upd_at ht hc, if_neg (by omega)]
    · by_cases e : a = t ∧ c = f
      · refine Or.inr ⟨e.1, e.2, ?_, ?_⟩
        · have := hdct.mp e1; omega
        · rw [ab_upd_at hf hc, if_pos e, e1]
      · refine Or.inl ?_
        rw [ab_upd_at hf hc, if_neg e, ab_upd_at ht hc, if_neg (by omega)]
  refine ⟨⟨⟨hK, hTC, hTV, hTL, hTE, hTD, ?_, ?_, ?_, hSE, ?_, hSF, hG2, ?_, hZ1, hZ2⟩, hG1, ?_⟩, ?_, ?_⟩
  · intro a c hac hc
    rcases hdn a c hac hc with e | ⟨rfl, rfl, _, e⟩
    · rw [e]; exact hW1 a c hac hc
    · rw [e]; exact ⟨(hTC a ht).1, fun _ => hlk⟩
  · intro a c hac hc
    rw [hup a c (by omega) (by omega)]
    by_cases e : a = f ∧ c = t
    · rw [if_pos e]; exact Or.inl rfl
    · rw [if_neg e]; exact hW2 a c hac hc
  · intro a ha
    rw [hup a a (by omega) ha, if_neg (by omega)]; exact hW3 a ha
  · intro a c hac hc
    rw [hup a c (by omega) (by omega)]
    by_cases e : a = f ∧ c = t
    · rw [if_pos e]; intro z; exact absurd ab_m1_neg z
    · rw [if_neg e]; exact hSW a c hac hc
  · intro h c hhc hc z hz
    rcases hdn h c hhc hc with e | ⟨rfl, rfl, _, e⟩
    · rw [e]; exact hG3 h c hhc hc z hz
    · rw [e]; exact Or.inl rfl
  · intro hf0 h hh hlh _ hz
    obtain ⟨t', h1, h2, h3⟩ := hG5 hf0 h hh hlh trivial hz
    refine ⟨t', h1, h2, ?_⟩
    rcases h3 with h3 | h3 | h3 | h3
    · exact Or.inl h3
    · by_cases e : h = f ∧ t' = t
      · obtain ⟨rfl, rfl⟩ := e
        have e2 := h3.2 t' ht
        rw [← hN] at e2
        have e3 := e2 hN0
        rcases hw with ⟨e1, _⟩ | ⟨e1, _, rfl⟩
        · refine Or.inr (Or.inr (Or.inr ?_))
          rw [← e3]; exact fun y => e1 (hdct.mpr y)
        · refine Or.inr (Or.inr (Or.inl ?_))
          rw [pk_us, ab_dc_nI (by omega)]; omega
      · refine Or.inr (Or.inl ?_)
        rw [hup h t' (by omega) (by omega), if_neg e]; exact h3
    · refine Or.inr (Or.inr (Or.inl ?_))
      rcases hdn t' h h1 hh with e | ⟨rfl, rfl, z, e⟩
      · rw [e]; exact h3
      · rw [e]; exact z
    · exact Or.inr (Or.inr (Or.inr h3))
  · refine ab_S_le (fun _ _ => Nat.le_refl _) (fun h c hhc hc => ?_) (fun _ _ _ _ => Nat.le_refl _)
    rcases hdn h c hhc hc with e | ⟨rfl, rfl, z, e⟩
    · exact Nat.le_of_eq (ab_df_eq rfl rfl e)
    · unfold ab_df; rw [if_neg z, if_neg z]; omega
  · refine ⟨hde, Or.inr ⟨htf, by rw [← hN]; exact hNn, ?_, ?_⟩⟩
    · rw [← hN]
      rintro ⟨z1, z2⟩
      rcases hw with ⟨e1, _⟩ | ⟨_, e1, _⟩
      · exact e1 (hdct.mpr z1.symm)
      · exact e1 z2
    · rcases hw with ⟨_, rfl⟩ | ⟨e1, _, rfl⟩
      · exact Or.inl rfl
      · exact Or.inr ⟨by have := hdct.mp e1; omega, by rw [e1]⟩
theorem ab_Th_fl {fl fl' : Int32} {cu vw lk ex wi cu' ex' wi' : Nat → Int32} (hT : ab_Th n d rc lv fl tb rf dm cu vw lk ex wi b fl' cu' ex' wi') (h : fl ≠ 0) : fl' ≠ 0 := by
  obtain ⟨_, ⟨_, _, _, _, rfl, _⟩ | ⟨_, _, _, _, _, ⟨_, rfl, _⟩ | ⟨_, _, rfl, _⟩⟩⟩ := hT
  · exact h
  · decide
  · exact h
theorem ab_pass {post : Int32 → SX → Prop} (hI : ab_Inv n d rc lv tb rf dm fl cu vw lk ex de wi (fun _ => True)) (hf : f < n) (ht : t < n)
    (K0 : de (5 * f + t) = 0 → wi (5 * f + t) < 0 → post 0 (nI n, nI d, nI rc, aw, st, rs, lv, fl, tb, rf, dm, cu, vw, lk, ex, de, wi))
    (K1 : ∀ fl' cu' vw' lk' ex' de' wi', (de (5 * f + t) ≠ 0 ∨ ¬ wi (5 * f + t) < 0) → (fl ≠ 0 → fl' ≠ 0) → ab_Inv n d rc lv tb rf dm fl' cu' vw' lk' ex' de' wi' (fun _ => True) → ab_PO d f t fl cu vw lk de wi fl' cu' vw' lk' de' wi' → post 1 (nI n, nI d, nI rc, aw, st, rs, lv, fl', tb, rf, dm, cu', vw', lk', ex', de', wi')) :
    wpX_pass post (nI n, nI d, nI rc, aw, st, rs, lv, fl, tb, rf, dm, cu, vw, lk, ex, de, wi) (nI f) (nI t) := by
  have hI' := hI
  obtain ⟨⟨hK, hTC, hTV, hTL, hTE, hTD, hW1, hW2, hW3, hSE, hSW, hSF, hG2, hG3, hZ1, hZ2⟩, hG1, hG5⟩ := hI'
  obtain ⟨_, hn, _, hd, hrc, hlv, hRf⟩ := hK
  have hV4 : ∀ b, b < 5 → ∀ h, ab_fd (vw b) h ≤ 4 := by
    intro b hb h
    by_cases z : ab_fd (vw b) h = 0
    · omega
    · have := ((hTV b hb).2 h z).1; omega
  refine ab_xpass hf ht hn hd hrc (fun r hr => (hRf r hr).1) (fun v hv => ?_) (hTV t (by omega)).1 ?_ ?_ ?_ K0 ?_ ?_ ?_ ?_ ?_ ?_
  · rcases hTE t (by omega) v hv with h | h
    · exact Or.inl h
    · exact Or.inr h.1
  · rcases Nat.lt_trichotomy f t with h | h | h
    · have g := hW1 f t h (by omega)
      by_cases z : ab_dc (wi (5 * f + t)) = 0
      · exact Or.inl ((ab_Ok_neg hd g.1).mpr z)
      · exact Or.inr (Or.inl ⟨h, _, by have := g.1.2; omega, ab_Ok_v g.1 z⟩)
    · subst h
      rw [hW3 f (by omega)]; exact Or.inl ab_m1_neg
    · rcases hW2 f t h (by omega) with g | g
      · rw [g]; exact Or.inl ab_m1_neg
      · exact Or.inr (Or.inr ⟨h, g.1.1, g.1.2.1, by have := (g.1.2.2 t g.1.2.1).1; omega⟩)
  · intro v hv hft hw a
    rw [ab_fd_new (hTV t (by omega)).1 (by omega) hv]
    by_cases e : a = f
    · rw [if_pos e]; omega
    · rw [if_neg e]; exact hV4 t (by omega) a
  · intro htf hnn x hx h
    rcases Nat.lt_or_ge h 5 with h5 | h5
    · rw [hx.2 h h5]
      by_cases e : h < t ∧ ab_fd (vw t) h = 0
      · rw [if_pos e, ab_fd_off' _ (by omega) (by omega)]
        by_cases e2 : h = t
        · rw [if_pos e2]; omega
        · rw [if_neg e2]
          rcases hW2 f t htf (by omega) with g | g
          · rw [g] at hnn; exact absurd ab_m1_neg hnn
          · by_cases z : ab_fd (wi (5 * f + t)) h = 0
            · omega
            · have := (g.1.2.2 h z).1; omega
      · rw [if_neg e]; exact hV4 t (by omega) h
    · rw [ab_fd_hi hx.1 h5]; omega
  · intro e z
    have h := ab_demand hI (by omega) (by omega) e (Or.inl ⟨(ab_Ok_neg hd (hTC t (by omega)).1).mp z, rfl⟩)
    exact K1 _ _ _ _ _ _ _ (Or.inl e) id h.1 (Or.inr (Or.inl h.2))
  · intro e z
    have h := ab_demand hI (by omega) (by omega) e (Or.inr ⟨fun y => z ((ab_Ok_neg hd (hTC t (by omega)).1).mpr y), rfl⟩)
    exact K1 _ _ _ _ _ _ _ (Or.inl e) id h.1 (Or.inr (Or.inl h.2))
  · intro e hft v hv hw fl' cu' ex' wi' hT
    have h := ab_hear hI hft (by omega) hv hw e hT
    exact K1 _ _ _ _ _ _ _ (Or.inr (by rw [hw]; exact nI_pos (by omega))) (ab_Th_fl hT) h.1 h.2
  · intro e htf N hN hN0 hNP z
    have h := ab_aside hI htf (by omega) e hN (ab_Pk_nn hNP) (Or.inl ⟨z, rfl⟩)
    exact K1 _ _ _ _ _ _ _ (Or.inr (hN ▸ ab_Pk_nn hNP)) id h.1 (Or.inr (Or.inr ⟨rfl, rfl, rfl, rfl, rfl, h.2.1, h.2.2⟩))
  · intro e htf N hN hN0 hNP z z2
    have h := ab_aside hI htf (by omega) e hN (ab_Pk_nn hNP) (Or.inr ⟨z, z2, rfl⟩)
    exact K1 _ _ _ _ _ _ _ (Or.inr (hN ▸ ab_Pk_nn hNP)) id h.1 (Or.inr (Or.inr ⟨rfl, rfl, rfl, rfl, rfl, h.2.1, h.2.2⟩))
  · intro e htf N hN hN0 hNP z z2 x hx fl' cu' ex' wi' hT
    have h := ab_accept hI htf (by omega) hN (ab_Pk_nn hNP) z z2 hx hT
    exact K1 _ _ _ _ _ _ _ (Or.inr (hN ▸ ab_Pk_nn hNP)) (ab_Th_fl hT) h.1 (Or.inr (Or.inl h.2))
end
end
section
/-! a sweep over all channels -/
def ab_P (f t f' t' : Nat) : Prop := f' < f ∨ (f' = f ∧ t' < t)
def ab_A (n : Nat) (lv : Int32) (cu de wi : Nat → Int32) : Prop := (∀ a, a < n → bt lv a = true → ab_dc (cu a) ≠ 0) ∧ (∀ f t, t < f → f < n → wi (5 * f + t) < 0) ∧ (∀ f t, f < n → t < n → de (5 * f + t) = 0)
def ab_B (n : Nat) (wi : Nat → Int32) : Prop := ∀ f t, f < t → t < n → ab_dc (wi (5 * f + t)) = 0
/-- what holds at place f, t of a sweep in which the potential has not fallen yet; A0: nobody waits and nothing goes upwards at its start -/
def ab_Sf (n d : Nat) (lv : Int32) (A0 : Prop) (p0 f t : Nat) (fl : Int32) (cu vw lk de wi : Nat → Int32) : Prop :=
  fl = 0 ∧ ab_Ph d cu vw de wi ≤ p0 ∧
  (∀ f' t', ab_P f t f' t' → f' < n → t' < n → de (5 * f' + t') = 0) ∧
  (∀ f' t', ab_P f t f' t' → f' < t' → t' < n → bt (lk f') t' = true → ab_dc (cu f') ≠ 0 → ab_fd (vw t') f' = ab_dc (cu f')) ∧
  (∀ f' t', ab_P f t f' t' → f' < t' → t' < n → ab_dc (wi (5 * f' + t')) ≠ 0 → ab_P f t t' f') ∧
  (∀ h, h ≤ f → h < n → bt lv h = true → ab_dc (cu h) = 0 → (∀ a, a < h → bt lv a = true → ab_dc (cu a) ≠ 0) → ∃ t', t' < h ∧ ¬ ab_P f t h t' ∧ ab_fd (vw h) t' ≠ 0 ∧ (de (5 * h + t') ≠ 0 ∨ (¬ wi (5 * h + t') < 0 ∧ ab_Hd (wi (5 * h + t')) (vw h)))) ∧
  ((∀ a, a < n → bt lv a = true → ab_dc (cu a) ≠ 0) → ∀ f' t', ab_P f t f' t' → t' < f' → f' < n → wi (5 * f' + t') < 0) ∧
  (A0 → (∀ a, a < n → bt lv a = true → ab_dc (cu a) ≠ 0) ∧ (∀ f' t', t' < f' → f' < n → wi (5 * f' + t') < 0) ∧ (∀ f' t', ab_P f t f' t' → f' < t' → t' < n → ab_dc (wi (5 * f' + t')) = 0))
section
variable {n d rc : Nat} {aw st rs lv fl fl' : Int32} {tb rf dm cu vw lk ex de wi cu' vw' lk' ex' de' wi' : Nat → Int32} {b f t v : Nat} {A0 : Prop} {p0 : Nat}
theorem ab_P_s {f t f' t' : Nat} : ab_P f (t + 1) f' t' ↔ ab_P f t f' t' ∨ (f' = f ∧ t' = t) := by unfold ab_P; omega
theorem ab_Sf_0 (hI : ab_Inv n d rc lv tb rf dm fl cu vw lk ex de wi (fun _ => True)) (hf : f < n) (ht : t < n) (h : ab_Sf n d lv A0 p0 f t fl cu vw lk de wi) (hde : de (5 * f + t) = 0) (hwi : wi (5 * f + t) < 0) : ab_Sf n d lv A0 p0 f (t + 1) fl cu vw lk de wi := by
  obtain ⟨⟨hK, hTC, hTV, hTL, hTE, hTD, hW1, hW2, hW3, hSE, hSW, hSF, hG2, hG3, hZ1, hZ2⟩, hG1, hG5⟩ := hI
  obtain ⟨h0, h1, h2, h3, h4, h5, h6, h7⟩ := h
  have hn := hK.2.1
  have hd := hK.2.2.2.1
  have hdc : f < t → ab_dc (wi (5 * f + t)) = 0 := fun z => (ab_Ok_neg hd (hW1 f t z (by omega)).1).mp hwi
  refine ⟨h0, h1, ?_, ?_, ?_, ?_, ?_, ?_⟩
  · intro f' t' hP hf' ht'
    rcases ab_P_s.mp hP with hP | ⟨rfl, rfl⟩
    · exact h2 f' t' hP hf' ht'
    · exact hde
  · intro f' t' hP hft ht' hl hz
    rcases ab_P_s.mp hP with hP | ⟨rfl, rfl⟩
    · exact h3 f' t' hP hft ht' hl hz
    · have := hdc hft
      rcases hG3 f' t' hft (by omega) hl hz with g | g
      · omega
      · exact g.2
  · intro f' t' hP hft ht' hz
    rcases ab_P_s.mp hP with hP | ⟨rfl, rfl⟩
    · exact ab_P_s.mpr (Or.inl (h4 f' t' hP hft ht' hz))
    · exact absurd (hdc hft) hz
  · intro h hh hhn hl hz hm
    obtain ⟨t', g1, g2, g3, g4⟩ := h5 h hh hhn hl hz hm
    refine ⟨t', g1, fun hP => ?_, g3, g4⟩
    rcases ab_P_s.mp hP with hP | ⟨rfl, rfl⟩
    · exact g2 hP
    · rcases g4 with g | g
      · exact g hde
      · exact g.1 hwi
  · intro hno f' t' hP htf hf'
    rcases ab_P_s.mp hP with hP | ⟨rfl, rfl⟩
    · exact h6 hno f' t' hP htf hf'
    · exact hwi
  · intro hA
    obtain ⟨g1, g2, g3⟩ := h7 hA
    refine ⟨g1, g2, fun f' t' hP hft ht' => ?_⟩
    rcases ab_P_s.mp hP with hP | ⟨rfl, rfl⟩
    · exact g3 f' t' hP hft ht'
    · exact hdc hft
theorem ab_Sf_1 (hI : ab_Inv n d rc lv tb rf dm fl cu vw lk ex de wi (fun _ => True)) (hf : f < n) (ht : t < n) (h : ab_Sf n d lv A0 p0 f t fl cu vw lk de wi) (hle : ab_Ph d cu vw de wi' ≤ ab_Ph d cu vw de wi) (hQ : ab_Qt f t cu vw de wi wi') : ab_Sf n d lv A0 p0 f (t + 1) fl cu vw lk de wi' := by
  obtain ⟨⟨hK, hTC, hTV, hTL, hTE, hTD, hW1, hW2, hW3, hSE, hSW, hSF, hG2, hG3, hZ1, hZ2⟩, hG1, hG5⟩ := hI
  obtain ⟨h0, h1, h2, h3, h4, h5, h6, h7⟩ := h
  obtain ⟨hde, hQ⟩ := hQ
  have hn := hK.2.1
  have hd := hK.2.2.2.1
  have hlv := hK.2.2.2.2.2.1
  have s1 : ∀ f' t', ab_P f (t + 1) f' t' → f' < n → t' < n → de (5 * f' + t') = 0 := by
    intro f' t' hP hf' ht'
    rcases ab_P_s.mp hP with hP | ⟨rfl, rfl⟩
    · exact h2 f' t' hP hf' ht'
    · exact hde
  rcases hQ with ⟨hft, hwz, hvw, hQ⟩ | ⟨htf, hwn, hna, hQ⟩
  · have hlt : bt (lk f) t = true := (hW1 f t hft (by omega)).2 hwz
    have hLt := hTL f (by omega) t hlt
    have hdn : ∀ a c, a < c → c < 5 → wi' (5 * a + c) = if a = f ∧ c = t then -1 else wi (5 * a + c) := by
      intro a c hac hc
      rcases hQ with ⟨_, rfl⟩ | ⟨_, t2, U, g1, _, _, _, rfl⟩
      · exact ab_upd_at (by omega) hc
      · rw [ab_upd_at (by omega) hc, if_neg (by omega), ab_upd_at (by omega) hc]
    have hup : ∀ a c, c < a → a < 5 → a ≠ t → wi' (5 * a + c) = wi (5 * a + c) := by
      intro a c hac hc hne
      rcases hQ with ⟨_, rfl⟩ | ⟨_, t2, U, g1, _, _, _, rfl⟩
      · rw [ab_upd_at (by omega) (by omega), if_neg (by omega)]
      · rw [ab_upd_at (by omega) (by omega), if_neg (by omega), ab_upd_at (by omega) (by omega), if_neg (by omega)]
    have hup2 : ab_dc (cu t) ≠ 0 → ∀ a c, c < a → a < 5 → wi' (5 * a + c) = wi (5 * a + c) := by
      intro hz a c hac hc
      rcases hQ with ⟨_, rfl⟩ | ⟨z, _⟩
      · rw [ab_upd_at (by omega) (by omega), if_neg (by omega)]
      · exact absurd z hz
    refine ⟨h0, by omega, s1, ?_, ?_, ?_, ?_, ?_⟩
    · intro f' t' hP hft' ht' hl hz
      rcases ab_P_s.mp hP with hP | ⟨rfl, rfl⟩
      · exact h3 f' t' hP hft' ht' hl hz
      · rcases hG3 f' t' hft' (by omega) hl hz with g | g
        · omega
        · exact g.2
    · intro f' t' hP hft' ht' hz
      rw [hdn f' t' hft' (by omega)] at hz
      by_cases e : f' = f ∧ t' = t
      · rw [if_pos e, ab_dc_m1] at hz; exact absurd rfl hz
      · rw [if_neg e] at hz
        rcases ab_P_s.mp hP with hP | hP
        · exact ab_P_s.mpr (Or.inl (h4 f' t' hP hft' ht' hz))
        · exact absurd hP e
    · intro h hh hhn hl hz hm
      obtain ⟨t', g1, g2, g3, g4⟩ := h5 h hh hhn hl hz hm
      refine ⟨t', g1, fun hP => ?_, g3, ?_⟩
      · rcases ab_P_s.mp hP with hP | hP
        · exact g2 hP
        · omega
      · rw [hup h t' g1 (by omega) (by omega)]; exact g4
    · intro hno f' t' hP htf hf'
      rw [hup2 (hno t ht hLt.2.2) f' t' htf (by omega)]
      rcases ab_P_s.mp hP with hP | hP
      · exact h6 hno f' t' hP htf hf'
      · omega
    · intro hA
      obtain ⟨g1, g2, g3⟩ := h7 hA
      refine ⟨g1, fun f' t' htf hf' => ?_, fun f' t' hP hft' ht' => ?_⟩
      · rw [hup2 (g1 t ht hLt.2.2) f' t' htf (by omega)]; exact g2 f' t' htf hf'
      · rw [hdn f' t' hft' (by omega)]
        by_cases e : f' = f ∧ t' = t
        · rw [if_pos e, ab_dc_m1]
        · rw [if_neg e]
          rcases ab_P_s.mp hP with hP | hP
          · exact g3 f' t' hP hft' ht'
          · exact absurd hP e
  · have hup : ∀ a c, c < a → a < 5 → wi' (5 * a + c) = if a = f ∧ c = t then -1 else wi (5 * a + c) := by
      intro a c hac hc
      rcases hQ with rfl | ⟨_, rfl⟩
      · exact ab_upd_at (by omega) (by omega)
      · rw [ab_upd_at (by omega) (by omega), if_neg (by omega), ab_upd_at (by omega) (by omega)]
    have hdn : ∀ a c, a < c → c < 5 → ¬ (a = t ∧ c = f) → wi' (5 * a + c) = wi (5 * a + c) := by
      intro a c hac hc hne
      rcases hQ with rfl | ⟨_, rfl⟩
      · rw [ab_upd_at (by omega) hc, if_neg (by omega)]
      · rw [ab_upd_at (by omega) hc, if_neg hne, ab_upd_at (by omega) hc, if_neg (by omega)]
    refine ⟨h0, by omega, s1, ?_, ?_, ?_, ?_, ?_⟩
    · intro f' t' hP hft' ht' hl hz
      rcases ab_P_s.mp hP with hP | ⟨rfl, rfl⟩
      · exact h3 f' t' hP hft' ht' hl hz
      · omega
    · intro f' t' hP hft' ht' hz
      by_cases e : f' = t ∧ t' = f
      · exact ab_P_s.mpr (Or.inr ⟨e.2, e.1⟩)
      · rw [hdn f' t' hft' (by omega) e] at hz
        rcases ab_P_s.mp hP with hP | hP
        · exact ab_P_s.mpr (Or.inl (h4 f' t' hP hft' ht' hz))
        · omega
    · intro h hh hhn hl hz hm
      obtain ⟨t', g1, g2, g3, g4⟩ := h5 h hh hhn hl hz hm
      by_cases e : h = f ∧ t' = t
      · exfalso
        obtain ⟨rfl, rfl⟩ := e
        rcases g4 with g4 | g4
        · exact g4 hde
        · have hNT : ab_NgT d lv t' (wi (5 * h + t')) := by
            rcases hW2 h t' htf (by omega) with g | g
            · rw [g] at hwn; exact absurd ab_m1_neg hwn
            · exact g.1
          have key : ∀ a, a < h → ab_fd (vw h) a ≠ 0 → (a = t' ∨ a < t') → ab_fd (vw h) a = ab_dc (cu a) := by
            intro a ha hva hor
            have hT := (hTV h (by omega)).2 a hva
            have hl2 : bt (lk a) h = true := by
              rcases hG2 a h ha (by omega) hva with g | g
              · exact g
              · rcases hor with rfl | h'
                · exact absurd hde g
                · exact absurd (h2 h a (Or.inr ⟨rfl, h'⟩) hhn (by omega)) g
            exact h3 a h (Or.inl ha) ha hhn hl2 (hm a ha hT.2.2.1)
          refine hna ⟨?_, ?_⟩
          · rw [g4.2 t' (by omega) hNT.2.1]
            exact key t' htf g3 (Or.inl rfl)
          · intro a ha z1 z2
            have z1' := z1
            rw [ab_fd_off' _ (by omega) (by omega)] at z1' ⊢
            by_cases e2 : a = t'
            · rw [if_pos e2] at z1'; exact absurd rfl z1'
            · rw [if_neg e2] at z1' ⊢
              have hat := (hNT.2.2 a z1').2.1
              have e3 := g4.2 a ha z1'
              have hva : ab_fd (vw h) a ≠ 0 := e3 ▸ z1'
              rw [e3, key a (by omega) hva (Or.inr (by omega))]
              have hT := (hTV t' (by omega)).2 a z2
              have hl2 : bt (lk a) t' = true := by
                rcases hG2 a t' (by omega) (by omega) z2 with g | g
                · exact g
                · exact absurd (h2 t' a (Or.inl htf) (by omega) (by omega)) g
              exact (h3 a t' (Or.inl (by omega)) (by omega) (by omega) hl2 (hm a (by omega) hT.2.2.1)).symm
      · refine ⟨t', g1, fun hP => ?_, g3, ?_⟩
        · rcases ab_P_s.mp hP with hP | hP
          · exact g2 hP
          · exact e hP
        · rw [hup h t' g1 (by omega), if_neg e]; exact g4
    · intro hno f' t' hP htf' hf'
      rw [hup f' t' htf' (by omega)]
      by_cases e : f' = f ∧ t' = t
      · rw [if_pos e]; exact ab_m1_neg
      · rw [if_neg e]
        rcases ab_P_s.mp hP with hP | hP
        · exact h6 hno f' t' hP htf' hf'
        · exact absurd hP e
    · intro hA
      obtain ⟨g1, g2, g3⟩ := h7 hA
      exact absurd (g2 f t htf hf) hwn
/-- the next row of the sweep -/
theorem ab_Sf_r (hI : ab_Inv n d rc lv tb rf dm fl cu vw lk ex de wi (fun _ => True)) (h : ab_Sf n d lv A0 p0 f n fl cu vw lk de wi) : ab_Sf n d lv A0 p0 (f + 1) 0 fl cu vw lk de wi := by
  obtain ⟨⟨hK, hTC, hTV, hTL, hTE, hTD, hW1, hW2, hW3, hSE, hSW, hSF, hG2, hG3, hZ1, hZ2⟩, hG1, hG5⟩ := hI
  obtain ⟨h0, h1, h2, h3, h4, h5, h6, h7⟩ := h
  have hP : ∀ {f' t'}, t' < n → (ab_P (f + 1) 0 f' t' ↔ ab_P f n f' t') := by intro f' t' h; unfold ab_P; omega
  have hn := hK.2.1
  refine ⟨h0, h1, fun f' t' h hf ht => h2 f' t' ((hP ht).mp h) hf ht, fun f' t' h hft ht => h3 f' t' ((hP ht).mp h) hft ht, fun f' t' h hft ht hz => (hP (by omega)).mpr (h4 f' t' ((hP ht).mp h) hft ht hz), ?_, fun hno f' t' h htf hf => h6 hno f' t' ((hP (by omega)).mp h) htf hf, fun hA => ⟨(h7 hA).1, (h7 hA).2.1, fun f' t' h hft ht => (h7 hA).2.2 f' t' ((hP ht).mp h) hft ht⟩⟩
  intro h hh hhn hl hz hm
  rcases Nat.lt_or_ge f h with hfh | hfh
  · obtain rfl : h = f + 1 := by omega
    obtain ⟨t, g1, g2, g3⟩ := hG5 h0 (f + 1) (by omega) hl trivial hz
    have hnP : ¬ ab_P (f + 1) 0 (f + 1) t := by unfold ab_P; omega
    have hPt : ab_P f n t (f + 1) := by unfold ab_P; omega
    have hT := (hTV (f + 1) (by omega)).2 t g2
    rcases g3 with g3 | g3 | g3 | g3
    · exact ⟨t, g1, hnP, g2, Or.inl g3⟩
    · exact ⟨t, g1, hnP, g2, Or.inr g3⟩
    · have := h4 t (f + 1) hPt g1 hhn g3
      exact absurd ((hP (by omega)).mpr this) hnP
    · rcases hG2 t (f + 1) g1 (by omega) g2 with g | g
      · exact absurd (h3 t (f + 1) hPt g1 hhn g (hm t g1 hT.2.2.1)).symm g3
      · exact ⟨t, g1, hnP, g2, Or.inl g⟩
  · obtain ⟨t', g1, g2, g3, g4⟩ := h5 h hfh hhn hl hz hm
    exact ⟨t', g1, fun z => g2 ((hP (by omega)).mp z), g3, g4⟩
theorem ab_Sf_i (hI : ab_Inv n d rc lv tb rf dm fl cu vw lk ex de wi (fun _ => True)) (hfl : fl = 0) (hp : ab_Ph d cu vw de wi ≤ p0) (hA : A0 → ab_A n lv cu de wi) : ab_Sf n d lv A0 p0 0 0 fl cu vw lk de wi := by
  have hnP : ∀ {f' t'}, ¬ ab_P 0 0 f' t' := by intro f' t'; unfold ab_P; omega
  refine ⟨hfl, hp, fun _ _ h => absurd h hnP, fun _ _ h => absurd h hnP, fun _ _ h => absurd h hnP, ?_, fun _ _ _ h => absurd h hnP, fun h => ⟨(hA h).1, (hA h).2.1, fun _ _ h => absurd h hnP⟩⟩
  intro h hh hhn hl hz hm
  obtain rfl : h = 0 := by omega
  obtain ⟨t, g1, _⟩ := hI.2.2 hfl 0 (by omega) hl trivial hz
  omega
theorem ab_Sf_e (hlv : ∀ a, bt lv a = true → a < n) (h : ab_Sf n d lv A0 p0 n 0 fl cu vw lk de wi) : ab_A n lv cu de wi ∧ (A0 → ab_B n wi) := by
  obtain ⟨h0, h1, h2, h3, h4, h5, h6, h7⟩ := h
  have hP : ∀ {f' t'}, f' < n → ab_P n 0 f' t' := by intro f' t' h; unfold ab_P; omega
  have hw : ∀ h, ∀ a, a < h → bt lv a = true → ab_dc (cu a) ≠ 0 := by
    intro h
    induction h with
    | zero => intro a ha; omega
    | succ h ih =>
      intro a ha hl hz
      by_cases e : a = h
      · subst e
        obtain ⟨t', g1, g2, _⟩ := h5 a (by have := hlv a hl; omega) (hlv a hl) hl hz ih
        exact g2 (hP (hlv a hl))
      · exact ih a (by omega) hl hz
  have hno : ∀ a, a < n → bt lv a = true → ab_dc (cu a) ≠ 0 := hw n
  exact ⟨⟨hno, fun f t htf hf => h6 hno f t (hP hf) htf hf, fun f t hf ht => h2 f t (hP hf) hf ht⟩, fun hA f t hft ht => (h7 hA).2.2 f t (hP (by omega)) hft ht⟩
end
end
section
/-! X: sweep and run -/
def ab_J (n d rc : Nat) (lv : Int32) (tb rf dm : Nat → Int32) (A0 B0 : Prop) (p0 f t : Nat) (m fl : Int32) (cu vw lk ex de wi : Nat → Int32) : Prop :=
  ab_Inv n d rc lv tb rf dm fl cu vw lk ex de wi (fun _ => True) ∧ (m = 0 ∨ m = 1) ∧ (m = 0 → fl = 0 ∧ ∀ f' t', ab_P f t f' t' → f' < n → t' < n → de (5 * f' + t') = 0 ∧ wi (5 * f' + t') < 0) ∧ (A0 → B0 → m = 0 ∧ ∀ f' t', f' < n → t' < n → de (5 * f' + t') = 0 ∧ wi (5 * f' + t') < 0) ∧ (fl ≠ 0 ∨ ab_Ph d cu vw de wi < p0 ∨ ab_Sf n d lv A0 p0 f t fl cu vw lk de wi)
section
variable {n d rc : Nat} {aw st rs lv fl fl' m : Int32} {tb rf dm cu vw lk ex de wi cu' vw' lk' ex' de' wi' : Nat → Int32} {b f t v : Nat} {A0 B0 : Prop} {p0 : Nat}
theorem ab_J0 (h : ab_J n d rc lv tb rf dm A0 B0 p0 f t m fl cu vw lk ex de wi) (hf : f < n) (ht : t < n) (hde : de (5 * f + t) = 0) (hwi : wi (5 * f + t) < 0) : ab_J n d rc lv tb rf dm A0 B0 p0 f (t + 1) m fl cu vw lk ex de wi := by
  obtain ⟨h1, h2, h3, h4, h5⟩ := h
  refine ⟨h1, h2, fun hm => ⟨(h3 hm).1, fun f' t' hP hf' ht' => ?_⟩, h4, ?_⟩
  · rcases ab_P_s.mp hP with hP | ⟨rfl, rfl⟩
    · exact (h3 hm).2 f' t' hP hf' ht'
    · exact ⟨hde, hwi⟩
  · rcases h5 with h5 | h5 | h5
    · exact Or.inl h5
    · exact Or.inr (Or.inl h5)
    · exact Or.inr (Or.inr (ab_Sf_0 h1 hf ht h5 hde hwi))
theorem ab_J1 (h : ab_J n d rc lv tb rf dm A0 B0 p0 f t m fl cu vw lk ex de wi) (hf : f < n) (ht : t < n) (hne : de (5 * f + t) ≠ 0 ∨ ¬ wi (5 * f + t) < 0) (hfl : fl ≠ 0 → fl' ≠ 0) (hI : ab_Inv n d rc lv tb rf dm fl' cu' vw' lk' ex' de' wi' (fun _ => True)) (hPO : ab_PO d f t fl cu vw lk de wi fl' cu' vw' lk' de' wi') : ab_J n d rc lv tb rf dm A0 B0 p0 f (t + 1) 1 fl' cu' vw' lk' ex' de' wi' := by
  obtain ⟨h1, h2, h3, h4, h5⟩ := h
  refine ⟨hI, Or.inr rfl, fun hm => absurd hm (by decide), fun hA hB => ?_, ?_⟩
  · have := (h4 hA hB).2 f t hf ht
    rcases hne with z | z
    · exact absurd this.1 z
    · exact absurd this.2 z
  · rcases hPO with g | g | ⟨rfl, rfl, rfl, rfl, rfl, hle, hQ⟩
    · exact Or.inl g
    · rcases h5 with h5 | h5 | h5
      · exact Or.inl (hfl h5)
      · exact Or.inr (Or.inl (by omega))
      · exact Or.inr (Or.inl (by have := h5.2.1; omega))
    · rcases h5 with h5 | h5 | h5
      · exact Or.inl h5
      · exact Or.inr (Or.inl (by omega))
      · exact Or.inr (Or.inr (ab_Sf_1 h1 hf ht h5 hle hQ))
theorem ab_Jr (h : ab_J n d rc lv tb rf dm A0 B0 p0 f n m fl cu vw lk ex de wi) : ab_J n d rc lv tb rf dm A0 B0 p0 (f + 1) 0 m fl cu vw lk ex de wi := by
  obtain ⟨h1, h2, h3, h4, h5⟩ := h
  refine ⟨h1, h2, fun hm => ⟨(h3 hm).1, fun f' t' hP hf' ht' => (h3 hm).2 f' t' (by unfold ab_P at *; omega) hf' ht'⟩, h4, ?_⟩
  rcases h5 with h5 | h5 | h5
  · exact Or.inl h5
  · exact Or.inr (Or.inl h5)
  · exact Or.inr (Or.inr (ab_Sf_r h1 h5))
theorem ab_xsweep_14 {post : Int32 → SX → Prop} {J4 : Int32 → Int32 → Int32 → Int32 → Int32 → Int32 → Int32 → Int32 → Int32 → Int32 → (Nat → Int32) → (Nat → Int32) → (Nat → Int32) → (Nat → Int32) → (Nat → Int32) → (Nat → Int32) → (Nat → Int32) → (Nat → Int32) → (Nat → Int32) → Prop} (hf : f < n) (hn : n ≤ 5)
    (KJ : ∀ m fl cu vw lk ex de wi, ab_J n d rc lv tb rf dm A0 B0 p0 (f + 1) 0 m fl cu vw lk ex de wi → J4 m (nI (f + 1)) (nI n) (nI d) (nI rc) aw st rs lv fl tb rf dm cu vw lk ex de wi) :
    ∀ (j t : Nat) (m fl : Int32) (cu vw lk ex de wi : Nat → Int32), t + j = n → ab_J n d rc lv tb rf dm A0 B0 p0 f t m fl cu vw lk ex de wi → wX_sweep_14 post J4 (nI f) (j + 1) m (nI t) (nI n) (nI d) (nI rc) aw st rs lv fl tb rf dm cu vw lk ex de wi := by
  intro j
  induction j with
  | zero =>
    intro t m fl cu vw lk ex de wi ht h
    obtain rfl : t = n := by omega
    exact br_t (Int32.le_refl _) (nm_r (nI_1 f) (KJ m fl cu vw lk ex de wi (ab_Jr h)))
  | succ j ih =>
    intro t m fl cu vw lk ex de wi ht h
    refine br_f (nI_ge (by omega) (by omega)) (ab_pass h.1 hf (by omega) (fun hde hwi => br_t rfl (nm_r (nI_1 t) (ih (t + 1) m fl cu vw lk ex de wi (by omega) (ab_J0 h hf (by omega) hde hwi)))) (fun fl' cu' vw' lk' ex' de' wi' hne hfl hI hPO => br_f (by decide) (nm_r (nI_1 t) (ih (t + 1) 1 fl' cu' vw' lk' ex' de' wi' (by omega) (ab_J1 h hf (by omega) hne hfl hI hPO)))))
theorem ab_xsweep_4 {post : Int32 → SX → Prop} (hn : n ≤ 5) (K : ∀ m fl cu vw lk ex de wi, ab_J n d rc lv tb rf dm A0 B0 p0 n 0 m fl cu vw lk ex de wi → post m (nI n, nI d, nI rc, aw, st, rs, lv, fl, tb, rf, dm, cu, vw, lk, ex, de, wi)) :
    ∀ (j f : Nat) (m fl : Int32) (cu vw lk ex de wi : Nat → Int32), f + j = n → ab_J n d rc lv tb rf dm A0 B0 p0 f 0 m fl cu vw lk ex de wi → wX_sweep_4 post (j + 1) m (nI f) (nI n) (nI d) (nI rc) aw st rs lv fl tb rf dm cu vw lk ex de wi := by
  intro j
  induction j with
  | zero =>
    intro f m fl cu vw lk ex de wi hf h
    obtain rfl : f = n := by omega
    refine br_t (Int32.le_refl _) ⟨?_, K m fl cu vw lk ex de wi h⟩
    rcases h.2.1 with rfl | rfl <;> rfl
  | succ j ih =>
    intro f m fl cu vw lk ex de wi hf h
    exact br_f (nI_ge (by omega) (by omega)) ⟨n + 1, ab_xsweep_14 (by omega) hn (fun m fl cu vw lk ex de wi hJ => ih (f + 1) m fl cu vw lk ex de wi (by omega) hJ) n 0 m fl cu vw lk ex de wi (by omega) h⟩
/-- all channels are empty -/
def ab_Qn (n : Nat) (de wi : Nat → Int32) : Prop := ∀ f t, f < n → t < n → de (5 * f + t) = 0 ∧ wi (5 * f + t) < 0
theorem ab_AB (hI : ab_Inv n d rc lv tb rf dm fl cu vw lk ex de wi (fun _ => True)) (hA : ab_A n lv cu de wi) (hB : ab_B n wi) : ab_Qn n de wi := by
  obtain ⟨⟨hK, hTC, hTV, hTL, hTE, hTD, hW1, hW2, hW3, hSE, hSW, hSF, hG2, hG3, hZ1, hZ2⟩, hG1, hG5⟩ := hI
  intro f t hf ht
  have hn := hK.2.1
  refine ⟨hA.2.2 f t hf ht, ?_⟩
  rcases Nat.lt_trichotomy f t with h | h | h
  · exact (ab_Ok_neg hK.2.2.2.1 (hW1 f t h (by omega)).1).mpr (hB f t h ht)
  · subst h; rw [hW3 f (by omega)]; exact ab_m1_neg
  · exact hA.2.1 f t h hf
theorem ab_xsweep {post : Int32 → SX → Prop} (hI : ab_Inv n d rc lv tb rf dm fl cu vw lk ex de wi (fun _ => True)) (hfl : fl = 0)
    (K : ∀ m fl' cu' vw' lk' ex' de' wi', ab_Inv n d rc lv tb rf dm fl' cu' vw' lk' ex' de' wi' (fun _ => True) → (m = 0 ∨ m = 1) → (m = 0 → ab_Qn n de' wi') → (ab_A n lv cu de wi → ab_B n wi → m = 0) → (fl' ≠ 0 ∨ ab_Ph d cu' vw' de' wi' < ab_Ph d cu vw de wi ∨ (ab_Ph d cu' vw' de' wi' ≤ ab_Ph d cu vw de wi ∧ ab_A n lv cu' de' wi' ∧ (ab_A n lv cu de wi → ab_B n wi'))) → post m (nI n, nI d, nI rc, aw, st, rs, lv, fl', tb, rf, dm, cu', vw', lk', ex', de', wi')) : wpX_sweep post (nI n, nI d, nI rc, aw, st, rs, lv, fl, tb, rf, dm, cu, vw, lk, ex, de, wi) := by
  have hn := hI.1.1.2.1
  have hlv := hI.1.1.2.2.2.2.2.1
  refine ⟨n + 1, ab_xsweep_4 (A0 := ab_A n lv cu de wi) (B0 := ab_B n wi) (p0 := ab_Ph d cu vw de wi) hn (fun m fl' cu' vw' lk' ex' de' wi' hJ => ?_) n 0 0 fl cu vw lk ex de wi (by omega) ?_⟩
  · obtain ⟨h1, h2, h3, h4, h5⟩ := hJ
    refine K m fl' cu' vw' lk' ex' de' wi' h1 h2 (fun hm f t hf ht => (h3 hm).2 f t (Or.inl hf) hf ht) (fun hA hB => (h4 hA hB).1) ?_
    rcases h5 with h5 | h5 | h5
    · exact Or.inl h5
    · exact Or.inr (Or.inl h5)
    · have g := ab_Sf_e hlv h5
      exact Or.inr (Or.inr ⟨h5.2.1, g.1, g.2⟩)
  · refine ⟨hI, Or.inl rfl, fun _ => ⟨hfl, fun f' t' hP => ?_⟩, fun hA hB => ⟨rfl, ab_AB hI hA hB⟩, Or.inr (Or.inr (ab_Sf_i hI hfl (Nat.le_refl _) id))⟩
    exact absurd hP (by unfold ab_P; omega)
/-- the stage of a sweep: 0 quiet, 1 nothing upwards and nobody waits, 2 anything -/
def ab_St (n : Nat) (lv : Int32) (cu de wi : Nat → Int32) (s : Nat) : Prop := s ≤ 2 ∧ (s ≤ 1 → ab_A n lv cu de wi) ∧ (s = 0 → ab_B n wi)
theorem ab_xrun_4 {post : SX → Prop} (K : ∀ fl' cu' vw' lk' ex' de' wi', ab_Inv n d rc lv tb rf dm fl' cu' vw' lk' ex' de' wi' (fun _ => True) → (fl' ≠ 0 ∨ ab_Qn n de' wi') → post (nI n, nI d, nI rc, aw, st, rs, lv, fl', tb, rf, dm, cu', vw', lk', ex', de', wi')) :
    ∀ (M i s : Nat) (fl : Int32) (cu vw lk ex de wi : Nat → Int32), ab_Inv n d rc lv tb rf dm fl cu vw lk ex de wi (fun _ => True) → ab_St n lv cu de wi s → 3 * ab_Ph d cu vw de wi + s ≤ M → i + M + 3 ≤ 1000000 → wX_run_4 post (M + 2) 1 (nI i) (nI n) (nI d) (nI rc) aw st rs lv fl tb rf dm cu vw lk ex de wi := by
  intro M
  induction M with
  | zero =>
    intro i s fl cu vw lk ex de wi hI hs hM hi
    refine br_f (nI_ge (b := 1000000) (by omega) (by decide)) (br_f (by decide) (br_c (fun hfl => ?_) (fun hfl => K _ _ _ _ _ _ _ hI (Or.inl hfl))))
    obtain rfl : s = 0 := by omega
    refine ab_xsweep hI hfl (fun m fl' cu' vw' lk' ex' de' wi' hI' hm h0 hAB _ => nm_r (nI_1 i) ?_)
    have hm0 := hAB (hs.2.1 (by omega)) (hs.2.2 rfl)
    exact br_f (nI_ge (b := 1000000) (by omega) (by decide)) (br_t hm0 (K _ _ _ _ _ _ _ hI' (Or.inr (h0 hm0))))
  | succ M ih =>
    intro i s fl cu vw lk ex de wi hI hs hM hi
    refine br_f (nI_ge (b := 1000000) (by omega) (by decide)) (br_f (by decide) (br_c (fun hfl => ?_) (fun hfl => K _ _ _ _ _ _ _ hI (Or.inl hfl))))
    refine ab_xsweep hI hfl (fun m fl' cu' vw' lk' ex' de' wi' hI' hm h0 hAB hor => nm_r (nI_1 i) ?_)
    rcases hm with hm | hm
    · exact br_f (nI_ge (b := 1000000) (by omega) (by decide)) (br_t hm (K _ _ _ _ _ _ _ hI' (Or.inr (h0 hm))))
    · have hm1 : ¬ m = 0 := by rw [hm]; decide
      rw [hm]
      rcases hor with h | h | ⟨h, hA, hB⟩
      · exact br_f (nI_ge (b := 1000000) (by omega) (by decide)) (br_f (by decide) (br_f h (K _ _ _ _ _ _ _ hI' (Or.inl h))))
      · exact ih (i + 1) 2 fl' cu' vw' lk' ex' de' wi' hI' ⟨by omega, fun z => by omega, fun z => by omega⟩ (by omega) (by omega)
      · have hs2 : s = 0 ∨ s = 1 ∨ s = 2 := by have := hs.1; omega
        rcases hs2 with rfl | rfl | rfl
        · exact absurd (hAB (hs.2.1 (by omega)) (hs.2.2 rfl)) hm1
        · exact ih (i + 1) 0 fl' cu' vw' lk' ex' de' wi' hI' ⟨by omega, fun _ => hA, fun _ => hB (hs.2.1 (by omega))⟩ (by omega) (by omega)
        · exact ih (i + 1) 1 fl' cu' vw' lk' ex' de' wi' hI' ⟨by omega, fun _ => hA, fun z => by omega⟩ (by omega) (by omega)
theorem ab_xrun {post : SX → Prop} (hI : ab_Inv n d rc lv tb rf dm fl cu vw lk ex de wi (fun _ => True)) (K : ∀ fl' cu' vw' lk' ex' de' wi', ab_Inv n d rc lv tb rf dm fl' cu' vw' lk' ex' de' wi' (fun _ => True) → (fl' ≠ 0 ∨ ab_Qn n de' wi') → post (nI n, nI d, nI rc, aw, st, rs, lv, fl', tb, rf, dm, cu', vw', lk', ex', de', wi')) : wpX_run post (nI n, nI d, nI rc, aw, st, rs, lv, fl, tb, rf, dm, cu, vw, lk, ex, de, wi) := by
  have hb := ab_Ph_bd hI.1.1.2.2.2.1 cu vw de wi
  exact ⟨30000 + 2, ab_xrun_4 K 30000 0 2 fl cu vw lk ex de wi hI ⟨by omega, fun z => by omega, fun z => by omega⟩ (by omega) (by omega)⟩
end
end
section
/-! a quiet network that has not failed holds the least solution -/
section
variable {n d rc : Nat} {aw st rs lv fl fl' m : Int32} {tb rf dm cu vw lk ex de wi cu' vw' lk' ex' de' wi' : Nat → Int32}
/-- the least solution -/
def ab_Lst (d rc : Nat) (lv : Int32) (tb rf dm : Nat → Int32) (σ : Nat → Nat) : Prop := ab_Sol d rc lv tb rf dm σ ∧ ∀ σ', ab_Sol d rc lv tb rf dm σ' → ∀ b, b < 5 → bt lv b = true → (∀ a, a < b → bt lv a = true → σ' a = σ a) → σ b ≤ σ' b
theorem ab_final (hI : ab_Inv n d rc lv tb rf dm fl cu vw lk ex de wi (fun _ => True)) (hfl : fl = 0) (hq : ab_Qn n de wi) : (∀ a, a < 5 → bt lv a = true → ab_dc (cu a) ≠ 0) ∧ ab_Lst d rc lv tb rf dm (fun a => ab_dc (cu a) - 1) := by
  obtain ⟨⟨hK, hTC, hTV, hTL, hTE, hTD, hW1, hW2, hW3, hSE, hSW, hSF, hG2, hG3, hZ1, hZ2⟩, hG1, hG5⟩ := hI
  have hn := hK.2.1
  have hd := hK.2.2.2.1
  have hlv := hK.2.2.2.2.2.1
  have hrf := hK.2.2.2.2.2.2
  have hdn : ∀ h b, h < b → b < n → ab_dc (wi (5 * h + b)) = 0 := fun h b hh hb => (ab_Ok_neg hd (hW1 h b hh (by omega)).1).mp (hq h b (by omega) hb).2
  have sync : ∀ h b, h < b → b < n → bt (lk h) b = true → ab_dc (cu h) ≠ 0 → ab_fd (vw b) h = ab_dc (cu h) := by
    intro h b hh hb hl hz
    have := hdn h b hh hb
    rcases hG3 h b hh (by omega) hl hz with g | g
    · omega
    · exact g.2
  have known : ∀ h b, h < b → b < n → ab_fd (vw b) h ≠ 0 → bt (lk h) b = true := by
    intro h b hh hb hz
    rcases hG2 h b hh (by omega) hz with g | g
    · exact g
    · exact absurd (hq b h hb (by omega)).1 g
  have hno : ∀ h, ∀ a, a < h → bt lv a = true → ab_dc (cu a) ≠ 0 := by
    intro h
    induction h with
    | zero => intro a ha; omega
    | succ h ih =>
      intro a ha hl hz
      by_cases e : a = h
      · subst e
        have han := hlv a hl
        obtain ⟨t, g1, g2, g3⟩ := hG5 hfl a (by omega) hl trivial hz
        have hT := (hTV a (by omega)).2 t g2
        rcases g3 with g3 | g3 | g3 | g3
        · exact g3 (hq a t han (by omega)).1
        · exact g3.1 (hq a t han (by omega)).2
        · exact g3 (hdn t a g1 han)
        · exact g3 (sync t a g1 han (known t a g1 han g2) (ih t g1 hT.2.2.1)).symm
      · exact ih a (by omega) hl hz
  have hall : ∀ a, a < 5 → bt lv a = true → ab_dc (cu a) ≠ 0 := fun a ha hl => hno 5 a ha hl
  have vcur : ∀ h b, b < 5 → ab_fd (vw b) h ≠ 0 → ab_fd (vw b) h = ab_dc (cu h) := by
    intro h b hb hz
    have hT := (hTV b hb).2 h hz
    have hbn := hlv b hT.2.2.2
    exact sync h b hT.2.1 hbn (known h b hT.2.1 hbn hz) (hall h (by omega) hT.2.2.1)
  refine ⟨hall, ⟨fun a ha hl => ?_, fun a b hab hb hla hlb hc => ?_, fun r hr hac hag => ?_⟩, fun σ' hs b hb hl hpre => ?_⟩
  · have hz := hall a ha hl
    refine ⟨by have := (hTC a ha).1.2; show ab_dc (cu a) - 1 < d; omega, ?_⟩
    have h1 := ((hG1 a ha hl trivial).2 hz).1 0
    cases hb : bt (dm a) (ab_dc (cu a) - 1)
    · exact absurd (Or.inl ⟨hb, rfl⟩) h1
    · rfl
  · have hza := hall a (by omega) hla
    have hzb := hall b hb hlb
    have htb : tb (5 * a + b) ≠ 0 := by
      intro e
      unfold ab_cl at hc
      rw [e, b_0] at hc; cases hc
    have hs := sync a b hab (hlv b hlb) (hZ1 a b hab hb hla hlb htb) hza
    refine ((hG1 b hb hlb trivial).2 hzb).1 _ (Or.inr (Or.inr (Or.inl ⟨a, hab, by omega, ?_, rfl⟩)))
    rw [hs]; exact hc
  · have hne : ∃ l, ab_Ls (rf r) l ∨ ∀ a, a < 5 → ab_fd (rf r) a = 0 := by
      have : ∀ m, m ≤ 5 → (∃ l, l < m ∧ ab_fd (rf r) l ≠ 0 ∧ ∀ a, l < a → a < m → ab_fd (rf r) a = 0) ∨ (∀ a, a < m → ab_fd (rf r) a = 0) := by
        intro m
        induction m with
        | zero => intro _; exact Or.inr (fun a ha => by omega)
        | succ m ih =>
          intro hm
          by_cases e : ab_fd (rf r) m = 0
          · rcases ih (by omega) with ⟨l, h1, h2, h3⟩ | h
            · refine Or.inl ⟨l, by omega, h2, fun a h4 h5 => ?_⟩
              by_cases e2 : a = m
              · rw [e2]; exact e
              · exact h3 a h4 (by omega)
            · refine Or.inr (fun a h5 => ?_)
              by_cases e2 : a = m
              · rw [e2]; exact e
              · exact h a (by omega)
          · exact Or.inl ⟨m, by omega, e, fun a h4 h5 => by omega⟩
      rcases this 5 (by omega) with ⟨l, h1, h2, h3⟩ | h
      · exact ⟨l, Or.inl ⟨h1, h2, h3⟩⟩
      · exact ⟨0, Or.inr h⟩
    obtain ⟨l, hl | h0⟩ := hne
    · have hll := hac l hl.1 hl.2.1
      have hzl := hall l hl.1 hll
      have hfl2 := hag l hl.1 hl.2.1
      refine ((hG1 l hl.1 hll trivial).2 hzl).1 _ (Or.inr (Or.inr (Or.inr ⟨r, hr, hac, hl, ?_, rfl, ?_⟩)))
      · exact hfl2
      · intro a ha z
        rw [ab_fd_off' _ hl.1 (by omega)] at z ⊢
        by_cases e : a = l
        · rw [if_pos e] at z; exact absurd rfl z
        · rw [if_neg e] at z ⊢
          have hal : a < l := by
            rcases Nat.lt_or_ge a l with h | h
            · exact h
            · exact absurd (hl.2.2 a (by omega) ha) z
          have hla := hac a ha z
          have h1 := sync a l hal (hlv l hll) (hZ2 r hr hac l hl a hal z) (hall a ha hla)
          have h2 := hag a ha z
          have h3 := hall a ha hla
          rw [h1, h2]
          show ab_dc (cu a) - 1 + 1 = ab_dc (cu a)
          omega
    · obtain ⟨a, ha, hz⟩ := (hrf r hr).2.2
      exact hz (h0 a ha)
  · show ab_dc (cu b) - 1 ≤ σ' b
    rcases Nat.lt_or_ge (σ' b) (ab_dc (cu b) - 1) with h | h
    · exfalso
      have hz := hall b hb hl
      obtain ⟨c, hx⟩ := ((hG1 b hb hl trivial).2 hz).2 (σ' b) h
      have hV4 : ∀ h, ab_fd (vw b) h ≤ 4 := by
        intro h
        by_cases z : ab_fd (vw b) h = 0
        · omega
        · have := ((hTV b hb).2 h z).1; omega
      have hH := ab_Cx_Hd hb hV4 hx
      refine ab_Cx_sound hb (by have := (hs.1 b hb hl).1; omega) hl hTV hd hSE hx hs (fun a ha z => ?_) rfl
      have e := hH a ha z
      have hva : ab_fd (vw b) a ≠ 0 := e ▸ z
      have hT := (hTV b hb).2 a hva
      have h1 := vcur a b hb hva
      have h2 := hpre a hT.2.1 hT.2.2.1
      have h3 := hall a ha hT.2.2.1
      rw [e, h1, h2]
      show ab_dc (cu a) = ab_dc (cu a) - 1 + 1
      omega
    · exact h
end
end
section
/-! X: a fresh network -/
def ab_fill (c : Nat) (x : Int32) (w : Nat → Int32) : Nat → Int32 := fun i => if i < c then x else w i
theorem ab_fill_s {c : Nat} {x : Int32} {w : Nat → Int32} : upd (ab_fill c x w) c x = ab_fill (c + 1) x w := by
  funext i
  unfold upd ab_fill
  by_cases e : i = c
  · rw [if_pos e, if_pos (by omega)]
  · rw [if_neg e]
    by_cases h : i < c
    · rw [if_pos h, if_pos (by omega)]
    · rw [if_neg h, if_neg (by omega)]
theorem ab_fill_0 {x : Int32} {w : Nat → Int32} : ab_fill 0 x w = w := by
  funext i
  exact if_neg (by omega)
theorem ab_fill_at {c : Nat} {x : Int32} {w : Nat → Int32} {i : Nat} (h : i < c) : ab_fill c x w i = x := if_pos h
theorem ab_nb0 : vp_nar .boolean 0 = 0 := rfl
section
variable {n d rc : Nat} {aw st rs lv fl : Int32} {tb rf dm cu vw lk ex de wi : Nat → Int32}
theorem ab_xopen_2 {post : SX → Prop} (K : post (nI n, nI d, nI rc, aw, st, rs, lv, fl, tb, rf, ab_fill 5 (((1 : Int32) <<< (nI d &&& 31)) - 1) dm, cu, vw, lk, ex, de, wi)) : ∀ (j a : Nat), a + j = 5 → wX_openDomains_2 post (nI n) (nI d) (nI rc) aw st rs lv fl (j + 1) (nI a) tb rf (ab_fill a (((1 : Int32) <<< (nI d &&& 31)) - 1) dm) cu vw lk ex de wi := by
  intro j
  induction j with
  | zero =>
    intro a ha
    obtain rfl : a = 5 := by omega
    exact br_t (by decide) K
  | succ j ih =>
    intro a ha
    refine br_f (nI_ge (b := 5) (by omega) (by decide)) ⟨vp_in_nI (by omega) (by decide), ?_⟩
    rw [nI_clamp (show a < 2 ^ 31 by omega)]
    exact nm_r ab_fill_s (nm_r (nI_1 a) (ih (a + 1) (by omega)))
theorem ab_xopen {post : SX → Prop} (K : ∀ dm', (∀ a, a < 5 → dm' a = ((1 : Int32) <<< (nI d &&& 31)) - 1) → post (nI n, nI d, nI rc, aw, st, rs, lv, fl, tb, rf, dm', cu, vw, lk, ex, de, wi)) : wpX_openDomains post (nI n, nI d, nI rc, aw, st, rs, lv, fl, tb, rf, dm, cu, vw, lk, ex, de, wi) := by
  refine ⟨6, ?_⟩
  have h := ab_xopen_2 (n := n) (d := d) (rc := rc) (aw := aw) (st := st) (rs := rs) (lv := lv) (fl := fl) (tb := tb) (rf := rf) (dm := dm) (cu := cu) (vw := vw) (lk := lk) (ex := ex) (de := de) (wi := wi) (post := post) (K _ (fun a ha => ab_fill_at ha)) 5 0 rfl
  rw [ab_fill_0] at h
  exact h
theorem ab_xclear_51 {post : SX → Prop} (K : post (nI n, nI d, nI rc, aw, st, rs, lv, fl, tb, rf, dm, ab_fill 5 (-1) cu, ab_fill 5 0 vw, ab_fill 5 0 lk, ex, de, wi)) : ∀ (j a : Nat), a + j = 5 → wX_clearNetwork_51 post (nI n) (nI d) (nI rc) aw st rs lv fl (j + 1) (nI a) tb rf dm (ab_fill a (-1) cu) (ab_fill a 0 vw) (ab_fill a 0 lk) ex de wi := by
  intro j
  induction j with
  | zero =>
    intro a ha
    obtain rfl : a = 5 := by omega
    exact br_t (by decide) K
  | succ j ih =>
    intro a ha
    have hin : vp_in (nI a) 5 := vp_in_nI (by omega) (by decide)
    refine br_f (nI_ge (b := 5) (by omega) (by decide)) ⟨hin, ?_⟩
    rw [nI_clamp (show a < 2 ^ 31 by omega)]
    exact nm_r ab_fill_s ⟨hin, nm_r ab_fill_s ⟨hin, nm_r ab_fill_s (nm_r (nI_1 a) (ih (a + 1) (by omega)))⟩⟩
theorem ab_xclear_30 {post : SX → Prop} (K : post (nI n, nI d, nI rc, aw, st, rs, lv, fl, tb, rf, dm, ab_fill 5 (-1) cu, ab_fill 5 0 vw, ab_fill 5 0 lk, ab_fill 20 (-1) ex, de, wi)) : ∀ (j a : Nat), a + j = 20 → wX_clearNetwork_30 post (nI n) (nI d) (nI rc) aw st rs lv fl (j + 1) (nI a) tb rf dm cu vw lk (ab_fill a (-1) ex) de wi := by
  intro j
  induction j with
  | zero =>
    intro a ha
    obtain rfl : a = 20 := by omega
    refine br_t (by decide) ⟨6, ?_⟩
    have h := ab_xclear_51 (n := n) (d := d) (rc := rc) (aw := aw) (st := st) (rs := rs) (lv := lv) (fl := fl) (tb := tb) (rf := rf) (dm := dm) (cu := cu) (vw := vw) (lk := lk) (ex := ab_fill 20 (-1) ex) (de := de) (wi := wi) (post := post) K 5 0 rfl
    rw [ab_fill_0, ab_fill_0, ab_fill_0] at h
    exact h
  | succ j ih =>
    intro a ha
    refine br_f (nI_ge (b := 20) (by omega) (by decide)) ⟨vp_in_nI (by omega) (by decide), ?_⟩
    rw [nI_clamp (show a < 2 ^ 31 by omega)]
    exact nm_r ab_fill_s (nm_r (nI_1 a) (ih (a + 1) (by omega)))
theorem ab_xclear_2 {post : SX → Prop} (K : post (nI n, nI d, nI rc, aw, st, rs, lv, fl, tb, rf, dm, ab_fill 5 (-1) cu, ab_fill 5 0 vw, ab_fill 5 0 lk, ab_fill 20 (-1) ex, ab_fill 25 0 de, ab_fill 25 (-1) wi)) : ∀ (j a : Nat), a + j = 25 → wX_clearNetwork_2 post (nI n) (nI d) (nI rc) aw st rs lv fl (j + 1) (nI a) tb rf dm cu vw lk ex (ab_fill a 0 de) (ab_fill a (-1) wi) := by
  intro j
  induction j with
  | zero =>
    intro a ha
    obtain rfl : a = 25 := by omega
    refine br_t (by decide) ⟨21, ?_⟩
    have h := ab_xclear_30 (n := n) (d := d) (rc := rc) (aw := aw) (st := st) (rs := rs) (lv := lv) (fl := fl) (tb := tb) (rf := rf) (dm := dm) (cu := cu) (vw := vw) (lk := lk) (ex := ex) (de := ab_fill 25 0 de) (wi := ab_fill 25 (-1) wi) (post := post) K 20 0 rfl
    rw [ab_fill_0] at h
    exact h
  | succ j ih =>
    intro a ha
    have hin : vp_in (nI a) 25 := vp_in_nI (by omega) (by decide)
    refine br_f (nI_ge (b := 25) (by omega) (by decide)) ⟨hin, ?_⟩
    rw [nI_clamp (show a < 2 ^ 31 by omega), ab_nb0]
    exact nm_r ab_fill_s ⟨hin, nm_r ab_fill_s (nm_r (nI_1 a) (ih (a + 1) (by omega)))⟩
theorem ab_xclear {post : SX → Prop} (K : post (nI n, nI d, nI rc, aw, st, rs, lv, fl, tb, rf, dm, ab_fill 5 (-1) cu, ab_fill 5 0 vw, ab_fill 5 0 lk, ab_fill 20 (-1) ex, ab_fill 25 0 de, ab_fill 25 (-1) wi)) : wpX_clearNetwork post (nI n, nI d, nI rc, aw, st, rs, lv, fl, tb, rf, dm, cu, vw, lk, ex, de, wi) := by
  refine ⟨26, ?_⟩
  have h := ab_xclear_2 (n := n) (d := d) (rc := rc) (aw := aw) (st := st) (rs := rs) (lv := lv) (fl := fl) (tb := tb) (rf := rf) (dm := dm) (cu := cu) (vw := vw) (lk := lk) (ex := ex) (de := de) (wi := wi) (post := post) K 25 0 rfl
  rw [ab_fill_0, ab_fill_0] at h
  exact h
/-! links -/
theorem ab_TL_u {a b : Nat} (hb : b < 5) (h : ab_TL lv lk) (hab : a < b) (ha : bt lv a = true) (hbl : bt lv b = true) : ab_TL lv (upd lk a (lk a ||| ((1 : Int32) <<< (nI b &&& 31)))) := by
  intro a' ha' i z
  rw [ab_dem_lk hb] at z
  by_cases e : a' = a ∧ i = b
  · rw [e.1, e.2]; exact ⟨hab, ha, hbl⟩
  · rw [decide_eq_false e, Bool.or_false] at z; exact h a' ha' i z
theorem ab_lk_mono {a b : Nat} (hb : b < 5) {a' i : Nat} (h : bt (lk a') i = true) : bt (upd lk a (lk a ||| ((1 : Int32) <<< (nI b &&& 31))) a') i = true := by
  rw [ab_dem_lk hb, h, Bool.true_or]
theorem ab_lk_new {a b : Nat} (hb : b < 5) : bt (upd lk a (lk a ||| ((1 : Int32) <<< (nI b &&& 31))) a) b = true := by
  rw [ab_dem_lk hb, decide_eq_true ⟨rfl, rfl⟩, Bool.or_true]
/-- the links of the pairs ahead of a, b are laid -/
def ab_Zt (n : Nat) (lv : Int32) (tb lk : Nat → Int32) (a b : Nat) : Prop := ∀ a' b', (a' < a ∨ (a' = a ∧ b' < b)) → a' < b' → b' < n → bt lv a' = true → bt lv b' = true → tb (5 * a' + b') ≠ 0 → bt (lk a') b' = true
theorem ab_xlinkT_14 {post : SX → Prop} {J : Int32 → (Nat → Int32) → (Nat → Int32) → (Nat → Int32) → (Nat → Int32) → (Nat → Int32) → (Nat → Int32) → (Nat → Int32) → (Nat → Int32) → (Nat → Int32) → Prop} {a : Nat} (hn : n ≤ 5) (ha : a < n)
    (K : ∀ lk, ab_TL lv lk → ab_Zt n lv tb lk (a + 1) 0 → J (nI (a + 1)) tb rf dm cu vw lk ex de wi) : ∀ (j b : Nat) (lk : Nat → Int32), b + j = n → a < b → ab_TL lv lk → ab_Zt n lv tb lk a b → wX_linkByTables_14 post J (nI a) (nI n) (nI d) (nI rc) aw st rs lv fl (j + 1) (nI b) tb rf dm cu vw lk ex de wi := by
  intro j
  induction j with
  | zero =>
    intro b lk hb hab hT hZ
    obtain rfl : b = n := by omega
    refine br_t (Int32.le_refl _) (nm_r (nI_1 a) (K lk hT ?_))
    intro a' b' hor h1 h2
    exact hZ a' b' (by omega) h1 h2
  | succ j ih =>
    intro b lk hb hab hT hZ
    have next : (bt lv a = true → bt lv b = true → tb (5 * a + b) ≠ 0 → bt (lk a) b = true) → wX_linkByTables_14 post J (nI a) (nI n) (nI d) (nI rc) aw st rs lv fl (j + 1) (nI (b + 1)) tb rf dm cu vw lk ex de wi := by
      intro g
      refine ih (b + 1) lk (by omega) (by omega) hT ?_
      intro a' b' hor h1 h2
      by_cases e : a' = a ∧ b' = b
      · rw [e.1, e.2]; exact g
      · exact hZ a' b' (by omega) h1 h2
    refine br_f (nI_ge (by omega) (by omega)) (ab_xhas (by omega) (fun e => br_t rfl (nm_r (nI_1 b) (next (fun z => by rw [e] at z; cases z)))) (fun e => br_f (by decide) (ab_xhas (by omega) (fun e2 => br_t rfl (nm_r (nI_1 b) (next (fun _ z => by rw [e2] at z; cases z)))) (fun e2 => br_f (by decide) ?_))))
    rw [ab_i5, nI_clamp (show 5 * a + b < 2 ^ 31 by omega), nI_clamp (show a < 2 ^ 31 by omega)]
    have hin : vp_in (nI a) 5 := vp_in_nI (by omega) (by decide)
    refine ⟨vp_in_nI (by omega) (by decide), br_c (fun z => nm_r (nI_1 b) (next (fun _ _ z2 => absurd z z2))) (fun z => ⟨hin, hin, nm_e (nm_r (nI_1 b) (ih (b + 1) _ (by omega) (by omega) (ab_TL_u (by omega) hT hab e e2) ?_))⟩)⟩
    intro a' b' hor h1 h2 h3 h4 h5
    by_cases e : a' = a ∧ b' = b
    · rw [e.1, e.2]; exact ab_lk_new (by omega)
    · exact ab_lk_mono (by omega) (hZ a' b' (by omega) h1 h2 h3 h4 h5)
theorem ab_xlinkT_2 {post : SX → Prop} (hn : n ≤ 5) (K : ∀ lk, ab_TL lv lk → ab_Zt n lv tb lk n 0 → post (nI n, nI d, nI rc, aw, st, rs, lv, fl, tb, rf, dm, cu, vw, lk, ex, de, wi)) : ∀ (j a : Nat) (lk : Nat → Int32), a + j = n → ab_TL lv lk → ab_Zt n lv tb lk a 0 → wX_linkByTables_2 post (nI n) (nI d) (nI rc) aw st rs lv fl (j + 1) (nI a) tb rf dm cu vw lk ex de wi := by
  intro j
  induction j with
  | zero =>
    intro a lk ha hT hZ
    obtain rfl : a = n := by omega
    exact br_t (Int32.le_refl _) (K lk hT hZ)
  | succ j ih =>
    intro a lk ha hT hZ
    refine br_f (nI_ge (by omega) (by omega)) (nm_r (nI_1 a) ⟨n - (a + 1) + 1, ab_xlinkT_14 hn (by omega) (fun lk' hT' hZ' => ih (a + 1) lk' (by omega) hT' hZ') (n - (a + 1)) (a + 1) lk (by omega) (by omega) hT ?_⟩)
    intro a' b' hor h1 h2
    exact hZ a' b' (by omega) h1 h2
theorem ab_xlinkT {post : SX → Prop} (hn : n ≤ 5) (hT : ab_TL lv lk) (K : ∀ lk, ab_TL lv lk → ab_Zt n lv tb lk n 0 → post (nI n, nI d, nI rc, aw, st, rs, lv, fl, tb, rf, dm, cu, vw, lk, ex, de, wi)) : wpX_linkByTables post (nI n, nI d, nI rc, aw, st, rs, lv, fl, tb, rf, dm, cu, vw, lk, ex, de, wi) :=
  ⟨n + 1, ab_xlinkT_2 hn K n 0 lk (by omega) hT (fun a' b' hor => by omega)⟩
/-- the links of the refusals ahead of r are laid -/
def ab_Zr (lv : Int32) (rf lk : Nat → Int32) (r : Nat) : Prop := ∀ r', r' < r → ab_Ac lv (rf r') → ∀ l, ab_Ls (rf r') l → ∀ a, a < l → ab_fd (rf r') a ≠ 0 → bt (lk a) l = true
theorem ab_Ls_u {p : Int32} {l l' : Nat} (h : ab_Ls p l) (h' : ab_Ls p l') : l = l' := by
  rcases Nat.lt_trichotomy l l' with g | g | g
  · exact absurd (h.2.2 l' g h'.1) h'.2.1
  · exact g
  · exact absurd (h'.2.2 l g h.1) h.2.1
theorem ab_xlinkR_53 {post : SX → Prop} {J : Int32 → (Nat → Int32) → (Nat → Int32) → (Nat → Int32) → (Nat → Int32) → (Nat → Int32) → (Nat → Int32) → (Nat → Int32) → (Nat → Int32) → (Nat → Int32) → Prop} {r l : Nat} {m ac : Int32} (hm : ∀ i, bt m i = decide (i < 5 ∧ ab_fd (rf r) i ≠ 0)) (hl : ab_Ls (rf r) l) (hac : ¬ ac = 0 ↔ ab_Ac lv (rf r))
    (K : ∀ lk, ab_TL lv lk → ab_Zt n lv tb lk n 0 → ab_Zr lv rf lk (r + 1) → J (nI (r + 1)) tb rf dm cu vw lk ex de wi) : ∀ (j a : Nat) (lk : Nat → Int32), a + j = l → ab_TL lv lk → ab_Zt n lv tb lk n 0 → ab_Zr lv rf lk r → (ab_Ac lv (rf r) → ∀ a', a' < a → ab_fd (rf r) a' ≠ 0 → bt (lk a') l = true) → wX_linkByRefusals_53 post J (nI r) m (nI l) ac (nI n) (nI d) (nI rc) aw st rs lv fl (j + 1) (nI a) tb rf dm cu vw lk ex de wi := by
  have hl5 := hl.1
  intro j
  induction j with
  | zero =>
    intro a lk ha hT hZ hR h
    obtain rfl : a = l := by omega
    refine br_t (Int32.le_refl _) (nm_r (nI_1 r) (K lk hT hZ ?_))
    intro r' hr' hac' l' hl' a' ha' hz
    by_cases e : r' = r
    · subst e
      obtain rfl := ab_Ls_u hl' hl
      exact h hac' a' ha' hz
    · exact hR r' (by omega) hac' l' hl' a' ha' hz
  | succ j ih =>
    intro a lk ha hT hZ hR h
    have next : (ab_Ac lv (rf r) → ab_fd (rf r) a ≠ 0 → bt (lk a) l = true) → wX_linkByRefusals_53 post J (nI r) m (nI l) ac (nI n) (nI d) (nI rc) aw st rs lv fl (j + 1) (nI (a + 1)) tb rf dm cu vw lk ex de wi := by
      intro g
      refine ih (a + 1) lk (by omega) hT hZ hR ?_
      intro hA a' ha' hz
      by_cases e : a' = a
      · rw [e]; rw [e] at hz; exact g hA hz
      · exact h hA a' (by omega) hz
    refine br_f (nI_ge (by omega) (by omega)) (br_c (fun e => nm_r (nI_1 a) (next (fun z => absurd e (hac.mpr z)))) (fun e => ab_xhas (by omega) (fun e2 => br_t rfl (nm_r (nI_1 a) (next (fun _ z => ?_)))) (fun e2 => br_f (by decide) ?_)))
    · rw [hm, decide_eq_true ⟨by omega, z⟩] at e2; cases e2
    · rw [nI_clamp (show a < 2 ^ 31 by omega)]
      have hin : vp_in (nI a) 5 := vp_in_nI (by omega) (by decide)
      have hA := hac.mp e
      rw [hm] at e2
      have hz := (of_decide_eq_true e2).2
      refine ⟨hin, hin, nm_e (nm_r (nI_1 a) (ih (a + 1) _ (by omega) (ab_TL_u hl5 hT (by omega) (hA a (by omega) hz) (hA l hl5 hl.2.1)) (fun a' b' h0 h1 h2 h3 h4 h5 => ab_lk_mono hl5 (hZ a' b' h0 h1 h2 h3 h4 h5)) (fun r' h1 h2 l' h3 a' h4 h5 => ab_lk_mono hl5 (hR r' h1 h2 l' h3 a' h4 h5)) ?_))⟩
      intro _ a' ha' hz'
      by_cases e3 : a' = a
      · rw [e3]; exact ab_lk_new hl5
      · exact ab_lk_mono hl5 (h hA a' (by omega) hz')
theorem ab_xlinkR_2 {post : SX → Prop} (hrc : rc ≤ 8) (hrf : ∀ r, r < rc → ∃ a, a < 5 ∧ ab_fd (rf r) a ≠ 0) (K : ∀ lk, ab_TL lv lk → ab_Zt n lv tb lk n 0 → ab_Zr lv rf lk rc → post (nI n, nI d, nI rc, aw, st, rs, lv, fl, tb, rf, dm, cu, vw, lk, ex, de, wi)) : ∀ (j r : Nat) (lk : Nat → Int32), r + j = rc → ab_TL lv lk → ab_Zt n lv tb lk n 0 → ab_Zr lv rf lk r → wX_linkByRefusals_2 post (nI n) (nI d) (nI rc) aw st rs lv fl (j + 1) (nI r) tb rf dm cu vw lk ex de wi := by
  intro j
  induction j with
  | zero =>
    intro r lk hr hT hZ hR
    obtain rfl : r = rc := by omega
    exact br_t (Int32.le_refl _) (K lk hT hZ hR)
  | succ j ih =>
    intro r lk hr hT hZ hR
    have hin : vp_in (nI r) 8 := vp_in_nI (by omega) (by decide)
    refine br_f (nI_ge (by omega) (by omega)) ⟨hin, ?_⟩
    rw [nI_clamp (show r < 2 ^ 31 by omega)]
    refine ab_xmembers (fun m hm => ⟨hin, ab_xlast (fun h0 => ?_) (fun l hl => br_c (fun e => ?_) (fun e => ?_))⟩)
    · obtain ⟨a, ha, hz⟩ := hrf r (by omega)
      exact absurd (h0 a ha) hz
    · exact ⟨l + 1, ab_xlinkR_53 hm hl ⟨fun _ => (ab_act hm).mp e, fun _ => by decide⟩ (fun lk' h1 h2 h3 => ih (r + 1) lk' (by omega) h1 h2 h3) l 0 lk (by omega) hT hZ hR (fun _ a' ha' => by omega)⟩
    · exact ⟨l + 1, ab_xlinkR_53 hm hl ⟨fun z => absurd rfl z, fun z => absurd ((ab_act hm).mpr z) e⟩ (fun lk' h1 h2 h3 => ih (r + 1) lk' (by omega) h1 h2 h3) l 0 lk (by omega) hT hZ hR (fun _ a' ha' => by omega)⟩
theorem ab_xlinkR {post : SX → Prop} (hrc : rc ≤ 8) (hrf : ∀ r, r < rc → ∃ a, a < 5 ∧ ab_fd (rf r) a ≠ 0) (hT : ab_TL lv lk) (hZ : ab_Zt n lv tb lk n 0) (K : ∀ lk, ab_TL lv lk → ab_Zt n lv tb lk n 0 → ab_Zr lv rf lk rc → post (nI n, nI d, nI rc, aw, st, rs, lv, fl, tb, rf, dm, cu, vw, lk, ex, de, wi)) : wpX_linkByRefusals post (nI n, nI d, nI rc, aw, st, rs, lv, fl, tb, rf, dm, cu, vw, lk, ex, de, wi) :=
  ⟨rc + 1, ab_xlinkR_2 hrc hrf K rc 0 lk (by omega) hT hZ (fun r' hr' => by omega)⟩
/-! the first thoughts -/
theorem ab_Inv_w {E E' : Nat → Prop} (hE : ∀ h, h < 5 → bt lv h = true → E' h → E h) (h : ab_Inv n d rc lv tb rf dm fl cu vw lk ex de wi E) : ab_Inv n d rc lv tb rf dm fl cu vw lk ex de wi E' :=
  ⟨h.1, fun b hb hl he => h.2.1 b hb hl (hE b hb hl he), fun hf a ha hl he => h.2.2 hf a ha hl (hE a ha hl he)⟩
theorem ab_xstart_24 {post : SX → Prop} (K : ∀ fl cu vw lk ex de wi, ab_Inv n d rc lv tb rf dm fl cu vw lk ex de wi (fun _ => True) → post (nI n, nI d, nI rc, aw, st, rs, lv, fl, tb, rf, dm, cu, vw, lk, ex, de, wi)) : ∀ (j a : Nat) (fl : Int32) (cu ex wi : Nat → Int32), a + j = n → ab_Inv n d rc lv tb rf dm fl cu vw lk ex de wi (fun h => h < a) → wX_start_24 post (j + 1) (nI a) (nI n) (nI d) (nI rc) aw st rs lv fl tb rf dm cu vw lk ex de wi := by
  intro j
  induction j with
  | zero =>
    intro a fl cu ex wi ha hI
    obtain rfl : a = n := by omega
    have hlv := hI.1.1.2.2.2.2.2.1
    exact br_t (Int32.le_refl _) (K _ _ _ _ _ _ _ (ab_Inv_w (fun h _ hl _ => hlv h hl) hI))
  | succ j ih =>
    intro a fl cu ex wi ha hI
    obtain ⟨hK, hTC, hTV, hTL, hTE, hTD, hW1, hW2, hW3, hSE, hSW, hSF, hG2, hG3, hZ1, hZ2⟩ := hI.1
    obtain ⟨_, hn, _, hd, hrc, hlv, hRf⟩ := hK
    refine br_f (nI_ge (by omega) (by omega)) (ab_xhas (by omega) (fun e => br_t rfl (nm_r (nI_1 a) (ih (a + 1) fl cu ex wi (by omega) (ab_Inv_w (fun h _ hl he => ?_) hI)))) (fun e => br_f (by decide) (ab_xthink (by omega) hn hd hrc (fun h => ?_) (fun v hv => ?_) (fun r hr => (hRf r hr).1) (fun fl' cu' ex' wi' hT => nm_r (nI_1 a) (ih (a + 1) fl' cu' ex' wi' (by omega) (ab_Th_inv (E := fun h => h < a) hI.1 (by omega) e (fun h he => ?_) (fun b hb hl he => hI.2.1 b hb hl he.2) (ab_G5_w hI.2.2) hT))))))
    · have : h ≠ a := fun z => by rw [z, e] at hl; cases hl
      omega
    · by_cases z : ab_fd (vw a) h = 0
      · omega
      · have := ((hTV a (by omega)).2 h z).1; omega
    · rcases hTE a (by omega) v hv with h | h
      · exact Or.inl h
      · exact Or.inr h.1
    · by_cases z : h = a
      · exact Or.inl z
      · exact Or.inr ⟨z, by omega⟩
theorem ab_xstart {post : SX → Prop} {p : Int32} (hK : ab_KW n d rc p rf) (K : ∀ fl cu vw lk ex de wi, ab_Inv n d rc p tb rf dm fl cu vw lk ex de wi (fun _ => True) → post (nI n, nI d, nI rc, aw, st, rs, p, fl, tb, rf, dm, cu, vw, lk, ex, de, wi)) : wpX_start post (nI n, nI d, nI rc, aw, st, rs, lv, fl, tb, rf, dm, cu, vw, lk, ex, de, wi) p := by
  have hK' := hK
  obtain ⟨_, hn, _, hd, hrc, hlv, hRf⟩ := hK'
  refine ab_xclear (ab_xlinkT hn ?_ (fun lk1 hT1 hZ1 => ab_xlinkR hrc (fun r hr => (hRf r hr).2.2) hT1 hZ1 (fun lk2 hT2 hZ2 hR2 => ⟨n + 1, ab_xstart_24 K n 0 0 _ _ _ (by omega) ?_⟩)))
  · intro a ha b z
    rw [ab_fill_at ha, b_0] at z; cases z
  · have hcu : ∀ a, a < 5 → ab_fill 5 (-1) cu a = -1 := fun a ha => ab_fill_at ha
    have hvw : ∀ a, a < 5 → ab_fill 5 0 vw a = 0 := fun a ha => ab_fill_at ha
    have hex : ∀ b v, b < 5 → v < 4 → ab_fill 20 (-1) ex (4 * b + v) = -1 := fun b v hb hv => ab_fill_at (by omega)
    have hde : ∀ f t, f < 5 → t < 5 → ab_fill 25 0 de (5 * f + t) = 0 := fun f t hf ht => ab_fill_at (by omega)
    have hwi : ∀ f t, f < 5 → t < 5 → ab_fill 25 (-1) wi (5 * f + t) = -1 := fun f t hf ht => ab_fill_at (by omega)
    refine ⟨⟨hK, ?_, ?_, hT2, ?_, ?_, ?_, ?_, ?_, ?_, ?_, Or.inl rfl, ?_, ?_, ?_, hR2⟩, fun b _ _ he => absurd he (by omega), fun _ h _ _ he => absurd he (by omega)⟩
    · intro a ha; rw [hcu a ha]; exact ⟨ab_Ok_m1, fun _ => ab_dc_m1⟩
    · intro b hb; rw [hvw b hb]; exact ⟨ab_Pk_0, fun h z => absurd (ab_fd_0 h) z⟩
    · intro b hb v hv; exact Or.inl (hex b v hb hv)
    · intro f hf t ht; exact Or.inl (hde f t hf ht)
    · intro f t hft ht; rw [hwi f t (by omega) ht]; exact ⟨ab_Ok_m1, fun z => absurd ab_dc_m1 z⟩
    · intro f t hft hf; exact Or.inl (hwi f t hf (by omega))
    · intro f hf; exact hwi f f hf hf
    · intro b hb v hv z; rw [hex b v hb hv] at z; exact absurd ab_m1_neg z
    · intro f t hft hf z; rw [hwi f t hf (by omega)] at z; exact absurd ab_m1_neg z
    · intro h b hh hb z; rw [hvw b hb, ab_fd_0] at z; exact absurd rfl z
    · intro h b hh hb _ z; rw [hcu h (by omega), ab_dc_m1] at z; exact absurd rfl z
    · intro a b hab hb ha hbl hz
      have hbn := hlv b hbl
      exact hZ2 a b (Or.inl (by omega)) hab hbn ha hbl hz
end
end
section
/-! X: reopen, solvable, sufficient, keepResult -/
def ab_Df (d : Nat) (dm : Nat → Int32) : Prop := ∀ a, a < 5 → dm a = ((1 : Int32) <<< (nI d &&& 31)) - 1
section
variable {n d rc : Nat} {aw st rs lv fl : Int32} {tb rf dm cu vw lk ex de wi : Nat → Int32}
theorem ab_xreopen {post : SX → Prop} (hK : ab_KW n d rc aw rf) (K : ∀ dm fl cu vw lk ex de wi, ab_Df d dm → ab_Inv n d rc aw tb rf dm fl cu vw lk ex de wi (fun _ => True) → post (nI n, nI d, nI rc, aw, 10, 0, aw, fl, tb, rf, dm, cu, vw, lk, ex, de, wi)) : wpX_reopen post (nI n, nI d, nI rc, aw, st, rs, lv, fl, tb, rf, dm, cu, vw, lk, ex, de, wi) :=
  ab_xopen (fun dm' hD => ab_xstart hK (fun fl cu vw lk ex de wi hI => K dm' fl cu vw lk ex de wi hD hI))
theorem ab_xsolvable {post : Int32 → SX → Prop} {p : Int32} (hK : ab_KW n d rc p rf)
    (K1 : ∀ fl cu vw lk ex de wi, (∃ σ, ab_Sol d rc p tb rf dm σ) → post 1 (nI n, nI d, nI rc, aw, st, rs, p, fl, tb, rf, dm, cu, vw, lk, ex, de, wi))
    (K0 : ∀ fl cu vw lk ex de wi, (∀ σ, ¬ ab_Sol d rc p tb rf dm σ) → post 0 (nI n, nI d, nI rc, aw, st, rs, p, fl, tb, rf, dm, cu, vw, lk, ex, de, wi)) : wpX_solvable post (nI n, nI d, nI rc, aw, st, rs, lv, fl, tb, rf, dm, cu, vw, lk, ex, de, wi) p := by
  unfold wpX_solvable
  dsimp only
  refine ab_xstart hK (fun fl cu vw lk ex de wi hI => ab_xrun hI (fun fl cu vw lk ex de wi hI hor => br_c (fun e => ?_) (fun e => ?_)))
  · rcases hor with h | h
    · exact absurd e h
    · exact K1 _ _ _ _ _ _ _ ⟨_, (ab_final hI e h).2.1⟩
  · rcases hI.1.2.2.2.2.2.2.2.2.2.2.2.1 with h | h
    · exact absurd h e
    · exact K0 _ _ _ _ _ _ _ h.2
/-- the domains in a question for a reason: agent g at value v, the pinned ones below g at the result -/
def ab_Dm (d : Nat) (rs pin : Int32) (g v m : Nat) (dm : Nat → Int32) : Prop := ∀ a, a < 5 → ∀ i, i < 32 → bt (dm a) i = if a = g then decide (i = v) else if a < m ∧ bt pin a = true then decide (i + 1 = ab_fd rs a) else decide (i < d)
theorem ab_xsuff_16 {post : Int32 → SX → Prop} {pin : Int32} {g v : Nat} (hg : g < 5) (hK : ab_KW n d rc aw rf) (hp : ∀ a, a < g → bt pin a = true → ab_fd rs a ≠ 0)
    (K1 : ∀ lv dm fl cu vw lk ex de wi, ab_Dm d rs pin g v g dm → (∀ σ, ¬ ab_Sol d rc aw tb rf dm σ) → post 1 (nI n, nI d, nI rc, aw, st, rs, lv, fl, tb, rf, dm, cu, vw, lk, ex, de, wi))
    (K0 : ∀ lv dm fl cu vw lk ex de wi, ab_Dm d rs pin g v g dm → (∃ σ, ab_Sol d rc aw tb rf dm σ) → post 0 (nI n, nI d, nI rc, aw, st, rs, lv, fl, tb, rf, dm, cu, vw, lk, ex, de, wi)) :
    ∀ (j a : Nat) (dm : Nat → Int32), a + j = g → ab_Dm d rs pin g v a dm → wX_sufficient_16 post (nI g) pin (nI n) (nI d) (nI rc) aw st rs lv fl (j + 1) (nI a) tb rf dm cu vw lk ex de wi := by
  intro j
  induction j with
  | zero =>
    intro a dm ha hD
    obtain rfl : a = g := by omega
    exact br_t (Int32.le_refl _) (ab_xsolvable hK (fun fl cu vw lk ex de wi h => br_f (by decide) (K0 _ _ _ _ _ _ _ _ _ hD h)) (fun fl cu vw lk ex de wi h => br_t rfl (K1 _ _ _ _ _ _ _ _ _ hD h)))
  | succ j ih =>
    intro a dm ha hD
    refine br_f (nI_ge (by omega) (by omega)) (ab_xhas (by omega) (fun e => br_t rfl (nm_r (nI_1 a) (ih (a + 1) dm (by omega) ?_))) (fun e => br_f (by decide) (ab_xfield (by omega) (fun h0 => absurd h0 (hp a (by omega) e)) (fun h1 => ⟨vp_in_nI (by omega) (by decide), ?_⟩))))
    · intro b hb i hi
      rw [hD b hb i hi]
      by_cases e1 : b = g
      · rw [if_pos e1, if_pos e1]
      · rw [if_neg e1, if_neg e1]
        by_cases e2 : b = a
        · rw [if_neg (by omega), if_neg (fun z => by rw [e2, e] at z; cases z.2)]
        · by_cases e3 : b < a ∧ bt pin b = true
          · rw [if_pos e3, if_pos ⟨by omega, e3.2⟩]
          · rw [if_neg e3, if_neg (fun z => e3 ⟨by omega, z.2⟩)]
    · rw [nI_clamp (show a < 2 ^ 31 by omega)]
      refine nm_e (nm_r (nI_1 a) (ih (a + 1) _ (by omega) ?_))
      intro b hb i hi
      by_cases e2 : b = a
      · subst e2
        have := ab_fd_lt rs b
        rw [pk_us, ab_one _ (by omega) i hi, if_neg (by omega), if_pos ⟨by omega, e⟩]
        apply decide_eq_decide.mpr
        omega
      · rw [pk_un e2, hD b hb i hi]
        by_cases e1 : b = g
        · rw [if_pos e1, if_pos e1]
        · rw [if_neg e1, if_neg e1]
          by_cases e3 : b < a ∧ bt pin b = true
          · rw [if_pos e3, if_pos ⟨by omega, e3.2⟩]
          · rw [if_neg e3, if_neg (fun z => e3 ⟨by omega, z.2⟩)]
theorem ab_xsuff {post : Int32 → SX → Prop} {pin : Int32} {g v : Nat} (hg : g < 5) (hv : v < 4) (hK : ab_KW n d rc aw rf) (hp : ∀ a, a < g → bt pin a = true → ab_fd rs a ≠ 0)
    (K1 : ∀ lv dm fl cu vw lk ex de wi, ab_Dm d rs pin g v g dm → (∀ σ, ¬ ab_Sol d rc aw tb rf dm σ) → post 1 (nI n, nI d, nI rc, aw, st, rs, lv, fl, tb, rf, dm, cu, vw, lk, ex, de, wi))
    (K0 : ∀ lv dm fl cu vw lk ex de wi, ab_Dm d rs pin g v g dm → (∃ σ, ab_Sol d rc aw tb rf dm σ) → post 0 (nI n, nI d, nI rc, aw, st, rs, lv, fl, tb, rf, dm, cu, vw, lk, ex, de, wi)) : wpX_sufficient post (nI n, nI d, nI rc, aw, st, rs, lv, fl, tb, rf, dm, cu, vw, lk, ex, de, wi) (nI g) (nI v) pin := by
  have hd := hK.2.2.2.1
  refine ab_xopen (fun dm' hD => ⟨vp_in_nI hg (by decide), ?_⟩)
  rw [nI_clamp (show g < 2 ^ 31 by omega)]
  refine nm_e ⟨g + 1, ab_xsuff_16 hg hK hp K1 K0 g 0 _ (by omega) ?_⟩
  intro a ha i hi
  by_cases e : a = g
  · subst e
    rw [pk_us, if_pos rfl, ab_one v (by omega) i hi]
  · rw [pk_un e, if_neg e, if_neg (by omega), hD a ha, ab_low (by omega)]
theorem ab_xkeep_7 {post : SX → Prop} (hn : n ≤ 5) (hd : d ≤ 4) (hC : ab_TC d lv cu) (hno : ∀ a, a < n → bt aw a = true → ab_dc (cu a) ≠ 0) (K : ∀ rs, ab_Pk rs → (∀ a, ab_fd rs a = if a < n ∧ bt aw a = true then ab_dc (cu a) else 0) → post (nI n, nI d, nI rc, aw, st, rs, lv, fl, tb, rf, dm, cu, vw, lk, ex, de, wi)) :
    ∀ (j a : Nat) (rs : Int32), a + j = n → ab_Pk rs → (∀ i, ab_fd rs i = if i < a ∧ bt aw i = true then ab_dc (cu i) else 0) → wX_keepResult_7 post (nI n) (nI d) (nI rc) aw st lv fl tb rf dm cu vw lk ex de wi (j + 1) (nI a) rs := by
  intro j
  induction j with
  | zero =>
    intro a rs ha hP hF
    obtain rfl : a = n := by omega
    exact br_t (Int32.le_refl _) (K rs hP hF)
  | succ j ih =>
    intro a rs ha hP hF
    refine br_f (nI_ge (by omega) (by omega)) (ab_xhas (by omega) (fun e => br_t rfl (nm_r (nI_1 a) (ih (a + 1) rs (by omega) hP (fun i => ?_)))) (fun e => br_f (by decide) ⟨vp_in_nI (by omega) (by decide), ?_⟩))
    · rw [hF i]
      by_cases e2 : i < a ∧ bt aw i = true
      · rw [if_pos e2, if_pos ⟨by omega, e2.2⟩]
      · rw [if_neg e2, if_neg]
        rintro ⟨z1, z2⟩
        have : i ≠ a := fun z => by rw [z, e] at z2; cases z2
        exact e2 ⟨by omega, z2⟩
    · have hz := hno a (by omega) e
      have hOk := (hC a (by omega)).1
      have hle := hOk.2
      rw [nI_clamp (show a < 2 ^ 31 by omega), ab_Ok_v hOk hz]
      have hnew : ∀ i, ab_fd (rs ||| ab_pk a (ab_dc (cu a) - 1)) i = if i < a + 1 ∧ bt aw i = true then ab_dc (cu i) else 0 := by
        intro i
        rcases Nat.lt_or_ge i 5 with h5 | h5
        · by_cases e2 : i = a
          · subst e2
            rw [ab_fd_or_l (by rw [hF, if_neg (by omega)]), ab_fd_pk (by omega) (by omega) (by omega), if_pos rfl, if_pos ⟨by omega, e⟩]
            omega
          · rw [ab_fd_or_r (by rw [ab_fd_pk (by omega) (by omega) (by omega), if_neg e2]), hF]
            by_cases e3 : i < a ∧ bt aw i = true
            · rw [if_pos e3, if_pos ⟨by omega, e3.2⟩]
            · rw [if_neg e3, if_neg (fun z => e3 ⟨by omega, z.2⟩)]
        · rw [ab_fd_hi (ab_Pk_or hP (ab_Pk_pk (by omega) (by omega))) h5, if_neg (by omega)]
      exact nm_e (nm_r (nI_1 a) (ih (a + 1) _ (by omega) (ab_Pk_or hP (ab_Pk_pk (by omega) (by omega))) hnew))
theorem ab_xkeep {post : SX → Prop} (hn : n ≤ 5) (hd : d ≤ 4) (hC : ab_TC d lv cu) (hno : ∀ a, a < n → bt aw a = true → ab_dc (cu a) ≠ 0) (K : ∀ rs, ab_Pk rs → (∀ a, ab_fd rs a = if a < n ∧ bt aw a = true then ab_dc (cu a) else 0) → post (nI n, nI d, nI rc, aw, st, rs, lv, fl, tb, rf, dm, cu, vw, lk, ex, de, wi)) : wpX_keepResult post (nI n, nI d, nI rc, aw, st, rs, lv, fl, tb, rf, dm, cu, vw, lk, ex, de, wi) :=
  ⟨n + 1, ab_xkeep_7 hn hd hC hno K n 0 0 (by omega) ab_Pk_0 (fun i => by rw [ab_fd_0, if_neg (by omega)])⟩
theorem ab_xisAgent {post : Int32 → Prop} {x : Int32} (hn : n ≤ 5) (K1 : ∀ a, a < n → x = nI a → post 1) (K0 : (∀ a, a < n → x ≠ nI a) → post 0) : wpX_isAgent post (nI n, nI d, nI rc, aw, st, rs, lv, fl, tb, rf, dm, cu, vw, lk, ex, de, wi) x := by
  have hno : ∀ a, a < n → nI a < 0 → False := fun a ha z => nI_pos (by omega) z
  refine br_c (fun e => K0 (fun a ha z => hno a ha (z ▸ e))) (fun e => ?_)
  obtain ⟨j, hj, rfl⟩ := nI_of e
  exact pk_le n j (fun h => K0 (fun a ha z => by rw [nI_eq hj (by omega)] at z; omega)) (fun h => K1 j h rfl) rfl rfl (by omega) hj
theorem ab_xisValue {post : Int32 → Prop} {x : Int32} (hd : d ≤ 5) (K1 : ∀ a, a < d → x = nI a → post 1) (K0 : (∀ a, a < d → x ≠ nI a) → post 0) : wpX_isValue post (nI n, nI d, nI rc, aw, st, rs, lv, fl, tb, rf, dm, cu, vw, lk, ex, de, wi) x := by
  have hno : ∀ a, a < d → nI a < 0 → False := fun a ha z => nI_pos (by omega) z
  refine br_c (fun e => K0 (fun a ha z => hno a ha (z ▸ e))) (fun e => ?_)
  obtain ⟨j, hj, rfl⟩ := nI_of e
  exact pk_le d j (fun h => K0 (fun a ha z => by rw [nI_eq hj (by omega)] at z; omega)) (fun h => K1 j h rfl) rfl rfl (by omega) hj
theorem ab_xisPair {post : Int32 → Prop} {x y : Int32} (hn : n ≤ 5) (K1 : ∀ a b, a < n → b < n → a ≠ b → x = nI a → y = nI b → post 1) (K0 : (∀ a b, a < n → b < n → x = nI a → y = nI b → a = b) → post 0) : wpX_isPair post (nI n, nI d, nI rc, aw, st, rs, lv, fl, tb, rf, dm, cu, vw, lk, ex, de, wi) x y := by
  unfold wpX_isPair
  dsimp only
  refine ab_xisAgent hn (fun a ha ea => br_f (by decide) (ab_xisAgent hn (fun b hb eb => br_f (by decide) (br_c (fun e => K0 (fun a' b' ha' hb' ea' eb' => ?_)) (fun e => K1 a b ha hb (fun z => e (by rw [ea, eb, z])) ea eb))) (fun hb => br_t rfl (K0 (fun a' b' _ hb' _ eb' => absurd eb' (hb b' hb')))))) (fun ha => br_t rfl (K0 (fun a' b' ha' _ ea' _ => absurd ea' (ha a' ha'))))
  rw [ea', eb', nI_eq (by omega) (by omega)] at e
  exact e
end
end
section
/-! Y: codes, and the search over all of them -/
def ab_dg (x : Int32) (a : Nat) : Nat := (bt x (2 * (4 - a))).toNat + 2 * (bt x (2 * (4 - a) + 1)).toNat
def ab_pl (a va b vb : Nat) : Nat := ((a * 4 + va) * 5 + b) * 4 + vb
def ab_Agr (n : Nat) (x y s : Int32) : Prop := ∀ i, i < n → bt s i = true → ab_dg x i = ab_dg y i
def ab_Slv (n d rc : Nat) (cl ys yc : Nat → Int32) (s x : Int32) : Prop :=
  (∀ a, a < n → (bt s a = true → ab_dg x a < d) ∧ ∀ b, b < n → a ≠ b → bt s a = true → bt s b = true → cl (ab_pl a (ab_dg x a) b (ab_dg x b)) = 0) ∧
  (∀ r, r < rc → ys r &&& s = ys r → ¬ ab_Agr n x (yc r) (ys r))
theorem ab_dg_lt (x : Int32) (a : Nat) : ab_dg x a < 4 := by
  unfold ab_dg
  cases bt x (2 * (4 - a)) <;> cases bt x (2 * (4 - a) + 1) <;> decide
theorem ab_3 : ∀ i, i < 32 → bt 3 i = decide (i < 2) := by decide +kernel
theorem ab_n4 : ∀ b0 b1 : Bool, ∀ i, i < 32 → bt (nI (b0.toNat + 2 * b1.toNat)) i = (if i = 0 then b0 else if i = 1 then b1 else false) := by decide +kernel
theorem ab_sh2 {a : Nat} (ha : a < 5) : (2 : Int32) * (4 - nI a) = nI (2 * (4 - a)) := by
  rw [show (4 : Int32) = nI 4 from rfl, pk_sub (by omega), show (2 : Int32) = nI 2 from rfl, pk_mul]
theorem ab_digit (x : Int32) {a : Nat} (ha : a < 5) : ((x >>> (((2 : Int32) * (4 - nI a)) &&& 31)) &&& 3) = nI (ab_dg x a) := by
  apply b_ext
  intro i hi
  rw [ab_sh2 ha, b_and, ab_3 i hi, b_sshr (2 * (4 - a)) (by omega) x hi]
  unfold ab_dg
  rw [ab_n4 _ _ i hi]
  rcases Nat.lt_or_ge i 2 with h | h
  · rw [if_pos (by omega), decide_eq_true h, Bool.and_true]
    have : i = 0 ∨ i = 1 := by omega
    rcases this with e | e <;> subst e <;> rfl
  · rw [decide_eq_false (by omega), Bool.and_false, if_neg (by omega), if_neg (by omega)]
theorem ab_place (a va b vb : Nat) : ((((nI a * 4) + nI va) * 5) + nI b) * 4 + nI vb = nI (ab_pl a va b vb) := by
  unfold ab_pl
  rw [show (4 : Int32) = nI 4 from rfl, show (5 : Int32) = nI 5 from rfl, pk_mul, nI_add, pk_mul, nI_add, pk_mul, nI_add]
theorem ab_pl_lt {a va b vb : Nat} (ha : a < 5) (hva : va < 4) (hb : b < 5) (hvb : vb < 4) : ab_pl a va b vb < 400 := by
  unfold ab_pl; omega
section
variable {n d rc : Nat} {st yr : Int32} {cl ya ys yc : Nat → Int32}
theorem ab_yin {post : Int32 → Prop} {u : SY} {p : Int32} {a : Nat} (ha : a < 32) (h0 : bt p a = false → post 0) (h1 : bt p a = true → post 1) : wpY_in post u p (nI a) := by
  obtain ⟨_, _, _, _, _, _, _, _, _⟩ := u
  show (((p >>> (nI a &&& 31)) &&& 1) = 1 → post 1) ∧ (¬ ((p >>> (nI a &&& 31)) &&& 1) = 1 → post 0)
  rw [ab_bit1 ha]
  exact ⟨h1, fun z => h0 (by cases h : bt p a; rfl; exact absurd h z)⟩
theorem ab_ydigit {post : Int32 → Prop} {u : SY} {x : Int32} {a : Nat} (ha : a < 5) (h : post (nI (ab_dg x a))) : wpY_digit post u x (nI a) := by
  obtain ⟨_, _, _, _, _, _, _, _, _⟩ := u
  show post ((x >>> ((2 * (4 - nI a)) &&& 31)) &&& 3)
  rw [ab_digit x ha]; exact h
theorem ab_yplace {post : Int32 → Prop} {u : SY} {a va b vb : Nat} (h : post (nI (ab_pl a va b vb))) : wpY_place post u (nI a) (nI va) (nI b) (nI vb) := by
  obtain ⟨_, _, _, _, _, _, _, _, _⟩ := u
  show post (((((nI a * 4) + nI va) * 5) + nI b) * 4 + nI vb)
  rw [ab_place]; exact h
theorem ab_yagree_3 {post : Int32 → Prop} {x y s : Int32} (hn : n ≤ 5) (H1 : ab_Agr n x y s → post 1) (H0 : ¬ ab_Agr n x y s → post 0) : ∀ (j a : Nat), a + j = n → (∀ i, i < a → bt s i = true → ab_dg x i = ab_dg y i) → wY_agree_3 post x y s (nI n) (nI d) (nI rc) st yr cl ya ys yc (j + 1) (nI a) := by
  intro j
  induction j with
  | zero =>
    intro a ha h
    obtain rfl : a = n := by omega
    exact br_t (Int32.le_refl _) (H1 h)
  | succ j ih =>
    intro a ha h
    have next : (bt s a = true → ab_dg x a = ab_dg y a) → wY_agree_3 post x y s (nI n) (nI d) (nI rc) st yr cl ya ys yc (j + 1) (nI (a + 1)) := by
      intro g
      refine ih (a + 1) (by omega) ?_
      intro i hi
      by_cases e : i = a
      · rw [e]; exact g
      · exact h i (by omega)
    have h1 := ab_dg_lt x a
    have h2 := ab_dg_lt y a
    refine br_f (nI_ge (by omega) (by omega)) (ab_yin (by omega) (fun e => br_t rfl (nm_r (nI_1 a) (next (fun z => by rw [e] at z; cases z)))) (fun e => br_f (by decide) (ab_ydigit (by omega) (ab_ydigit (by omega) ?_))))
    exact pk_eq (ab_dg x a) (ab_dg y a) (fun g => nm_r (nI_1 a) (next (fun _ => g))) (fun g => H0 (fun z => g (z a (by omega) e))) rfl rfl (by omega) (by omega)
theorem ab_yagree {post : Int32 → Prop} {x y s : Int32} (hn : n ≤ 5) (H1 : ab_Agr n x y s → post 1) (H0 : ¬ ab_Agr n x y s → post 0) : wpY_agree post (nI n, nI d, nI rc, st, yr, cl, ya, ys, yc) x y s :=
  ⟨n + 1, ab_yagree_3 hn H1 H0 n 0 (by omega) (fun i hi => by omega)⟩
theorem ab_ysolves_123 {post : Int32 → Prop} {s x : Int32} (hn : n ≤ 5) (hrc : rc ≤ 8) (H1 : (∀ r, r < rc → ys r &&& s = ys r → ¬ ab_Agr n x (yc r) (ys r)) → post 1) (H0 : (¬ ∀ r, r < rc → ys r &&& s = ys r → ¬ ab_Agr n x (yc r) (ys r)) → post 0) : ∀ (j r : Nat), r + j = rc → (∀ r', r' < r → ys r' &&& s = ys r' → ¬ ab_Agr n x (yc r') (ys r')) → wY_solves_123 post s x (nI n) (nI d) (nI rc) st yr cl ya ys yc (j + 1) (nI r) := by
  intro j
  induction j with
  | zero =>
    intro r hr h
    obtain rfl : r = rc := by omega
    exact br_t (Int32.le_refl _) (H1 h)
  | succ j ih =>
    intro r hr h
    have next : (ys r &&& s = ys r → ¬ ab_Agr n x (yc r) (ys r)) → wY_solves_123 post s x (nI n) (nI d) (nI rc) st yr cl ya ys yc (j + 1) (nI (r + 1)) := by
      intro g
      refine ih (r + 1) (by omega) ?_
      intro i hi
      by_cases e : i = r
      · rw [e]; exact g
      · exact h i (by omega)
    have hin : vp_in (nI r) 8 := vp_in_nI (by omega) (by decide)
    refine br_f (nI_ge (by omega) (by omega)) ⟨hin, ?_⟩
    rw [nI_clamp (show r < 2 ^ 31 by omega)]
    exact nm_e (br_c (fun e => ⟨hin, ab_yagree hn (fun g => br_f (by decide) (H0 (fun z => z r (by omega) e g))) (fun g => br_t rfl (nm_r (nI_1 r) (next (fun _ => g))))⟩) (fun e => nm_r (nI_1 r) (next (fun z => absurd z e))))
theorem ab_ysolves_41 {post : Int32 → Prop} {J : Int32 → Prop} {s x : Int32} {a : Nat} (hn : n ≤ 5) (ha : a < n) (HJ : (∀ b, b < n → a ≠ b → bt s a = true → bt s b = true → cl (ab_pl a (ab_dg x a) b (ab_dg x b)) = 0) → J (nI (a + 1))) (H0 : (¬ ∀ b, b < n → a ≠ b → bt s a = true → bt s b = true → cl (ab_pl a (ab_dg x a) b (ab_dg x b)) = 0) → post 0) : ∀ (j b : Nat), b + j = n → (∀ b', b' < b → a ≠ b' → bt s a = true → bt s b' = true → cl (ab_pl a (ab_dg x a) b' (ab_dg x b')) = 0) → wY_solves_41 post J s x (nI a) (nI (ab_dg x a)) (nI n) (nI d) (nI rc) st yr cl ya ys yc (j + 1) (nI b) := by
  intro j
  induction j with
  | zero =>
    intro b hb h
    obtain rfl : b = n := by omega
    exact br_t (Int32.le_refl _) (nm_r (nI_1 a) (HJ h))
  | succ j ih =>
    intro b hb h
    have next : (a ≠ b → bt s a = true → bt s b = true → cl (ab_pl a (ab_dg x a) b (ab_dg x b)) = 0) → wY_solves_41 post J s x (nI a) (nI (ab_dg x a)) (nI n) (nI d) (nI rc) st yr cl ya ys yc (j + 1) (nI (b + 1)) := by
      intro g
      refine ih (b + 1) (by omega) ?_
      intro i hi
      by_cases e : i = b
      · rw [e]; exact g
      · exact h i (by omega)
    have h1 := ab_dg_lt x a
    have h2 := ab_dg_lt x b
    have hpl := ab_pl_lt (show a < 5 by omega) h1 (show b < 5 by omega) h2
    refine br_f (nI_ge (by omega) (by omega)) (ab_ydigit (by omega) (ab_yplace ?_))
    refine pk_eq a b (fun e => nm_r (nI_1 b) (next (fun z => absurd e z))) (fun e => ab_yin (by omega) (fun g => br_t rfl (nm_r (nI_1 b) (next (fun _ z => by rw [g] at z; cases z)))) (fun g => br_f (by decide) (ab_yin (by omega) (fun g2 => br_t rfl (nm_r (nI_1 b) (next (fun _ _ z => by rw [g2] at z; cases z)))) (fun g2 => br_f (by decide) ⟨vp_in_nI hpl (by decide), ?_⟩)))) rfl rfl (by omega) (by omega)
    rw [nI_clamp (show ab_pl a (ab_dg x a) b (ab_dg x b) < 2 ^ 31 by omega)]
    exact br_c (fun z => nm_r (nI_1 b) (next (fun _ _ _ => z))) (fun z => H0 (fun y => z (y b (by omega) e g g2)))
theorem ab_ysolves_2 {post : Int32 → Prop} {s x : Int32} (hn : n ≤ 5) (hd : d ≤ 4) (hrc : rc ≤ 8) (H1 : ab_Slv n d rc cl ys yc s x → post 1) (H0 : ¬ ab_Slv n d rc cl ys yc s x → post 0) : ∀ (j a : Nat), a + j = n → (∀ a', a' < a → (bt s a' = true → ab_dg x a' < d) ∧ ∀ b, b < n → a' ≠ b → bt s a' = true → bt s b = true → cl (ab_pl a' (ab_dg x a') b (ab_dg x b)) = 0) → wY_solves_2 post s x (nI n) (nI d) (nI rc) st yr cl ya ys yc (j + 1) (nI a) := by
  intro j
  induction j with
  | zero =>
    intro a ha h
    obtain rfl : a = n := by omega
    exact br_t (Int32.le_refl _) ⟨rc + 1, ab_ysolves_123 hn hrc (fun g => H1 ⟨h, g⟩) (fun g => H0 (fun z => g z.2)) rc 0 (by omega) (fun r hr => by omega)⟩
  | succ j ih =>
    intro a ha h
    have h1 := ab_dg_lt x a
    have go : (bt s a = true → ab_dg x a < d) → ∃ n41, wY_solves_41 post (wY_solves_2 post s x (nI n) (nI d) (nI rc) st yr cl ya ys yc (j + 1)) s x (nI a) (nI (ab_dg x a)) (nI n) (nI d) (nI rc) st yr cl ya ys yc n41 0 := by
      intro g
      refine ⟨n + 1, ab_ysolves_41 hn (by omega) (fun g2 => ih (a + 1) (by omega) ?_) (fun g2 => H0 (fun z => g2 (z.1 a (by omega)).2)) n 0 (by omega) (fun b hb => by omega)⟩
      intro i hi
      by_cases e : i = a
      · rw [e]; exact ⟨g, g2⟩
      · exact h i (by omega)
    refine br_f (nI_ge (by omega) (by omega)) (ab_ydigit (by omega) (ab_yin (by omega) (fun e => br_t rfl (go (fun z => by rw [e] at z; cases z))) (fun e => br_f (by decide) ?_)))
    exact pk_lt (ab_dg x a) d (fun g => go (fun _ => g)) (fun g => H0 (fun z => by have := (z.1 a (by omega)).1 e; omega)) rfl rfl (by omega) (by omega)
theorem ab_ysolves {post : Int32 → Prop} {s x : Int32} (hn : n ≤ 5) (hd : d ≤ 4) (hrc : rc ≤ 8) (H1 : ab_Slv n d rc cl ys yc s x → post 1) (H0 : ¬ ab_Slv n d rc cl ys yc s x → post 0) : wpY_solves post (nI n, nI d, nI rc, st, yr, cl, ya, ys, yc) s x :=
  ⟨n + 1, ab_ysolves_2 hn hd hrc H1 H0 n 0 (by omega) (fun i hi => by omega)⟩
def ab_Gd (n d rc : Nat) (cl ys yc : Nat → Int32) (s fx w : Int32) (c : Nat) : Prop := ab_Agr n (nI c) w fx ∧ ab_Slv n d rc cl ys yc s (nI c)
theorem ab_yleast_3 {post : Int32 → Prop} {s fx w : Int32} (hn : n ≤ 5) (hd : d ≤ 4) (hrc : rc ≤ 8) (H1 : ∀ c, c < 1024 → ab_Gd n d rc cl ys yc s fx w c → (∀ c', c' < c → ¬ ab_Gd n d rc cl ys yc s fx w c') → post (nI c)) (H0 : (∀ c, c < 1024 → ¬ ab_Gd n d rc cl ys yc s fx w c) → post (-1)) : ∀ (j c : Nat), c + j = 1024 → (∀ c', c' < c → ¬ ab_Gd n d rc cl ys yc s fx w c') → wY_least_3 post s fx w (nI n) (nI d) (nI rc) st yr cl ya ys yc (j + 1) (nI c) := by
  intro j
  induction j with
  | zero =>
    intro c hc h
    obtain rfl : c = 1024 := by omega
    exact br_t (by decide) (H0 h)
  | succ j ih =>
    intro c hc h
    have next : ¬ ab_Gd n d rc cl ys yc s fx w c → wY_least_3 post s fx w (nI n) (nI d) (nI rc) st yr cl ya ys yc (j + 1) (nI (c + 1)) := by
      intro g
      refine ih (c + 1) (by omega) ?_
      intro i hi
      by_cases e : i = c
      · rw [e]; exact g
      · exact h i (by omega)
    exact br_f (nI_ge (b := 1024) (by omega) (by decide)) (ab_yagree hn (fun g => br_f (by decide) (ab_ysolves hn hd hrc (fun g2 => br_f (by decide) (H1 c (by omega) ⟨g, g2⟩ h)) (fun g2 => br_t rfl (nm_r (nI_1 c) (next (fun z => g2 z.2)))))) (fun g => br_t rfl (nm_r (nI_1 c) (next (fun z => g z.1)))))
theorem ab_yleast {post : Int32 → Prop} {s fx w : Int32} (hn : n ≤ 5) (hd : d ≤ 4) (hrc : rc ≤ 8) (H1 : ∀ c, c < 1024 → ab_Gd n d rc cl ys yc s fx w c → (∀ c', c' < c → ¬ ab_Gd n d rc cl ys yc s fx w c') → post (nI c)) (H0 : (∀ c, c < 1024 → ¬ ab_Gd n d rc cl ys yc s fx w c) → post (-1)) : wpY_least post (nI n, nI d, nI rc, st, yr, cl, ya, ys, yc) s fx w :=
  ⟨1024 + 1, ab_yleast_3 hn hd hrc H1 H0 1024 0 (by omega) (fun c hc => by omega)⟩
theorem ab_yawake_4 {post : Int32 → Prop} {aw : Int32} (hn : n ≤ 5) (hA : ∀ i, bt aw i = decide (i < n ∧ ya i ≠ 0)) (K : post aw) : ∀ (j a : Nat) (s : Int32), a + j = n → (∀ i, bt s i = decide (i < a ∧ ya i ≠ 0)) → wY_awakeSet_4 post (nI n) (nI d) (nI rc) st yr cl ya ys yc (j + 1) s (nI a) := by
  intro j
  induction j with
  | zero =>
    intro a s ha hs
    obtain rfl : a = n := by omega
    have e : s = aw := b_ext (fun i _ => by rw [hs, hA])
    exact br_t (Int32.le_refl _) (e ▸ K)
  | succ j ih =>
    intro a s ha hs
    refine br_f (nI_ge (by omega) (by omega)) ⟨vp_in_nI (by omega) (by decide), ?_⟩
    rw [nI_clamp (show a < 2 ^ 31 by omega)]
    refine br_c (fun e => nm_r (nI_1 a) (ih (a + 1) s (by omega) (fun i => ?_))) (fun e => nm_e (nm_r (nI_1 a) (ih (a + 1) _ (by omega) (fun i => ?_))))
    · rw [hs i]
      exact decide_eq_decide.mpr (ab_dn (P := fun i => ya i ≠ 0) (fun z => z e))
    · rw [ab_set (by omega), hs i]
      exact ab_dy (P := fun i => ya i ≠ 0) e
theorem ab_yawake {post : Int32 → Prop} {aw : Int32} (hn : n ≤ 5) (hA : ∀ i, bt aw i = decide (i < n ∧ ya i ≠ 0)) (K : post aw) : wpY_awakeSet post (nI n, nI d, nI rc, st, yr, cl, ya, ys, yc) :=
  ⟨n + 1, ab_yawake_4 hn hA K n 0 0 (by omega) (fun i => by rw [b_0, decide_eq_false]; omega)⟩
theorem ab_yisAgent {post : Int32 → Prop} {x : Int32} (hn : n ≤ 5) (K1 : ∀ a, a < n → x = nI a → post 1) (K0 : (∀ a, a < n → x ≠ nI a) → post 0) : wpY_isAgent post (nI n, nI d, nI rc, st, yr, cl, ya, ys, yc) x := by
  have hno : ∀ a, a < n → nI a < 0 → False := fun a ha z => nI_pos (by omega) z
  refine br_c (fun e => K0 (fun a ha z => hno a ha (z ▸ e))) (fun e => ?_)
  obtain ⟨j, hj, rfl⟩ := nI_of e
  exact pk_le n j (fun h => K0 (fun a ha z => by rw [nI_eq hj (by omega)] at z; omega)) (fun h => K1 j h rfl) rfl rfl (by omega) hj
theorem ab_yisValue {post : Int32 → Prop} {x : Int32} (hd : d ≤ 5) (K1 : ∀ a, a < d → x = nI a → post 1) (K0 : (∀ a, a < d → x ≠ nI a) → post 0) : wpY_isValue post (nI n, nI d, nI rc, st, yr, cl, ya, ys, yc) x := by
  have hno : ∀ a, a < d → nI a < 0 → False := fun a ha z => nI_pos (by omega) z
  refine br_c (fun e => K0 (fun a ha z => hno a ha (z ▸ e))) (fun e => ?_)
  obtain ⟨j, hj, rfl⟩ := nI_of e
  exact pk_le d j (fun h => K0 (fun a ha z => by rw [nI_eq hj (by omega)] at z; omega)) (fun h => K1 j h rfl) rfl rfl (by omega) hj
theorem ab_yput {post : SY → Prop} {a va b vb : Nat} {z : Int32} (ha : a < 5) (hva : va < 4) (hb : b < 5) (hvb : vb < 4) (hz : z = 0 ∨ z = 1) (K : post (nI n, nI d, nI rc, st, yr, upd (upd cl (ab_pl a va b vb) z) (ab_pl b vb a va) z, ya, ys, yc)) : wpY_put post (nI n, nI d, nI rc, st, yr, cl, ya, ys, yc) (nI a) (nI va) (nI b) (nI vb) z := by
  have h1 := ab_pl_lt ha hva hb hvb
  have h2 := ab_pl_lt hb hvb ha hva
  have hn : vp_nar .boolean z = z := by rcases hz with rfl | rfl <;> rfl
  unfold wpY_put
  dsimp only
  refine ab_yplace (ab_yplace ?_)
  rw [nI_clamp (show ab_pl a va b vb < 2 ^ 31 by omega), nI_clamp (show ab_pl b vb a va < 2 ^ 31 by omega), hn]
  exact ⟨vp_in_nI h1 (by decide), nm_e ⟨vp_in_nI h2 (by decide), nm_e K⟩⟩
theorem ab_yconflict {post : Int32 → Prop} {x1 x2 x3 x4 : Int32} (hn : n ≤ 5) (hd : d ≤ 4)
    (K1 : ∀ a va b vb, a < n → va < d → b < n → vb < d → a ≠ b → x1 = nI a → x2 = nI va → x3 = nI b → x4 = nI vb → (cl (ab_pl a va b vb) = 0 → post 0) ∧ (¬ cl (ab_pl a va b vb) = 0 → post 1))
    (K0 : (∀ a va b vb, a < n → va < d → b < n → vb < d → x1 = nI a → x2 = nI va → x3 = nI b → x4 = nI vb → a = b) → post (-1)) : wpY_conflict post (nI n, nI d, nI rc, st, yr, cl, ya, ys, yc) x1 x2 x3 x4 := by
  unfold wpY_conflict
  dsimp only
  refine ab_yisAgent hn (fun a ha ea => br_f (by decide) (ab_yisAgent hn (fun b hb eb => br_f (by decide) (br_c (fun e => K0 (fun a' va' b' vb' ha' _ hb' _ ea' _ eb' _ => ?_)) (fun e => ab_yisValue (by omega) (fun va hva eva => br_f (by decide) (ab_yisValue (by omega) (fun vb hvb evb => br_f (by decide) ?_) (fun h => br_t rfl (K0 (fun _ _ _ vb' _ _ _ h' _ _ _ z => absurd z (h vb' h')))))) (fun h => br_t rfl (K0 (fun _ va' _ _ _ h' _ _ _ z _ _ => absurd z (h va' h'))))))) (fun h => br_t rfl (K0 (fun _ _ b' _ _ _ h' _ _ _ z _ => absurd z (h b' h')))))) (fun h => br_t rfl (K0 (fun a' _ _ _ h' _ _ _ z _ _ _ => absurd z (h a' h'))))
  · rw [ea', eb', nI_eq (by omega) (by omega)] at e; exact e
  · have hpl := ab_pl_lt (show a < 5 by omega) (show va < 4 by omega) (show b < 5 by omega) (show vb < 4 by omega)
    have hk := K1 a va b vb ha hva hb hvb (fun z => e (by rw [ea, eb, z])) ea eva eb evb
    rw [ea, eva, eb, evb]
    refine ab_yplace ⟨vp_in_nI hpl (by decide), ?_⟩
    rw [nI_clamp (show ab_pl a va b vb < 2 ^ 31 by omega)]
    exact hk
end
end
section
/-! the two views of the problem: X's assignments and Y's codes -/
def ab_R2 (n d : Nat) (tb cl : Nat → Int32) : Prop := ∀ a b, a < n → b < n → a ≠ b → (∀ va vb, va < 4 → vb < 4 → bt (tb (5 * a + b)) (4 * va + vb) = decide (va < d ∧ vb < d ∧ cl (ab_pl a va b vb) ≠ 0)) ∧ (∀ i, 16 ≤ i → bt (tb (5 * a + b)) i = false)
def ab_R2s (n d : Nat) (cl : Nat → Int32) : Prop := ∀ a b va vb, a < n → b < n → a ≠ b → va < d → vb < d → cl (ab_pl a va b vb) = cl (ab_pl b vb a va)
def ab_R2b (cl : Nat → Int32) : Prop := ∀ i, cl i = 0 ∨ cl i = 1
def ab_R3 (n d rc : Nat) (rf ys yc : Nat → Int32) : Prop := ∀ r, r < rc → ab_Pk (rf r) ∧ (∀ i, bt (ys r) i = true → i < n) ∧ (∃ a, a < n ∧ bt (ys r) a = true) ∧ (∀ a, ab_fd (rf r) a ≤ d) ∧ ∀ a, a < 5 → ab_fd (rf r) a = if bt (ys r) a = true then ab_dg (yc r) a + 1 else 0
def ab_Sol0 (d rc : Nat) (lv : Int32) (tb rf : Nat → Int32) (σ : Nat → Nat) : Prop :=
  (∀ a, a < 5 → bt lv a = true → σ a < d) ∧
  (∀ a b, a < b → b < 5 → bt lv a = true → bt lv b = true → ¬ ab_cl tb a (σ a) b (σ b)) ∧
  (∀ r, r < rc → ab_Ac lv (rf r) → ¬ ab_Ag (rf r) σ)
section
variable {n d rc : Nat} {lv s x w fx : Int32} {tb rf dm cl ys yc : Nat → Int32} {σ τ : Nat → Nat}
theorem ab_Sol_0 : ab_Sol d rc lv tb rf dm σ ↔ ab_Sol0 d rc lv tb rf σ ∧ ∀ a, a < 5 → bt lv a = true → bt (dm a) (σ a) = true :=
  ⟨fun h => ⟨⟨fun a ha hl => (h.1 a ha hl).1, h.2.1, h.2.2⟩, fun a ha hl => (h.1 a ha hl).2⟩, fun h => ⟨fun a ha hl => ⟨h.1.1 a ha hl, h.2 a ha hl⟩, h.1.2.1, h.1.2.2⟩⟩
theorem ab_Sol_c (he : ∀ a, a < 5 → bt lv a = true → σ a = τ a) (h : ab_Sol d rc lv tb rf dm σ) : ab_Sol d rc lv tb rf dm τ := by
  refine ⟨fun a ha hl => ?_, fun a b hab hb ha hbl hc => ?_, fun r hr hac hag => ?_⟩
  · rw [← he a ha hl]; exact h.1 a ha hl
  · rw [← he a (by omega) ha, ← he b hb hbl] at hc
    exact h.2.1 a b hab hb ha hbl hc
  · refine h.2.2 r hr hac (fun a ha z => ?_)
    rw [he a ha (hac a ha z)]; exact hag a ha z
theorem ab_R3_Ac (hn : n ≤ 5) (h3 : ab_R3 n d rc rf ys yc) {r : Nat} (hr : r < rc) : ab_Ac s (rf r) ↔ ys r &&& s = ys r := by
  obtain ⟨hP, hb, hne, _, hf⟩ := h3 r hr
  constructor
  · intro h
    apply b_ext
    intro i hi
    rw [b_and]
    cases hy : bt (ys r) i
    · rfl
    · have hin := hb i hy
      have := h i (by omega)
      rw [hf i (by omega), if_pos hy] at this
      rw [this (by omega)]; rfl
  · intro h a ha z
    rw [hf a ha] at z
    cases hy : bt (ys r) a
    · rw [if_neg (by rw [hy]; decide)] at z; exact absurd rfl z
    · have e : bt (ys r &&& s) a = bt (ys r) a := by rw [h]
      rw [b_and, hy, Bool.true_and] at e
      exact e
theorem ab_R3_Ag (hn : n ≤ 5) (h3 : ab_R3 n d rc rf ys yc) {r : Nat} (hr : r < rc) : ab_Ag (rf r) (ab_dg x) ↔ ab_Agr n x (yc r) (ys r) := by
  obtain ⟨hP, hb, hne, _, hf⟩ := h3 r hr
  constructor
  · intro h i hi hy
    have := h i (by omega)
    rw [hf i (by omega), if_pos hy] at this
    have := this (by omega)
    omega
  · intro h a ha z
    rw [hf a ha] at z ⊢
    cases hy : bt (ys r) a
    · rw [if_neg (by rw [hy]; decide)] at z; exact absurd rfl z
    · rw [if_pos rfl, h a (hb a hy) hy]
theorem ab_slv (hn : n ≤ 5) (hd : d ≤ 4) (h2 : ab_R2 n d tb cl) (h2s : ab_R2s n d cl) (h3 : ab_R3 n d rc rf ys yc) (hs : ∀ i, bt s i = true → i < n) : ab_Slv n d rc cl ys yc s x ↔ ab_Sol0 d rc s tb rf (ab_dg x) := by
  constructor
  · rintro ⟨h, hr⟩
    refine ⟨fun a ha hl => (h a (hs a hl)).1 hl, fun a b hab hb ha hbl hc => ?_, fun r hrc hac hag => ?_⟩
    · have han := hs a ha
      have hbn := hs b hbl
      have z := (h a han).2 b hbn (by omega) ha hbl
      have h1 := ab_dg_lt x a
      have h2' := ab_dg_lt x b
      unfold ab_cl at hc
      rw [(h2 a b han hbn (by omega)).1 _ _ h1 h2'] at hc
      exact (of_decide_eq_true hc).2.2 z
    · exact hr r hrc ((ab_R3_Ac hn h3 hrc).mp hac) ((ab_R3_Ag hn h3 hrc).mp hag)
  · rintro ⟨g1, g2, g3⟩
    refine ⟨fun a ha => ⟨fun hl => g1 a (by omega) hl, fun b hb hne hla hlb => ?_⟩, fun r hr hys hag => g3 r hr ((ab_R3_Ac hn h3 hr).mpr hys) ((ab_R3_Ag hn h3 hr).mpr hag)⟩
    have d1 := g1 a (by omega) hla
    have d2 := g1 b (by omega) hlb
    have key : ∀ a b, a < b → b < n → bt s a = true → bt s b = true → ab_dg x a < d → ab_dg x b < d → cl (ab_pl a (ab_dg x a) b (ab_dg x b)) = 0 := by
      intro a b hab hb hla hlb d1 d2
      have hc := g2 a b hab (by omega) hla hlb
      unfold ab_cl at hc
      rw [(h2 a b (by omega) hb (by omega)).1 _ _ (ab_dg_lt x a) (ab_dg_lt x b)] at hc
      by_cases z : cl (ab_pl a (ab_dg x a) b (ab_dg x b)) = 0
      · exact z
      · exact absurd (decide_eq_true ⟨d1, d2, z⟩) hc
    rcases Nat.lt_or_ge a b with h | h
    · exact key a b h hb hla hlb d1 d2
    · rw [h2s a b _ _ ha hb hne d1 d2]
      exact key b a (by omega) ha hlb hla d2 d1
/-- what the domains say against what the search holds fixed -/
def ab_DD (d : Nat) (s fx w : Int32) (dm : Nat → Int32) : Prop := ∀ a, a < 5 → bt s a = true → ∀ i, i < d → (bt (dm a) i = true ↔ (bt fx a = true → i = ab_dg w a))
theorem ab_gd (hn : n ≤ 5) (hd : d ≤ 4) (h2 : ab_R2 n d tb cl) (h2s : ab_R2s n d cl) (h3 : ab_R3 n d rc rf ys yc) (hs : ∀ i, bt s i = true → i < n) (hfx : ∀ i, bt fx i = true → bt s i = true) (hDD : ab_DD d s fx w dm) (c : Nat) : ab_Gd n d rc cl ys yc s fx w c ↔ ab_Sol d rc s tb rf dm (ab_dg (nI c)) := by
  unfold ab_Gd
  rw [ab_slv hn hd h2 h2s h3 hs, ab_Sol_0]
  constructor
  · rintro ⟨ha, hb⟩
    exact ⟨hb, fun a h5 hl => (hDD a h5 hl _ (hb.1 a h5 hl)).mpr (fun hx => ha a (hs a hl) hx)⟩
  · rintro ⟨hb, hc⟩
    exact ⟨fun i hi hx => (hDD i (by omega) (hfx i hx) _ (hb.1 i (by omega) (hfx i hx))).mp (hc i (by omega) (hfx i hx)) hx, hb⟩
/-! codes -/
def ab_cd (σ : Nat → Nat) : Nat := σ 0 * 256 + σ 1 * 64 + σ 2 * 16 + σ 3 * 4 + σ 4
theorem ab_bt_nI {c i : Nat} (hi : i < 32) : bt (nI c) i = decide (c / 2 ^ i % 2 = 1) := by
  show (BitVec.ofNat 32 c).getLsbD i = _
  rw [BitVec.getLsbD_ofNat, decide_eq_true hi, Bool.true_and, Nat.testBit_eq_decide_div_mod_eq]
theorem ab_dg_nI {c a : Nat} (ha : a < 5) : ab_dg (nI c) a = c / 4 ^ (4 - a) % 4 := by
  have key : ∀ m : Nat, (decide (m % 2 = 1)).toNat + 2 * (decide (m / 2 % 2 = 1)).toNat = m % 4 := by
    intro m
    by_cases h1 : m % 2 = 1 <;> by_cases h2 : m / 2 % 2 = 1
    · rw [decide_eq_true h1, decide_eq_true h2]; simp; omega
    · rw [decide_eq_true h1, decide_eq_false h2]; simp; omega
    · rw [decide_eq_false h1, decide_eq_true h2]; simp; omega
    · rw [decide_eq_false h1, decide_eq_false h2]; simp; omega
  unfold ab_dg
  rw [ab_bt_nI (by omega), ab_bt_nI (by omega)]
  have e : c / 2 ^ (2 * (4 - a) + 1) = c / 2 ^ (2 * (4 - a)) / 2 := by rw [Nat.pow_succ, Nat.div_div_eq_div_mul]
  rw [e, key, show (4 : Nat) = 2 ^ 2 from rfl, ← Nat.pow_mul]
theorem ab_dg_all {c : Nat} : ab_dg (nI c) 0 = c / 256 % 4 ∧ ab_dg (nI c) 1 = c / 64 % 4 ∧ ab_dg (nI c) 2 = c / 16 % 4 ∧ ab_dg (nI c) 3 = c / 4 % 4 ∧ ab_dg (nI c) 4 = c % 4 := by
  refine ⟨ab_dg_nI (by decide), ab_dg_nI (by decide), ab_dg_nI (by decide), ab_dg_nI (by decide), ?_⟩
  rw [ab_dg_nI (by decide)]
  simp
theorem ab_dg_cd (hσ : ∀ a, a < 5 → σ a < 4) {a : Nat} (ha : a < 5) : ab_dg (nI (ab_cd σ)) a = σ a := by
  have h0 := hσ 0 (by decide); have h1 := hσ 1 (by decide); have h2 := hσ 2 (by decide); have h3 := hσ 3 (by decide); have h4 := hσ 4 (by decide)
  obtain ⟨e0, e1, e2, e3, e4⟩ := @ab_dg_all (ab_cd σ)
  unfold ab_cd at *
  have : a = 0 ∨ a = 1 ∨ a = 2 ∨ a = 3 ∨ a = 4 := by omega
  rcases this with rfl | rfl | rfl | rfl | rfl
  · rw [e0]; omega
  · rw [e1]; omega
  · rw [e2]; omega
  · rw [e3]; omega
  · rw [e4]; omega
theorem ab_cd_lt (hσ : ∀ a, a < 5 → σ a < 4) : ab_cd σ < 1024 := by
  have h0 := hσ 0 (by decide); have h1 := hσ 1 (by decide); have h2 := hσ 2 (by decide); have h3 := hσ 3 (by decide); have h4 := hσ 4 (by decide)
  unfold ab_cd; omega
/-- an assignment with nothing at the sleeping agents -/
def ab_rs (s : Int32) (σ : Nat → Nat) : Nat → Nat := fun a => if bt s a = true then σ a else 0
theorem ab_rs_lt (hd : d ≤ 4) (h : ab_Sol d rc s tb rf dm σ) : ∀ a, a < 5 → ab_rs s σ a < 4 := by
  intro a ha
  unfold ab_rs
  by_cases e : bt s a = true
  · rw [if_pos e]; have := (h.1 a ha e).1; omega
  · rw [if_neg e]; omega
theorem ab_rs_sol (h : ab_Sol d rc s tb rf dm σ) : ab_Sol d rc s tb rf dm (ab_rs s σ) := ab_Sol_c (fun a _ hl => (if_pos hl).symm) h
/-- a solution is there just when the search finds one -/
theorem ab_ex (hn : n ≤ 5) (hd : d ≤ 4) (h2 : ab_R2 n d tb cl) (h2s : ab_R2s n d cl) (h3 : ab_R3 n d rc rf ys yc) (hs : ∀ i, bt s i = true → i < n) (hfx : ∀ i, bt fx i = true → bt s i = true) (hDD : ab_DD d s fx w dm) : (∃ σ, ab_Sol d rc s tb rf dm σ) ↔ ∃ c, c < 1024 ∧ ab_Gd n d rc cl ys yc s fx w c := by
  constructor
  · rintro ⟨σ, h⟩
    have hlt := ab_rs_lt hd h
    refine ⟨ab_cd (ab_rs s σ), ab_cd_lt hlt, (ab_gd hn hd h2 h2s h3 hs hfx hDD _).mpr ?_⟩
    exact ab_Sol_c (fun a ha hl => (ab_dg_cd hlt ha).symm) (ab_rs_sol h)
  · rintro ⟨c, _, h⟩
    exact ⟨_, (ab_gd hn hd h2 h2s h3 hs hfx hDD c).mp h⟩
/-- the least solution is the least code -/
theorem ab_least (hn : n ≤ 5) (hd : d ≤ 4) (h2 : ab_R2 n d tb cl) (h2s : ab_R2s n d cl) (h3 : ab_R3 n d rc rf ys yc) (hs : ∀ i, bt s i = true → i < n) (hfx : ∀ i, bt fx i = true → bt s i = true) (hDD : ab_DD d s fx w dm) (hL : ab_Lst d rc s tb rf dm σ) {c : Nat} (hc : c < 1024) (hg : ab_Gd n d rc cl ys yc s fx w c) (hl : ∀ c', c' < c → ¬ ab_Gd n d rc cl ys yc s fx w c') : c = ab_cd (ab_rs s σ) := by
  have hlt := ab_rs_lt hd hL.1
  have hsol := (ab_gd hn hd h2 h2s h3 hs hfx hDD c).mp hg
  have hle : c ≤ ab_cd (ab_rs s σ) := by
    rcases Nat.lt_or_ge (ab_cd (ab_rs s σ)) c with h | h
    · refine absurd ((ab_gd hn hd h2 h2s h3 hs hfx hDD _).mpr ?_) (hl _ h)
      exact ab_Sol_c (fun a ha hl => (ab_dg_cd hlt ha).symm) (ab_rs_sol hL.1)
    · exact h
  have step : ∀ b, b < 5 → (∀ a, a < b → ab_dg (nI c) a = ab_rs s σ a) → ab_rs s σ b ≤ ab_dg (nI c) b := by
    intro b hb hp
    by_cases e : bt s b = true
    · have g := hL.2 (ab_dg (nI c)) hsol b hb e (fun a ha hla => by rw [hp a ha]; exact if_pos hla)
      unfold ab_rs; rw [if_pos e]; exact g
    · unfold ab_rs; rw [if_neg e]; omega
  have t0 := hlt 0 (by decide); have t1 := hlt 1 (by decide); have t2 := hlt 2 (by decide); have t3 := hlt 3 (by decide); have t4 := hlt 4 (by decide)
  obtain ⟨e0, e1, e2, e3, e4⟩ := @ab_dg_all c
  unfold ab_cd at *
  have s0 := step 0 (by decide) (fun a ha => by omega)
  have q0 : ab_dg (nI c) 0 = ab_rs s σ 0 := by omega
  have s1 := step 1 (by decide) (fun a ha => by
    have : a = 0 := by omega
    rw [this]; exact q0)
  have q1 : ab_dg (nI c) 1 = ab_rs s σ 1 := by omega
  have s2 := step 2 (by decide) (fun a ha => by
    have : a = 0 ∨ a = 1 := by omega
    rcases this with rfl | rfl
    · exact q0
    · exact q1)
  have q2 : ab_dg (nI c) 2 = ab_rs s σ 2 := by omega
  have s3 := step 3 (by decide) (fun a ha => by
    have : a = 0 ∨ a = 1 ∨ a = 2 := by omega
    rcases this with rfl | rfl | rfl
    · exact q0
    · exact q1
    · exact q2)
  have q3 : ab_dg (nI c) 3 = ab_rs s σ 3 := by omega
  have s4 := step 4 (by decide) (fun a ha => by
    have : a = 0 ∨ a = 1 ∨ a = 2 ∨ a = 3 := by omega
    rcases this with rfl | rfl | rfl | rfl
    · exact q0
    · exact q1
    · exact q2
    · exact q3)
  omega
theorem ab_DD_0 (hd : d ≤ 4) (hD : ab_Df d dm) : ab_DD d s 0 0 dm := by
  intro a ha _ i hi
  rw [hD a ha, ab_low (by omega), decide_eq_true hi]
  exact ⟨fun _ z => absurd z (by rw [b_0]; decide), fun _ => rfl⟩
theorem ab_R3_KW (h1 : 2 ≤ n) (hn : n ≤ 5) (h4 : 2 ≤ d) (hd : d ≤ 4) (hrc : rc ≤ 8) (h3 : ab_R3 n d rc rf ys yc) (hs : ∀ i, bt s i = true → i < n) : ab_KW n d rc s rf := by
  refine ⟨h1, hn, h4, hd, hrc, hs, fun r hr => ⟨(h3 r hr).1, (h3 r hr).2.2.2.1, ?_⟩⟩
  obtain ⟨a, ha, hy⟩ := (h3 r hr).2.2.1
  refine ⟨a, by omega, ?_⟩
  rw [(h3 r hr).2.2.2.2 a (by omega), if_pos hy]; omega
end
end
section
/-! the relation, and the small calls -/
def ab_RS (d : Nat) (aw rs yr : Int32) : Prop := ab_Pk rs ∧ (∀ a, ab_fd rs a ≤ d) ∧ ∀ a, a < 5 → ab_fd rs a = if bt aw a = true then ab_dg yr a + 1 else 0
def ab_Rp (n d rc : Nat) (aw : Int32) (tb rf cl ya ys yc : Nat → Int32) : Prop :=
  2 ≤ n ∧ n ≤ 5 ∧ 2 ≤ d ∧ d ≤ 4 ∧ rc ≤ 8 ∧ (∀ i, bt aw i = decide (i < n ∧ ya i ≠ 0)) ∧ ab_R2 n d tb cl ∧ ab_R2s n d cl ∧ ab_R2b cl ∧ ab_R3 n d rc rf ys yc
def ab_Rel (n d rc : Nat) (aw st rs lv fl : Int32) (tb rf dm cu vw lk ex de wi : Nat → Int32) (yr : Int32) (cl ya ys yc : Nat → Int32) : Prop :=
  ab_Rp n d rc aw tb rf cl ya ys yc ∧
  ((st = 10 ∧ lv = aw ∧ ab_Df d dm ∧ ab_Inv n d rc aw tb rf dm fl cu vw lk ex de wi (fun _ => True)) ∨ (st = 11 ∧ ab_RS d aw rs yr) ∨ st = 12)
/-- the two objects hold the same problem; while nothing is settled the network keeps its invariant; a result is the least solution on both sides -/
def i_Rel (_ : Nat) (u : SX) (v : SY) : Prop := match u, v with
  | (fa, fv, fr, aw, st, rs, lv, fl, tb, rf, dm, cu, vw, lk, ex, de, wi), (ga, gv, gr, gs, yr, cl, ya, ys, yc) => ∃ n d rc : Nat, fa = nI n ∧ fv = nI d ∧ fr = nI rc ∧ ga = nI n ∧ gv = nI d ∧ gr = nI rc ∧ gs = st ∧ ab_Rel n d rc aw st rs lv fl tb rf dm cu vw lk ex de wi yr cl ya ys yc
theorem i_up {k : Nat} {u : SX} {v : SY} (h : i_Rel k u v) : i_Rel (k + 5) u v := h
theorem ab_el {k : Nat} {P : SX → SY → Prop} (h : ∀ n d rc aw st rs lv fl tb rf dm cu vw lk ex de wi yr cl ya ys yc, ab_Rel n d rc aw st rs lv fl tb rf dm cu vw lk ex de wi yr cl ya ys yc → P (nI n, nI d, nI rc, aw, st, rs, lv, fl, tb, rf, dm, cu, vw, lk, ex, de, wi) (nI n, nI d, nI rc, st, yr, cl, ya, ys, yc)) {u : SX} {v : SY} (I : i_Rel k u v) : P u v := by
  obtain ⟨fa, fv, fr, aw, st, rs, lv, fl, tb, rf, dm, cu, vw, lk, ex, de, wi⟩ := u
  obtain ⟨ga, gv, gr, gs, yr, cl, ya, ys, yc⟩ := v
  obtain ⟨n, d, rc, e1, e2, e3, e4, e5, e6, e7, hR⟩ := I
  subst e1 e2 e3 e4 e5 e6 e7
  exact h n d rc aw gs rs lv fl tb rf dm cu vw lk ex de wi yr cl ya ys yc hR
section
variable {n d rc : Nat} {aw st rs lv fl : Int32} {tb rf dm cu vw lk ex de wi : Nat → Int32} {yr : Int32} {cl ya ys yc : Nat → Int32}
theorem ab_in {k : Nat} (h : ab_Rel n d rc aw st rs lv fl tb rf dm cu vw lk ex de wi yr cl ya ys yc) : i_Rel k (nI n, nI d, nI rc, aw, st, rs, lv, fl, tb, rf, dm, cu, vw, lk, ex, de, wi) (nI n, nI d, nI rc, st, yr, cl, ya, ys, yc) := ⟨n, d, rc, rfl, rfl, rfl, rfl, rfl, rfl, rfl, h⟩
theorem ab_inj {a b : Nat} (ha : a < 100) (hb : b < 100) (h : nI a = nI b) : a = b := (nI_eq (by omega) (by omega)).mp h
theorem ab_aw_n (h : ∀ i, bt aw i = decide (i < n ∧ ya i ≠ 0)) : ∀ i, bt aw i = true → i < n := by
  intro i hi
  rw [h] at hi
  exact (of_decide_eq_true hi).1
theorem ab_Rp_KW (h : ab_Rp n d rc aw tb rf cl ya ys yc) : ab_KW n d rc aw rf := by
  obtain ⟨h1, h2, h3, h4, h5, h6, h7, h8, h9, h10⟩ := h
  exact ab_R3_KW h1 h2 h3 h4 h5 h10 (ab_aw_n h6)
/-- every change ends in a fresh network -/
theorem ab_reop {k : Nat} {post : SX → Prop} (yr : Int32) (h : ab_Rp n d rc aw tb rf cl ya ys yc) (K : ∀ dm fl cu vw lk ex de wi, i_Rel (k + 5) (nI n, nI d, nI rc, aw, 10, 0, aw, fl, tb, rf, dm, cu, vw, lk, ex, de, wi) (nI n, nI d, nI rc, 10, yr, cl, ya, ys, yc) → post (nI n, nI d, nI rc, aw, 10, 0, aw, fl, tb, rf, dm, cu, vw, lk, ex, de, wi)) : wpX_reopen post (nI n, nI d, nI rc, aw, st, rs, lv, fl, tb, rf, dm, cu, vw, lk, ex, de, wi) :=
  ab_xreopen (ab_Rp_KW h) (fun dm' fl cu vw lk ex de wi hD hI => K _ _ _ _ _ _ _ _ (ab_in ⟨h, Or.inl ⟨rfl, rfl, hD, hI⟩⟩))
theorem ab_xconflict {post : Int32 → Prop} {x1 x2 x3 x4 : Int32} (hn : n ≤ 5) (hd : d ≤ 4)
    (K1 : ∀ a va b vb, a < n → va < d → b < n → vb < d → a ≠ b → x1 = nI a → x2 = nI va → x3 = nI b → x4 = nI vb → (¬ ab_cl tb a va b vb → post 0) ∧ (ab_cl tb a va b vb → post 1))
    (K0 : (∀ a va b vb, a < n → va < d → b < n → vb < d → x1 = nI a → x2 = nI va → x3 = nI b → x4 = nI vb → a = b) → post (-1)) : wpX_conflict post (nI n, nI d, nI rc, aw, st, rs, lv, fl, tb, rf, dm, cu, vw, lk, ex, de, wi) x1 x2 x3 x4 := by
  unfold wpX_conflict
  dsimp only
  refine ab_xisPair hn (fun a b ha hb hab ea eb => br_f (by decide) (ab_xisValue (by omega) (fun va hva eva => br_f (by decide) (ab_xisValue (by omega) (fun vb hvb evb => br_f (by decide) ?_) (fun h => br_t rfl (K0 (fun _ _ _ vb' _ _ _ h' _ _ _ z => absurd z (h vb' h')))))) (fun h => br_t rfl (K0 (fun _ va' _ _ _ h' _ _ _ z _ _ => absurd z (h va' h')))))) (fun h => br_t rfl (K0 (fun a' _ b' _ h1 _ h2 _ z1 _ z2 _ => h a' b' h1 h2 z1 z2)))
  have hk := K1 a va b vb ha hva hb hvb hab ea eva eb evb
  rw [ea, eva, eb, evb]
  exact ab_xclash (by omega) (by omega) (by omega) (by omega) (fun z => br_t rfl (hk.1 z)) (fun z => br_f (by decide) (hk.2 z))
theorem ab_R2_cl {a va b vb : Nat} (hd : d ≤ 4) (h2 : ab_R2 n d tb cl) (ha : a < n) (hva : va < d) (hb : b < n) (hvb : vb < d) (hab : a ≠ b) : ab_cl tb a va b vb ↔ ¬ cl (ab_pl a va b vb) = 0 := by
  unfold ab_cl
  rw [(h2 a b ha hb hab).1 va vb (by omega) (by omega), decide_eq_true_eq]
  exact ⟨fun z => z.2.2, fun z => ⟨hva, hvb, z⟩⟩
end
theorem i_vc_conflict {k : Nat} {u : SX} {v : SY} (I : i_Rel k u v) (hk : k + 5 ≤ 2562) (v1 : Int32) (v2 : Int32) (v3 : Int32) (v4 : Int32) : wpX_conflict (fun r => wpY_conflict (fun r' => r' = r ∧ i_Rel (k + 5) u v) v v1 v2 v3 v4) u v1 v2 v3 v4 := by
  refine ab_el (P := fun u v => wpX_conflict (fun r => wpY_conflict (fun r' => r' = r ∧ i_Rel (k + 5) u v) v v1 v2 v3 v4) u v1 v2 v3 v4) ?_ I
  intro n d rc aw st rs lv fl tb rf dm cu vw lk ex de wi yr cl ya ys yc hR
  have hR' := hR.1
  obtain ⟨h1, h2, h3, h4, h5, h6, h7, h8, h9, h10⟩ := hR'
  refine ab_xconflict h2 h4 (fun a va b vb ha hva hb hvb hab e1 e2 e3 e4 => ?_) (fun H => ?_)
  · have hiff := ab_R2_cl h4 h7 ha hva hb hvb hab
    have go : ∀ r : Int32, ((cl (ab_pl a va b vb) = 0 → 0 = r) ∧ (¬ cl (ab_pl a va b vb) = 0 → 1 = r)) → wpY_conflict (fun r' => r' = r ∧ i_Rel (k + 5) (nI n, nI d, nI rc, aw, st, rs, lv, fl, tb, rf, dm, cu, vw, lk, ex, de, wi) (nI n, nI d, nI rc, st, yr, cl, ya, ys, yc)) (nI n, nI d, nI rc, st, yr, cl, ya, ys, yc) v1 v2 v3 v4 := by
      intro r hr
      refine ab_yconflict h2 h4 (fun a' va' b' vb' ha' hva' hb' hvb' hab' e1' e2' e3' e4' => ?_) (fun H => absurd (H a va b vb ha hva hb hvb e1 e2 e3 e4) hab)
      obtain rfl := ab_inj (by omega) (by omega) (e1.symm.trans e1')
      obtain rfl := ab_inj (by omega) (by omega) (e2.symm.trans e2')
      obtain rfl := ab_inj (by omega) (by omega) (e3.symm.trans e3')
      obtain rfl := ab_inj (by omega) (by omega) (e4.symm.trans e4')
      exact ⟨fun z => ⟨hr.1 z, ab_in hR⟩, fun z => ⟨hr.2 z, ab_in hR⟩⟩
    exact ⟨fun z => go 0 ⟨fun _ => rfl, fun y => absurd (hiff.mpr y) z⟩, fun z => go 1 ⟨fun y => absurd y (hiff.mp z), fun _ => rfl⟩⟩
  · exact ab_yconflict h2 h4 (fun a va b vb ha hva hb hvb hab e1 e2 e3 e4 => absurd (H a va b vb ha hva hb hvb e1 e2 e3 e4) hab) (fun _ => ⟨rfl, ab_in hR⟩)
theorem i_vc_sleep {k : Nat} {u : SX} {v : SY} (I : i_Rel k u v) (hk : k + 5 ≤ 2562) (v1 : Int32) : wpX_sleep (fun r u' => wpY_sleep (fun r' v' => r' = r ∧ i_Rel (k + 5) u' v') v v1) u v1 := by
  refine ab_el (P := fun u v => wpX_sleep (fun r u' => wpY_sleep (fun r' v' => r' = r ∧ i_Rel (k + 5) u' v') v v1) u v1) ?_ I
  intro n d rc aw st rs lv fl tb rf dm cu vw lk ex de wi yr cl ya ys yc hR
  have hR' := hR.1
  obtain ⟨h1, h2, h3, h4, h5, h6, h7, h8, h9, h10⟩ := hR'
  unfold wpX_sleep wpY_sleep
  dsimp only
  refine ab_xisAgent h2 (fun a ha ea => br_f (by decide) ?_) (fun H => br_t rfl (ab_yisAgent h2 (fun a ha ea => absurd ea (H a ha)) (fun _ => br_t rfl ⟨rfl, ab_in hR⟩)))
  subst ea
  have hin : vp_in (nI a) 5 := vp_in_nI (by omega) (by decide)
  have hba : bt aw a = true ↔ ya a ≠ 0 := by rw [h6, decide_eq_true_eq]; exact ⟨fun z => z.2, fun z => ⟨ha, z⟩⟩
  refine ab_xhas (by omega) (fun e => br_t rfl (ab_yisAgent h2 (fun a' ha' ea' => br_f (by decide) ?_) (fun H => absurd rfl (H a ha)))) (fun e => br_f (by decide) (nm_e ?_))
  · obtain rfl := ab_inj (by omega) (by omega) ea'
    refine ⟨hin, ?_⟩
    rw [nI_clamp (show a < 2 ^ 31 by omega)]
    refine br_t ?_ ⟨rfl, ab_in hR⟩
    by_cases z : ya a = 0
    · exact z
    · rw [hba.mpr z] at e; cases e
  · have hRp : ab_Rp n d rc (aw &&& (((1 : Int32) <<< (nI a &&& 31)) ^^^ (-1))) tb rf cl (upd ya a 0) ys yc := by
      refine ⟨h1, h2, h3, h4, h5, fun i => ?_, h7, h8, h9, h10⟩
      rw [ab_clr (by omega), h6]
      by_cases z : i = a
      · rw [decide_eq_true z, z, pk_us, decide_eq_false (p := a < n ∧ (0 : Int32) ≠ 0) (fun y => y.2 rfl), Bool.not_true, Bool.and_false]
      · rw [decide_eq_false z, pk_un z, Bool.not_false, Bool.and_true]
    refine ab_reop (k := k) yr hRp (fun dm fl cu vw lk ex de wi hu' => ?_)
    refine ab_yisAgent h2 (fun a' ha' ea' => br_f (by decide) ?_) (fun H => absurd rfl (H a ha))
    obtain rfl := ab_inj (by omega) (by omega) ea'
    refine ⟨hin, ?_⟩
    rw [nI_clamp (show a < 2 ^ 31 by omega)]
    exact br_f (hba.mp e) ⟨hin, nm_e ⟨rfl, hu'⟩⟩
theorem i_vc_wake {k : Nat} {u : SX} {v : SY} (I : i_Rel k u v) (hk : k + 5 ≤ 2562) (v1 : Int32) : wpX_wake (fun r u' => wpY_wake (fun r' v' => r' = r ∧ i_Rel (k + 5) u' v') v v1) u v1 := by
  refine ab_el (P := fun u v => wpX_wake (fun r u' => wpY_wake (fun r' v' => r' = r ∧ i_Rel (k + 5) u' v') v v1) u v1) ?_ I
  intro n d rc aw st rs lv fl tb rf dm cu vw lk ex de wi yr cl ya ys yc hR
  have hR' := hR.1
  obtain ⟨h1, h2, h3, h4, h5, h6, h7, h8, h9, h10⟩ := hR'
  unfold wpX_wake wpY_wake
  dsimp only
  refine ab_xisAgent h2 (fun a ha ea => br_f (by decide) ?_) (fun H => br_t rfl (ab_yisAgent h2 (fun a ha ea => absurd ea (H a ha)) (fun _ => br_t rfl ⟨rfl, ab_in hR⟩)))
  subst ea
  have hin : vp_in (nI a) 5 := vp_in_nI (by omega) (by decide)
  have hba : bt aw a = true ↔ ya a ≠ 0 := by rw [h6, decide_eq_true_eq]; exact ⟨fun z => z.2, fun z => ⟨ha, z⟩⟩
  refine ab_xhas (by omega) (fun e => br_t rfl (nm_e ?_)) (fun e => br_f (by decide) (ab_yisAgent h2 (fun a' ha' ea' => br_f (by decide) ?_) (fun H => absurd rfl (H a ha))))
  · have hRp : ab_Rp n d rc (aw ||| ((1 : Int32) <<< (nI a &&& 31))) tb rf cl (upd ya a 1) ys yc := by
      refine ⟨h1, h2, h3, h4, h5, fun i => ?_, h7, h8, h9, h10⟩
      rw [ab_set (by omega), h6]
      by_cases z : i = a
      · rw [decide_eq_true z, z, pk_us, decide_eq_true (p := a < n ∧ (1 : Int32) ≠ 0) ⟨ha, by decide⟩, Bool.or_true]
      · rw [decide_eq_false z, pk_un z, Bool.or_false]
    refine ab_reop (k := k) yr hRp (fun dm fl cu vw lk ex de wi hu' => ?_)
    refine ab_yisAgent h2 (fun a' ha' ea' => br_f (by decide) ?_) (fun H => absurd rfl (H a ha))
    obtain rfl := ab_inj (by omega) (by omega) ea'
    refine ⟨hin, ?_⟩
    rw [nI_clamp (show a < 2 ^ 31 by omega)]
    refine br_t ?_ ⟨hin, nm_e ⟨rfl, hu'⟩⟩
    by_cases z : ya a = 0
    · exact z
    · rw [hba.mpr z] at e; cases e
  · obtain rfl := ab_inj (by omega) (by omega) ea'
    refine ⟨hin, ?_⟩
    rw [nI_clamp (show a < 2 ^ 31 by omega)]
    exact br_f (hba.mp e) ⟨rfl, ab_in hR⟩
theorem i_vc_awakeSet {k : Nat} {u : SX} {v : SY} (I : i_Rel k u v) (hk : k + 5 ≤ 2562) : wpX_awakeSet (fun r => wpY_awakeSet (fun r' => r' = r ∧ i_Rel (k + 5) u v) v) u := by
  refine ab_el (P := fun u v => wpX_awakeSet (fun r => wpY_awakeSet (fun r' => r' = r ∧ i_Rel (k + 5) u v) v) u) ?_ I
  intro n d rc aw st rs lv fl tb rf dm cu vw lk ex de wi yr cl ya ys yc hR
  exact ab_yawake hR.1.2.1 hR.1.2.2.2.2.2.1 ⟨rfl, ab_in hR⟩
theorem i_vc_status {k : Nat} {u : SX} {v : SY} (I : i_Rel k u v) (hk : k + 5 ≤ 2562) : wpX_status (fun r => wpY_status (fun r' => r' = r ∧ i_Rel (k + 5) u v) v) u := by
  refine ab_el (P := fun u v => wpX_status (fun r => wpY_status (fun r' => r' = r ∧ i_Rel (k + 5) u v) v) u) ?_ I
  intro n d rc aw st rs lv fl tb rf dm cu vw lk ex de wi yr cl ya ys yc hR
  exact ⟨rfl, ab_in hR⟩
theorem i_vc_refusals {k : Nat} {u : SX} {v : SY} (I : i_Rel k u v) (hk : k + 5 ≤ 2562) : wpX_refusals (fun r => wpY_refusals (fun r' => r' = r ∧ i_Rel (k + 5) u v) v) u := by
  refine ab_el (P := fun u v => wpX_refusals (fun r => wpY_refusals (fun r' => r' = r ∧ i_Rel (k + 5) u v) v) u) ?_ I
  intro n d rc aw st rs lv fl tb rf dm cu vw lk ex de wi yr cl ya ys yc hR
  exact ⟨rfl, ab_in hR⟩
theorem i_vc_value {k : Nat} {u : SX} {v : SY} (I : i_Rel k u v) (hk : k + 5 ≤ 2562) (v1 : Int32) : wpX_value (fun r => wpY_value (fun r' => r' = r ∧ i_Rel (k + 5) u v) v v1) u v1 := by
  refine ab_el (P := fun u v => wpX_value (fun r => wpY_value (fun r' => r' = r ∧ i_Rel (k + 5) u v) v v1) u v1) ?_ I
  intro n d rc aw st rs lv fl tb rf dm cu vw lk ex de wi yr cl ya ys yc hR
  have hR' := hR.1
  obtain ⟨h1, h2, h3, h4, h5, h6, h7, h8, h9, h10⟩ := hR'
  unfold wpX_value wpY_value
  dsimp only
  refine ab_xisAgent h2 (fun a ha ea => br_f (by decide) ?_) (fun H => br_t rfl (ab_yisAgent h2 (fun a ha ea => absurd ea (H a ha)) (fun _ => br_t rfl ⟨rfl, ab_in hR⟩)))
  subst ea
  have hin : vp_in (nI a) 5 := vp_in_nI (by omega) (by decide)
  have hba : bt aw a = true ↔ ya a ≠ 0 := by rw [h6, decide_eq_true_eq]; exact ⟨fun z => z.2, fun z => ⟨ha, z⟩⟩
  refine br_c (fun es => ab_xhas (by omega) (fun e => br_t rfl ?_) (fun e => br_f (by decide) ?_)) (fun es => ab_yisAgent h2 (fun a' ha' ea' => br_f (by decide) (br_f es ⟨rfl, ab_in hR⟩)) (fun H => absurd rfl (H a ha)))
  · refine ab_yisAgent h2 (fun a' ha' ea' => br_f (by decide) (br_t es ⟨hin, ?_⟩)) (fun H => absurd rfl (H a ha))
    obtain rfl := ab_inj (by omega) (by omega) ea'
    rw [nI_clamp (show a < 2 ^ 31 by omega)]
    refine br_t ?_ ⟨rfl, ab_in hR⟩
    by_cases z : ya a = 0
    · exact z
    · rw [hba.mpr z] at e; cases e
  · have hRS : ab_RS d aw rs yr := by
      rcases hR.2 with ⟨z, _⟩ | ⟨_, z⟩ | z
      · rw [es] at z; exact absurd z (by decide)
      · exact z
      · rw [es] at z; exact absurd z (by decide)
    have hf := hRS.2.2 a (by omega)
    rw [if_pos e] at hf
    refine ab_xfield (by omega) (fun h0 => by omega) (fun _ => ab_yisAgent h2 (fun a' ha' ea' => br_f (by decide) (br_t es ⟨hin, ?_⟩)) (fun H => absurd rfl (H a ha)))
    obtain rfl := ab_inj (by omega) (by omega) ea'
    rw [nI_clamp (show a < 2 ^ 31 by omega)]
    refine br_f (hba.mp e) (ab_ydigit (by omega) ⟨?_, ab_in hR⟩)
    rw [hf, Nat.add_sub_cancel]
theorem i_vc_refused {k : Nat} {u : SX} {v : SY} (I : i_Rel k u v) (hk : k + 5 ≤ 2562) (v1 : Int32) (v2 : Int32) : wpX_refused (fun r => wpY_refused (fun r' => r' = r ∧ i_Rel (k + 5) u v) v v1 v2) u v1 v2 := by
  refine ab_el (P := fun u v => wpX_refused (fun r => wpY_refused (fun r' => r' = r ∧ i_Rel (k + 5) u v) v v1 v2) u v1 v2) ?_ I
  intro n d rc aw st rs lv fl tb rf dm cu vw lk ex de wi yr cl ya ys yc hR
  have hR' := hR.1
  obtain ⟨h1, h2, h3, h4, h5, h6, h7, h8, h9, h10⟩ := hR'
  unfold wpX_refused wpY_refused
  dsimp only
  refine br_c (fun e => br_t e ⟨rfl, ab_in hR⟩) (fun e => br_c (fun e2 => br_f e (br_t e2 ⟨rfl, ab_in hR⟩)) (fun e2 => ?_))
  obtain ⟨r, hr, rfl⟩ := nI_of e
  have hrc : r < rc := by
    rcases Nat.lt_or_ge r rc with h | h
    · exact h
    · exact absurd (nI_le h hr) e2
  have hin : vp_in (nI r) 8 := vp_in_nI (by omega) (by decide)
  have h3r := h10 r hrc
  refine ab_xisAgent h2 (fun a ha ea => br_f (by decide) ⟨hin, ?_⟩) (fun H => br_t rfl (br_f e (br_f e2 (ab_yisAgent h2 (fun a ha ea => absurd ea (H a ha)) (fun _ => br_t rfl ⟨rfl, ab_in hR⟩)))))
  subst ea
  rw [nI_clamp hr]
  have hf := h3r.2.2.2.2 a (by omega)
  have go : ∀ x : Int32, (bt (ys r) a = false → -2 = x) → (bt (ys r) a = true → nI (ab_dg (yc r) a) = x) → wpY_isAgent (fun r_3 => (r_3 = 0 → -1 = x ∧ i_Rel (k + 5) (nI n, nI d, nI rc, aw, st, rs, lv, fl, tb, rf, dm, cu, vw, lk, ex, de, wi) (nI n, nI d, nI rc, st, yr, cl, ya, ys, yc)) ∧ (¬ r_3 = 0 → vp_in (nI r) 8 ∧ wpY_in (fun r_15 => (r_15 = 0 → -2 = x ∧ i_Rel (k + 5) (nI n, nI d, nI rc, aw, st, rs, lv, fl, tb, rf, dm, cu, vw, lk, ex, de, wi) (nI n, nI d, nI rc, st, yr, cl, ya, ys, yc)) ∧ (¬ r_15 = 0 → vp_in (nI r) 8 ∧ wpY_digit (fun r_27 => r_27 = x ∧ i_Rel (k + 5) (nI n, nI d, nI rc, aw, st, rs, lv, fl, tb, rf, dm, cu, vw, lk, ex, de, wi) (nI n, nI d, nI rc, st, yr, cl, ya, ys, yc)) (nI n, nI d, nI rc, st, yr, cl, ya, ys, yc) (yc r) (nI a))) (nI n, nI d, nI rc, st, yr, cl, ya, ys, yc) (ys r) (nI a))) (nI n, nI d, nI rc, st, yr, cl, ya, ys, yc) (nI a) := by
    intro x hx0 hx1
    refine ab_yisAgent h2 (fun a' ha' ea' => br_f (by decide) ⟨hin, ?_⟩) (fun H => absurd rfl (H a ha))
    exact ab_yin (by omega) (fun z => br_t rfl ⟨hx0 z, ab_in hR⟩) (fun z => br_f (by decide) ⟨hin, ab_ydigit (by omega) ⟨hx1 z, ab_in hR⟩⟩)
  refine ab_xfield (by omega) (fun h0 => br_f ab_m1_nle (br_f e (br_f e2 (go (-2) (fun _ => rfl) (fun z => ?_))))) (fun h0 => br_t (nI_pos' (ab_fdn _ _)) (br_f e (br_f e2 (go _ (fun z => ?_) (fun z => ?_)))))
  · rw [if_pos z] at hf; omega
  · rw [z, if_neg (by decide)] at hf; exact absurd hf h0
  · rw [if_pos z] at hf; rw [hf, Nat.add_sub_cancel]
theorem i_vc_deliver {k : Nat} {u : SX} {v : SY} (I : i_Rel k u v) (hk : k + 5 ≤ 2562) (v1 : Int32) (v2 : Int32) : wpX_deliver (fun r u' => wpY_deliver (fun r' => r' = r ∧ i_Rel (k + 5) u' v) v v1 v2) u v1 v2 := by
  refine ab_el (P := fun u v => wpX_deliver (fun r u' => wpY_deliver (fun r' => r' = r ∧ i_Rel (k + 5) u' v) v v1 v2) u v1 v2) ?_ I
  intro n d rc aw st rs lv fl tb rf dm cu vw lk ex de wi yr cl ya ys yc hR
  have hR' := hR.1
  obtain ⟨h1, h2, h3, h4, h5, h6, h7, h8, h9, h10⟩ := hR'
  have hba : ∀ a, a < n → (bt aw a = true ↔ ya a ≠ 0) := fun a ha => by rw [h6, decide_eq_true_eq]; exact ⟨fun z => z.2, fun z => ⟨ha, z⟩⟩
  have hb0 : ∀ a, a < n → bt aw a = false → ya a = 0 := fun a ha e => by
    by_cases z : ya a = 0
    · exact z
    · rw [(hba a ha).mpr z] at e; cases e
  unfold wpX_deliver
  dsimp only
  refine ab_xisPair h2 (fun a b ha hb hab ea eb => br_f (by decide) ?_) (fun H => br_t rfl ?_)
  · subst ea eb
    have hina : vp_in (nI a) 5 := vp_in_nI (by omega) (by decide)
    have hinb : vp_in (nI b) 5 := vp_in_nI (by omega) (by decide)
    have go : ∀ (x : Int32) (u' : SX), i_Rel (k + 5) u' (nI n, nI d, nI rc, st, yr, cl, ya, ys, yc) → ((ya a = 0 → -2 = x) ∧ (ya a ≠ 0 → (ya b = 0 → -2 = x) ∧ (ya b ≠ 0 → (st = 10 → 0 = x) ∧ (¬ st = 10 → 2 = x)))) → wpY_deliver (fun r' => r' = x ∧ i_Rel (k + 5) u' (nI n, nI d, nI rc, st, yr, cl, ya, ys, yc)) (nI n, nI d, nI rc, st, yr, cl, ya, ys, yc) (nI a) (nI b) := by
      intro x u' hu hx
      unfold wpY_deliver
      dsimp only
      refine ab_yisAgent h2 (fun _ _ _ => br_f (by decide) (ab_yisAgent h2 (fun _ _ _ => br_f (by decide) (br_f (fun z => hab (ab_inj (by omega) (by omega) z)) ⟨hina, ?_⟩)) (fun H => absurd rfl (H b hb)))) (fun H => absurd rfl (H a ha))
      rw [nI_clamp (show a < 2 ^ 31 by omega), nI_clamp (show b < 2 ^ 31 by omega)]
      exact br_c (fun z => ⟨hx.1 z, hu⟩) (fun z => ⟨hinb, br_c (fun y => ⟨(hx.2 z).1 y, hu⟩) (fun y => br_c (fun s => ⟨((hx.2 z).2 y).1 s, hu⟩) (fun s => ⟨((hx.2 z).2 y).2 s, hu⟩))⟩)
    refine ab_xhas (by omega) (fun e => br_t rfl (go (-2) _ (ab_in hR) ⟨fun _ => rfl, fun z => absurd (hb0 a ha e) z⟩)) (fun e => br_f (by decide) (ab_xhas (by omega) (fun e2 => br_t rfl (go (-2) _ (ab_in hR) ⟨fun _ => rfl, fun z => ⟨fun _ => rfl, fun y => absurd (hb0 b hb e2) y⟩⟩)) (fun e2 => br_f (by decide) (br_c (fun es => ?_) (fun es => go 2 _ (ab_in hR) ⟨fun z => absurd z ((hba a ha).mp e), fun _ => ⟨fun z => absurd z ((hba b hb).mp e2), fun _ => ⟨fun z => absurd z es, fun _ => rfl⟩⟩⟩)))))
    have hO : lv = aw ∧ ab_Df d dm ∧ ab_Inv n d rc aw tb rf dm fl cu vw lk ex de wi (fun _ => True) := by
      rcases hR.2 with z | ⟨z, _⟩ | z
      · exact z.2
      · rw [es] at z; exact absurd z (by decide)
      · rw [es] at z; exact absurd z (by decide)
    obtain ⟨rfl, hD, hI⟩ := hO
    have hx : (ya a = 0 → (-2 : Int32) = 0) ∧ (ya a ≠ 0 → (ya b = 0 → (-2 : Int32) = 0) ∧ (ya b ≠ 0 → (st = 10 → (0 : Int32) = 0) ∧ (¬ st = 10 → (2 : Int32) = 0))) := ⟨fun z => absurd z ((hba a ha).mp e), fun _ => ⟨fun z => absurd z ((hba b hb).mp e2), fun _ => ⟨fun _ => rfl, fun z => absurd es z⟩⟩⟩
    exact ab_pass hI ha hb (fun _ _ => go 0 _ (ab_in hR) hx) (fun fl' cu' vw' lk' ex' de' wi' _ _ hI' _ => go 0 _ (ab_in ⟨hR.1, Or.inl ⟨es, rfl, hD, hI'⟩⟩) hx)
  · unfold wpY_deliver
    dsimp only
    exact ab_yisAgent h2 (fun a ha ea => br_f (by decide) (ab_yisAgent h2 (fun b hb eb => br_f (by decide) (br_t (by rw [ea, eb, H a b ha hb ea eb]) ⟨rfl, ab_in hR⟩)) (fun _ => br_t rfl ⟨rfl, ab_in hR⟩))) (fun _ => br_t rfl ⟨rfl, ab_in hR⟩)
end
section
/-! settle, refuse, drop -/
theorem i_vc_settle {k : Nat} {u : SX} {v : SY} (I : i_Rel k u v) (hk : k + 5 ≤ 2562) : wpX_settle (fun r u' => wpY_settle (fun r' v' => r' = r ∧ i_Rel (k + 5) u' v') v) u := by
  refine ab_el (P := fun u v => wpX_settle (fun r u' => wpY_settle (fun r' v' => r' = r ∧ i_Rel (k + 5) u' v') v) u) ?_ I
  intro n d rc aw st rs lv fl tb rf dm cu vw lk ex de wi yr cl ya ys yc hR
  have hR' := hR.1
  obtain ⟨h1, h2, h3, h4, h5, h6, h7, h8, h9, h10⟩ := hR'
  unfold wpX_settle wpY_settle
  dsimp only
  refine br_c (fun es => ?_) (fun es => br_f es ⟨rfl, ab_in hR⟩)
  have hO : lv = aw ∧ ab_Df d dm ∧ ab_Inv n d rc aw tb rf dm fl cu vw lk ex de wi (fun _ => True) := by
    rcases hR.2 with z | ⟨z, _⟩ | z
    · exact z.2
    · rw [es] at z; exact absurd z (by decide)
    · rw [es] at z; exact absurd z (by decide)
  obtain ⟨rfl, hD, hI⟩ := hO
  have hs := ab_aw_n h6
  have hfx : ∀ i, bt (0 : Int32) i = true → bt lv i = true := fun i z => by rw [b_0] at z; cases z
  have hDD := ab_DD_0 (s := lv) h4 hD
  refine ab_xrun hI (fun fl cu vw lk ex de wi hI hor => br_c (fun e => ?_) (fun e => br_t es ?_))
  · have hq : ab_Qn n de wi := by
      rcases hor with z | z
      · exact absurd e z
      · exact z
    obtain ⟨hall, hL⟩ := ab_final hI e hq
    have hTC := hI.1.2.1
    refine ab_xkeep h2 h4 hTC (fun a ha hl => hall a (by omega) hl) (fun rs' hP hF => br_t es ?_)
    refine ab_yawake h2 h6 (ab_yleast h2 h4 h5 (fun c hc hg hl => br_f (nI_pos (by omega)) ⟨rfl, ab_in ⟨hR.1, Or.inr (Or.inl ⟨rfl, hP, fun a => ?_, fun a ha => ?_⟩)⟩⟩) (fun hno => ?_))
    · rw [hF a]
      by_cases z : a < n ∧ bt lv a = true
      · rw [if_pos z]; exact (hTC a (by omega)).1.2
      · rw [if_neg z]; omega
    · have ec := ab_least h2 h4 h7 h8 h10 hs hfx hDD hL hc hg hl
      rw [hF a]
      by_cases z : bt lv a = true
      · rw [if_pos ⟨hs a z, z⟩, if_pos z, ec, ab_dg_cd (ab_rs_lt h4 hL.1) ha]
        have := hall a ha z
        unfold ab_rs
        rw [if_pos z]
        show ab_dc (cu a) = ab_dc (cu a) - 1 + 1
        omega
      · rw [if_neg (fun y => z y.2), if_neg z]
    · obtain ⟨c, hc, hg⟩ := (ab_ex h2 h4 h7 h8 h10 hs hfx hDD).mp ⟨_, hL.1⟩
      exact absurd hg (hno c hc)
  · have hns : ∀ σ, ¬ ab_Sol d rc lv tb rf dm σ := by
      rcases hI.1.2.2.2.2.2.2.2.2.2.2.2.1 with h | h
      · exact absurd h e
      · exact h.2
    refine ab_yawake h2 h6 (ab_yleast h2 h4 h5 (fun c hc hg hl => ?_) (fun hno => br_t ab_m1_neg ⟨rfl, ab_in ⟨hR.1, Or.inr (Or.inr rfl)⟩⟩))
    obtain ⟨σ, hσ⟩ := (ab_ex h2 h4 h7 h8 h10 hs hfx hDD).mpr ⟨c, hc, hg⟩
    exact absurd hσ (hns σ)
theorem i_vc_refuse {k : Nat} {u : SX} {v : SY} (I : i_Rel k u v) (hk : k + 5 ≤ 2562) : wpX_refuse (fun r u' => wpY_refuse (fun r' v' => r' = r ∧ i_Rel (k + 5) u' v') v) u := by
  refine ab_el (P := fun u v => wpX_refuse (fun r u' => wpY_refuse (fun r' v' => r' = r ∧ i_Rel (k + 5) u' v') v) u) ?_ I
  intro n d rc aw st rs lv fl tb rf dm cu vw lk ex de wi yr cl ya ys yc hR
  have hR' := hR.1
  obtain ⟨h1, h2, h3, h4, h5, h6, h7, h8, h9, h10⟩ := hR'
  unfold wpX_refuse wpY_refuse
  dsimp only
  refine br_c (fun es => ?_) (fun es => ab_yawake h2 h6 (br_f es ⟨rfl, ab_in hR⟩))
  refine br_c (fun ea => ab_yawake h2 h6 (br_t es (br_t ea ⟨rfl, ab_in hR⟩))) (fun ea => ?_)
  refine br_c (fun er => ?_) (fun er => ab_yawake h2 h6 (br_t es (br_f ea (br_f er ⟨rfl, ab_in hR⟩))))
  have hRS : ab_RS d aw rs yr := by
    rcases hR.2 with ⟨z, _⟩ | ⟨_, z⟩ | z
    · rw [es] at z; exact absurd z (by decide)
    · exact z
    · rw [es] at z; exact absurd z (by decide)
  have hrc : rc < 8 := (nI_ltI (b := 8) (by omega) (by decide)).mp er
  have hin : vp_in (nI rc) 8 := vp_in_nI hrc (by decide)
  have hne : ∃ a, a < n ∧ bt aw a = true := by
    rcases Classical.em (∃ a, a < n ∧ bt aw a = true) with h | h
    · exact h
    · refine absurd (ab_ext0.mpr (fun i _ => ?_)) ea
      cases hb : bt aw i
      · rfl
      · exact absurd ⟨i, ab_aw_n h6 i hb, hb⟩ h
  refine ⟨hin, ?_⟩
  rw [nI_clamp (show rc < 2 ^ 31 by omega)]
  refine nm_e (nm_r (nI_1 rc) ?_)
  have hRp : ab_Rp n d (rc + 1) aw tb (upd rf rc rs) cl ya (upd ys rc aw) (upd yc rc yr) := by
    refine ⟨h1, h2, h3, h4, by omega, h6, h7, h8, h9, fun r hr => ?_⟩
    by_cases e : r = rc
    · subst e
      rw [pk_us, pk_us, pk_us]
      exact ⟨hRS.1, ab_aw_n h6, hne, hRS.2.1, hRS.2.2⟩
    · rw [pk_un e, pk_un e, pk_un e]
      exact h10 r (by omega)
  refine ab_reop (k := k) yr hRp (fun dm fl cu vw lk ex de wi hu' => ?_)
  refine ab_yawake h2 h6 (br_t es (br_f ea (br_t er ⟨hin, nm_e ⟨hin, nm_e (nm_r (nI_1 rc) ⟨rfl, hu'⟩)⟩⟩)))
/-- a row whose places from p to s - 1 have moved down by one -/
def ab_shf (p s : Nat) (f : Nat → Int32) : Nat → Int32 := fun i => if p ≤ i ∧ i < s then f (i + 1) else f i
theorem ab_shf_0 {p : Nat} {f : Nat → Int32} : ab_shf p p f = f := by
  funext i
  unfold ab_shf
  rw [if_neg (by omega)]
theorem ab_shf_s {p s : Nat} {f : Nat → Int32} (h : p ≤ s) : upd (ab_shf p s f) s (ab_shf p s f (s + 1)) = ab_shf p (s + 1) f := by
  funext i
  unfold upd ab_shf
  by_cases e : i = s
  · rw [if_pos e, if_neg (by omega), if_pos (by omega), e]
  · rw [if_neg e]
    by_cases g : p ≤ i ∧ i < s
    · rw [if_pos g, if_pos ⟨g.1, by omega⟩]
    · rw [if_neg g, if_neg (by omega)]
section
variable {n d rc : Nat} {aw st rs lv fl : Int32} {tb rf dm cu vw lk ex de wi : Nat → Int32} {yr : Int32} {cl ya ys yc : Nat → Int32} {p : Nat}
theorem ab_xdrop_16 {post : Int32 → SX → Prop} (hrc : rc < 8) (K : wpX_reopen (post 0) (nI n, nI d, nI rc, aw, st, rs, lv, fl, tb, ab_shf p rc rf, dm, cu, vw, lk, ex, de, wi)) : ∀ (j s : Nat), s + j = rc → p ≤ s → wX_drop_16 post (nI n) (nI d) (nI (rc + 1)) aw st rs lv fl (j + 1) (nI s) tb (ab_shf p s rf) dm cu vw lk ex de wi := by
  have e1 : nI (rc + 1) - 1 = nI rc := nI_pred rc
  intro j
  induction j with
  | zero =>
    intro s hs hp
    obtain rfl : s = rc := by omega
    unfold wX_drop_16
    rw [e1]
    exact br_t (Int32.le_refl _) (nm_e K)
  | succ j ih =>
    intro s hs hp
    unfold wX_drop_16
    rw [e1, nI_1, nI_clamp (show s < 2 ^ 31 by omega), nI_clamp (show s + 1 < 2 ^ 31 by omega)]
    exact br_f (nI_ge (by omega) (by omega)) ⟨vp_in_nI (by omega) (by decide), vp_in_nI (by omega) (by decide), nm_r (ab_shf_s hp) (nm_e (ih (s + 1) (by omega) (by omega)))⟩
theorem ab_ydrop_16 {post : Int32 → SY → Prop} (hrc : rc < 8) (K : post 0 (nI n, nI d, nI rc, 10, yr, cl, ya, ab_shf p rc ys, ab_shf p rc yc)) : ∀ (j s : Nat), s + j = rc → p ≤ s → wY_drop_16 post (nI n) (nI d) (nI (rc + 1)) st yr (j + 1) (nI s) cl ya (ab_shf p s ys) (ab_shf p s yc) := by
  have e1 : nI (rc + 1) - 1 = nI rc := nI_pred rc
  intro j
  induction j with
  | zero =>
    intro s hs hp
    obtain rfl : s = rc := by omega
    unfold wY_drop_16
    rw [e1]
    exact br_t (Int32.le_refl _) (nm_e K)
  | succ j ih =>
    intro s hs hp
    unfold wY_drop_16
    rw [e1, nI_1, nI_clamp (show s < 2 ^ 31 by omega), nI_clamp (show s + 1 < 2 ^ 31 by omega)]
    exact br_f (nI_ge (by omega) (by omega)) ⟨vp_in_nI (by omega) (by decide), vp_in_nI (by omega) (by decide), nm_r (ab_shf_s hp) ⟨vp_in_nI (by omega) (by decide), vp_in_nI (by omega) (by decide), nm_r (ab_shf_s hp) (nm_e (ih (s + 1) (by omega) (by omega)))⟩⟩
end
theorem i_vc_drop {k : Nat} {u : SX} {v : SY} (I : i_Rel k u v) (hk : k + 5 ≤ 2562) (v1 : Int32) : wpX_drop (fun r u' => wpY_drop (fun r' v' => r' = r ∧ i_Rel (k + 5) u' v') v v1) u v1 := by
  refine ab_el (P := fun u v => wpX_drop (fun r u' => wpY_drop (fun r' v' => r' = r ∧ i_Rel (k + 5) u' v') v v1) u v1) ?_ I
  intro n d rc aw st rs lv fl tb rf dm cu vw lk ex de wi yr cl ya ys yc hR
  have hR' := hR.1
  obtain ⟨h1, h2, h3, h4, h5, h6, h7, h8, h9, h10⟩ := hR'
  unfold wpX_drop wpY_drop
  dsimp only
  refine br_c (fun e => br_t e ⟨rfl, ab_in hR⟩) (fun e => br_c (fun e2 => ?_) (fun e2 => br_f e (br_f e2 ⟨rfl, ab_in hR⟩)))
  obtain ⟨p, hp, rfl⟩ := nI_of e
  have hpr : p < rc := (nI_ltI hp (by omega)).mp e2
  obtain ⟨q, rfl⟩ : ∃ q, rc = q + 1 := ⟨rc - 1, by omega⟩
  have hRp : ab_Rp n d q aw tb (ab_shf p q rf) cl ya (ab_shf p q ys) (ab_shf p q yc) := by
    refine ⟨h1, h2, h3, h4, by omega, h6, h7, h8, h9, fun r hr => ?_⟩
    unfold ab_shf
    by_cases g : p ≤ r ∧ r < q
    · rw [if_pos g, if_pos g, if_pos g]; exact h10 (r + 1) (by omega)
    · rw [if_neg g, if_neg g, if_neg g]; exact h10 r (by omega)
  refine ⟨q - p + 1, ?_⟩
  have h := ab_xdrop_16 (n := n) (d := d) (rc := q) (aw := aw) (st := st) (rs := rs) (lv := lv) (fl := fl) (tb := tb) (rf := rf) (dm := dm) (cu := cu) (vw := vw) (lk := lk) (ex := ex) (de := de) (wi := wi) (p := p) (post := fun r u' => wpY_drop (fun r' v' => r' = r ∧ i_Rel (k + 5) u' v') (nI n, nI d, nI (q + 1), st, yr, cl, ya, ys, yc) (nI p)) (by omega) ?_ (q - p) p (by omega) (by omega)
  · rw [ab_shf_0] at h
    exact h
  · refine ab_reop (k := k) yr hRp (fun dm fl cu vw lk ex de wi hu' => br_f e (br_t e2 ⟨q - p + 1, ?_⟩))
    have h := ab_ydrop_16 (n := n) (d := d) (rc := q) (st := st) (yr := yr) (cl := cl) (ya := ya) (ys := ys) (yc := yc) (p := p) (post := fun r' v' => r' = 0 ∧ i_Rel (k + 5) (nI n, nI d, nI q, aw, 10, 0, aw, fl, tb, ab_shf p q rf, dm, cu, vw, lk, ex, de, wi) v') (by omega) ⟨rfl, hu'⟩ (q - p) p (by omega) (by omega)
    rw [ab_shf_0, ab_shf_0] at h
    exact h
end
section
/-! reason, culprits -/
theorem ab_mk3 : ∀ g, g < 5 → ∀ i, i < 32 → bt (((3 : Int32) <<< (nI (2 * (4 - g)) &&& 31)) ^^^ (-1)) i = !decide (2 * (4 - g) ≤ i ∧ i < 2 * (4 - g) + 2) := by decide +kernel
theorem ab_vb : ∀ v, v < 4 → ∀ i, i < 32 → bt (nI v) i = (if i = 0 then decide (v % 2 = 1) else if i = 1 then decide (2 ≤ v) else false) := by decide +kernel
theorem ab_vn : ∀ v, v < 4 → (decide (v % 2 = 1)).toNat + 2 * (decide (2 ≤ v)).toNat = v := by decide
/-- the result, but with the asked value for the agent -/
theorem ab_want {yr : Int32} {g v a : Nat} (hg : g < 5) (hv : v < 4) (ha : a < 5) : ab_dg ((yr &&& (((3 : Int32) <<< (nI (2 * (4 - g)) &&& 31)) ^^^ (-1))) ||| (nI v <<< (nI (2 * (4 - g)) &&& 31))) a = if a = g then v else ab_dg yr a := by
  have hb : ∀ i, i < 32 → bt ((yr &&& (((3 : Int32) <<< (nI (2 * (4 - g)) &&& 31)) ^^^ (-1))) ||| (nI v <<< (nI (2 * (4 - g)) &&& 31))) i = ((bt yr i && !decide (2 * (4 - g) ≤ i ∧ i < 2 * (4 - g) + 2)) || (decide (2 * (4 - g) ≤ i) && bt (nI v) (i - 2 * (4 - g)))) := by
    intro i hi
    rw [b_or, b_and, ab_mk3 g hg i hi, b_shl (2 * (4 - g)) (by omega) _ hi]
  unfold ab_dg
  rw [hb _ (by omega), hb _ (by omega)]
  by_cases e : a = g
  · subst e
    rw [if_pos rfl, decide_eq_true (p := 2 * (4 - a) ≤ 2 * (4 - a) ∧ 2 * (4 - a) < 2 * (4 - a) + 2) (by omega), decide_eq_true (p := 2 * (4 - a) ≤ 2 * (4 - a) + 1 ∧ 2 * (4 - a) + 1 < 2 * (4 - a) + 2) (by omega), decide_eq_true (p := 2 * (4 - a) ≤ 2 * (4 - a)) (by omega), decide_eq_true (p := 2 * (4 - a) ≤ 2 * (4 - a) + 1) (by omega), Nat.sub_self, Nat.add_sub_cancel_left, ab_vb v hv 0 (by omega), ab_vb v hv 1 (by omega)]
    simp only [Bool.not_true, Bool.and_false, Bool.false_or, Bool.true_and, if_pos]
    exact ab_vn v hv
  · rw [if_neg e, decide_eq_false (p := 2 * (4 - g) ≤ 2 * (4 - a) ∧ 2 * (4 - a) < 2 * (4 - g) + 2) (by omega), decide_eq_false (p := 2 * (4 - g) ≤ 2 * (4 - a) + 1 ∧ 2 * (4 - a) + 1 < 2 * (4 - g) + 2) (by omega)]
    have z : ∀ i, i < 32 → (i < 2 * (4 - g) ∨ 2 * (4 - g) + 2 ≤ i) → (decide (2 * (4 - g) ≤ i) && bt (nI v) (i - 2 * (4 - g))) = false := by
      intro i hi hor
      rcases hor with h | h
      · rw [decide_eq_false (by omega), Bool.false_and]
      · rw [ab_vb v hv _ (by omega), if_neg (by omega), if_neg (by omega), Bool.and_false]
    rw [z _ (by omega) (by omega), z _ (by omega) (by omega)]
    simp only [Bool.not_false, Bool.and_true, Bool.or_false]
section
variable {n d rc : Nat} {aw st rs lv fl : Int32} {tb rf dm cu vw lk ex de wi : Nat → Int32} {yr : Int32} {cl ya ys yc : Nat → Int32}
theorem ab_Dm_DD {pin w : Int32} {g v : Nat} (hd : d ≤ 4) (hg : g < 5) (hv : v < d) (hRS : ab_RS d aw rs yr) (hp : ∀ i, bt pin i = true → i < g ∧ bt aw i = true) (hw : ∀ a, a < 5 → ab_dg w a = if a = g then v else ab_dg yr a) (h : ab_Dm d rs pin g v g dm) : ab_DD d aw (pin ||| ((1 : Int32) <<< (nI g &&& 31))) w dm := by
  intro a ha hl i hi
  rw [h a ha i (by omega), ab_set (by omega), hw a ha]
  by_cases e : a = g
  · rw [if_pos e, if_pos e, decide_eq_true e, Bool.or_true, decide_eq_true_eq]
    exact ⟨fun z _ => z, fun z => z rfl⟩
  · rw [if_neg e, if_neg e, decide_eq_false e, Bool.or_false]
    have hf := hRS.2.2 a ha
    rw [if_pos hl] at hf
    cases hb : bt pin a
    · rw [if_neg (fun z => by cases z.2), decide_eq_true hi]
      exact ⟨fun _ z => absurd z (by decide), fun _ => rfl⟩
    · rw [if_pos ⟨(hp a hb).1, rfl⟩, decide_eq_true_eq, hf]
      exact ⟨fun z _ => by omega, fun z => by rw [z rfl]⟩
theorem ab_pm (j : Nat) : nI j + (-1) = nI j - 1 := (Int32.sub_eq_add_neg _ _).symm
/-- both sides strike out the same agents -/
theorem ab_reasons {w : Int32} {g v : Nat} (h : ab_Rp n d rc aw tb rf cl ya ys yc) (hg : g < n) (hv : v < d) (hga : bt aw g = true) (hRS : ab_RS d aw rs yr) (hw : ∀ a, a < 5 → ab_dg w a = if a = g then v else ab_dg yr a) : ∀ (j : Nat) (pin : Int32), j ≤ g → (∀ i, bt pin i = true → i < g ∧ bt aw i = true) → (∀ i, i < j → bt pin i = bt aw i) →
    ∃ res, (∀ (post : Int32 → SX → Prop) lv dm fl cu vw lk ex de wi, (∀ lv dm fl cu vw lk ex de wi, post res (nI n, nI d, nI rc, aw, st, rs, lv, fl, tb, rf, dm, cu, vw, lk, ex, de, wi)) → wX_reason_71 post (nI g) (nI v) (j + 1) pin (nI j - 1) (nI n) (nI d) (nI rc) aw st rs lv fl tb rf dm cu vw lk ex de wi) ∧ (∀ post : Int32 → Prop, post res → wY_reason_105 post aw ((1 : Int32) <<< (nI g &&& 31)) w (nI n) (nI d) (nI rc) st yr cl ya ys yc (j + 1) pin (nI j - 1)) := by
  have hKW := ab_Rp_KW h
  obtain ⟨h1, h2, h3, h4, h5, h6, h7, h8, h9, h10⟩ := h
  have hs := ab_aw_n h6
  intro j
  induction j with
  | zero =>
    intro pin _ _ _
    exact ⟨pin, fun post lv dm fl cu vw lk ex de wi K => br_t (by decide) (K _ _ _ _ _ _ _ _ _), fun post K => br_t (by decide) K⟩
  | succ j ih =>
    intro pin hj hp hlow
    have hin : vp_in (nI j) 5 := vp_in_nI (by omega) (by decide)
    have hclr := fun i => ab_clr (x := pin) (a := j) (by omega) i
    have hp5 : ∀ i, bt (pin &&& (((1 : Int32) <<< (nI j &&& 31)) ^^^ (-1))) i = true → i < g ∧ bt aw i = true := by
      intro i z
      rw [hclr, Bool.and_eq_true] at z
      exact hp i z.1
    have hlow5 : ∀ i, i < j → bt (pin &&& (((1 : Int32) <<< (nI j &&& 31)) ^^^ (-1))) i = bt aw i := by
      intro i hi
      rw [hclr, decide_eq_false (by omega), Bool.not_false, Bool.and_true]
      exact hlow i (by omega)
    cases hb : bt aw j
    · have e5 : pin &&& (((1 : Int32) <<< (nI j &&& 31)) ^^^ (-1)) = pin := by
        apply b_ext
        intro i hi
        rw [hclr]
        by_cases e : i = j
        · rw [e, hlow j (by omega), hb]; rfl
        · rw [decide_eq_false e, Bool.not_false, Bool.and_true]
      have hy : ya j = 0 := by
        by_cases z : ya j = 0
        · exact z
        · rw [h6, decide_eq_true ⟨by omega, z⟩] at hb; cases hb
      obtain ⟨res, hX, hY⟩ := ih pin (by omega) hp (fun i hi => hlow i (by omega))
      refine ⟨res, fun post lv dm fl cu vw lk ex de wi K => ?_, fun post K => ?_⟩
      · unfold wX_reason_71
        rw [nI_pred, ab_pm]
        exact br_f (nI_pos (by omega)) (nm_e (br_t e5 (nm_e (hX post lv dm fl cu vw lk ex de wi K))))
      · unfold wY_reason_105
        rw [nI_pred, ab_pm, nI_clamp (show j < 2 ^ 31 by omega)]
        exact br_f (nI_pos (by omega)) (nm_e ⟨hin, br_t hy (nm_e (hY post K))⟩)
    · have e5 : ¬ pin &&& (((1 : Int32) <<< (nI j &&& 31)) ^^^ (-1)) = pin := by
        intro e
        have z := hclr j
        rw [e, hlow j (by omega), hb, decide_eq_true rfl] at z
        cases z
      have hy : ¬ ya j = 0 := by
        rw [h6] at hb
        exact (of_decide_eq_true hb).2
      have hfx : ∀ i, bt ((pin &&& (((1 : Int32) <<< (nI j &&& 31)) ^^^ (-1))) ||| ((1 : Int32) <<< (nI g &&& 31))) i = true → bt aw i = true := by
        intro i z
        rw [ab_set (by omega)] at z
        by_cases e : i = g
        · rw [e]; exact hga
        · rw [decide_eq_false e, Bool.or_false] at z; exact (hp5 i z).2
      have hpf : ∀ a, a < g → bt (pin &&& (((1 : Int32) <<< (nI j &&& 31)) ^^^ (-1))) a = true → ab_fd rs a ≠ 0 := by
        intro a ha z
        rw [hRS.2.2 a (by omega), if_pos (hp5 a z).2]; omega
      have hex : ∀ dm, ab_Dm d rs (pin &&& (((1 : Int32) <<< (nI j &&& 31)) ^^^ (-1))) g v g dm → ((∃ σ, ab_Sol d rc aw tb rf dm σ) ↔ ∃ c, c < 1024 ∧ ab_Gd n d rc cl ys yc aw ((pin &&& (((1 : Int32) <<< (nI j &&& 31)) ^^^ (-1))) ||| ((1 : Int32) <<< (nI g &&& 31))) w c) :=
        fun dm hDm => ab_ex h2 h4 h7 h8 h10 hs hfx (ab_Dm_DD h4 (by omega) hv hRS hp5 hw hDm)
      rcases Classical.em (∃ c, c < 1024 ∧ ab_Gd n d rc cl ys yc aw ((pin &&& (((1 : Int32) <<< (nI j &&& 31)) ^^^ (-1))) ||| ((1 : Int32) <<< (nI g &&& 31))) w c) with hc | hc
      · obtain ⟨res, hX, hY⟩ := ih pin (by omega) hp (fun i hi => hlow i (by omega))
        refine ⟨res, fun post lv dm fl cu vw lk ex de wi K => ?_, fun post K => ?_⟩
        · unfold wX_reason_71
          rw [nI_pred, ab_pm]
          exact br_f (nI_pos (by omega)) (nm_e (br_f e5 (ab_xsuff (by omega) (by omega) hKW hpf (fun lv dm fl cu vw lk ex de wi hDm hno => absurd ((hex dm hDm).mpr hc) (fun z => z.elim hno)) (fun lv dm fl cu vw lk ex de wi hDm _ => br_t rfl (nm_e (hX post lv dm fl cu vw lk ex de wi K))))))
        · unfold wY_reason_105
          rw [nI_pred, ab_pm, nI_clamp (show j < 2 ^ 31 by omega)]
          exact br_f (nI_pos (by omega)) (nm_e ⟨hin, br_f hy (ab_yleast h2 h4 h5 (fun c hc _ _ => br_t (nI_pos' (by omega)) (nm_e (hY post K))) (fun hno => absurd hc (fun z => z.elim (fun c hc => hno c hc.1 hc.2))))⟩)
      · obtain ⟨res, hX, hY⟩ := ih (pin &&& (((1 : Int32) <<< (nI j &&& 31)) ^^^ (-1))) (by omega) hp5 hlow5
        refine ⟨res, fun post lv dm fl cu vw lk ex de wi K => ?_, fun post K => ?_⟩
        · unfold wX_reason_71
          rw [nI_pred, ab_pm]
          exact br_f (nI_pos (by omega)) (nm_e (br_f e5 (ab_xsuff (by omega) (by omega) hKW hpf (fun lv dm fl cu vw lk ex de wi hDm _ => br_f (by decide) (nm_e (hX post lv dm fl cu vw lk ex de wi K))) (fun lv dm fl cu vw lk ex de wi hDm hσ => absurd ((hex dm hDm).mp hσ) hc))))
        · unfold wY_reason_105
          rw [nI_pred, ab_pm, nI_clamp (show j < 2 ^ 31 by omega)]
          exact br_f (nI_pos (by omega)) (nm_e ⟨hin, br_f hy (ab_yleast h2 h4 h5 (fun c hc1 hc2 _ => absurd ⟨c, hc1, hc2⟩ hc) (fun hno => br_f ab_m1_nle (nm_e (hY post K))))⟩)
end
theorem i_vc_reason {k : Nat} {u : SX} {v : SY} (I : i_Rel k u v) (hk : k + 5 ≤ 2562) (v1 : Int32) (v2 : Int32) : wpX_reason (fun r u' => wpY_reason (fun r' => r' = r ∧ i_Rel (k + 5) u' v) v v1 v2) u v1 v2 := by
  refine ab_el (P := fun u v => wpX_reason (fun r u' => wpY_reason (fun r' => r' = r ∧ i_Rel (k + 5) u' v) v v1 v2) u v1 v2) ?_ I
  intro n d rc aw st rs lv fl tb rf dm cu vw lk ex de wi yr cl ya ys yc hR
  have hR' := hR.1
  obtain ⟨h1, h2, h3, h4, h5, h6, h7, h8, h9, h10⟩ := hR'
  have hs := ab_aw_n h6
  unfold wpX_reason wpY_reason
  dsimp only
  refine ab_xisAgent h2 (fun g hg eg => br_f (by decide) ?_) (fun H => br_t rfl (ab_yisAgent h2 (fun a ha ea => absurd ea (H a ha)) (fun _ => br_t rfl ⟨rfl, ab_in hR⟩)))
  subst eg
  refine ab_xisValue (by omega) (fun v hv ev => br_f (by decide) ?_) (fun H => br_t rfl (ab_yisAgent h2 (fun _ _ _ => br_f (by decide) (ab_yisValue (by omega) (fun a ha ea => absurd ea (H a ha)) (fun _ => br_t rfl ⟨rfl, ab_in hR⟩))) (fun H => absurd rfl (H g hg))))
  subst ev
  have hin : vp_in (nI g) 5 := vp_in_nI (by omega) (by decide)
  have hba : bt aw g = true ↔ ya g ≠ 0 := by rw [h6, decide_eq_true_eq]; exact ⟨fun z => z.2, fun z => ⟨hg, z⟩⟩
  have hH1 : (∀ a, a < n → nI g ≠ nI a) → False := fun H => absurd rfl (H g hg)
  have hH2 : (∀ a, a < d → nI v ≠ nI a) → False := fun H => absurd rfl (H v hv)
  refine br_c (fun es => ?_) (fun es => ab_yisAgent h2 (fun _ _ _ => br_f (by decide) (ab_yisValue (by omega) (fun _ _ _ => br_f (by decide) (br_f es ⟨rfl, ab_in hR⟩)) (fun H => (hH2 H).elim))) (fun H => (hH1 H).elim))
  refine ab_xhas (by omega) (fun e => br_t rfl (ab_yisAgent h2 (fun _ _ _ => br_f (by decide) (ab_yisValue (by omega) (fun _ _ _ => br_f (by decide) (br_t es ⟨hin, ?_⟩)) (fun H => (hH2 H).elim))) (fun H => (hH1 H).elim))) (fun e => br_f (by decide) (nm_e ?_))
  · rw [nI_clamp (show g < 2 ^ 31 by omega)]
    refine br_t ?_ ⟨rfl, ab_in hR⟩
    by_cases z : ya g = 0
    · exact z
    · rw [hba.mpr z] at e; cases e
  have hRS : ab_RS d aw rs yr := by
    rcases hR.2 with ⟨z, _⟩ | ⟨_, z⟩ | z
    · rw [es] at z; exact absurd z (by decide)
    · exact z
    · rw [es] at z; exact absurd z (by decide)
  have hpin : ∀ i, bt (aw &&& (((1 : Int32) <<< (nI g &&& 31)) - 1)) i = (bt aw i && decide (i < g)) := fun i => by rw [b_and, ab_low (by omega)]
  have hp : ∀ i, bt (aw &&& (((1 : Int32) <<< (nI g &&& 31)) - 1)) i = true → i < g ∧ bt aw i = true := by
    intro i z
    rw [hpin, Bool.and_eq_true, decide_eq_true_eq] at z
    exact ⟨z.2, z.1⟩
  have hlow : ∀ i, i < g → bt (aw &&& (((1 : Int32) <<< (nI g &&& 31)) - 1)) i = bt aw i := by
    intro i hi
    rw [hpin, decide_eq_true hi, Bool.and_true]
  have hpf : ∀ a, a < g → bt (aw &&& (((1 : Int32) <<< (nI g &&& 31)) - 1)) a = true → ab_fd rs a ≠ 0 := by
    intro a ha z
    rw [hRS.2.2 a (by omega), if_pos (hp a z).2]; omega
  have hw : ∀ a, a < 5 → ab_dg ((yr &&& (((3 : Int32) <<< (nI (2 * (4 - g)) &&& 31)) ^^^ (-1))) ||| (nI v <<< (nI (2 * (4 - g)) &&& 31))) a = if a = g then v else ab_dg yr a := fun a ha => ab_want (by omega) (by omega) ha
  have hfx : ∀ i, bt ((aw &&& (((1 : Int32) <<< (nI g &&& 31)) - 1)) ||| ((1 : Int32) <<< (nI g &&& 31))) i = true → bt aw i = true := by
    intro i z
    rw [ab_set (by omega)] at z
    by_cases e2 : i = g
    · rw [e2]; exact e
    · rw [decide_eq_false e2, Bool.or_false] at z; exact (hp i z).2
  have hex : ∀ dm, ab_Dm d rs (aw &&& (((1 : Int32) <<< (nI g &&& 31)) - 1)) g v g dm → ((∃ σ, ab_Sol d rc aw tb rf dm σ) ↔ ∃ c, c < 1024 ∧ ab_Gd n d rc cl ys yc aw ((aw &&& (((1 : Int32) <<< (nI g &&& 31)) - 1)) ||| ((1 : Int32) <<< (nI g &&& 31))) ((yr &&& (((3 : Int32) <<< (nI (2 * (4 - g)) &&& 31)) ^^^ (-1))) ||| (nI v <<< (nI (2 * (4 - g)) &&& 31))) c) :=
    fun dm hDm => ab_ex h2 h4 h7 h8 h10 hs hfx (ab_Dm_DD h4 (by omega) hv hRS hp hw hDm)
  have hin' : ∀ lv dm fl cu vw lk ex de wi, i_Rel (k + 5) (nI n, nI d, nI rc, aw, st, rs, lv, fl, tb, rf, dm, cu, vw, lk, ex, de, wi) (nI n, nI d, nI rc, st, yr, cl, ya, ys, yc) := fun lv dm fl cu vw lk ex de wi => ab_in ⟨hR.1, Or.inr (Or.inl ⟨es, hRS⟩)⟩
  rw [ab_sh2 (show g < 5 by omega), nI_clamp (show g < 2 ^ 31 by omega)]
  refine ab_xsuff (by omega) (by omega) (ab_Rp_KW hR.1) hpf (fun lv dm fl cu vw lk ex de wi hDm hno => br_f (by decide) (nm_e ?_)) (fun lv dm fl cu vw lk ex de wi hDm hσ => br_t rfl ?_)
  · have hnc : ∀ c, c < 1024 → ¬ ab_Gd n d rc cl ys yc aw ((aw &&& (((1 : Int32) <<< (nI g &&& 31)) - 1)) ||| ((1 : Int32) <<< (nI g &&& 31))) ((yr &&& (((3 : Int32) <<< (nI (2 * (4 - g)) &&& 31)) ^^^ (-1))) ||| (nI v <<< (nI (2 * (4 - g)) &&& 31))) c := by
      intro c hc hg
      obtain ⟨σ, hσ⟩ := (hex dm hDm).mpr ⟨c, hc, hg⟩
      exact hno σ hσ
    obtain ⟨res, hX, hY⟩ := ab_reasons (tb := tb) hR.1 hg hv e hRS hw g (aw &&& (((1 : Int32) <<< (nI g &&& 31)) - 1)) (Nat.le_refl _) hp hlow
    refine ⟨g + 1, hX _ _ _ _ _ _ _ _ _ _ (fun lv dm fl cu vw lk ex de wi => ?_)⟩
    refine ab_yisAgent h2 (fun _ _ _ => br_f (by decide) (ab_yisValue (by omega) (fun _ _ _ => br_f (by decide) (br_t es ⟨hin, br_f (hba.mp e) (ab_yawake h2 h6 (nm_e (nm_e (nm_e (nm_e ?_)))))⟩)) (fun H => (hH2 H).elim))) (fun H => (hH1 H).elim)
    exact ab_yleast h2 h4 h5 (fun c hc hg _ => absurd hg (hnc c hc)) (fun _ => br_t ab_m1_neg (nm_e ⟨g + 1, hY _ ⟨rfl, hin' _ _ _ _ _ _ _ _ _⟩⟩))
  · refine ab_yisAgent h2 (fun _ _ _ => br_f (by decide) (ab_yisValue (by omega) (fun _ _ _ => br_f (by decide) (br_t es ⟨hin, br_f (hba.mp e) (ab_yawake h2 h6 (nm_e (nm_e (nm_e (nm_e ?_)))))⟩)) (fun H => (hH2 H).elim))) (fun H => (hH1 H).elim)
    exact ab_yleast h2 h4 h5 (fun c hc hg _ => br_f (nI_pos (by omega)) ⟨rfl, hin' _ _ _ _ _ _ _ _ _⟩) (fun hno => absurd ((hex dm hDm).mp hσ) (fun z => z.elim (fun c hc => hno c hc.1 hc.2)))
section
variable {n d rc : Nat} {aw st rs lv fl : Int32} {tb rf dm cu vw lk ex de wi : Nat → Int32} {yr : Int32} {cl ya ys yc : Nat → Int32}
theorem ab_culp (h : ab_Rp n d rc aw tb rf cl ya ys yc) : ∀ (j : Nat) (pin : Int32), j ≤ n → (∀ i, bt pin i = true → bt aw i = true) → (∀ i, i < j → bt pin i = bt aw i) →
    ∃ res, (∀ (post : Int32 → SX → Prop) lv dm fl cu vw lk ex de wi, ab_Df d dm → (∀ lv fl cu vw lk ex de wi, post res (nI n, nI d, nI rc, aw, st, rs, lv, fl, tb, rf, dm, cu, vw, lk, ex, de, wi)) → wX_culprits_28 post (j + 1) pin (nI j - 1) (nI n) (nI d) (nI rc) aw st rs lv fl tb rf dm cu vw lk ex de wi) ∧ (∀ post : Int32 → Prop, post res → wY_culprits_24 post (nI n) (nI d) (nI rc) st yr cl ya ys yc (j + 1) pin (nI j - 1)) := by
  obtain ⟨h1, h2, h3, h4, h5, h6, h7, h8, h9, h10⟩ := h
  have hs := ab_aw_n h6
  intro j
  induction j with
  | zero =>
    intro pin _ _ _
    exact ⟨pin, fun post lv dm fl cu vw lk ex de wi _ K => br_t (by decide) (K _ _ _ _ _ _ _ _), fun post K => br_t (by decide) K⟩
  | succ j ih =>
    intro pin hj hp hlow
    have hin : vp_in (nI j) 5 := vp_in_nI (by omega) (by decide)
    have hclr := fun i => ab_clr (x := pin) (a := j) (by omega) i
    have hp5 : ∀ i, bt (pin &&& (((1 : Int32) <<< (nI j &&& 31)) ^^^ (-1))) i = true → bt aw i = true := by
      intro i z
      rw [hclr, Bool.and_eq_true] at z
      exact hp i z.1
    have hlow5 : ∀ i, i < j → bt (pin &&& (((1 : Int32) <<< (nI j &&& 31)) ^^^ (-1))) i = bt aw i := by
      intro i hi
      rw [hclr, decide_eq_false (by omega), Bool.not_false, Bool.and_true]
      exact hlow i (by omega)
    cases hb : bt aw j
    · have e5 : pin &&& (((1 : Int32) <<< (nI j &&& 31)) ^^^ (-1)) = pin := by
        apply b_ext
        intro i hi
        rw [hclr]
        by_cases e : i = j
        · rw [e, hlow j (by omega), hb]; rfl
        · rw [decide_eq_false e, Bool.not_false, Bool.and_true]
      have hy : ya j = 0 := by
        by_cases z : ya j = 0
        · exact z
        · rw [h6, decide_eq_true ⟨by omega, z⟩] at hb; cases hb
      obtain ⟨res, hX, hY⟩ := ih pin (by omega) hp (fun i hi => hlow i (by omega))
      refine ⟨res, fun post lv dm fl cu vw lk ex de wi hD K => ?_, fun post K => ?_⟩
      · unfold wX_culprits_28
        rw [nI_pred, ab_pm]
        exact br_f (nI_pos (by omega)) (nm_e (br_t e5 (nm_e (hX post lv dm fl cu vw lk ex de wi hD K))))
      · unfold wY_culprits_24
        rw [nI_pred, ab_pm, nI_clamp (show j < 2 ^ 31 by omega)]
        exact br_f (nI_pos (by omega)) (nm_e ⟨hin, br_t hy (nm_e (hY post K))⟩)
    · have e5 : ¬ pin &&& (((1 : Int32) <<< (nI j &&& 31)) ^^^ (-1)) = pin := by
        intro e
        have z := hclr j
        rw [e, hlow j (by omega), hb, decide_eq_true rfl] at z
        cases z
      have hy : ¬ ya j = 0 := by
        rw [h6] at hb
        exact (of_decide_eq_true hb).2
      have hs5 : ∀ i, bt (pin &&& (((1 : Int32) <<< (nI j &&& 31)) ^^^ (-1))) i = true → i < n := fun i z => hs i (hp5 i z)
      have hfx : ∀ i, bt (0 : Int32) i = true → bt (pin &&& (((1 : Int32) <<< (nI j &&& 31)) ^^^ (-1))) i = true := fun i z => by rw [b_0] at z; cases z
      have hKW : ab_KW n d rc (pin &&& (((1 : Int32) <<< (nI j &&& 31)) ^^^ (-1))) rf := ab_R3_KW h1 h2 h3 h4 h5 h10 hs5
      have hex : ∀ dm, ab_Df d dm → ((∃ σ, ab_Sol d rc (pin &&& (((1 : Int32) <<< (nI j &&& 31)) ^^^ (-1))) tb rf dm σ) ↔ ∃ c, c < 1024 ∧ ab_Gd n d rc cl ys yc (pin &&& (((1 : Int32) <<< (nI j &&& 31)) ^^^ (-1))) 0 0 c) :=
        fun dm hD => ab_ex h2 h4 h7 h8 h10 hs5 hfx (ab_DD_0 h4 hD)
      rcases Classical.em (∃ c, c < 1024 ∧ ab_Gd n d rc cl ys yc (pin &&& (((1 : Int32) <<< (nI j &&& 31)) ^^^ (-1))) 0 0 c) with hc | hc
      · obtain ⟨res, hX, hY⟩ := ih pin (by omega) hp (fun i hi => hlow i (by omega))
        refine ⟨res, fun post lv dm fl cu vw lk ex de wi hD K => ?_, fun post K => ?_⟩
        · unfold wX_culprits_28
          rw [nI_pred, ab_pm]
          exact br_f (nI_pos (by omega)) (nm_e (br_f e5 (ab_xsolvable hKW (fun fl cu vw lk ex de wi _ => br_f (by decide) (nm_e (hX post _ dm fl cu vw lk ex de wi hD K))) (fun fl cu vw lk ex de wi hno => absurd ((hex dm hD).mpr hc) (fun z => z.elim hno)))))
        · unfold wY_culprits_24
          rw [nI_pred, ab_pm, nI_clamp (show j < 2 ^ 31 by omega)]
          exact br_f (nI_pos (by omega)) (nm_e ⟨hin, br_f hy (ab_yleast h2 h4 h5 (fun c hc _ _ => br_t (nI_pos' (by omega)) (nm_e (hY post K))) (fun hno => absurd hc (fun z => z.elim (fun c hc => hno c hc.1 hc.2))))⟩)
      · obtain ⟨res, hX, hY⟩ := ih (pin &&& (((1 : Int32) <<< (nI j &&& 31)) ^^^ (-1))) (by omega) hp5 hlow5
        refine ⟨res, fun post lv dm fl cu vw lk ex de wi hD K => ?_, fun post K => ?_⟩
        · unfold wX_culprits_28
          rw [nI_pred, ab_pm]
          exact br_f (nI_pos (by omega)) (nm_e (br_f e5 (ab_xsolvable hKW (fun fl cu vw lk ex de wi hσ => absurd ((hex dm hD).mp hσ) hc) (fun fl cu vw lk ex de wi _ => br_t rfl (nm_e (hX post _ dm fl cu vw lk ex de wi hD K))))))
        · unfold wY_culprits_24
          rw [nI_pred, ab_pm, nI_clamp (show j < 2 ^ 31 by omega)]
          exact br_f (nI_pos (by omega)) (nm_e ⟨hin, br_f hy (ab_yleast h2 h4 h5 (fun c hc1 hc2 _ => absurd ⟨c, hc1, hc2⟩ hc) (fun hno => br_f ab_m1_nle (nm_e (hY post K))))⟩)
end
theorem i_vc_culprits {k : Nat} {u : SX} {v : SY} (I : i_Rel k u v) (hk : k + 5 ≤ 2562) : wpX_culprits (fun r u' => wpY_culprits (fun r' => r' = r ∧ i_Rel (k + 5) u' v) v) u := by
  refine ab_el (P := fun u v => wpX_culprits (fun r u' => wpY_culprits (fun r' => r' = r ∧ i_Rel (k + 5) u' v) v) u) ?_ I
  intro n d rc aw st rs lv fl tb rf dm cu vw lk ex de wi yr cl ya ys yc hR
  have hR' := hR.1
  obtain ⟨h1, h2, h3, h4, h5, h6, h7, h8, h9, h10⟩ := hR'
  unfold wpX_culprits wpY_culprits
  dsimp only
  refine br_c (fun es => ?_) (fun es => br_f es ⟨rfl, ab_in hR⟩)
  obtain ⟨res, hX, hY⟩ := ab_culp (st := st) (rs := rs) (yr := yr) hR.1 n aw (Nat.le_refl _) (fun i z => z) (fun i _ => rfl)
  refine ab_xopen (fun dm' hD => nm_e ⟨n + 1, hX _ _ _ _ _ _ _ _ _ _ hD (fun lv fl cu vw lk ex de wi => br_t es (ab_yawake h2 h6 (nm_e ⟨n + 1, hY _ ⟨rfl, ab_in ⟨hR.1, Or.inr (Or.inr es)⟩⟩⟩)))⟩)
end
section
/-! flip, relate -/
theorem ab_pl_inj {a va b vb a' va' b' vb' : Nat} (hva : va < 4) (hva' : va' < 4) (hb : b < 5) (hb' : b' < 5) (hvb : vb < 4) (hvb' : vb' < 4) (h : ab_pl a va b vb = ab_pl a' va' b' vb') : a = a' ∧ va = va' ∧ b = b' ∧ vb = vb' := by
  unfold ab_pl at h
  have h1 : (a * 4 + va) * 5 + b = (a' * 4 + va') * 5 + b' ∧ vb = vb' := by omega
  have h2 : a * 4 + va = a' * 4 + va' ∧ b = b' := by omega
  have h3 : a = a' ∧ va = va' := by omega
  exact ⟨h3.1, h3.2, h2.2, h1.2⟩
theorem ab_R2_u {n d a b : Nat} {tb cl tb' cl' : Nat → Int32} {T : Nat → Nat → Bool} (hd : d ≤ 4) (ha : a < n) (hb : b < n) (hab : a ≠ b) (h2 : ab_R2 n d tb cl) (h2s : ab_R2s n d cl) (hT : ∀ va vb, T va vb = true → va < d ∧ vb < d)
    (h1 : ∀ va vb, va < 4 → vb < 4 → bt (tb' (5 * a + b)) (4 * va + vb) = T va vb) (h1' : ∀ i, 16 ≤ i → bt (tb' (5 * a + b)) i = false)
    (h3 : ∀ va vb, va < 4 → vb < 4 → bt (tb' (5 * b + a)) (4 * vb + va) = T va vb) (h3' : ∀ i, 16 ≤ i → bt (tb' (5 * b + a)) i = false)
    (h4 : ∀ a' b', a' < n → b' < n → ¬ (a' = a ∧ b' = b) → ¬ (a' = b ∧ b' = a) → tb' (5 * a' + b') = tb (5 * a' + b'))
    (h5 : ∀ va vb, va < d → vb < d → (cl' (ab_pl a va b vb) ≠ 0 ↔ T va vb = true) ∧ cl' (ab_pl b vb a va) = cl' (ab_pl a va b vb))
    (h6 : ∀ a' va b' vb, a' < n → b' < n → va < 4 → vb < 4 → ¬ (a' = a ∧ b' = b) → ¬ (a' = b ∧ b' = a) → cl' (ab_pl a' va b' vb) = cl (ab_pl a' va b' vb)) : ab_R2 n d tb' cl' ∧ ab_R2s n d cl' := by
  have hTd : ∀ va vb, va < 4 → vb < 4 → T va vb = decide (va < d ∧ vb < d ∧ cl' (ab_pl a va b vb) ≠ 0) := by
    intro va vb hva hvb
    by_cases e : va < d ∧ vb < d
    · cases ht : T va vb
      · rw [decide_eq_false]
        rintro ⟨_, _, z⟩
        rw [((h5 va vb e.1 e.2).1).mp z] at ht; cases ht
      · rw [decide_eq_true]
        exact ⟨e.1, e.2, (h5 va vb e.1 e.2).1.mpr ht⟩
    · rw [decide_eq_false (fun z => e ⟨z.1, z.2.1⟩)]
      cases ht : T va vb
      · rfl
      · exact absurd (hT va vb ht) e
  constructor
  · intro a' b' ha' hb' hab'
    by_cases e : a' = a ∧ b' = b
    · obtain ⟨rfl, rfl⟩ := e
      exact ⟨fun va vb hva hvb => by rw [h1 va vb hva hvb, hTd va vb hva hvb], h1'⟩
    · by_cases e2 : a' = b ∧ b' = a
      · obtain ⟨rfl, rfl⟩ := e2
        refine ⟨fun va vb hva hvb => ?_, h3'⟩
        rw [h3 vb va hvb hva, hTd vb va hvb hva]
        apply decide_eq_decide.mpr
        constructor
        · rintro ⟨z1, z2, z3⟩
          exact ⟨z2, z1, by rw [(h5 vb va z1 z2).2]; exact z3⟩
        · rintro ⟨z1, z2, z3⟩
          exact ⟨z2, z1, by rw [← (h5 vb va z2 z1).2]; exact z3⟩
      · rw [h4 a' b' ha' hb' e e2]
        refine ⟨fun va vb hva hvb => ?_, (h2 a' b' ha' hb' hab').2⟩
        rw [(h2 a' b' ha' hb' hab').1 va vb hva hvb, h6 a' va b' vb ha' hb' hva hvb e e2]
  · intro a' b' va vb ha' hb' hab' hva hvb
    by_cases e : a' = a ∧ b' = b
    · obtain ⟨rfl, rfl⟩ := e
      exact (h5 va vb hva hvb).2.symm
    · by_cases e2 : a' = b ∧ b' = a
      · obtain ⟨rfl, rfl⟩ := e2
        exact (h5 vb va hvb hva).2
      · rw [h6 a' va b' vb ha' hb' (by omega) (by omega) e e2, h6 b' vb a' va hb' ha' (by omega) (by omega) (fun z => e2 ⟨z.2, z.1⟩) (fun z => e ⟨z.2, z.1⟩)]
        exact h2s a' b' va vb ha' hb' hab' hva hvb
theorem ab_xb {x : Int32} {k : Nat} (hk : k < 32) (i : Nat) : bt (x ^^^ ((1 : Int32) <<< (nI k &&& 31))) i = (bt x i ^^ decide (i = k)) := by
  rcases Nat.lt_or_ge i 32 with hi | hi
  · rw [b_xor, ab_one k hk i hi]
  · rw [b_big hi, b_big hi, decide_eq_false (by omega)]; rfl
theorem ab_R2b_u {cl : Nat → Int32} {i : Nat} {z : Int32} (h : ab_R2b cl) (hz : z = 0 ∨ z = 1) : ab_R2b (upd cl i z) := by
  intro j
  by_cases e : j = i
  · rw [e, pk_us]; exact hz
  · rw [pk_un e]; exact h j
theorem i_vc_flip {k : Nat} {u : SX} {v : SY} (I : i_Rel k u v) (hk : k + 5 ≤ 2562) (v1 : Int32) (v2 : Int32) (v3 : Int32) (v4 : Int32) : wpX_flip (fun r u' => wpY_flip (fun r' v' => r' = r ∧ i_Rel (k + 5) u' v') v v1 v2 v3 v4) u v1 v2 v3 v4 := by
  refine ab_el (P := fun u v => wpX_flip (fun r u' => wpY_flip (fun r' v' => r' = r ∧ i_Rel (k + 5) u' v') v v1 v2 v3 v4) u v1 v2 v3 v4) ?_ I
  intro n d rc aw st rs lv fl tb rf dm cu vw lk ex de wi yr cl ya ys yc hR
  have hR' := hR.1
  obtain ⟨h1, h2, h3, h4, h5, h6, h7, h8, h9, h10⟩ := hR'
  have bad : (∀ a va b vb, a < n → va < d → b < n → vb < d → v1 = nI a → v2 = nI va → v3 = nI b → v4 = nI vb → a = b) → wpY_flip (fun r' v' => r' = -1 ∧ i_Rel (k + 5) (nI n, nI d, nI rc, aw, st, rs, lv, fl, tb, rf, dm, cu, vw, lk, ex, de, wi) v') (nI n, nI d, nI rc, st, yr, cl, ya, ys, yc) v1 v2 v3 v4 := by
    intro H
    unfold wpY_flip
    dsimp only
    exact ab_yconflict h2 h4 (fun a va b vb ha hva hb hvb hab e1 e2 e3 e4 => absurd (H a va b vb ha hva hb hvb e1 e2 e3 e4) hab) (fun _ => br_t rfl ⟨rfl, ab_in hR⟩)
  unfold wpX_flip
  dsimp only
  refine ab_xisPair h2 (fun a b ha hb hab ea eb => br_f (by decide) (ab_xisValue (by omega) (fun va hva eva => br_f (by decide) (ab_xisValue (by omega) (fun vb hvb evb => br_f (by decide) ?_) (fun h => br_t rfl (bad (fun _ _ _ vb' _ _ _ h' _ _ _ z => absurd z (h vb' h')))))) (fun h => br_t rfl (bad (fun _ va' _ _ _ h' _ _ _ z _ _ => absurd z (h va' h')))))) (fun h => br_t rfl (bad (fun a' _ b' _ h1 _ h2 _ z1 _ z2 _ => h a' b' h1 h2 z1 z2)))
  subst ea eb eva evb
  have hpl := ab_pl_lt (show a < 5 by omega) (show va < 4 by omega) (show b < 5 by omega) (show vb < 4 by omega)
  have hne : ab_pl a va b vb ≠ ab_pl b vb a va := fun z => hab (ab_pl_inj (by omega) (by omega) (by omega) (by omega) (by omega) (by omega) z).1
  have hi1 : vp_in (nI (5 * a + b)) 25 := vp_in_nI (by omega) (by decide)
  have hi2 : vp_in (nI (5 * b + a)) 25 := vp_in_nI (by omega) (by decide)
  rw [ab_i5, ab_i5, ab_i4, ab_i4, nI_clamp (show 5 * a + b < 2 ^ 31 by omega), nI_clamp (show 5 * b + a < 2 ^ 31 by omega)]
  refine ⟨hi1, hi1, nm_e ⟨hi2, hi2, nm_e ?_⟩⟩
  rw [pk_un (show 5 * b + a ≠ 5 * a + b by omega)]
  have main : ∀ z : Int32, ((cl (ab_pl a va b vb) = 0 ∧ z = 1) ∨ (cl (ab_pl a va b vb) = 1 ∧ z = 0)) → ab_Rp n d rc aw (upd (upd tb (5 * a + b) (tb (5 * a + b) ^^^ ((1 : Int32) <<< (nI (4 * va + vb) &&& 31)))) (5 * b + a) (tb (5 * b + a) ^^^ ((1 : Int32) <<< (nI (4 * vb + va) &&& 31)))) rf (upd (upd cl (ab_pl a va b vb) z) (ab_pl b vb a va) z) ya ys yc := by
    intro z hz
    have hz01 : z = 0 ∨ z = 1 := hz.elim (fun y => Or.inr y.2) (fun y => Or.inl y.2)
    have hc1 : ∀ va' vb', va' < 4 → vb' < 4 → upd (upd cl (ab_pl a va b vb) z) (ab_pl b vb a va) z (ab_pl a va' b vb') = if va' = va ∧ vb' = vb then z else cl (ab_pl a va' b vb') := by
      intro va' vb' hva' hvb'
      rw [pk_un (fun y => hab (ab_pl_inj hva' (by omega) (by omega) (by omega) hvb' (by omega) y).1)]
      by_cases e : va' = va ∧ vb' = vb
      · rw [if_pos e, e.1, e.2, pk_us]
      · rw [if_neg e, pk_un]
        intro y
        have := ab_pl_inj hva' (by omega) (by omega) (by omega) hvb' (by omega) y
        exact e ⟨this.2.1, this.2.2.2⟩
    have hc2 : ∀ va' vb', va' < 4 → vb' < 4 → upd (upd cl (ab_pl a va b vb) z) (ab_pl b vb a va) z (ab_pl b vb' a va') = if va' = va ∧ vb' = vb then z else cl (ab_pl b vb' a va') := by
      intro va' vb' hva' hvb'
      by_cases e : va' = va ∧ vb' = vb
      · rw [if_pos e, e.1, e.2, pk_us]
      · rw [if_neg e, pk_un, pk_un]
        · intro y
          have := ab_pl_inj hvb' (by omega) (by omega) (by omega) hva' (by omega) y
          exact hab this.1.symm
        · intro y
          have := ab_pl_inj hvb' (by omega) (by omega) (by omega) hva' (by omega) y
          exact e ⟨this.2.2.2, this.2.1⟩
    have hRR := ab_R2_u (T := fun va' vb' => decide (va' < d ∧ vb' < d ∧ upd (upd cl (ab_pl a va b vb) z) (ab_pl b vb a va) z (ab_pl a va' b vb') ≠ 0)) (tb' := upd (upd tb (5 * a + b) (tb (5 * a + b) ^^^ ((1 : Int32) <<< (nI (4 * va + vb) &&& 31)))) (5 * b + a) (tb (5 * b + a) ^^^ ((1 : Int32) <<< (nI (4 * vb + va) &&& 31)))) (cl' := upd (upd cl (ab_pl a va b vb) z) (ab_pl b vb a va) z) h4 ha hb hab h7 h8 (fun va' vb' y => ⟨(of_decide_eq_true y).1, (of_decide_eq_true y).2.1⟩) ?_ ?_ ?_ ?_ ?_ ?_ ?_
    · exact ⟨h1, h2, h3, h4, h5, h6, hRR.1, hRR.2, ab_R2b_u (ab_R2b_u h9 hz01) hz01, h10⟩
    · intro va' vb' hva' hvb'
      rw [pk_un (by omega), pk_us, ab_xb (by omega), (h7 a b ha hb hab).1 va' vb' hva' hvb', hc1 va' vb' hva' hvb']
      by_cases e : va' = va ∧ vb' = vb
      · rw [if_pos e, e.1, e.2, decide_eq_true (p := 4 * va + vb = 4 * va + vb) rfl]
        rcases hz with ⟨y1, rfl⟩ | ⟨y1, rfl⟩
        · rw [y1, decide_eq_false (p := va < d ∧ vb < d ∧ (0 : Int32) ≠ 0) (fun y => y.2.2 rfl), decide_eq_true (p := va < d ∧ vb < d ∧ (1 : Int32) ≠ 0) ⟨hva, hvb, by decide⟩]; rfl
        · rw [y1, decide_eq_false (p := va < d ∧ vb < d ∧ (0 : Int32) ≠ 0) (fun y => y.2.2 rfl), decide_eq_true (p := va < d ∧ vb < d ∧ (1 : Int32) ≠ 0) ⟨hva, hvb, by decide⟩]; rfl
      · rw [if_neg e, decide_eq_false (p := 4 * va' + vb' = 4 * va + vb) (by omega), Bool.xor_false]
    · intro i hi
      rw [pk_un (by omega), pk_us, ab_xb (by omega), (h7 a b ha hb hab).2 i hi, decide_eq_false (by omega)]; rfl
    · intro va' vb' hva' hvb'
      rw [pk_us, ab_xb (by omega), (h7 b a hb ha (fun y => hab y.symm)).1 vb' va' hvb' hva', hc1 va' vb' hva' hvb']
      by_cases e : va' = va ∧ vb' = vb
      · rw [if_pos e, e.1, e.2, decide_eq_true (p := 4 * vb + va = 4 * vb + va) rfl, ← h8 a b va vb ha hb hab hva hvb]
        rcases hz with ⟨y1, rfl⟩ | ⟨y1, rfl⟩
        · rw [y1, decide_eq_false (p := vb < d ∧ va < d ∧ (0 : Int32) ≠ 0) (fun y => y.2.2 rfl), decide_eq_true (p := va < d ∧ vb < d ∧ (1 : Int32) ≠ 0) ⟨hva, hvb, by decide⟩]; rfl
        · rw [y1, decide_eq_false (p := va < d ∧ vb < d ∧ (0 : Int32) ≠ 0) (fun y => y.2.2 rfl), decide_eq_true (p := vb < d ∧ va < d ∧ (1 : Int32) ≠ 0) ⟨hvb, hva, by decide⟩]; rfl
      · rw [if_neg e, decide_eq_false (p := 4 * vb' + va' = 4 * vb + va) (by omega), Bool.xor_false]
        apply decide_eq_decide.mpr
        constructor
        · rintro ⟨y1, y2, y3⟩
          exact ⟨y2, y1, by rw [h8 a b va' vb' ha hb hab y2 y1]; exact y3⟩
        · rintro ⟨y1, y2, y3⟩
          exact ⟨y2, y1, by rw [← h8 a b va' vb' ha hb hab y1 y2]; exact y3⟩
    · intro i hi
      rw [pk_us, ab_xb (by omega), (h7 b a hb ha (fun y => hab y.symm)).2 i hi, decide_eq_false (by omega)]; rfl
    · intro a' b' ha' hb' e e2
      rw [pk_un (by omega), pk_un (by omega)]
    · intro va' vb' hva' hvb'
      constructor
      · rw [decide_eq_true_eq]
        exact ⟨fun y => ⟨hva', hvb', y⟩, fun y => y.2.2⟩
      · rw [hc1 va' vb' (by omega) (by omega), hc2 va' vb' (by omega) (by omega), h8 a b va' vb' ha hb hab hva' hvb']
    · intro a' va' b' vb' ha' hb' hva' hvb' e e2
      rw [pk_un, pk_un]
      · intro y
        have := ab_pl_inj hva' (by omega) (by omega) (by omega) hvb' (by omega) y
        exact e ⟨this.1, this.2.2.1⟩
      · intro y
        have := ab_pl_inj hva' (by omega) (by omega) (by omega) hvb' (by omega) y
        exact e2 ⟨this.1, this.2.2.1⟩
  have hcl' : ∀ z : Int32, upd (upd cl (ab_pl a va b vb) z) (ab_pl b vb a va) z (ab_pl a va b vb) = z := fun z => by rw [pk_un hne, pk_us]
  have yflip : ∀ (r z : Int32) (u' : SX), ((cl (ab_pl a va b vb) = 0 ∧ z = 1 ∧ r = 1) ∨ (cl (ab_pl a va b vb) = 1 ∧ z = 0 ∧ r = 0)) → i_Rel (k + 5) u' (nI n, nI d, nI rc, 10, yr, upd (upd cl (ab_pl a va b vb) z) (ab_pl b vb a va) z, ya, ys, yc) → wpY_flip (fun r' v' => r' = r ∧ i_Rel (k + 5) u' v') (nI n, nI d, nI rc, st, yr, cl, ya, ys, yc) (nI a) (nI va) (nI b) (nI vb) := by
    intro r z u' hz hu
    unfold wpY_flip
    dsimp only
    refine ab_yconflict h2 h4 (fun a' va' b' vb' ha' hva' hb' hvb' hab' e1' e2' e3' e4' => ?_) (fun H => absurd (H a va b vb ha hva hb hvb rfl rfl rfl rfl) hab)
    obtain rfl := ab_inj (by omega) (by omega) e1'
    obtain rfl := ab_inj (by omega) (by omega) e2'
    obtain rfl := ab_inj (by omega) (by omega) e3'
    obtain rfl := ab_inj (by omega) (by omega) e4'
    rcases hz with ⟨y1, rfl, rfl⟩ | ⟨y1, rfl, rfl⟩
    · refine br_t y1 (br_f (by decide) (br_t rfl ?_))
      exact ab_yput (by omega) (by omega) (by omega) (by omega) (Or.inr rfl) ⟨by decide, hu⟩
    · refine br_f (by rw [y1]; decide) (br_f (by decide) (br_f (by decide) ?_))
      exact ab_yput (by omega) (by omega) (by omega) (by omega) (Or.inl rfl) ⟨by decide, hu⟩
  rcases h9 (ab_pl a va b vb) with hold | hold
  · have hRp := main 1 (Or.inl ⟨hold, rfl⟩)
    refine ab_reop (k := k) yr hRp (fun dm fl cu vw lk ex de wi hu' => ?_)
    have hcc := (ab_R2_cl h4 hRp.2.2.2.2.2.2.1 ha hva hb hvb hab).mpr (by rw [hcl']; decide)
    exact ab_xclash (by omega) (by omega) (by omega) (by omega) (fun z => absurd hcc z) (fun _ => br_f (by decide) (yflip 1 1 _ (Or.inl ⟨hold, rfl, rfl⟩) hu'))
  · have hRp := main 0 (Or.inr ⟨hold, rfl⟩)
    refine ab_reop (k := k) yr hRp (fun dm fl cu vw lk ex de wi hu' => ?_)
    have hcc : ¬ ab_cl _ a va b vb := fun z => (ab_R2_cl h4 hRp.2.2.2.2.2.2.1 ha hva hb hvb hab).mp z (hcl' 0)
    exact ab_xclash (by omega) (by omega) (by omega) (by omega) (fun _ => br_t rfl (yflip 0 0 _ (Or.inr ⟨hold, rfl, rfl⟩) hu')) (fun z => absurd z hcc)
end
section
/-! relate; the constructors -/
def ab_dn2 (d va vb va' vb' : Nat) : Prop := (va' < va ∨ (va' = va ∧ vb' < vb)) ∧ va' < d ∧ vb' < d
def ab_Fw (d : Nat) (x : Int32) (va vb : Nat) (F : Int32) : Prop := (∀ va' vb', va' < 4 → vb' < 4 → (bt F (4 * va' + vb') = true ↔ ab_dn2 d va vb va' vb' ∧ bt x (4 * va' + vb') = true)) ∧ ∀ i, 16 ≤ i → bt F i = false
def ab_Bw (d : Nat) (x : Int32) (va vb : Nat) (B : Int32) : Prop := (∀ va' vb', va' < 4 → vb' < 4 → (bt B (4 * vb' + va') = true ↔ ab_dn2 d va vb va' vb' ∧ bt x (4 * va' + vb') = true)) ∧ ∀ i, 16 ≤ i → bt B i = false
theorem ab_lay {F x : Int32} {k m : Nat} (hk : k < 32) (hm : m < 32) (i : Nat) : bt (F ||| (((x >>> (nI k &&& 31)) &&& 1) <<< (nI m &&& 31))) i = true ↔ bt F i = true ∨ (i = m ∧ bt x k = true) := by
  rw [ab_bit x hk, b_or, Bool.or_eq_true]
  rcases Nat.lt_or_ge i 32 with hi | hi
  · cases hx : bt x k
    · rw [if_neg (by decide), b_shl m hm _ hi, b_0, Bool.and_false]
      constructor
      · rintro (h | h)
        · exact Or.inl h
        · cases h
      · rintro (h | h)
        · exact Or.inl h
        · cases h.2
    · rw [if_pos rfl, ab_one m hm i hi, decide_eq_true_eq]
      constructor
      · rintro (h | h)
        · exact Or.inl h
        · exact Or.inr ⟨h, rfl⟩
      · rintro (h | h)
        · exact Or.inl h
        · exact Or.inr h.1
  · rw [b_big hi, b_big hi]
    constructor
    · rintro (h | h) <;> cases h
    · rintro (h | h)
      · cases h
      · omega
theorem ab_Fw_s {d va vb : Nat} {x F : Int32} (hd : d ≤ 4) (hva : va < d) (hvb : vb < d) (h : ab_Fw d x va vb F) : ab_Fw d x va (vb + 1) (F ||| (((x >>> (nI (4 * va + vb) &&& 31)) &&& 1) <<< (nI (4 * va + vb) &&& 31))) := by
  constructor
  · intro va' vb' hva' hvb'
    rw [ab_lay (by omega) (by omega), h.1 va' vb' hva' hvb']
    unfold ab_dn2
    constructor
    · rintro (⟨h1, h2⟩ | ⟨h1, h2⟩)
      · exact ⟨by omega, h2⟩
      · exact ⟨by omega, by rw [h1]; exact h2⟩
    · rintro ⟨h1, h2⟩
      by_cases e : 4 * va' + vb' = 4 * va + vb
      · exact Or.inr ⟨e, by rw [← e]; exact h2⟩
      · exact Or.inl ⟨by omega, h2⟩
  · intro i hi
    cases hb : bt (F ||| (((x >>> (nI (4 * va + vb) &&& 31)) &&& 1) <<< (nI (4 * va + vb) &&& 31))) i
    · rfl
    · rcases (ab_lay (by omega) (by omega) i).mp hb with g | g
      · rw [h.2 i hi] at g; cases g
      · omega
theorem ab_Bw_s {d va vb : Nat} {x B : Int32} (hd : d ≤ 4) (hva : va < d) (hvb : vb < d) (h : ab_Bw d x va vb B) : ab_Bw d x va (vb + 1) (B ||| (((x >>> (nI (4 * va + vb) &&& 31)) &&& 1) <<< (nI (4 * vb + va) &&& 31))) := by
  constructor
  · intro va' vb' hva' hvb'
    rw [ab_lay (by omega) (by omega), h.1 va' vb' hva' hvb']
    unfold ab_dn2
    constructor
    · rintro (⟨h1, h2⟩ | ⟨h1, h2⟩)
      · exact ⟨by omega, h2⟩
      · have e1 : va' = va := by omega
        have e2 : vb' = vb := by omega
        exact ⟨by omega, by rw [e1, e2]; exact h2⟩
    · rintro ⟨h1, h2⟩
      by_cases e : va' = va ∧ vb' = vb
      · rw [e.1, e.2] at h2
        exact Or.inr ⟨by omega, h2⟩
      · exact Or.inl ⟨by omega, h2⟩
  · intro i hi
    cases hb : bt (B ||| (((x >>> (nI (4 * va + vb) &&& 31)) &&& 1) <<< (nI (4 * vb + va) &&& 31))) i
    · rfl
    · rcases (ab_lay (by omega) (by omega) i).mp hb with g | g
      · rw [h.2 i hi] at g; cases g
      · omega
theorem ab_dn2_r {d va va' vb' : Nat} : ab_dn2 d va d va' vb' ↔ ab_dn2 d (va + 1) 0 va' vb' := by unfold ab_dn2; omega
section
variable {n d rc : Nat} {aw st rs lv fl : Int32} {tb rf dm cu vw lk ex de wi : Nat → Int32} {yr : Int32} {cl ya ys yc : Nat → Int32} {a b : Nat} {x : Int32}
theorem ab_xrel_32 {post : Int32 → SX → Prop} {J : Int32 → Int32 → Int32 → Prop} {va : Nat} {y1 y2 : Int32} (hd : d ≤ 4) (hva : va < d) (K : ∀ F B, ab_Fw d x (va + 1) 0 F → ab_Bw d x (va + 1) 0 B → J F B (nI (va + 1))) : ∀ (j vb : Nat) (F B : Int32), vb + j = d → ab_Fw d x va vb F → ab_Bw d x va vb B → wX_relate_32 post J y1 y2 x (nI va) (nI n) (nI d) (nI rc) aw st rs lv fl tb rf dm cu vw lk ex de wi (j + 1) F B (nI vb) := by
  intro j
  induction j with
  | zero =>
    intro vb F B hvb hF hB
    obtain rfl : vb = d := by omega
    refine br_t (Int32.le_refl _) (nm_r (nI_1 va) (K F B ⟨fun va' vb' h1 h2 => ?_, hF.2⟩ ⟨fun va' vb' h1 h2 => ?_, hB.2⟩))
    · rw [hF.1 va' vb' h1 h2, ab_dn2_r]
    · rw [hB.1 va' vb' h1 h2, ab_dn2_r]
  | succ j ih =>
    intro vb F B hvb hF hB
    unfold wX_relate_32
    rw [ab_i4, ab_i4]
    exact br_f (nI_ge (by omega) (by omega)) (nm_e (nm_e (nm_e (nm_r (nI_1 vb) (ih (vb + 1) _ _ (by omega) (ab_Fw_s hd hva (by omega) hF) (ab_Bw_s hd hva (by omega) hB))))))
theorem ab_xrel_20 {post : Int32 → SX → Prop} (hd : d ≤ 4) (ha : a < 5) (hb : b < 5) (K1 : ∀ F, ab_Fw d x d 0 F → tb (5 * a + b) = F → post 1 (nI n, nI d, nI rc, aw, st, rs, lv, fl, tb, rf, dm, cu, vw, lk, ex, de, wi)) (K0 : ∀ F B, ab_Fw d x d 0 F → ab_Bw d x d 0 B → ¬ tb (5 * a + b) = F → wpX_reopen (post 0) (nI n, nI d, nI rc, aw, st, rs, lv, fl, upd (upd tb (5 * a + b) F) (5 * b + a) B, rf, dm, cu, vw, lk, ex, de, wi)) : ∀ (j va : Nat) (F B : Int32), va + j = d → ab_Fw d x va 0 F → ab_Bw d x va 0 B → wX_relate_20 post (nI a) (nI b) x (nI n) (nI d) (nI rc) aw st rs lv fl tb rf dm cu vw lk ex de wi (j + 1) F B (nI va) := by
  intro j
  induction j with
  | zero =>
    intro va F B hva hF hB
    obtain rfl : va = d := by omega
    have hi1 : vp_in (nI (5 * a + b)) 25 := vp_in_nI (by omega) (by decide)
    have hi2 : vp_in (nI (5 * b + a)) 25 := vp_in_nI (by omega) (by decide)
    unfold wX_relate_20
    rw [ab_i5, ab_i5, nI_clamp (show 5 * a + b < 2 ^ 31 by omega), nI_clamp (show 5 * b + a < 2 ^ 31 by omega)]
    exact br_t (Int32.le_refl _) ⟨hi1, br_c (fun e => K1 F hF e) (fun e => ⟨hi1, nm_e ⟨hi2, nm_e (K0 F B hF hB e)⟩⟩)⟩
  | succ j ih =>
    intro va F B hva hF hB
    exact br_f (nI_ge (by omega) (by omega)) ⟨d + 1, ab_xrel_32 hd (by omega) (fun F' B' hF' hB' => ih (va + 1) F' B' (by omega) hF' hB') d 0 F B (by omega) hF hB⟩
def ab_z (x : Int32) (i : Nat) : Int32 := if bt x i = true then 1 else 0
theorem ab_z01 (x : Int32) (i : Nat) : ab_z x i = 0 ∨ ab_z x i = 1 := by
  unfold ab_z
  cases bt x i
  · exact Or.inl rfl
  · exact Or.inr rfl
/-- Y's table while it is written -/
def ab_Yr (d : Nat) (x : Int32) (a b : Nat) (cl : Nat → Int32) (va vb : Nat) (m : Int32) (cc : Nat → Int32) : Prop :=
  (m = 0 ∨ m = 1) ∧ ab_R2b cc ∧
  (∀ va' vb', va' < 4 → vb' < 4 → (ab_dn2 d va vb va' vb' → cc (ab_pl a va' b vb') = ab_z x (4 * va' + vb') ∧ cc (ab_pl b vb' a va') = ab_z x (4 * va' + vb')) ∧ (¬ ab_dn2 d va vb va' vb' → cc (ab_pl a va' b vb') = cl (ab_pl a va' b vb') ∧ cc (ab_pl b vb' a va') = cl (ab_pl b vb' a va'))) ∧
  (∀ a' va' b' vb', a' < 5 → b' < 5 → va' < 4 → vb' < 4 → ¬ (a' = a ∧ b' = b) → ¬ (a' = b ∧ b' = a) → cc (ab_pl a' va' b' vb') = cl (ab_pl a' va' b' vb')) ∧
  (m = 0 ↔ ∀ va' vb', va' < 4 → vb' < 4 → ab_dn2 d va vb va' vb' → cl (ab_pl a va' b vb') = ab_z x (4 * va' + vb'))
theorem ab_Yr_s {va vb : Nat} {m m' : Int32} {cc : Nat → Int32} (hd : d ≤ 4) (ha : a < 5) (hb : b < 5) (hab : a ≠ b) (hva : va < d) (hvb : vb < d) (h : ab_Yr d x a b cl va vb m cc) (hm : (cc (ab_pl a va b vb) = ab_z x (4 * va + vb) ∧ m' = m) ∨ (¬ cc (ab_pl a va b vb) = ab_z x (4 * va + vb) ∧ m' = 1)) : ab_Yr d x a b cl va (vb + 1) m' (upd (upd cc (ab_pl a va b vb) (ab_z x (4 * va + vb))) (ab_pl b vb a va) (ab_z x (4 * va + vb))) := by
  obtain ⟨h1, h2, h3, h4, h5⟩ := h
  have hold : cc (ab_pl a va b vb) = cl (ab_pl a va b vb) := ((h3 va vb (by omega) (by omega)).2 (by unfold ab_dn2; omega)).1
  have hc1 : ∀ va' vb', va' < 4 → vb' < 4 → upd (upd cc (ab_pl a va b vb) (ab_z x (4 * va + vb))) (ab_pl b vb a va) (ab_z x (4 * va + vb)) (ab_pl a va' b vb') = if va' = va ∧ vb' = vb then ab_z x (4 * va + vb) else cc (ab_pl a va' b vb') := by
    intro va' vb' hva' hvb'
    rw [pk_un (fun y => hab (ab_pl_inj hva' (by omega) (by omega) (by omega) hvb' (by omega) y).1)]
    by_cases e : va' = va ∧ vb' = vb
    · rw [if_pos e, e.1, e.2, pk_us]
    · rw [if_neg e, pk_un]
      intro y
      have := ab_pl_inj hva' (by omega) (by omega) (by omega) hvb' (by omega) y
      exact e ⟨this.2.1, this.2.2.2⟩
  have hc2 : ∀ va' vb', va' < 4 → vb' < 4 → upd (upd cc (ab_pl a va b vb) (ab_z x (4 * va + vb))) (ab_pl b vb a va) (ab_z x (4 * va + vb)) (ab_pl b vb' a va') = if va' = va ∧ vb' = vb then ab_z x (4 * va + vb) else cc (ab_pl b vb' a va') := by
    intro va' vb' hva' hvb'
    by_cases e : va' = va ∧ vb' = vb
    · rw [if_pos e, e.1, e.2, pk_us]
    · rw [if_neg e, pk_un, pk_un]
      · intro y
        have := ab_pl_inj hvb' (by omega) (by omega) (by omega) hva' (by omega) y
        exact hab this.1.symm
      · intro y
        have := ab_pl_inj hvb' (by omega) (by omega) (by omega) hva' (by omega) y
        exact e ⟨this.2.2.2, this.2.1⟩
  refine ⟨?_, ab_R2b_u (ab_R2b_u h2 (ab_z01 _ _)) (ab_z01 _ _), fun va' vb' hva' hvb' => ?_, fun a' va' b' vb' ha' hb' hva' hvb' e e2 => ?_, ?_⟩
  · rcases hm with ⟨_, rfl⟩ | ⟨_, rfl⟩
    · exact h1
    · exact Or.inr rfl
  · rw [hc1 va' vb' hva' hvb', hc2 va' vb' hva' hvb']
    by_cases e : va' = va ∧ vb' = vb
    · rw [if_pos e, if_pos e, e.1, e.2]
      exact ⟨fun _ => ⟨rfl, rfl⟩, fun z => absurd (show ab_dn2 d va (vb + 1) va vb by unfold ab_dn2; omega) z⟩
    · rw [if_neg e, if_neg e]
      have hiff : ab_dn2 d va (vb + 1) va' vb' ↔ ab_dn2 d va vb va' vb' := by unfold ab_dn2; omega
      rw [hiff]
      exact h3 va' vb' hva' hvb'
  · rw [pk_un, pk_un]
    · exact h4 a' va' b' vb' ha' hb' hva' hvb' e e2
    · intro y
      have := ab_pl_inj hva' (by omega) (by omega) (by omega) hvb' (by omega) y
      exact e ⟨this.1, this.2.2.1⟩
    · intro y
      have := ab_pl_inj hva' (by omega) (by omega) (by omega) hvb' (by omega) y
      exact e2 ⟨this.1, this.2.2.1⟩
  · rcases hm with ⟨he, rfl⟩ | ⟨he, rfl⟩
    · rw [h5]
      constructor
      · intro g va' vb' hva' hvb' hdn
        by_cases e : va' = va ∧ vb' = vb
        · rw [e.1, e.2, ← hold]; exact he
        · exact g va' vb' hva' hvb' (by unfold ab_dn2 at *; omega)
      · intro g va' vb' hva' hvb' hdn
        exact g va' vb' hva' hvb' (by unfold ab_dn2 at *; omega)
    · constructor
      · intro z; exact absurd z (by decide)
      · intro g
        exact absurd (hold.trans (g va vb (by omega) (by omega) (by unfold ab_dn2; omega))) he
theorem ab_Yr_r {va : Nat} {m : Int32} {cc : Nat → Int32} (h : ab_Yr d x a b cl va d m cc) : ab_Yr d x a b cl (va + 1) 0 m cc := by
  obtain ⟨h1, h2, h3, h4, h5⟩ := h
  refine ⟨h1, h2, fun va' vb' hva' hvb' => ?_, h4, ?_⟩
  · rw [← ab_dn2_r]; exact h3 va' vb' hva' hvb'
  · rw [h5]
    exact ⟨fun g va' vb' hva' hvb' hdn => g va' vb' hva' hvb' (ab_dn2_r.mpr hdn), fun g va' vb' hva' hvb' hdn => g va' vb' hva' hvb' (ab_dn2_r.mp hdn)⟩
theorem ab_yrel_99 {post : Int32 → SY → Prop} {J29 J41 : Int32 → Int32 → Int32 → Int32 → Int32 → Int32 → Int32 → (Nat → Int32) → (Nat → Int32) → (Nat → Int32) → (Nat → Int32) → Prop} {va vb : Nat} {m z : Int32} (ha : a < 5) (hb : b < 5) (hva : va < 4) (hvb : vb < 4) (hz : z = 0 ∨ z = 1) (K : J41 m (nI (vb + 1)) (nI n) (nI d) (nI rc) st yr (upd (upd cl (ab_pl a va b vb) z) (ab_pl b vb a va) z) ya ys yc) : wY_relate_99 post J29 J41 (nI a) (nI b) x m (nI va) (nI vb) z (nI n) (nI d) (nI rc) st yr cl ya ys yc :=
  ab_yput ha hva hb hvb hz (nm_r (nI_1 vb) K)
theorem ab_yrel_70 {post : Int32 → SY → Prop} {J29 J41 : Int32 → Int32 → Int32 → Int32 → Int32 → Int32 → Int32 → (Nat → Int32) → (Nat → Int32) → (Nat → Int32) → (Nat → Int32) → Prop} {va vb : Nat} {m z : Int32} (ha : a < 5) (hb : b < 5) (hva : va < 4) (hvb : vb < 4) (hz : z = 0 ∨ z = 1) (K1 : cl (ab_pl a va b vb) = z → J41 m (nI (vb + 1)) (nI n) (nI d) (nI rc) st yr (upd (upd cl (ab_pl a va b vb) z) (ab_pl b vb a va) z) ya ys yc) (K0 : ¬ cl (ab_pl a va b vb) = z → J41 1 (nI (vb + 1)) (nI n) (nI d) (nI rc) st yr (upd (upd cl (ab_pl a va b vb) z) (ab_pl b vb a va) z) ya ys yc) : wY_relate_70 post J29 J41 (nI a) (nI b) x m (nI va) (nI vb) z (nI n) (nI d) (nI rc) st yr cl ya ys yc := by
  have hpl := ab_pl_lt ha hva hb hvb
  unfold wY_relate_70
  refine ab_yplace ⟨vp_in_nI hpl (by decide), ?_⟩
  rw [nI_clamp (show ab_pl a va b vb < 2 ^ 31 by omega)]
  exact br_c (fun e => ab_yrel_99 ha hb hva hvb hz (K1 e)) (fun e => ab_yrel_99 ha hb hva hvb hz (K0 e))
theorem ab_yrel_41 {post : Int32 → SY → Prop} {J29 : Int32 → Int32 → Int32 → Int32 → Int32 → Int32 → Int32 → (Nat → Int32) → (Nat → Int32) → (Nat → Int32) → (Nat → Int32) → Prop} {va : Nat} (hd : d ≤ 4) (ha : a < 5) (hb : b < 5) (hab : a ≠ b) (hva : va < d) (K : ∀ m cc, ab_Yr d x a b cl (va + 1) 0 m cc → J29 m (nI (va + 1)) (nI n) (nI d) (nI rc) st yr cc ya ys yc) : ∀ (j vb : Nat) (m : Int32) (cc : Nat → Int32), vb + j = d → ab_Yr d x a b cl va vb m cc → wY_relate_41 post J29 (nI a) (nI b) x (nI va) (j + 1) m (nI vb) (nI n) (nI d) (nI rc) st yr cc ya ys yc := by
  intro j
  induction j with
  | zero =>
    intro vb m cc hvb h
    obtain rfl : vb = d := by omega
    exact br_t (Int32.le_refl _) (nm_r (nI_1 va) (K m cc (ab_Yr_r h)))
  | succ j ih =>
    intro vb m cc hvb h
    unfold wY_relate_41
    rw [ab_i4, ab_bit1 (show 4 * va + vb < 32 by omega)]
    have go : ∀ z, z = ab_z x (4 * va + vb) → wY_relate_70 post J29 (wY_relate_41 post J29 (nI a) (nI b) x (nI va) (j + 1)) (nI a) (nI b) x m (nI va) (nI vb) z (nI n) (nI d) (nI rc) st yr cc ya ys yc := by
      intro z hz
      have hz01 : z = 0 ∨ z = 1 := hz ▸ ab_z01 _ _
      refine ab_yrel_70 ha hb (by omega) (by omega) hz01 (fun e => ih (vb + 1) m _ (by omega) ?_) (fun e => ih (vb + 1) 1 _ (by omega) ?_)
      · rw [hz] at e ⊢
        exact ab_Yr_s hd ha hb hab hva (by omega) h (Or.inl ⟨e, rfl⟩)
      · rw [hz] at e ⊢
        exact ab_Yr_s hd ha hb hab hva (by omega) h (Or.inr ⟨e, rfl⟩)
    refine br_f (nI_ge (by omega) (by omega)) (br_c (fun e => go 1 ?_) (fun e => go 0 ?_))
    · unfold ab_z; rw [if_pos e]
    · unfold ab_z; rw [if_neg e]
theorem ab_yrel_29 {post : Int32 → SY → Prop} (hd : d ≤ 4) (ha : a < 5) (hb : b < 5) (hab : a ≠ b) (K : ∀ m cc, ab_Yr d x a b cl d 0 m cc → (m = 0 → post 1 (nI n, nI d, nI rc, st, yr, cc, ya, ys, yc)) ∧ (¬ m = 0 → post 0 (nI n, nI d, nI rc, 10, yr, cc, ya, ys, yc))) : ∀ (j va : Nat) (m : Int32) (cc : Nat → Int32), va + j = d → ab_Yr d x a b cl va 0 m cc → wY_relate_29 post (nI a) (nI b) x (j + 1) m (nI va) (nI n) (nI d) (nI rc) st yr cc ya ys yc := by
  intro j
  induction j with
  | zero =>
    intro va m cc hva h
    obtain rfl : va = d := by omega
    exact br_t (Int32.le_refl _) (K m cc h)
  | succ j ih =>
    intro va m cc hva h
    exact br_f (nI_ge (by omega) (by omega)) ⟨d + 1, ab_yrel_41 hd ha hb hab (by omega) (fun m' cc' h' => ih (va + 1) m' cc' (by omega) h') d 0 m cc (by omega) h⟩
theorem ab_Yr_0 (h9 : ab_R2b cl) : ab_Yr d x a b cl 0 0 0 cl := by
  have hn : ∀ {va' vb'}, ¬ ab_dn2 d 0 0 va' vb' := by intro va' vb'; unfold ab_dn2; omega
  exact ⟨Or.inl rfl, h9, fun va' vb' _ _ => ⟨fun z => absurd z hn, fun _ => ⟨rfl, rfl⟩⟩, fun _ _ _ _ _ _ _ _ _ _ => rfl, ⟨fun _ va' vb' _ _ z => absurd z hn, fun _ => rfl⟩⟩
/-- the written table, against any table of X that holds the same -/
theorem ab_Yr_Rp {m : Int32} {cc tb' : Nat → Int32} (hR : ab_Rp n d rc aw tb rf cl ya ys yc) (ha : a < n) (hb : b < n) (hab : a ≠ b) (h : ab_Yr d x a b cl d 0 m cc) {F B : Int32} (hF : ab_Fw d x d 0 F) (hB : ab_Bw d x d 0 B) (e1 : tb' (5 * a + b) = F) (e2 : tb' (5 * b + a) = B) (e3 : ∀ a' b', a' < n → b' < n → ¬ (a' = a ∧ b' = b) → ¬ (a' = b ∧ b' = a) → tb' (5 * a' + b') = tb (5 * a' + b')) : ab_Rp n d rc aw tb' rf cc ya ys yc := by
  obtain ⟨h1, h2, h3, h4, h5, h6, h7, h8, h9, h10⟩ := hR
  obtain ⟨y1, y2, y3, y4, y5⟩ := h
  have hT : ∀ va vb, (ab_dn2 d d 0 va vb ∧ bt x (4 * va + vb) = true) ↔ (va < d ∧ vb < d ∧ bt x (4 * va + vb) = true) := by
    intro va vb
    unfold ab_dn2
    constructor
    · rintro ⟨z1, z2⟩; exact ⟨z1.2.1, z1.2.2, z2⟩
    · rintro ⟨z1, z2, z3⟩; exact ⟨⟨by omega, z1, z2⟩, z3⟩
  have hRR := ab_R2_u (T := fun va vb => decide (va < d ∧ vb < d ∧ bt x (4 * va + vb) = true)) (tb' := tb') (cl' := cc) h4 ha hb hab h7 h8 (fun va vb y => ⟨(of_decide_eq_true y).1, (of_decide_eq_true y).2.1⟩) ?_ ?_ ?_ ?_ e3 ?_ ?_
  · exact ⟨h1, h2, h3, h4, h5, h6, hRR.1, hRR.2, y2, h10⟩
  · intro va vb hva hvb
    rw [e1, Bool.eq_iff_iff, hF.1 va vb hva hvb, hT, decide_eq_true_eq]
  · rw [e1]; exact hF.2
  · intro va vb hva hvb
    rw [e2, Bool.eq_iff_iff, hB.1 va vb hva hvb, hT, decide_eq_true_eq]
  · rw [e2]; exact hB.2
  · intro va vb hva hvb
    have g := (y3 va vb (by omega) (by omega)).1 (by unfold ab_dn2; omega)
    rw [g.1, g.2, decide_eq_true_eq]
    refine ⟨?_, rfl⟩
    unfold ab_z
    cases hx : bt x (4 * va + vb)
    · rw [if_neg (by decide)]
      exact ⟨fun z => absurd rfl z, fun z => by cases z.2.2⟩
    · rw [if_pos rfl]
      exact ⟨fun _ => ⟨hva, hvb, rfl⟩, fun _ => by decide⟩
  · intro a' va b' vb ha' hb' hva hvb z1 z2
    exact y4 a' va b' vb (by omega) (by omega) hva hvb z1 z2
end
theorem i_vc_relate {k : Nat} {u : SX} {v : SY} (I : i_Rel k u v) (hk : k + 5 ≤ 2562) (v1 : Int32) (v2 : Int32) (v3 : Int32) : wpX_relate (fun r u' => wpY_relate (fun r' v' => r' = r ∧ i_Rel (k + 5) u' v') v v1 v2 v3) u v1 v2 v3 := by
  refine ab_el (P := fun u v => wpX_relate (fun r u' => wpY_relate (fun r' v' => r' = r ∧ i_Rel (k + 5) u' v') v v1 v2 v3) u v1 v2 v3) ?_ I
  intro n d rc aw st rs lv fl tb rf dm cu vw lk ex de wi yr cl ya ys yc hR
  have hR' := hR.1
  obtain ⟨h1, h2, h3, h4, h5, h6, h7, h8, h9, h10⟩ := hR'
  unfold wpX_relate
  dsimp only
  refine ab_xisPair h2 (fun a b ha hb hab ea eb => br_f (by decide) ?_) (fun H => br_t rfl ?_)
  · subst ea eb
    have yrel : ∀ (r : Int32) (u' : SX), (∀ m cc, ab_Yr d v3 a b cl d 0 m cc → (m = 0 → 1 = r ∧ i_Rel (k + 5) u' (nI n, nI d, nI rc, st, yr, cc, ya, ys, yc)) ∧ (¬ m = 0 → 0 = r ∧ i_Rel (k + 5) u' (nI n, nI d, nI rc, 10, yr, cc, ya, ys, yc))) → wpY_relate (fun r' v' => r' = r ∧ i_Rel (k + 5) u' v') (nI n, nI d, nI rc, st, yr, cl, ya, ys, yc) (nI a) (nI b) v3 := by
      intro r u' K
      unfold wpY_relate
      dsimp only
      exact ab_yisAgent h2 (fun _ _ _ => br_f (by decide) (ab_yisAgent h2 (fun _ _ _ => br_f (by decide) (br_f (fun z => hab (ab_inj (by omega) (by omega) z)) ⟨d + 1, ab_yrel_29 h4 (by omega) (by omega) hab K d 0 0 cl (by omega) (ab_Yr_0 h9)⟩)) (fun H => absurd rfl (H b hb)))) (fun H => absurd rfl (H a ha))
    have hcz : ∀ va vb, va < d → vb < d → (cl (ab_pl a va b vb) = ab_z v3 (4 * va + vb) ↔ (bt (tb (5 * a + b)) (4 * va + vb) = true ↔ bt v3 (4 * va + vb) = true)) := by
      intro va vb hva hvb
      rw [(h7 a b ha hb hab).1 va vb (by omega) (by omega), decide_eq_true_eq]
      unfold ab_z
      rcases h9 (ab_pl a va b vb) with z | z
      · rw [z]
        cases bt v3 (4 * va + vb)
        · exact ⟨fun _ => ⟨fun y => absurd rfl y.2.2, fun y => by cases y⟩, fun _ => rfl⟩
        · exact ⟨fun y => absurd y (by decide), fun y => absurd rfl (y.mpr rfl).2.2⟩
      · rw [z]
        cases bt v3 (4 * va + vb)
        · exact ⟨fun y => absurd y (by decide), fun y => absurd (y.mp ⟨hva, hvb, by decide⟩) (by decide)⟩
        · exact ⟨fun _ => ⟨fun _ => rfl, fun _ => ⟨hva, hvb, by decide⟩⟩, fun _ => rfl⟩
    have hFeq : ∀ F, ab_Fw d v3 d 0 F → (tb (5 * a + b) = F ↔ ∀ va vb, va < 4 → vb < 4 → ab_dn2 d d 0 va vb → cl (ab_pl a va b vb) = ab_z v3 (4 * va + vb)) := by
      intro F hF
      constructor
      · intro e va vb hva hvb hdn
        refine (hcz va vb hdn.2.1 hdn.2.2).mpr ?_
        rw [e, hF.1 va vb hva hvb]
        exact ⟨fun y => y.2, fun y => ⟨hdn, y⟩⟩
      · intro g
        apply b_ext
        intro i hi
        rcases Nat.lt_or_ge i 16 with h16 | h16
        · have ei : i = 4 * (i / 4) + i % 4 := by omega
          rw [ei, Bool.eq_iff_iff, hF.1 (i / 4) (i % 4) (by omega) (by omega)]
          by_cases hdn : ab_dn2 d d 0 (i / 4) (i % 4)
          · rw [(hcz _ _ hdn.2.1 hdn.2.2).mp (g _ _ (by omega) (by omega) hdn)]
            exact ⟨fun y => ⟨hdn, y⟩, fun y => y.2⟩
          · rw [(h7 a b ha hb hab).1 (i / 4) (i % 4) (by omega) (by omega), decide_eq_true_eq]
            exact ⟨fun y => absurd (show ab_dn2 d d 0 (i / 4) (i % 4) by unfold ab_dn2; omega) hdn, fun y => absurd y.1 hdn⟩
        · rw [(h7 a b ha hb hab).2 i h16, hF.2 i h16]
    refine ⟨d + 1, ab_xrel_20 (x := v3) h4 (by omega) (by omega) (fun F hF e => ?_) (fun F B hF hB e => ?_) d 0 0 0 (by omega) ?_ ?_⟩
    · refine yrel 1 _ (fun m cc hY => ?_)
      have hm : m = 0 := hY.2.2.2.2.mpr ((hFeq F hF).mp e)
      refine ⟨fun _ => ⟨rfl, ?_⟩, fun z => absurd hm z⟩
      have hB : ab_Bw d v3 d 0 (tb (5 * b + a)) := by
        refine ⟨fun va vb hva hvb => ?_, (h7 b a hb ha (fun y => hab y.symm)).2⟩
        rw [(h7 b a hb ha (fun y => hab y.symm)).1 vb va hvb hva, decide_eq_true_eq, ← hF.1 va vb hva hvb, ← e, (h7 a b ha hb hab).1 va vb hva hvb, decide_eq_true_eq]
        constructor
        · rintro ⟨y1, y2, y3⟩
          exact ⟨y2, y1, by rw [h8 a b va vb ha hb hab y2 y1]; exact y3⟩
        · rintro ⟨y1, y2, y3⟩
          exact ⟨y2, y1, by rw [← h8 a b va vb ha hb hab y1 y2]; exact y3⟩
      exact ab_in ⟨ab_Yr_Rp hR.1 ha hb hab hY hF hB e rfl (fun _ _ _ _ _ _ => rfl), hR.2⟩
    · have hKW := ab_Rp_KW hR.1
      refine ab_xreopen hKW (fun dm' fl cu vw lk ex de wi hD hI => yrel 0 _ (fun m cc hY => ⟨fun z => ?_, fun _ => ⟨rfl, ?_⟩⟩))
      · exact absurd ((hFeq F hF).mpr (hY.2.2.2.2.mp z)) e
      · refine ab_in ⟨ab_Yr_Rp hR.1 ha hb hab hY hF hB ?_ ?_ ?_, Or.inl ⟨rfl, rfl, hD, hI⟩⟩
        · rw [pk_un (by omega), pk_us]
        · rw [pk_us]
        · intro a' b' ha' hb' z1 z2
          rw [pk_un (by omega), pk_un (by omega)]
    · exact ⟨fun va' vb' _ _ => ⟨fun z => absurd z (by rw [b_0]; decide), fun z => absurd z.1 (by unfold ab_dn2; omega)⟩, fun i _ => b_0 i⟩
    · exact ⟨fun va' vb' _ _ => ⟨fun z => absurd z (by rw [b_0]; decide), fun z => absurd z.1 (by unfold ab_dn2; omega)⟩, fun i _ => b_0 i⟩
  · unfold wpY_relate
    dsimp only
    exact ab_yisAgent h2 (fun a ha ea => br_f (by decide) (ab_yisAgent h2 (fun b hb eb => br_f (by decide) (br_t (by rw [ea, eb, H a b ha hb ea eb]) ⟨rfl, ab_in hR⟩)) (fun _ => br_t rfl ⟨rfl, ab_in hR⟩))) (fun _ => br_t rfl ⟨rfl, ab_in hR⟩)
end
section
/-! the constructors -/
section
variable {n d rc : Nat} {st yr : Int32} {cl ya ys yc : Nat → Int32}
theorem ab_xclamp {post : Int32 → Prop} {u : SX} {x : Int32} {m : Nat} (hm : m < 2 ^ 31) (K : ∀ c, 2 ≤ c → c ≤ m → ((x = nI c) ∨ (x < 2 ∧ c = 2) ∨ (nI m < x ∧ c = m)) → post (nI c)) (h2 : 2 ≤ m) : wpX_clamp post u x 2 (nI m) := by
  obtain ⟨_, _, _, _, _, _, _, _, _, _, _, _, _, _, _, _, _⟩ := u
  refine br_c (fun e => br_c (fun e2 => ?_) (fun e2 => K m h2 (Nat.le_refl _) (Or.inr (Or.inr ⟨Int32.not_le.mp e2, rfl⟩)))) (fun e => K 2 (by omega) h2 (Or.inr (Or.inl ⟨Int32.not_le.mp e, rfl⟩)))
  have hx : ¬ x < 0 := fun z => absurd (Int32.lt_of_le_of_lt e z) (by decide)
  obtain ⟨j, hj, rfl⟩ := nI_of hx
  exact K j ((nI_leI (a := 2) (by decide) hj).mp e) ((nI_leI hj hm).mp e2) (Or.inl rfl)
theorem ab_yinit_84 {post : SY → Prop} (hn : n ≤ 5) (K : post (nI n, nI d, nI rc, 10, yr, cl, ab_fill n 1 ya, ys, yc)) : ∀ (j a : Nat), a + j = n → wY_init_84 post (nI n) (nI d) (nI rc) st yr (j + 1) (nI a) cl (ab_fill a 1 ya) ys yc := by
  intro j
  induction j with
  | zero =>
    intro a ha
    obtain rfl : a = n := by omega
    exact br_t (Int32.le_refl _) K
  | succ j ih =>
    intro a ha
    refine br_f (nI_ge (by omega) (by omega)) ⟨vp_in_nI (by omega) (by decide), ?_⟩
    rw [nI_clamp (show a < 2 ^ 31 by omega), show vp_nar .boolean 1 = 1 from rfl]
    exact nm_r ab_fill_s (nm_r (nI_1 a) (ih (a + 1) (by omega)))
theorem ab_yclamp {A : Int32 → Prop} {x : Int32} {c m : Nat} (hm : m < 2 ^ 31) (h2 : 2 ≤ m) (hc2 : 2 ≤ c) (hcm : c ≤ m) (hx : (x = nI c) ∨ (x < 2 ∧ c = 2) ∨ (nI m < x ∧ c = m)) (K : A (nI c)) : ((2 ≤ x → ((x ≤ nI m → A x) ∧ (¬ x ≤ nI m → A (nI m)))) ∧ (¬ 2 ≤ x → A 2)) := by
  rcases hx with rfl | ⟨h, rfl⟩ | ⟨h, rfl⟩
  · exact br_t (nI_le (a := 2) hc2 (by omega)) (br_t (nI_le hcm hm) K)
  · exact br_f (Int32.not_le.mpr h) K
  · have h' : (2 : Int32) ≤ x := Int32.le_trans (nI_le (a := 2) h2 hm) (Int32.le_of_lt h)
    exact br_t h' (br_f (Int32.not_le.mpr h) K)
end
theorem i_vc0 (k0 : Int32) (k1 : Int32) : wpX_init (fun u => wpY_init (fun v => i_Rel 2 u v) k0 k1) k0 k1 := by
  unfold wpX_init
  refine ab_xclamp (m := 5) (by decide) (fun n hn2 hn5 hx0 => ab_xclamp (m := 4) (by decide) (fun d hd2 hd4 hx1 => nm_e ?_) (by decide)) (by decide)
  have hz : ab_R2 n d (fun _ => 0) (fun _ => 0) := by
    intro a b ha hb hab
    refine ⟨fun va vb _ _ => ?_, fun i _ => b_0 i⟩
    rw [b_0, decide_eq_false (fun z => z.2.2 rfl)]
  have hRp : ab_Rp n d 0 (((1 : Int32) <<< (nI n &&& 31)) - 1) (fun _ => 0) (fun _ => 0) (fun _ => 0) (ab_fill n 1 (fun _ => 0)) (fun _ => 0) (fun _ => 0) := by
    refine ⟨hn2, hn5, hd2, hd4, by omega, fun i => ?_, hz, fun _ _ _ _ _ _ _ _ _ => rfl, fun _ => Or.inl rfl, fun r hr => by omega⟩
    rw [ab_low (by omega)]
    apply decide_eq_decide.mpr
    constructor
    · intro h
      refine ⟨h, ?_⟩
      rw [ab_fill_at h]; decide
    · intro h; exact h.1
  refine ab_xreopen (rc := 0) (ab_Rp_KW hRp) (fun dm' fl cu vw lk ex de wi hD hI => ?_)
  have hR := ab_in (k := 2) (st := 10) (rs := 0) (yr := 0) ⟨hRp, Or.inl ⟨rfl, rfl, hD, hI⟩⟩
  refine ab_yclamp (A := fun z => wY_init_56 (fun v => i_Rel 2 _ v) k1 z 0 0 0 0 0 (fun _ => 0) (fun _ => 0) (fun _ => 0) (fun _ => 0)) (m := 5) (by decide) (by decide) hn2 hn5 hx0 ?_
  refine ab_yclamp (A := fun z => ∃ n84 : Nat, wY_init_84 (fun v => i_Rel 2 _ v) (nI n) z 0 0 0 n84 0 (fun _ => 0) (fun _ => 0) (fun _ => 0) (fun _ => 0)) (m := 4) (by decide) (by decide) hd2 hd4 hx1 ⟨n + 1, ?_⟩
  have h := ab_yinit_84 (n := n) (d := d) (rc := 0) (st := 0) (yr := 0) (cl := fun _ => 0) (ya := fun _ => 0) (ys := fun _ => 0) (yc := fun _ => 0) (post := fun v => i_Rel 2 (nI n, nI d, nI 0, ((1 : Int32) <<< (nI n &&& 31)) - 1, 10, 0, ((1 : Int32) <<< (nI n &&& 31)) - 1, fl, fun _ => 0, fun _ => 0, dm', cu, vw, lk, ex, de, wi) v) hn5 hR n 0 (by omega)
  rw [ab_fill_0] at h
  exact h
end
