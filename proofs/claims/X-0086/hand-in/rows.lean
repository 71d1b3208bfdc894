section
theorem pk_us {f : Nat → Int32} {k : Nat} {x : Int32} : upd f k x k = x := if_pos rfl
theorem pk_un {f : Nat → Int32} {k j : Nat} {x : Int32} (h : j ≠ k) : upd f k x j = f j := if_neg h
theorem pk_sub {a b : Nat} (h : b ≤ a) : nI a - nI b = nI (a - b) := by
  obtain ⟨c, rfl⟩ : ∃ c, a = c + b := ⟨a - b, by omega⟩
  rw [← nI_add, Int32.add_sub_cancel, Nat.add_sub_cancel]
theorem pk_m1 (n : Nat) : nI (n + 1) + (-1) = nI n := by
  rw [← nI_1, Int32.add_assoc, show (1 : Int32) + (-1) = 0 from rfl, Int32.add_zero]
theorem pk_mul (a b : Nat) : nI a * nI b = nI (a * b) := (Int32.ofNat_mul a b).symm
theorem pk_div {a d : Nat} (ha : a < 2 ^ 31) (h0 : 0 < d) (hd : d < 2 ^ 31) : nI a / nI d = nI (a / d) := by
  apply Int32.toInt_inj.mp
  rw [lg_idiv_nonneg (by rw [nI_toInt ha]; omega) (by rw [nI_toInt hd]; omega), nI_toInt ha, nI_toInt hd, nI_toInt (Nat.lt_of_le_of_lt (Nat.div_le_self a d) ha)]
  first | rfl | exact (Int.natCast_ediv _ _).symm
theorem pk_rem {a d : Nat} (ha : a < 2 ^ 31) (h0 : 0 < d) (hd : d < 2 ^ 31) : nI a - nI a / nI d * nI d = nI (a % d) := by
  rw [pk_div ha h0 hd, pk_mul, pk_sub (Nat.div_mul_le_self a d)]
  exact congrArg nI (by have := Nat.div_add_mod' a d; omega)
theorem pk_sub_toInt {a b : Nat} (ha : a < 2 ^ 30) (hb : b < 2 ^ 30) : (nI a - nI b).toInt = (a : Int) - b := by
  rw [Int32.toInt_sub, nI_toInt (by omega), nI_toInt (by omega)]
  exact Int.bmod_eq_of_le (by omega) (by omega)
theorem pk_sneg {a b : Nat} (hb : b < 2 ^ 30) (h : a < b) : nI a - nI b < 0 := by
  rw [Int32.lt_iff_toInt_lt, pk_sub_toInt (by omega) hb, show (0 : Int32).toInt = 0 from by decide]
  omega
theorem pk_ix (x : Int32) {n : Nat} (hn : n < 2 ^ 31) : x < 0 ∨ nI n ≤ x ∨ ∃ j : Nat, j < n ∧ x = nI j := by
  by_cases h : x < 0
  · exact Or.inl h
  · obtain ⟨j, hj, rfl⟩ := nI_of h
    by_cases h2 : j < n
    · exact Or.inr (Or.inr ⟨j, h2, rfl⟩)
    · exact Or.inr (Or.inl (nI_le (by omega) hj))
theorem pk_le {x y : Int32} {A B : Prop} (a b : Nat) (f : a ≤ b → A) (g : b < a → B) (hx : x = nI a := by rfl) (hy : y = nI b := by rfl) (ha : a < 2 ^ 31 := by omega) (hb : b < 2 ^ 31 := by omega) : (x ≤ y → A) ∧ (¬ x ≤ y → B) := by
  subst hx hy
  rw [nI_leI ha hb]
  exact ⟨f, fun z => g (by omega)⟩
theorem pk_lt {x y : Int32} {A B : Prop} (a b : Nat) (f : a < b → A) (g : b ≤ a → B) (hx : x = nI a := by rfl) (hy : y = nI b := by rfl) (ha : a < 2 ^ 31 := by omega) (hb : b < 2 ^ 31 := by omega) : (x < y → A) ∧ (¬ x < y → B) := by
  subst hx hy
  rw [nI_ltI ha hb]
  exact ⟨f, fun z => g (by omega)⟩
theorem pk_eq {x y : Int32} {A B : Prop} (a b : Nat) (f : a = b → A) (g : a ≠ b → B) (hx : x = nI a := by rfl) (hy : y = nI b := by rfl) (ha : a < 2 ^ 31 := by omega) (hb : b < 2 ^ 31 := by omega) : (x = y → A) ∧ (¬ x = y → B) := by
  subst hx hy
  rw [nI_eq ha hb]
  exact ⟨f, g⟩
theorem pk_in {x : Int32} (n N : Nat) (h : n < N) (hx : x = nI n := by rfl) (hN : N < 2 ^ 31 := by omega) : vp_in x N := by
  subst hx
  exact vp_in_nI h hN
theorem pk_cl {x : Int32} (n : Nat) (hx : x = nI n := by rfl) (h : n < 2 ^ 31 := by omega) : x.toNatClampNeg = n := by
  subst hx
  exact nI_clamp h
theorem pk_tn {n : Nat} (h : n < 2 ^ 32) : (nI n).toBitVec.toNat = n := Nat.mod_eq_of_lt h
def bt (x : Int32) (i : Nat) : Bool := x.toBitVec.getLsbD i
theorem b_ext {x y : Int32} (h : ∀ i, i < 32 → bt x i = bt y i) : x = y := Int32.toBitVec_inj.mp (BitVec.eq_of_getLsbD_eq (fun i hi => h i hi))
theorem b_or (x y : Int32) (i : Nat) : bt (x ||| y) i = (bt x i || bt y i) := by unfold bt; rw [Int32.toBitVec_or, BitVec.getLsbD_or]
theorem b_and (x y : Int32) (i : Nat) : bt (x &&& y) i = (bt x i && bt y i) := by unfold bt; rw [Int32.toBitVec_and, BitVec.getLsbD_and]
theorem b_xor (x y : Int32) (i : Nat) : bt (x ^^^ y) i = (bt x i ^^ bt y i) := by unfold bt; rw [Int32.toBitVec_xor, BitVec.getLsbD_xor]
theorem b_big {x : Int32} {i : Nat} (h : 32 ≤ i) : bt x i = false := BitVec.getLsbD_of_ge _ _ h
theorem b_255 (i : Nat) : bt 255 i = decide (i < 8) := by
  rcases Nat.lt_or_ge i 32 with h | h
  · exact (by decide +kernel : ∀ i, i < 32 → bt 255 i = decide (i < 8)) i h
  · rw [b_big h, decide_eq_false (by omega)]
theorem b_65535 (i : Nat) : bt 65535 i = decide (i < 16) := by
  rcases Nat.lt_or_ge i 32 with h | h
  · exact (by decide +kernel : ∀ i, i < 32 → bt 65535 i = decide (i < 16)) i h
  · rw [b_big h, decide_eq_false (by omega)]
theorem b_m1 : ∀ i, i < 32 → bt (-1) i = true := by decide +kernel
theorem b_0 (i : Nat) : bt 0 i = false := BitVec.getLsbD_zero
theorem s_l : ∀ n, n < 32 → ((nI n &&& 31).toBitVec.smod 32).toNat = n := by decide +kernel
theorem s_u : ∀ n, n < 32 → (((nI n).toUInt32 &&& Int32.toUInt32 31).toBitVec % 32).toNat = n := by decide +kernel
theorem b_shl (n : Nat) (hn : n < 32) (x : Int32) {i : Nat} (hi : i < 32) : bt (x <<< (nI n &&& 31)) i = (decide (n ≤ i) && bt x (i - n)) := by
  unfold bt
  rw [Int32.toBitVec_shiftLeft]
  show (x.toBitVec <<< ((nI n &&& 31).toBitVec.smod 32).toNat).getLsbD i = _
  rw [s_l n hn, BitVec.getLsbD_shiftLeft]
  rcases Nat.lt_or_ge i n with h | h
  · simp [h, Nat.not_le.mpr h]
  · simp [hi, h, Nat.not_lt.mpr h]
theorem b_ushr (n : Nat) (hn : n < 32) (x : Int32) (i : Nat) : bt ((x.toUInt32 >>> ((nI n).toUInt32 &&& Int32.toUInt32 31)).toInt32) i = bt x (n + i) := by
  show (x.toUInt32 >>> ((nI n).toUInt32 &&& Int32.toUInt32 31)).toBitVec.getLsbD i = x.toUInt32.toBitVec.getLsbD (n + i)
  rw [UInt32.toBitVec_shiftRight]
  show (x.toUInt32.toBitVec >>> (((nI n).toUInt32 &&& Int32.toUInt32 31).toBitVec % 32).toNat).getLsbD i = _
  rw [s_u n hn, BitVec.getLsbD_ushiftRight]
theorem b_sshr (n : Nat) (hn : n < 32) (x : Int32) {i : Nat} (hi : i < 32) : bt (x >>> (nI n &&& 31)) i = if n + i < 32 then bt x (n + i) else bt x 31 := by
  unfold bt
  rw [Int32.toBitVec_shiftRight]
  show (x.toBitVec.sshiftRight ((nI n &&& 31).toBitVec.smod 32).toNat).getLsbD i = _
  rw [s_l n hn, BitVec.getLsbD_sshiftRight, BitVec.msb_eq_getLsbD_last]
  simp [hi]
theorem b_shl8 (x : Int32) {i : Nat} (hi : i < 32) : bt (x <<< ((8 : Int32) &&& 31)) i = (decide (8 ≤ i) && bt x (i - 8)) := b_shl 8 (by omega) x hi
theorem b_shl16 (x : Int32) {i : Nat} (hi : i < 32) : bt (x <<< ((16 : Int32) &&& 31)) i = (decide (16 ≤ i) && bt x (i - 16)) := b_shl 16 (by omega) x hi
theorem b_shl24 (x : Int32) {i : Nat} (hi : i < 32) : bt (x <<< ((24 : Int32) &&& 31)) i = (decide (24 ≤ i) && bt x (i - 24)) := b_shl 24 (by omega) x hi
theorem b_sshr8 (x : Int32) {i : Nat} (hi : i < 32) : bt (x >>> ((8 : Int32) &&& 31)) i = if 8 + i < 32 then bt x (8 + i) else bt x 31 := b_sshr 8 (by omega) x hi
end
section
/-- sums of naturals below n -/
def ir_sm (f : Nat → Nat) : Nat → Nat
  | 0 => 0
  | k + 1 => ir_sm f k + f k
theorem ir_sm_le {f g : Nat → Nat} : ∀ {n : Nat}, (∀ k, k < n → f k ≤ g k) → ir_sm f n ≤ ir_sm g n
  | 0, _ => Nat.le_refl _
  | n + 1, h => by
    have a := ir_sm_le (f := f) (g := g) (n := n) (fun k hk => h k (by omega))
    have b := h n (by omega)
    simp only [ir_sm]; omega
theorem ir_sm_eq {f g : Nat → Nat} {n : Nat} (h : ∀ k, k < n → f k = g k) : ir_sm f n = ir_sm g n :=
  Nat.le_antisymm (ir_sm_le fun k hk => Nat.le_of_eq (h k hk)) (ir_sm_le fun k hk => Nat.le_of_eq (h k hk).symm)
theorem ir_sm_at {f g : Nat → Nat} {a : Nat} : ∀ {n : Nat}, (∀ k, k < n → k ≠ a → g k = f k) → a < n → ir_sm g n + f a = ir_sm f n + g a
  | 0, _, h => by omega
  | n + 1, h, ha => by
    simp only [ir_sm]
    rcases Nat.lt_or_ge a n with z | z
    · have x := ir_sm_at (f := f) (g := g) (n := n) (fun k hk => h k (by omega)) z
      have y := h n (by omega) (by omega)
      omega
    · have e : a = n := by omega
      subst e
      have x : ir_sm g a = ir_sm f a := ir_sm_eq (fun k hk => h k (by omega) (by omega))
      omega
theorem ir_sm_lt {f g : Nat → Nat} {a : Nat} : ∀ {n : Nat}, (∀ k, k < n → f k ≤ g k) → a < n → f a < g a → ir_sm f n < ir_sm g n
  | 0, _, h, _ => by omega
  | n + 1, h, ha, hl => by
    simp only [ir_sm]
    rcases Nat.lt_or_ge a n with z | z
    · have x := ir_sm_lt (f := f) (g := g) (n := n) (fun k hk => h k (by omega)) z hl
      have y := h n (by omega)
      omega
    · have e : a = n := by omega
      subst e
      have x := ir_sm_le (f := f) (g := g) (n := a) (fun k hk => h k (by omega))
      omega
theorem ir_sm_c {f : Nat → Nat} {c : Nat} : ∀ {n : Nat}, (∀ k, k < n → f k ≤ c) → ir_sm f n ≤ n * c
  | 0, _ => by simp only [ir_sm]; omega
  | n + 1, h => by
    have a := ir_sm_c (f := f) (c := c) (n := n) (fun k hk => h k (by omega))
    have b := h n (by omega)
    simp only [ir_sm]
    rw [Nat.succ_mul]
    omega
theorem ir_sm_add {f g h : Nat → Nat} : ∀ {n : Nat}, (∀ k, k < n → f k + g k ≤ h k) → ir_sm f n + ir_sm g n ≤ ir_sm h n
  | 0, _ => Nat.le_refl _
  | n + 1, H => by
    have a := ir_sm_add (f := f) (g := g) (h := h) (n := n) (fun k hk => H k (by omega))
    have b := H n (by omega)
    simp only [ir_sm]; omega
theorem ir_sm_pos {f : Nat → Nat} : ∀ {n : Nat}, ir_sm f n = 0 → ∀ k, k < n → f k = 0
  | 0, _, k, hk => by omega
  | n + 1, h, k, hk => by
    simp only [ir_sm] at h
    rcases Nat.lt_or_ge k n with z | z
    · exact ir_sm_pos (n := n) (by omega) k z
    · have e : k = n := by omega
      subst e; omega
/-- a flag as a number -/
def ir_f (x : Int32) : Nat := if x = 0 then 0 else 1
theorem ir_f0 {x : Int32} (h : x = 0) : ir_f x = 0 := if_pos h
theorem ir_f1 {x : Int32} (h : x ≠ 0) : ir_f x = 1 := if_neg h
theorem ir_f_le (x : Int32) : ir_f x ≤ 1 := by unfold ir_f; split <;> omega
theorem ir_f_one : ir_f 1 = 1 := rfl
noncomputable def ir_b (P : Prop) : Nat := @ite Nat P (Classical.propDecidable P) 1 0
theorem ir_b_t {P : Prop} (h : P) : ir_b P = 1 := by unfold ir_b; rw [if_pos h]
theorem ir_b_f {P : Prop} (h : ¬ P) : ir_b P = 0 := by unfold ir_b; rw [if_neg h]
theorem ir_b_le (P : Prop) : ir_b P ≤ 1 := by
  rcases Classical.em P with h | h
  · rw [ir_b_t h]; omega
  · rw [ir_b_f h]; omega
/-- six bits counted -/
def ir_pc (x : Int32) : Nat := ir_sm (fun i => (bt x i).toNat) 6
theorem ir_pc_le (x : Int32) : ir_pc x ≤ 6 := by
  have h := ir_sm_c (f := fun i => (bt x i).toNat) (c := 1) (n := 6) (fun k _ => Bool.toNat_le _)
  unfold ir_pc; omega
theorem ir_tn {a b : Bool} (h : a = true → b = true) : a.toNat ≤ b.toNat := by
  cases a
  · exact Nat.zero_le _
  · rw [h rfl]; exact Nat.le_refl _
theorem ir_pc_mono {x y : Int32} (h : ∀ i, bt x i = true → bt y i = true) : ir_pc x ≤ ir_pc y :=
  ir_sm_le (fun k _ => ir_tn (h k))
/-- only the low six bits -/
def ir_s6 (x : Int32) : Prop := ∀ i, bt x i = true → i < 6
theorem ir_bext {x y : Int32} (h : ∀ i, i < 32 → (bt x i = true ↔ bt y i = true)) : x = y := by
  refine b_ext (fun i hi => ?_)
  have := h i hi
  cases hx : bt x i <;> cases hy : bt y i <;> simp_all
theorem ir_pc_lt {x y : Int32} (h : ∀ i, bt x i = true → bt y i = true) (hy : ir_s6 y) (hn : x ≠ y) : ir_pc x < ir_pc y := by
  rcases Classical.em (∃ i, bt y i = true ∧ ¬ bt x i = true) with ⟨i, h1, h2⟩ | hno
  · refine ir_sm_lt (a := i) (fun k _ => ir_tn (h k)) (hy i h1) ?_
    cases hx : bt x i
    · rw [h1]; decide
    · exact absurd hx h2
  · refine absurd (ir_bext (fun i _ => ⟨h i, fun hb => ?_⟩)) hn
    exact Classical.byContradiction (fun hc => hno ⟨i, hb, hc⟩)
theorem ir_0bit {x : Int32} : x = 0 ↔ ∀ i, ¬ bt x i = true := by
  constructor
  · intro h i; rw [h, b_0]; decide
  · intro h
    refine ir_bext (fun i _ => ⟨fun z => absurd z (h i), fun z => absurd z ?_⟩)
    rw [b_0]; decide
theorem ir_n0bit {x : Int32} : x ≠ 0 ↔ ∃ i, bt x i = true := by
  constructor
  · intro h
    exact Classical.byContradiction (fun hn => h (ir_0bit.mpr (fun i hi => hn ⟨i, hi⟩)))
  · intro ⟨i, hi⟩ h
    exact ir_0bit.mp h i hi
theorem ir_orb {x y : Int32} {i : Nat} : bt (x ||| y) i = true ↔ bt x i = true ∨ bt y i = true := by rw [b_or, Bool.or_eq_true]
theorem ir_andb {x y : Int32} {i : Nat} : bt (x &&& y) i = true ↔ bt x i = true ∧ bt y i = true := by rw [b_and, Bool.and_eq_true]
/-- the bits of 1 << a -/
theorem ir_oneb : ∀ a, a < 6 → ∀ i, i < 32 → (bt ((1 : Int32) <<< (nI a &&& 31)) i = true ↔ i = a) := by decide +kernel
theorem ir_one {a : Nat} (ha : a < 6) (i : Nat) : bt ((1 : Int32) <<< (nI a &&& 31)) i = true ↔ i = a := by
  rcases Nat.lt_or_ge i 32 with h | h
  · exact ir_oneb a ha i h
  · rw [b_big h]; exact ⟨fun z => absurd z (by decide), fun z => by omega⟩
/-- a bit tested by a mask -/
theorem ir_test {x : Int32} {a : Nat} (ha : a < 6) : (x &&& ((1 : Int32) <<< (nI a &&& 31))) = 0 ↔ ¬ bt x a = true := by
  rw [ir_0bit]
  constructor
  · intro h hb
    exact h a (ir_andb.mpr ⟨hb, (ir_one ha a).mpr rfl⟩)
  · intro h i hi
    have := ir_andb.mp hi
    rw [(ir_one ha i).mp this.2] at this
    exact h this.1
theorem ir_1b : ∀ i, i < 32 → (bt 1 i = true ↔ i = 0) := by decide +kernel
theorem ir_1bit (i : Nat) : bt 1 i = true ↔ i = 0 := by
  rcases Nat.lt_or_ge i 32 with h | h
  · exact ir_1b i h
  · rw [b_big h]; exact ⟨fun z => absurd z (by decide), fun z => by omega⟩
/-- a bit tested by a shift -/
theorem ir_shr {x : Int32} {a : Nat} (ha : a < 6) : (x >>> (nI a &&& 31)) &&& 1 = 1 ↔ bt x a = true := by
  constructor
  · intro h
    have h0 : bt ((x >>> (nI a &&& 31)) &&& 1) 0 = true := by rw [h]; decide
    have h1 := (ir_andb.mp h0).1
    rw [b_sshr a (by omega) x (by omega), if_pos (by omega)] at h1
    exact h1
  · intro h
    refine ir_bext (fun i hi => ?_)
    rw [ir_andb, ir_1bit]
    constructor
    · exact fun z => z.2
    · intro z
      subst z
      refine ⟨?_, rfl⟩
      rw [b_sshr a (by omega) x (by omega), if_pos (by omega)]
      exact h
/-- a bit taken out -/
theorem ir_notb : ∀ a, a < 6 → ∀ i, i < 32 → (bt (((1 : Int32) <<< (nI a &&& 31)) ^^^ (-1)) i = true ↔ i ≠ a) := by decide +kernel
theorem ir_clr {x : Int32} {a : Nat} (ha : a < 6) (i : Nat) : bt (x &&& (((1 : Int32) <<< (nI a &&& 31)) ^^^ (-1))) i = true ↔ bt x i = true ∧ i ≠ a := by
  rw [ir_andb]
  rcases Nat.lt_or_ge i 32 with h | h
  · rw [ir_notb a ha i h]
  · rw [b_big h, b_big h]; simp
theorem ir_nb0 : vp_nar .boolean 0 = 0 := rfl
theorem ir_nb1 : vp_nar .boolean 1 = 1 := rfl
theorem ir_1ne : ¬ (1 : Int32) = 0 := by decide
theorem ir_uself {f : Nat → Int32} {k : Nat} : upd f k (f k) = f := by
  funext j
  unfold upd
  split
  · rename_i h; rw [h]
  · rfl
theorem ir_uall {P : Int32 → Prop} {f : Nat → Int32} {k : Nat} {x : Int32} (h : ∀ j, P (f j)) (hx : P x) : ∀ j, P (upd f k x j) := by
  intro j
  unfold upd
  split
  · exact hx
  · exact h j
theorem ir_24 (z : Nat) : (24 : Int32) + nI z = nI (24 + z) := nI_add 24 z
theorem ir_2m (z : Nat) : (2 : Int32) * nI z = nI (2 * z) := pk_mul 2 z
theorem ir_half {z : Nat} (h0 : 0 < z) (h : z < 2 ^ 31) : (nI z - 1) / 2 = nI ((z - 1) / 2) := by
  have h1 : nI z - 1 = nI (z - 1) := pk_sub (b := 1) h0
  rw [h1]
  exact pk_div (d := 2) (by omega) (by omega) (by omega)
/-- a name's number or -1 -/
def ir_id (N : Nat) (x : Int32) : Prop := x = -1 ∨ ∃ j : Nat, j < N ∧ x = nI j
theorem ir_id_nn {N : Nat} {x : Int32} (hN : N ≤ 48) (h : ir_id N x) (h0 : 0 ≤ x) : x.toNatClampNeg < N ∧ x = nI x.toNatClampNeg := by
  rcases h with h | ⟨j, hj, h⟩
  · rw [h] at h0; exact absurd h0 (by decide)
  · rw [h, nI_clamp (by omega)]; exact ⟨hj, rfl⟩
theorem ir_nlt {x : Int32} : ¬ x < 0 ↔ 0 ≤ x := Int32.not_lt
theorem ir_nle {x : Int32} : ¬ 0 ≤ x ↔ x < 0 := Int32.not_le
end
section
/-! the environment: N rl dl cl nw ad al se gl mo fn fa rm ra re cs ch ce -/
abbrev ir_A : Type := Nat → Int32
abbrev ir_E : Type := Nat × Int32 × Int32 × Int32 × Int32 × ir_A × ir_A × ir_A × ir_A × ir_A × ir_A × ir_A × ir_A × ir_A × ir_A × ir_A × ir_A × ir_A
def e_N (e : ir_E) : Nat := e.1
def e_rl (e : ir_E) : Int32 := e.2.1
def e_dl (e : ir_E) : Int32 := e.2.2.1
def e_cl (e : ir_E) : Int32 := e.2.2.2.1
def e_nw (e : ir_E) : Int32 := e.2.2.2.2.1
def e_ad (e : ir_E) : ir_A := e.2.2.2.2.2.1
def e_al (e : ir_E) : ir_A := e.2.2.2.2.2.2.1
def e_se (e : ir_E) : ir_A := e.2.2.2.2.2.2.2.1
def e_gl (e : ir_E) : ir_A := e.2.2.2.2.2.2.2.2.1
def e_mo (e : ir_E) : ir_A := e.2.2.2.2.2.2.2.2.2.1
def e_fn (e : ir_E) : ir_A := e.2.2.2.2.2.2.2.2.2.2.1
def e_fa (e : ir_E) : ir_A := e.2.2.2.2.2.2.2.2.2.2.2.1
def e_rm (e : ir_E) : ir_A := e.2.2.2.2.2.2.2.2.2.2.2.2.1
def e_ra (e : ir_E) : ir_A := e.2.2.2.2.2.2.2.2.2.2.2.2.2.1
def e_re (e : ir_E) : ir_A := e.2.2.2.2.2.2.2.2.2.2.2.2.2.2.1
def e_cs (e : ir_E) : ir_A := e.2.2.2.2.2.2.2.2.2.2.2.2.2.2.2.1
def e_ch (e : ir_E) : ir_A := e.2.2.2.2.2.2.2.2.2.2.2.2.2.2.2.2.1
def e_ce (e : ir_E) : ir_A := e.2.2.2.2.2.2.2.2.2.2.2.2.2.2.2.2.2
/-- live records, held cuts, the view of aliases and servers -/
def ir_lv (e : ir_E) (m : Nat) : Prop := ¬ e_re e m ≤ e_nw e
def ir_hd (e : ir_E) (z : Nat) : Prop := ¬ e_ce e z ≤ e_nw e
def ir_va (e : ir_E) (m : Nat) : Int32 := if e_re e m ≤ e_nw e then e_al e m else e_ra e m
def ir_vs (e : ir_E) (j : Nat) : Int32 := if e_ce e (j / 2) ≤ e_nw e then e_se e j else e_cs e j
theorem ir_va_l {e : ir_E} {m : Nat} (h : ir_lv e m) : ir_va e m = e_ra e m := if_neg h
theorem ir_va_n {e : ir_E} {m : Nat} (h : ¬ ir_lv e m) : ir_va e m = e_al e m := if_pos (Classical.byContradiction h)
theorem ir_vs_h {e : ir_E} {j z : Nat} (hz : j / 2 = z) (h : ir_hd e z) : ir_vs e j = e_cs e j := by
  subst hz; exact if_neg h
theorem ir_vs_n {e : ir_E} {j z : Nat} (hz : j / 2 = z) (h : ¬ ir_hd e z) : ir_vs e j = e_se e j := by
  subst hz; exact if_pos (Classical.byContradiction h)
/-- the zone that holds a name -/
def ir_zn (e : ir_E) : Nat → Nat
  | 0 => 0
  | m + 1 => if e_ce e (m + 1) ≤ e_nw e ∧ e_se e (2 * (m + 1)) < 0 then ir_zn e (m / 2) else m + 1
termination_by m => m
decreasing_by omega
theorem ir_zn_0 (e : ir_E) : ir_zn e 0 = 0 := by rw [ir_zn]
theorem ir_zn_s {e : ir_E} {m : Nat} (h : e_ce e (m + 1) ≤ e_nw e ∧ e_se e (2 * (m + 1)) < 0) : ir_zn e (m + 1) = ir_zn e (m / 2) := by
  rw [ir_zn, if_pos h]
theorem ir_zn_c {e : ir_E} {m : Nat} (h : ¬ (e_ce e (m + 1) ≤ e_nw e ∧ e_se e (2 * (m + 1)) < 0)) : ir_zn e (m + 1) = m + 1 := by
  rw [ir_zn, if_neg h]
theorem ir_zn_le (e : ir_E) : ∀ k m, m < k → ir_zn e m ≤ m := by
  intro k
  induction k with
  | zero => intro m h; omega
  | succ k ih =>
    intro m h
    cases m with
    | zero => rw [ir_zn_0]; exact Nat.le_refl _
    | succ m =>
      rcases Classical.em (e_ce e (m + 1) ≤ e_nw e ∧ e_se e (2 * (m + 1)) < 0) with z | z
      · rw [ir_zn_s z]
        have := ih (m / 2) (by omega)
        omega
      · rw [ir_zn_c z]; exact Nat.le_refl _
theorem ir_znle (e : ir_E) (m : Nat) : ir_zn e m ≤ m := ir_zn_le e (m + 1) m (Nat.lt_succ_self m)
/-- top lies at or above -/
def ir_ab (top : Nat) : Nat → Prop
  | 0 => top = 0
  | m + 1 => top = m + 1 ∨ ir_ab top (m / 2)
termination_by m => m
decreasing_by omega
theorem ir_ab_0 {top : Nat} : ir_ab top 0 ↔ top = 0 := by rw [ir_ab]
theorem ir_ab_s {top m : Nat} : ir_ab top (m + 1) ↔ top = m + 1 ∨ ir_ab top (m / 2) := by rw [ir_ab]
theorem ir_ab_le (top : Nat) : ∀ k m, m < k → ir_ab top m → top ≤ m := by
  intro k
  induction k with
  | zero => intro m h; omega
  | succ k ih =>
    intro m h ha
    cases m with
    | zero => rw [ir_ab_0] at ha; omega
    | succ m =>
      rcases ir_ab_s.mp ha with z | z
      · omega
      · have := ih (m / 2) (by omega) z
        omega
theorem ir_able {top m : Nat} (h : ir_ab top m) : top ≤ m := ir_ab_le top (m + 1) m (Nat.lt_succ_self m) h
abbrev ir_V : Type := Nat → Nat → Prop
/-- zone z talks; forged addresses -/
def ir_tk (V : ir_V) (z : Nat) : Prop := ∃ h, V (24 + z) h
def ir_fg (e : ir_E) (V : ir_V) (z s a : Nat) : Prop := ∃ h, h < 6 ∧ V (24 + z) h ∧ e_mo e h = 2 ∧ e_fn e h = nI s ∧ e_fa e h = nI a
def ir_hp (e : ir_E) (V : ir_V) (m : Nat) : Prop := ir_lv e m ∨ ir_tk V (ir_zn e m)
def ir_ow (e : ir_E) (V : ir_V) (m a : Nat) : Prop :=
  a < 6 ∧ ((ir_lv e m ∧ bt (e_rm e m) a = true) ∨ (¬ ir_lv e m ∧ ir_tk V (ir_zn e m) ∧ (bt (e_ad e m) a = true ∨ ir_fg e V (ir_zn e m) m a)))
def ir_FN (e : ir_E) (V : ir_V) (m a : Nat) : Prop := ir_ow e V m a ∨ (ir_hp e V m ∧ 0 ≤ ir_va e m ∧ V (ir_va e m).toNatClampNeg a)
def ir_up (e : ir_E) (z : Nat) : Nat := ir_zn e ((z - 1) / 2)
def ir_op (e : ir_E) (V : ir_V) (z : Nat) : Prop := ir_hd e z ∨ ir_tk V (ir_up e z)
def ir_hn (e : ir_E) (V : ir_V) (z j a : Nat) : Prop :=
  a < 6 ∧ 0 ≤ ir_vs e j ∧ ((ir_hd e z ∧ bt (e_ch e j) a = true) ∨ (¬ ir_hd e z ∧ ir_ab (ir_up e z) (ir_vs e j).toNatClampNeg ∧ (e_gl e j = nI a ∨ ir_fg e V (ir_up e z) (ir_vs e j).toNatClampNeg a)))
def ir_sl (z j : Nat) : Prop := j = 2 * z ∨ j = 2 * z + 1
def ir_FZ (e : ir_E) (V : ir_V) (z h : Nat) : Prop :=
  e_mo e h ≠ 1 ∧ ((z = 0 ∧ h = 0) ∨ (z ≠ 0 ∧ ir_op e V z ∧ ∃ j, ir_sl z j ∧ 0 ≤ ir_vs e j ∧ (V (ir_vs e j).toNatClampNeg h ∨ (¬ ir_lv e (ir_vs e j).toNatClampNeg ∧ ir_hn e V z j h))))
/-- the operator on all sets -/
def ir_F (e : ir_E) (V : ir_V) (t h : Nat) : Prop := h < 6 ∧ ((t < e_N e ∧ ir_FN e V t h) ∨ (24 ≤ t ∧ t < 24 + e_N e ∧ ir_FZ e V (t - 24) h))
/-- what t demands -/
def ir_dm (e : ir_E) (V : ir_V) (t s : Nat) : Prop :=
  (t < e_N e ∧ ¬ ir_lv e t ∧ s = 24 + ir_zn e t) ∨ (t < e_N e ∧ ir_hp e V t ∧ 0 ≤ ir_va e t ∧ s = (ir_va e t).toNatClampNeg) ∨
  (24 < t ∧ t < 24 + e_N e ∧ ¬ ir_hd e (t - 24) ∧ s = 24 + ir_up e (t - 24)) ∨
  (24 < t ∧ t < 24 + e_N e ∧ ir_op e V (t - 24) ∧ ∃ j, ir_sl (t - 24) j ∧ 0 ≤ ir_vs e j ∧ s = (ir_vs e j).toNatClampNeg)
/-- least sets -/
def ir_L (e : ir_E) (t h : Nat) : Prop := ∀ S : ir_V, (∀ t h, ir_F e S t h → S t h) → S t h
def ir_D (e : ir_E) (n t : Nat) : Prop := ∀ S : Nat → Prop, S n → (∀ t s, S t → ir_dm e (ir_L e) t s → S s) → S t
/-- what holds of the environment between calls -/
def ir_EI (e : ir_E) : Prop :=
  8 ≤ e_N e ∧ e_N e ≤ 24 ∧ (∀ m, ir_id (e_N e) (e_al e m)) ∧ (∀ m, ir_id (e_N e) (e_ra e m)) ∧ (∀ j, ir_id (e_N e) (e_se e j)) ∧ (∀ j, ir_id (e_N e) (e_cs e j)) ∧
  (∀ m, ir_s6 (e_ad e m)) ∧ (∀ m, ir_s6 (e_rm e m)) ∧ (∀ j, ir_s6 (e_ch e j)) ∧ (∀ j, ir_id 6 (e_gl e j)) ∧
  (∀ h, h < 6 → e_fn e h = -1 ∨ ((∃ m, m < e_N e ∧ e_fn e h = nI m) ∧ ∃ a, a < 6 ∧ e_fa e h = nI a)) ∧
  (∃ k : Nat, k ≤ 1000000 ∧ e_nw e = nI k) ∧ e_ce e 0 = 0 ∧ (∀ z, e_ce e z = 0 ∨ 0 ≤ e_cs e (2 * z)) ∧ e_se e 0 = -1 ∧ e_se e 1 = -1 ∧
  (∀ z, e_se e (2 * z) < 0 → e_se e (2 * z + 1) < 0)
section
variable {e : ir_E} {V V' : ir_V}
theorem ir_EI_N (h : ir_EI e) : 8 ≤ e_N e ∧ e_N e ≤ 24 := ⟨h.1, h.2.1⟩
theorem ir_EI_va (h : ir_EI e) (m : Nat) : ir_id (e_N e) (ir_va e m) := by
  unfold ir_va
  split
  · exact h.2.2.1 m
  · exact h.2.2.2.1 m
theorem ir_EI_vs (h : ir_EI e) (j : Nat) : ir_id (e_N e) (ir_vs e j) := by
  unfold ir_vs
  split
  · exact h.2.2.2.2.1 j
  · exact h.2.2.2.2.2.1 j
theorem ir_va_lt (h : ir_EI e) {m : Nat} (h0 : 0 ≤ ir_va e m) : (ir_va e m).toNatClampNeg < e_N e ∧ ir_va e m = nI (ir_va e m).toNatClampNeg :=
  ir_id_nn (by have := h.2.1; omega) (ir_EI_va h m) h0
theorem ir_vs_lt (h : ir_EI e) {j : Nat} (h0 : 0 ≤ ir_vs e j) : (ir_vs e j).toNatClampNeg < e_N e ∧ ir_vs e j = nI (ir_vs e j).toNatClampNeg :=
  ir_id_nn (by have := h.2.1; omega) (ir_EI_vs h j) h0
theorem ir_nw0 (h : ir_EI e) : 0 ≤ e_nw e := by
  obtain ⟨k, hk, e1⟩ := h.2.2.2.2.2.2.2.2.2.2.2.1
  rw [e1]; exact nI_pos' (by omega)
theorem ir_hd0 (h : ir_EI e) : ¬ ir_hd e 0 := by
  have h0 := h.2.2.2.2.2.2.2.2.2.2.2.2.1
  unfold ir_hd
  rw [h0]
  exact fun z => z (ir_nw0 h)
theorem ir_hdcs (h : ir_EI e) {z : Nat} (hz : ir_hd e z) : 0 ≤ e_cs e (2 * z) := by
  rcases h.2.2.2.2.2.2.2.2.2.2.2.2.2.1 z with h0 | h0
  · unfold ir_hd at hz
    rw [h0] at hz
    exact absurd (ir_nw0 h) hz
  · exact h0
theorem ir_vs0 (h : ir_EI e) {j : Nat} (hj : ir_sl 0 j) : ir_vs e j = -1 := by
  have h1 := h.2.2.2.2.2.2.2.2.2.2.2.2.2.2.1
  have h2 := h.2.2.2.2.2.2.2.2.2.2.2.2.2.2.2.1
  rcases hj with rfl | rfl
  · rw [ir_vs_n (z := 0) rfl (ir_hd0 h)]; exact h1
  · rw [ir_vs_n (z := 0) rfl (ir_hd0 h)]; exact h2
theorem ir_fnS (h : ir_EI e) {k s : Nat} (hk : k < 6) (hs : s < 48) (hn : e_fn e k = nI s) : ∃ a, a < 6 ∧ e_fa e k = nI a := by
  rcases h.2.2.2.2.2.2.2.2.2.2.1 k hk with h0 | ⟨_, h0⟩
  · rw [hn] at h0
    have : ¬ nI s < 0 := nI_pos (by omega)
    rw [h0] at this
    exact absurd (by decide) this
  · exact h0
theorem ir_sl_half {z j : Nat} (h : ir_sl z j) : j / 2 = z := by
  rcases h with rfl | rfl <;> omega
/-! monotone -/
theorem ir_tk_m (h : ∀ t i, V t i → V' t i) {z : Nat} (a : ir_tk V z) : ir_tk V' z := a.imp fun k hk => h _ k hk
theorem ir_fg_m (h : ∀ t i, V t i → V' t i) {z s a : Nat} : ir_fg e V z s a → ir_fg e V' z s a := fun ⟨k, h1, h2, h3⟩ => ⟨k, h1, h _ k h2, h3⟩
theorem ir_hp_m (h : ∀ t i, V t i → V' t i) {m : Nat} : ir_hp e V m → ir_hp e V' m := fun a => a.imp id (ir_tk_m h)
theorem ir_op_m (h : ∀ t i, V t i → V' t i) {z : Nat} : ir_op e V z → ir_op e V' z := fun a => a.imp id (ir_tk_m h)
theorem ir_ow_m (h : ∀ t i, V t i → V' t i) {m a : Nat} : ir_ow e V m a → ir_ow e V' m a :=
  fun ⟨h0, x⟩ => ⟨h0, x.imp id fun ⟨h1, h2, h3⟩ => ⟨h1, ir_tk_m h h2, h3.imp id (ir_fg_m h)⟩⟩
theorem ir_FN_m (h : ∀ t i, V t i → V' t i) {m a : Nat} : ir_FN e V m a → ir_FN e V' m a :=
  fun x => x.imp (ir_ow_m h) fun ⟨h1, h2, h3⟩ => ⟨ir_hp_m h h1, h2, h _ _ h3⟩
theorem ir_hn_m (h : ∀ t i, V t i → V' t i) {z j a : Nat} : ir_hn e V z j a → ir_hn e V' z j a :=
  fun ⟨h0, h1, x⟩ => ⟨h0, h1, x.imp id fun ⟨h2, h3, h4⟩ => ⟨h2, h3, h4.imp id (ir_fg_m h)⟩⟩
theorem ir_FZ_m (h : ∀ t i, V t i → V' t i) {z a : Nat} : ir_FZ e V z a → ir_FZ e V' z a :=
  fun ⟨h0, x⟩ => ⟨h0, x.imp id fun ⟨h1, h2, j, h3, h4, h5⟩ => ⟨h1, ir_op_m h h2, j, h3, h4, h5.imp (h _ _) fun ⟨h6, h7⟩ => ⟨h6, ir_hn_m h h7⟩⟩⟩
theorem ir_F_m (h : ∀ t i, V t i → V' t i) {t a : Nat} : ir_F e V t a → ir_F e V' t a :=
  fun ⟨h0, x⟩ => ⟨h0, x.imp (fun ⟨h1, h2⟩ => ⟨h1, ir_FN_m h h2⟩) fun ⟨h1, h2, h3⟩ => ⟨h1, h2, ir_FZ_m h h3⟩⟩
theorem ir_dm_m (h : ∀ t i, V t i → V' t i) {t s : Nat} : ir_dm e V t s → ir_dm e V' t s := by
  rintro (x | ⟨h1, h2, h3⟩ | x | ⟨h1, h2, h3, h4⟩)
  · exact Or.inl x
  · exact Or.inr (Or.inl ⟨h1, ir_hp_m h h2, h3⟩)
  · exact Or.inr (Or.inr (Or.inl x))
  · exact Or.inr (Or.inr (Or.inr ⟨h1, h2, ir_op_m h h3, h4⟩))
/-! dependence on the demanded alone -/
theorem ir_tk_c {z : Nat} (h : ∀ i, V' (24 + z) i ↔ V (24 + z) i) : ir_tk V' z ↔ ir_tk V z := exists_congr h
theorem ir_fg_c {z s a : Nat} (h : ∀ i, V' (24 + z) i ↔ V (24 + z) i) : ir_fg e V' z s a ↔ ir_fg e V z s a :=
  exists_congr fun k => and_congr_right fun _ => and_congr_left fun _ => h k
theorem ir_hp_c {m : Nat} (h : ¬ ir_lv e m → ∀ i, V' (24 + ir_zn e m) i ↔ V (24 + ir_zn e m) i) : ir_hp e V' m ↔ ir_hp e V m := by
  unfold ir_hp
  rcases Classical.em (ir_lv e m) with l | l
  · simp [l]
  · rw [ir_tk_c (h l)]
theorem ir_ow_c {m a : Nat} (h : ¬ ir_lv e m → ∀ i, V' (24 + ir_zn e m) i ↔ V (24 + ir_zn e m) i) : ir_ow e V' m a ↔ ir_ow e V m a := by
  unfold ir_ow
  rcases Classical.em (ir_lv e m) with l | l
  · simp [l]
  · rw [ir_tk_c (h l), ir_fg_c (h l)]
theorem ir_op_c {z : Nat} (h : ¬ ir_hd e z → ∀ i, V' (24 + ir_up e z) i ↔ V (24 + ir_up e z) i) : ir_op e V' z ↔ ir_op e V z := by
  unfold ir_op
  rcases Classical.em (ir_hd e z) with l | l
  · simp [l]
  · rw [ir_tk_c (h l)]
theorem ir_hn_c {z j a : Nat} (h : ¬ ir_hd e z → ∀ i, V' (24 + ir_up e z) i ↔ V (24 + ir_up e z) i) : ir_hn e V' z j a ↔ ir_hn e V z j a := by
  unfold ir_hn
  rcases Classical.em (ir_hd e z) with l | l
  · simp [l]
  · rw [ir_fg_c (h l)]
/-- V' as V on all that t demands -/
def ir_sm' (e : ir_E) (V V' : ir_V) (t : Nat) : Prop := ∀ s, ir_dm e V t s → ∀ i, V' s i ↔ V s i
theorem ir_cN {t : Nat} (ht : t < e_N e) (h : ir_sm' e V V' t) : ¬ ir_lv e t → ∀ i, V' (24 + ir_zn e t) i ↔ V (24 + ir_zn e t) i :=
  fun l => h _ (Or.inl ⟨ht, l, rfl⟩)
theorem ir_cZ {z : Nat} (h0 : 0 < z) (ht : z < e_N e) (h : ir_sm' e V V' (24 + z)) : ¬ ir_hd e z → ∀ i, V' (24 + ir_up e z) i ↔ V (24 + ir_up e z) i :=
  fun l => h _ (Or.inr (Or.inr (Or.inl ⟨by omega, by omega, by rw [Nat.add_sub_cancel_left]; exact ⟨l, rfl⟩⟩)))
theorem ir_cFN {t a : Nat} (ht : t < e_N e) (h : ir_sm' e V V' t) : ir_FN e V' t a ↔ ir_FN e V t a := by
  have h1 := ir_cN ht h
  unfold ir_FN
  rw [ir_ow_c h1, ir_hp_c h1]
  refine or_congr Iff.rfl (and_congr_right fun hp => and_congr_right fun h0 => ?_)
  exact h _ (Or.inr (Or.inl ⟨ht, hp, h0, rfl⟩)) a
theorem ir_cFZ {z a : Nat} (ht : z < e_N e) (h : ir_sm' e V V' (24 + z)) : ir_FZ e V' z a ↔ ir_FZ e V z a := by
  unfold ir_FZ
  refine and_congr_right fun _ => or_congr Iff.rfl (and_congr_right fun hz => ?_)
  have h1 := ir_cZ (by omega) ht h
  rw [ir_op_c h1]
  refine and_congr_right fun ho => exists_congr fun j => and_congr_right fun hj => and_congr_right fun h0 => or_congr ?_ ?_
  · exact h _ (Or.inr (Or.inr (Or.inr ⟨by omega, by omega, by rw [Nat.add_sub_cancel_left]; exact ⟨ho, j, hj, h0, rfl⟩⟩))) a
  · rw [ir_hn_c h1]
theorem ir_cF {t a : Nat} (hN : e_N e ≤ 24) (h : ir_sm' e V V' t) : ir_F e V' t a ↔ ir_F e V t a := by
  unfold ir_F
  refine and_congr_right fun _ => or_congr (and_congr_right fun ht => ir_cFN ht h) (and_congr_right fun h24 => and_congr_right fun ht => ?_)
  refine ir_cFZ (by omega) ?_
  rw [Nat.add_sub_cancel' h24]; exact h
theorem ir_cdm {t s : Nat} (h : ir_sm' e V V' t) : ir_dm e V' t s ↔ ir_dm e V t s := by
  unfold ir_dm
  refine or_congr Iff.rfl (or_congr (and_congr_right fun ht => ?_) (or_congr Iff.rfl (and_congr_right fun h24 => and_congr_right fun ht => ?_)))
  · rw [ir_hp_c (ir_cN ht h)]
  · have h1 : ir_sm' e V V' (24 + (t - 24)) := by rw [Nat.add_sub_cancel' (by omega)]; exact h
    rw [ir_op_c (ir_cZ (by omega) (by omega) h1)]
/-! the least sets -/
theorem ir_L_least {S : ir_V} (h : ∀ t i, ir_F e S t i → S t i) {t i : Nat} (a : ir_L e t i) : S t i := a S h
theorem ir_L_cl {t i : Nat} (h : ir_F e (ir_L e) t i) : ir_L e t i :=
  fun S hS => hS t i (ir_F_m (fun _ _ a => a S hS) h)
theorem ir_L_fx {t i : Nat} (h : ir_L e t i) : ir_F e (ir_L e) t i :=
  ir_L_least (S := ir_F e (ir_L e)) (fun _ _ a => ir_F_m (fun _ _ => ir_L_cl) a) h
theorem ir_D_n {n : Nat} : ir_D e n n := fun _ h _ => h
theorem ir_D_s {n t s : Nat} (h : ir_D e n t) (d : ir_dm e (ir_L e) t s) : ir_D e n s := fun S h1 h2 => h2 t s (h S h1 h2) d
/-- a task within the names -/
def ir_ok (e : ir_E) (t : Nat) : Prop := t < e_N e ∨ (24 ≤ t ∧ t < 24 + e_N e)
theorem ir_ok48 (h : ir_EI e) {t : Nat} (a : ir_ok e t) : t < 48 := by
  have := h.2.1
  rcases a with a | a <;> omega
theorem ir_dm_ok (h : ir_EI e) {t s : Nat} (d : ir_dm e V t s) : ir_ok e s := by
  have := h.2.1
  rcases d with ⟨h1, _, rfl⟩ | ⟨_, _, h0, rfl⟩ | ⟨h1, h2, _, rfl⟩ | ⟨_, _, _, j, _, h0, rfl⟩
  · have := ir_znle e t
    exact Or.inr ⟨by omega, by omega⟩
  · exact Or.inl (ir_va_lt h h0).1
  · have : ir_up e (t - 24) ≤ (t - 24 - 1) / 2 := ir_znle e _
    exact Or.inr ⟨by omega, by omega⟩
  · exact Or.inl (ir_vs_lt h h0).1
theorem ir_D_ok (h : ir_EI e) {n t : Nat} (hn : n < e_N e) (d : ir_D e n t) : ir_ok e t :=
  d (ir_ok e) (Or.inl hn) (fun _ _ _ => ir_dm_ok h)
/-- a part that is stable and closed under demand holds the least sets -/
theorem ir_fin (hN : e_N e ≤ 24) {D : Nat → Prop} (h1 : ∀ t i, V t i → ir_L e t i) (h2 : ∀ t, D t → ∀ i, V t i ↔ ir_F e V t i)
    (h3 : ∀ t s, D t → ir_dm e V t s → D s) {t : Nat} (ht : D t) (i : Nat) : V t i ↔ ir_L e t i := by
  refine ⟨h1 t i, fun hl => ?_⟩
  have key : (D t ∧ V t i) ∨ (¬ D t ∧ ir_L e t i) := by
    refine ir_L_least (S := fun t i => (D t ∧ V t i) ∨ (¬ D t ∧ ir_L e t i)) (fun t i hF => ?_) hl
    rcases Classical.em (D t) with d | d
    · refine Or.inl ⟨d, (h2 t d i).mpr ?_⟩
      refine (ir_cF hN (V' := fun t i => (D t ∧ V t i) ∨ (¬ D t ∧ ir_L e t i)) (fun s hs i => ?_)).mp hF
      have ds := h3 t s d hs
      simp [ds]
    · refine Or.inr ⟨d, ir_L_cl (ir_F_m (fun s k hk => ?_) hF)⟩
      rcases hk with hk | hk
      · exact h1 _ _ hk.2
      · exact hk.2
  rcases key with k | k
  · exact k.2
  · exact absurd ht k.1
theorem ir_fd (hN : e_N e ≤ 24) {n : Nat} {D : Nat → Prop} (h1 : ∀ t i, V t i → ir_L e t i) (h2 : ∀ t, D t → ∀ i, V t i ↔ ir_F e V t i)
    (h3 : ∀ t s, D t → ir_dm e V t s → D s) (h4 : D n) (h5 : ∀ t, D t → ir_D e n t) (t : Nat) : D t ↔ ir_D e n t := by
  refine ⟨h5 t, fun d => d D h4 (fun t s dt hd => h3 t s dt ?_)⟩
  exact (ir_cdm (V' := ir_L e) (fun s hs i => (ir_fin hN h1 h2 h3 (h3 t s dt hs) i).symm)).mp hd
end
end
section
/-! X's state by my own names -/
def ir_XS (e : ir_E) (la ll zt vo li : Int32) (be ex ab ha ow ne hi : ir_A) (wa lk : Nat) (ma de st qu fl ln lt : ir_A) : SX :=
  (nI (e_N e), e_rl e, e_dl e, e_cl e, e_nw e, la, ll, zt, vo, li, nI wa, nI lk, e_ad e, e_al e, e_se e, e_gl e, e_mo e, e_fn e, e_fa e, e_rm e, e_ra e, e_re e, e_cs e, e_ch e, e_ce e, ma, de, be, ex, ab, ha, ow, ne, hi, st, qu, fl, ln, lt)
/-- a table of masks as sets -/
def ir_m (ma : ir_A) : ir_V := fun t i => t < 48 ∧ bt (ma t) i = true
/-- the voices and the liars -/
def ir_SV (e : ir_E) (vo li : Int32) : Prop := (∀ i, bt vo i = true ↔ i < 6 ∧ e_mo e i ≠ 1) ∧ (∀ i, bt li i = true ↔ i < 6 ∧ e_mo e i = 2)
section
variable {e : ir_E} {la ll zt vo li : Int32} {be ex ab ha ow ne hi : ir_A} {wa lk : Nat} {ma de st qu fl ln lt : ir_A}
theorem xr_liveRecord {post : Int32 → Prop} {m : Nat} (hm : m < 24) (K0 : ¬ ir_lv e m → post 0) (K1 : ir_lv e m → post 1) : wpX_liveRecord post (ir_XS e la ll zt vo li be ex ab ha ow ne hi wa lk ma de st qu fl ln lt) (nI m) := by
  unfold wpX_liveRecord ir_XS
  dsimp only
  rw [nI_clamp (by omega)]
  exact ⟨vp_in_nI hm (by omega), fun h => K0 (fun z => z h), fun h => K1 h⟩
theorem xr_liveCut {post : Int32 → Prop} {z : Nat} (hz : z < 24) (K0 : ¬ ir_hd e z → post 0) (K1 : ir_hd e z → post 1) : wpX_liveCut post (ir_XS e la ll zt vo li be ex ab ha ow ne hi wa lk ma de st qu fl ln lt) (nI z) := by
  unfold wpX_liveCut ir_XS
  dsimp only
  rw [nI_clamp (by omega)]
  exact ⟨vp_in_nI hz (by omega), fun h => K0 (fun z => z h), fun h => K1 h⟩
theorem xr_zoneAt2 {post : Int32 → Prop} : ∀ (n m : Nat), m < n → m < 24 → post (nI (ir_zn e m)) → wX_zoneAt_2 post (nI (e_N e)) (e_rl e) (e_dl e) (e_cl e) (e_nw e) la ll zt vo li (nI wa) (nI lk) (e_ad e) (e_al e) (e_se e) (e_gl e) (e_mo e) (e_fn e) (e_fa e) (e_rm e) (e_ra e) (e_re e) (e_cs e) (e_ch e) (e_ce e) ma de be ex ab ha ow ne hi st qu fl ln lt n (nI m) := by
  intro n
  induction n with
  | zero => intro m h; omega
  | succ n ih =>
    intro m hn hm hp
    simp only [wX_zoneAt_2]
    cases m with
    | zero => rw [ir_zn_0] at hp; exact br_t (by decide) hp
    | succ m =>
      refine br_f (nI_nle (by omega) (by omega)) ?_
      refine xr_liveCut (z := m + 1) (by omega) (fun hh => br_t rfl ?_) (fun hh => br_f ir_1ne ?_)
      · rw [ir_2m, nI_clamp (by omega), ir_half (by omega) (by omega), Nat.add_sub_cancel]
        refine ⟨vp_in_nI (by omega) (by omega), fun hs => ⟨by decide, nm_e (ih (m / 2) (by omega) (by omega) ?_)⟩, fun hs => ?_⟩
        · rw [ir_zn_s ⟨Classical.byContradiction hh, hs⟩] at hp; exact hp
        · rw [ir_zn_c (fun z => hs z.2)] at hp; exact hp
      · rw [ir_zn_c (fun z => hh z.1)] at hp; exact hp
theorem xr_zoneAt {post : Int32 → Prop} {m : Nat} (hm : m < 24) (K : post (nI (ir_zn e m))) : wpX_zoneAt post (ir_XS e la ll zt vo li be ex ab ha ow ne hi wa lk ma de st qu fl ln lt) (nI m) :=
  Exists.intro 25 (xr_zoneAt2 25 m (by omega) hm K)
theorem xr_forged13 {post : Int32 → Prop} {s : Nat} {x4 : Int32} (hE : ir_EI e) (hs : s < 48) : ∀ (d i n : Nat) (x3 : Int32), i + d = 6 → d < n →
    (∀ r, (∀ a, a < 32 → (bt r a = true ↔ bt x3 a = true ∨ ∃ h, i ≤ h ∧ h < 6 ∧ bt x4 h = true ∧ e_fn e h = nI s ∧ e_fa e h = nI a)) → post r) →
    wX_forgedFor_13 post (nI s) x4 (nI (e_N e)) (e_rl e) (e_dl e) (e_cl e) (e_nw e) la ll zt vo li (nI wa) (nI lk) (e_ad e) (e_al e) (e_se e) (e_gl e) (e_mo e) (e_fn e) (e_fa e) (e_rm e) (e_ra e) (e_re e) (e_cs e) (e_ch e) (e_ce e) ma de be ex ab ha ow ne hi st qu fl ln lt n x3 (nI i) := by
  intro d
  induction d with
  | zero =>
    intro i n x3 hi0 hn K
    obtain ⟨n, rfl⟩ : ∃ k, n = k + 1 := ⟨n - 1, by omega⟩
    simp only [wX_forgedFor_13]
    refine br_t (nI_le (a := 6) (by omega) (by omega)) (K _ (fun a ha => ⟨Or.inl, fun z => z.elim id (fun ⟨h, h1, h2, _⟩ => by omega)⟩))
  | succ d ih =>
    intro i n x3 hi0 hn K
    obtain ⟨n, rfl⟩ : ∃ k, n = k + 1 := ⟨n - 1, by omega⟩
    simp only [wX_forgedFor_13]
    rw [nI_1, nI_clamp (by omega)]
    have step : ∀ y : Int32, (∀ a, a < 32 → (bt y a = true ↔ bt x3 a = true ∨ (bt x4 i = true ∧ e_fn e i = nI s ∧ e_fa e i = nI a))) → wX_forgedFor_13 post (nI s) x4 (nI (e_N e)) (e_rl e) (e_dl e) (e_cl e) (e_nw e) la ll zt vo li (nI wa) (nI lk) (e_ad e) (e_al e) (e_se e) (e_gl e) (e_mo e) (e_fn e) (e_fa e) (e_rm e) (e_ra e) (e_re e) (e_cs e) (e_ch e) (e_ce e) ma de be ex ab ha ow ne hi st qu fl ln lt n y (nI (i + 1)) := by
      intro y hy
      refine ih (i + 1) n y (by omega) (by omega) (fun r hr => K r (fun a ha => ?_))
      rw [hr a ha, hy a ha]
      constructor
      · rintro ((h | ⟨h1, h2, h3⟩) | ⟨h, h1, h2⟩)
        · exact Or.inl h
        · exact Or.inr ⟨i, by omega, by omega, h1, h2, h3⟩
        · exact Or.inr ⟨h, by omega, h2⟩
      · rintro (h | ⟨h, h1, h2, h3, h4, h5⟩)
        · exact Or.inl (Or.inl h)
        · rcases Nat.lt_or_ge i h with z | z
          · exact Or.inr ⟨h, by omega, h2, h3, h4, h5⟩
          · have : h = i := by omega
            subst this
            exact Or.inl (Or.inr ⟨h3, h4, h5⟩)
    refine br_f (nI_ge (b := 6) (by omega) (by omega)) ⟨fun hb => ?_, fun hb => ?_⟩
    · rw [ir_test (by omega)] at hb
      exact nm_e (step x3 (fun a _ => ⟨Or.inl, fun z => z.elim id (fun z => absurd z.1 hb)⟩))
    · rw [ir_test (by omega)] at hb
      have hb' := Classical.byContradiction hb
      refine ⟨vp_in_nI (by omega) (by omega), fun hf => ⟨vp_in_nI (by omega) (by omega), nm_e (nm_e (step _ (fun a ha => ?_)))⟩, fun hf => ?_⟩
      · obtain ⟨g, hg, hfa⟩ := ir_fnS hE (by omega) hs hf
        rw [hfa, ir_orb, ir_one hg]
        refine or_congr Iff.rfl ⟨fun z => ⟨hb', hf, by rw [z]⟩, fun z => ?_⟩
        have := z.2.2
        rw [nI_eq (by omega) (by omega)] at this
        omega
      · exact nm_e (step x3 (fun a _ => ⟨Or.inl, fun z => z.elim id (fun z => absurd z.2.1 hf)⟩))
theorem xr_forgedFor {post : Int32 → Prop} {s z : Nat} (hE : ir_EI e) (hS : ir_SV e vo li) (hs : s < 48) (hz : z < 24)
    (K : ∀ r, (∀ a, bt r a = true ↔ a < 6 ∧ ir_fg e (ir_m ma) z s a) → post r) : wpX_forgedFor post (ir_XS e la ll zt vo li be ex ab ha ow ne hi wa lk ma de st qu fl ln lt) (nI s) (ma (24 + z)) := by
  unfold wpX_forgedFor ir_XS
  dsimp only
  refine nm_e (Exists.intro 7 (xr_forged13 hE hs 6 0 7 0 rfl (by omega) (fun r hr => K r (fun a => ?_))))
  rcases Nat.lt_or_ge a 32 with ha | ha
  · rw [hr a ha, b_0]
    constructor
    · rintro (h | ⟨h, _, h1, h2, h3, h4⟩)
      · exact absurd h (by decide)
      · obtain ⟨h5, h6⟩ := ir_andb.mp h2
        obtain ⟨g, hg, hfa⟩ := ir_fnS hE h1 hs h3
        refine ⟨?_, h, h1, ⟨by omega, h5⟩, ((hS.2 h).mp h6).2, h3, h4⟩
        rw [hfa, nI_eq (by omega) (by omega)] at h4
        omega
    · rintro ⟨_, h, h1, h2, h3, h4, h5⟩
      exact Or.inr ⟨h, by omega, h1, ir_andb.mpr ⟨h2.2, (hS.2 h).mpr ⟨h1, h3⟩⟩, h4, h5⟩
  · rw [b_big ha]
    exact ⟨fun z => absurd z (by decide), fun z => by omega⟩
theorem xr_atOrBelow2 {post : Int32 → Prop} {top : Nat} (ht : top < 48) : ∀ (n m : Nat), m < n → m < 48 → (ir_ab top m → post 1) → (¬ ir_ab top m → post 0) → wX_atOrBelow_2 post (nI top) (nI (e_N e)) (e_rl e) (e_dl e) (e_cl e) (e_nw e) la ll zt vo li (nI wa) (nI lk) (e_ad e) (e_al e) (e_se e) (e_gl e) (e_mo e) (e_fn e) (e_fa e) (e_rm e) (e_ra e) (e_re e) (e_cs e) (e_ch e) (e_ce e) ma de be ex ab ha ow ne hi st qu fl ln lt n (nI m) := by
  intro n
  induction n with
  | zero => intro m h; omega
  | succ n ih =>
    intro m hn hm K1 K0
    simp only [wX_atOrBelow_2]
    have stop : (nI m ≤ nI top → m = top ∨ ¬ ir_ab top m) → (m = 0 ∨ m ≤ top) → wX_atOrBelow_20 post (nI top) (nI m) (nI (e_N e)) (e_rl e) (e_dl e) (e_cl e) (e_nw e) la ll zt vo li (nI wa) (nI lk) (e_ad e) (e_al e) (e_se e) (e_gl e) (e_mo e) (e_fn e) (e_fa e) (e_rm e) (e_ra e) (e_re e) (e_cs e) (e_ch e) (e_ce e) ma de be ex ab ha ow ne hi st qu fl ln lt := by
      intro _ hc
      unfold wX_atOrBelow_20
      refine pk_eq m top (fun h => K1 ?_) (fun h => K0 ?_)
      · subst h
        cases m with
        | zero => exact ir_ab_0.mpr rfl
        | succ m => exact ir_ab_s.mpr (Or.inl rfl)
      · intro z
        have := ir_able z
        rcases hc with rfl | hc
        · rw [ir_ab_0] at z; omega
        · omega
    refine pk_le m top (fun h => stop (fun _ => ?_) (Or.inr h)) (fun h => ?_)
    · rcases Nat.lt_or_ge m top with z | z
      · exact Or.inr (fun y => by have := ir_able y; omega)
      · exact Or.inl (by omega)
    · cases m with
      | zero => omega
      | succ m =>
        refine br_f (nI_nle (by omega) (by omega)) ⟨by decide, ?_⟩
        rw [ir_half (by omega) (by omega), Nat.add_sub_cancel]
        refine nm_e (ih (m / 2) (by omega) (by omega) (fun z => K1 (ir_ab_s.mpr (Or.inr z))) (fun z => K0 (fun y => ?_)))
        rcases ir_ab_s.mp y with y | y
        · omega
        · exact z y
theorem xr_atOrBelow {post : Int32 → Prop} {top m : Nat} (ht : top < 48) (hm : m < 48) (K1 : ir_ab top m → post 1) (K0 : ¬ ir_ab top m → post 0) : wpX_atOrBelow post (ir_XS e la ll zt vo li be ex ab ha ow ne hi wa lk ma de st qu fl ln lt) (nI m) (nI top) :=
  Exists.intro 49 (xr_atOrBelow2 ht 49 m (by omega) hm K1 K0)
theorem xr_listed {post : Int32 → Prop} {z j : Nat} (hz : z < 24) (hj : ir_sl z j) (K : post (ir_vs e j)) : wpX_listed post (ir_XS e la ll zt vo li be ex ab ha ow ne hi wa lk ma de st qu fl ln lt) (nI z) (nI j) := by
  have hj2 : j < 48 := by rcases hj with h | h <;> omega
  refine (show wpX_liveCut (fun r_1 => (((r_1 = 0 → (vp_in (nI j) 48 ∧ (post (e_se e (nI j).toNatClampNeg)))) ∧ (¬ r_1 = 0 → (vp_in (nI j) 48 ∧ (post (e_cs e (nI j).toNatClampNeg))))))) (ir_XS e la ll zt vo li be ex ab ha ow ne hi wa lk ma de st qu fl ln lt) (nI z) from ?_)
  rw [nI_clamp (by omega)]
  refine xr_liveCut hz (fun h => br_t rfl ⟨vp_in_nI hj2 (by omega), ?_⟩) (fun h => br_f ir_1ne ⟨vp_in_nI hj2 (by omega), ?_⟩)
  · rw [ir_vs_n (ir_sl_half hj) h] at K; exact K
  · rw [ir_vs_h (ir_sl_half hj) h] at K; exact K
/-- what one slot adds to what is reachable -/
def ir_ra (e : ir_E) (ma hi : ir_A) (j i : Nat) : Prop := 0 ≤ ir_vs e j ∧ (bt (ma (ir_vs e j).toNatClampNeg) i = true ∨ (¬ ir_lv e (ir_vs e j).toNatClampNeg ∧ bt (hi j) i = true))
theorem xr_reach6 {post : Int32 → Prop} {z : Nat} (hE : ir_EI e) (hz : z < 24) : ∀ (d k n : Nat) (x2 : Int32), k + d = 2 → d < n →
    (∀ r, (∀ i, bt r i = true ↔ bt x2 i = true ∨ ∃ j, 2 * z + k ≤ j ∧ ir_sl z j ∧ ir_ra e ma hi j i) → post r) →
    wX_reachable_6 post (nI z) (nI (e_N e)) (e_rl e) (e_dl e) (e_cl e) (e_nw e) la ll zt vo li (nI wa) (nI lk) (e_ad e) (e_al e) (e_se e) (e_gl e) (e_mo e) (e_fn e) (e_fa e) (e_rm e) (e_ra e) (e_re e) (e_cs e) (e_ch e) (e_ce e) ma de be ex ab ha ow ne hi st qu fl ln lt n x2 (nI (2 * z + k)) := by
  intro d
  induction d with
  | zero =>
    intro k n x2 hk hn K
    obtain ⟨n, rfl⟩ : ∃ k, n = k + 1 := ⟨n - 1, by omega⟩
    simp only [wX_reachable_6]
    rw [ir_2m, nI_1]
    refine br_t (nI_lt (by omega) (by omega)) (K _ (fun i => ⟨Or.inl, fun y => y.elim id (fun ⟨j, h1, h2, _⟩ => ?_)⟩))
    rcases h2 with h2 | h2 <;> omega
  | succ d ih =>
    intro k n x2 hk hn K
    obtain ⟨n, rfl⟩ : ∃ k, n = k + 1 := ⟨n - 1, by omega⟩
    have hN := ir_EI_N hE
    have hsl : ir_sl z (2 * z + k) := by unfold ir_sl; omega
    simp only [wX_reachable_6]
    rw [ir_2m, nI_1, nI_1]
    have step : ∀ y : Int32, (∀ i, bt y i = true ↔ bt x2 i = true ∨ ir_ra e ma hi (2 * z + k) i) → wX_reachable_6 post (nI z) (nI (e_N e)) (e_rl e) (e_dl e) (e_cl e) (e_nw e) la ll zt vo li (nI wa) (nI lk) (e_ad e) (e_al e) (e_se e) (e_gl e) (e_mo e) (e_fn e) (e_fa e) (e_rm e) (e_ra e) (e_re e) (e_cs e) (e_ch e) (e_ce e) ma de be ex ab ha ow ne hi st qu fl ln lt n y (nI (2 * z + k + 1)) := by
      intro y hy
      refine ih (k + 1) n y (by omega) (by omega) (fun r hr => K r (fun i => ?_))
      rw [hr i, hy i]
      constructor
      · rintro ((h | h) | ⟨j, h1, h2⟩)
        · exact Or.inl h
        · exact Or.inr ⟨_, Nat.le_refl _, hsl, h⟩
        · exact Or.inr ⟨j, by omega, h2⟩
      · rintro (h | ⟨j, h1, h2, h3⟩)
        · exact Or.inl (Or.inl h)
        · rcases Nat.lt_or_ge (2 * z + k) j with y | y
          · exact Or.inr ⟨j, by omega, h2, h3⟩
          · have : j = 2 * z + k := by omega
            subst this
            exact Or.inl (Or.inr h3)
    refine br_f (nI_nlt (by omega) (by omega)) (xr_listed hz hsl ⟨fun hs => ?_, fun hs => ?_⟩)
    · exact nm_e (step x2 (fun i => ⟨Or.inl, fun y => y.elim id (fun y => absurd y.1 (Int32.not_le.mpr hs))⟩))
    · have h0 := ir_nlt.mp hs
      obtain ⟨hv, hq⟩ := ir_vs_lt hE h0
      have hin : vp_in (ir_vs e (2 * z + k)) 48 := by rw [hq]; exact vp_in_nI (by omega) (by omega)
      refine ⟨hin, nm_e ?_⟩
      have L : ∀ post : Int32 → Prop, (¬ ir_lv e (ir_vs e (2 * z + k)).toNatClampNeg → post 0) → (ir_lv e (ir_vs e (2 * z + k)).toNatClampNeg → post 1) → wpX_liveRecord post (ir_XS e la ll zt vo li be ex ab ha ow ne hi wa lk ma de st qu fl ln lt) (ir_vs e (2 * z + k)) := by
        intro post K0 K1
        generalize (ir_vs e (2 * z + k)).toNatClampNeg = s at *
        rw [hq]
        exact xr_liveRecord (by omega) K0 K1
      refine L _ (fun hl => br_t rfl ?_) (fun hl => br_f ir_1ne ?_)
      · rw [nI_clamp (by omega)]
        refine ⟨vp_in_nI (by omega) (by omega), nm_e (nm_e (step _ (fun i => ?_)))⟩
        rw [ir_orb, ir_orb, or_assoc]
        exact or_congr Iff.rfl ⟨fun y => ⟨h0, y.imp id (fun y => ⟨hl, y⟩)⟩, fun y => y.2.imp id (fun y => y.2)⟩
      · refine nm_e (step _ (fun i => ?_))
        rw [ir_orb]
        exact or_congr Iff.rfl ⟨fun y => ⟨h0, Or.inl y⟩, fun y => y.2.elim id (fun y => absurd hl y.1)⟩
theorem xr_reachable {post : Int32 → Prop} {z : Nat} (hE : ir_EI e) (hz : z < 24) (K : ∀ r, (∀ i, bt r i = true ↔ ∃ j, ir_sl z j ∧ ir_ra e ma hi j i) → post r) : wpX_reachable post (ir_XS e la ll zt vo li be ex ab ha ow ne hi wa lk ma de st qu fl ln lt) (nI z) := by
  unfold wpX_reachable ir_XS
  dsimp only
  rw [ir_2m]
  refine nm_e (Exists.intro 3 (xr_reach6 hE hz 2 0 3 0 rfl (by omega) (fun r hr => K r (fun i => ?_))))
  rw [hr i, b_0]
  constructor
  · rintro (h | ⟨j, _, h⟩)
    · exact absurd h (by decide)
    · exact ⟨j, h⟩
  · rintro ⟨j, h1, h2⟩
    exact Or.inr ⟨j, by rcases h1 with h | h <;> omega, h1, h2⟩
end
end
section
/-! the queue, the links, the potential -/
/-- the newest link below k whose source is s -/
def ir_ll (sr : Nat → Nat) (s : Nat) : Nat → Int32
  | 0 => -1
  | k + 1 => if sr k = s then nI k else ir_ll sr s k
theorem ir_ll_c {sr sr' : Nat → Nat} {s : Nat} : ∀ {k : Nat}, (∀ j, j < k → sr' j = sr j) → ir_ll sr' s k = ir_ll sr s k
  | 0, _ => rfl
  | k + 1, h => by
    simp only [ir_ll]
    rw [h k (by omega), ir_ll_c (k := k) (fun j hj => h j (by omega))]
/-- task t listens to s -/
def ir_Lk (lk : Nat) (lt : ir_A) (sr : Nat → Nat) (s t : Nat) : Prop := ∃ j, j < lk ∧ sr j = s ∧ lt j = nI t
def ir_QI (wa : Nat) (st qu : ir_A) : Prop :=
  (∀ i, i < wa → ∃ t, t < 48 ∧ st i = nI t ∧ qu t ≠ 0) ∧ (∀ i j, i < j → j < wa → st i ≠ st j) ∧ ir_sm (fun t => ir_f (qu t)) 48 = wa
def ir_LI (lk : Nat) (de fl ln lt : ir_A) (sr : Nat → Nat) : Prop :=
  lk ≤ 128 ∧ (∀ s, s < 48 → fl s = ir_ll sr s lk) ∧ (∀ j, j < lk → ln j = ir_ll sr (sr j) j ∧ ∃ t, t < 48 ∧ lt j = nI t ∧ de t ≠ 0)
def ir_ct (ma : ir_A) (sr : Nat → Nat) (lk j : Nat) : Nat := if j < lk then 6 - ir_pc (ma (sr j)) else 6
def ir_ph (wa lk : Nat) (ma de : ir_A) (sr : Nat → Nat) : Nat := wa + ir_sm (fun t => 1 - ir_f (de t)) 48 + ir_sm (ir_ct ma sr lk) 128
def ir_CI (e : ir_E) (n b : Nat) (wa lk : Nat) (ma de st qu fl ln lt : ir_A) (sr : Nat → Nat) : Prop :=
  ir_QI wa st qu ∧ ir_LI lk de fl ln lt sr ∧ (∀ t, t < 48 → qu t ≠ 0 → de t ≠ 0) ∧ (∀ t, t < 48 → de t ≠ 0 → ir_D e n t) ∧
  (∀ t i, ir_m ma t i → ir_F e (ir_m ma) t i) ∧ (∀ t i, ir_m ma t i → ir_L e t i) ∧ ir_ph wa lk ma de sr ≤ b
/-- more demanded, more queued; what is newly demanded is queued -/
def ir_EX (de qu de' qu' : ir_A) : Prop := (∀ t, de t ≠ 0 → de' t ≠ 0) ∧ (∀ t, qu t ≠ 0 → qu' t ≠ 0) ∧ (∀ t, de' t ≠ 0 → de t ≠ 0 ∨ qu' t ≠ 0)
theorem ir_EX_r {de qu : ir_A} : ir_EX de qu de qu := ⟨fun _ h => h, fun _ h => h, fun _ h => Or.inl h⟩
theorem ir_EX_t {a b c d f g : ir_A} (h : ir_EX a b c d) (k : ir_EX c d f g) : ir_EX a b f g :=
  ⟨fun t x => k.1 t (h.1 t x), fun t x => k.2.1 t (h.2.1 t x), fun t x => (k.2.2 t x).elim (fun y => (h.2.2 t y).imp id (k.2.1 t)) Or.inr⟩
theorem ir_upn {f : ir_A} {k : Nat} {x : Int32} (hx : x ≠ 0) {t : Nat} (h : f t ≠ 0) : upd f k x t ≠ 0 := by
  unfold upd
  split
  · exact hx
  · exact h
theorem ir_QI_w {wa : Nat} {st qu : ir_A} (h : ir_QI wa st qu) : wa ≤ 48 := by
  have := ir_sm_c (f := fun t => ir_f (qu t)) (c := 1) (n := 48) (fun k _ => ir_f_le _)
  have := h.2.2
  omega
theorem ir_QI_push {wa t : Nat} {st qu : ir_A} (h : ir_QI wa st qu) (ht : t < 48) (hq : qu t = 0) : wa < 48 ∧ ir_QI (wa + 1) (upd st wa (nI t)) (upd qu t 1) := by
  obtain ⟨h1, h2, h3⟩ := h
  have key : ir_sm (fun k => ir_f (upd qu t 1 k)) 48 = wa + 1 := by
    have := ir_sm_at (f := fun k => ir_f (qu k)) (g := fun k => ir_f (upd qu t 1 k)) (a := t) (n := 48) (fun k _ hk => by show ir_f (upd qu t 1 k) = ir_f (qu k); rw [pk_un hk]) ht
    rw [pk_us, ir_f0 hq, ir_f_one] at this
    omega
  have hw : wa < 48 := by
    have := ir_sm_c (f := fun k => ir_f (upd qu t 1 k)) (c := 1) (n := 48) (fun k _ => ir_f_le _)
    omega
  refine ⟨hw, fun i hi => ?_, fun i j hij hj => ?_, key⟩
  · rcases Nat.lt_or_ge i wa with z | z
    · obtain ⟨s, a, b, c⟩ := h1 i z
      exact ⟨s, a, by rw [pk_un (by omega)]; exact b, ir_upn ir_1ne c⟩
    · have : i = wa := by omega
      subst this
      exact ⟨t, ht, pk_us, by rw [pk_us]; exact ir_1ne⟩
  · rw [pk_un (show i ≠ wa by omega)]
    rcases Nat.lt_or_ge j wa with z | z
    · rw [pk_un (show j ≠ wa by omega)]
      exact h2 i j hij z
    · have : j = wa := by omega
      subst this
      rw [pk_us]
      obtain ⟨s, a, b, c⟩ := h1 i hij
      rw [b]
      intro hst
      rw [nI_eq (by omega) (by omega)] at hst
      subst hst
      exact c hq
theorem ir_QI_pop {wa : Nat} {st qu : ir_A} (h : ir_QI (wa + 1) st qu) : ∃ t, t < 48 ∧ st wa = nI t ∧ qu t ≠ 0 ∧ ir_QI wa st (upd qu t 0) := by
  obtain ⟨h1, h2, h3⟩ := h
  obtain ⟨t, ht, hs, hq⟩ := h1 wa (by omega)
  refine ⟨t, ht, hs, hq, fun i hi => ?_, fun i j hij hj => h2 i j hij (by omega), ?_⟩
  · obtain ⟨s, a, b, c⟩ := h1 i (by omega)
    refine ⟨s, a, b, ?_⟩
    have hne : s ≠ t := by
      intro hst
      subst hst
      exact h2 i wa hi (by omega) (b.trans hs.symm)
    rw [pk_un hne]
    exact c
  · have := ir_sm_at (f := fun k => ir_f (qu k)) (g := fun k => ir_f (upd qu t 0 k)) (a := t) (n := 48) (fun k _ hk => by show ir_f (upd qu t 0 k) = ir_f (qu k); rw [pk_un hk]) ht
    rw [pk_us, ir_f1 hq, ir_f0 rfl] at this
    omega
theorem ir_QI_0 {st qu : ir_A} (h : ir_QI 0 st qu) {t : Nat} (ht : t < 48) : qu t = 0 := by
  have := ir_sm_pos h.2.2 t ht
  exact Classical.byContradiction (fun z => by rw [ir_f1 z] at this; omega)
section
variable {e : ir_E} {la ll zt vo li : Int32} {be ex ab ha ow ne hi : ir_A} {wa lk : Nat} {ma de st qu fl ln lt : ir_A} {sr : Nat → Nat} {n b : Nat} {post : SX → Prop}
theorem xc_push {t : Nat} (ht : t < 48) (hw : wa ≤ 48) (hq : qu t = 0 → wa < 48) (K0 : qu t ≠ 0 → post (ir_XS e la ll zt vo li be ex ab ha ow ne hi wa lk ma de st qu fl ln lt)) (K1 : qu t = 0 → post (ir_XS e la ll zt vo li be ex ab ha ow ne hi (wa + 1) lk ma de (upd st wa (nI t)) (upd qu t 1) fl ln lt)) : wpX_push post (ir_XS e la ll zt vo li be ex ab ha ow ne hi wa lk ma de st qu fl ln lt) (nI t) := by
  unfold wpX_push ir_XS
  dsimp only
  rw [nI_clamp (show t < 2 ^ 31 by omega), nI_clamp (show wa < 2 ^ 31 by omega), nI_1, ir_nb1]
  refine ⟨vp_in_nI ht (by omega), fun h => ?_, fun h => K0 h⟩
  exact br_t (nI_lt (b := 48) (hq h) (by omega)) ⟨vp_in_nI ht (by omega), nm_e ⟨vp_in_nI (hq h) (by omega), nm_e (nm_e (K1 h))⟩⟩
theorem xc_demand {s : Nat} (hs : s < 48) (hD : ir_D e n s) (h : ir_CI e n b wa lk ma de st qu fl ln lt sr)
    (K : ∀ wa' de' st' qu', ir_CI e n b wa' lk ma de' st' qu' fl ln lt sr → ir_EX de qu de' qu' → de' s ≠ 0 → post (ir_XS e la ll zt vo li be ex ab ha ow ne hi wa' lk ma de' st' qu' fl ln lt)) : wpX_demand post (ir_XS e la ll zt vo li be ex ab ha ow ne hi wa lk ma de st qu fl ln lt) (nI s) := by
  unfold wpX_demand ir_XS
  dsimp only
  rw [nI_clamp (show s < 2 ^ 31 by omega), ir_nb1]
  refine ⟨vp_in_nI hs (by omega), fun hd => ⟨vp_in_nI hs (by omega), nm_e ?_⟩, fun hd => K wa de st qu h ir_EX_r hd⟩
  obtain ⟨h1, h2, h3, h4, h5, h6, h7⟩ := h
  have hq : qu s = 0 := Classical.byContradiction (fun z => h3 s hs z hd)
  obtain ⟨hw, hQ⟩ := ir_QI_push h1 hs hq
  refine xc_push (de := upd de s 1) hs (by omega) (fun _ => hw) (fun z => absurd hq z) (fun _ => ?_)
  refine K (wa + 1) (upd de s 1) (upd st wa (nI s)) (upd qu s 1) ⟨hQ, ⟨h2.1, h2.2.1, fun j hj => ⟨(h2.2.2 j hj).1, ?_⟩⟩, ?_, ?_, h5, h6, ?_⟩ ⟨fun t ht => ir_upn ir_1ne ht, fun t ht => ir_upn ir_1ne ht, fun t ht => ?_⟩ (by rw [pk_us]; exact ir_1ne)
  · obtain ⟨t, a, c, d⟩ := (h2.2.2 j hj).2
    exact ⟨t, a, c, ir_upn ir_1ne d⟩
  · intro t ht hqt
    rcases Nat.decEq t s with z | z
    · rw [pk_un z] at hqt
      rw [pk_un z]
      exact h3 t ht hqt
    · subst z
      rw [pk_us]; exact ir_1ne
  · intro t ht hqt
    rcases Nat.decEq t s with z | z
    · rw [pk_un z] at hqt
      exact h4 t ht hqt
    · subst z
      exact hD
  · have := ir_sm_at (f := fun k => 1 - ir_f (de k)) (g := fun k => 1 - ir_f (upd de s 1 k)) (a := s) (n := 48) (fun k _ hk => by show 1 - ir_f (upd de s 1 k) = 1 - ir_f (de k); rw [pk_un hk]) hs
    rw [pk_us, ir_f0 hd, ir_f_one] at this
    unfold ir_ph at h7 ⊢
    omega
  · rcases Nat.decEq t s with z | z
    · rw [pk_un z] at ht
      exact Or.inl ht
    · subst z
      rw [pk_us]; exact Or.inr ir_1ne
theorem xc_listen {t s : Nat} (ht : t < 48) (hdt : de t ≠ 0) (hs : s < 48) (hD : ir_D e n s) (hlk : lk < 128) (h : ir_CI e n b wa lk ma de st qu fl ln lt sr)
    (K : ∀ wa' de' st' qu' fl' ln' lt' sr', ir_CI e n b wa' (lk + 1) ma de' st' qu' fl' ln' lt' sr' → ir_EX de qu de' qu' → de' s ≠ 0 →
      (∀ p q, ir_Lk lk lt sr p q → ir_Lk (lk + 1) lt' sr' p q) → ir_Lk (lk + 1) lt' sr' s t → post (ir_XS e la ll zt vo li be ex ab ha ow ne hi wa' (lk + 1) ma de' st' qu' fl' ln' lt')) : wpX_listen post (ir_XS e la ll zt vo li be ex ab ha ow ne hi wa lk ma de st qu fl ln lt) (nI t) (nI s) := by
  unfold wpX_listen ir_XS
  dsimp only
  rw [nI_clamp (show s < 2 ^ 31 by omega), nI_clamp (show lk < 2 ^ 31 by omega), nI_1]
  refine br_t (nI_lt (b := 128) hlk (by omega)) ⟨vp_in_nI hlk (by omega), nm_e ⟨vp_in_nI hs (by omega), ⟨vp_in_nI hlk (by omega), nm_e ⟨vp_in_nI hs (by omega), nm_e (nm_e ?_)⟩⟩⟩⟩
  obtain ⟨h1, h2, h3, h4, h5, h6, h7⟩ := h
  have sr0 : ∀ j, j < lk → (fun j => if j = lk then s else sr j) j = sr j := fun j hj => if_neg (by omega)
  have sr1 : (fun j => if j = lk then s else sr j) lk = s := if_pos rfl
  refine xc_demand (b := b) (lk := lk + 1) (fl := upd fl s (nI lk)) (ln := upd ln lk (fl s)) (lt := upd lt lk (nI t)) (sr := fun j => if j = lk then s else sr j) hs hD ⟨h1, ⟨by omega, ?_, ?_⟩, h3, h4, h5, h6, ?_⟩ ?_
  · intro s' hs'
    simp only [ir_ll, if_true]
    rw [ir_ll_c sr0]
    rcases Nat.decEq s' s with z | z
    · rw [pk_un z, if_neg (fun y => z y.symm)]
      exact h2.2.1 s' hs'
    · subst z
      rw [pk_us, if_pos rfl]
  · intro j hj
    rcases Nat.lt_or_ge j lk with z | z
    · rw [pk_un (by omega), pk_un (by omega), sr0 j z, ir_ll_c (fun i hi => sr0 i (by omega))]
      exact h2.2.2 j z
    · have : j = lk := by omega
      subst this
      rw [pk_us, pk_us, sr1, ir_ll_c sr0]
      exact ⟨h2.2.1 s hs, t, ht, rfl, hdt⟩
  · have : ir_sm (ir_ct ma (fun j => if j = lk then s else sr j) (lk + 1)) 128 ≤ ir_sm (ir_ct ma sr lk) 128 := by
      refine ir_sm_le (fun k hk => ?_)
      unfold ir_ct
      rcases Nat.lt_or_ge k lk with z | z
      · rw [if_pos (by omega), if_pos z, sr0 k z]
        exact Nat.le_refl _
      · rw [if_neg (show ¬ k < lk by omega)]
        split <;> omega
    unfold ir_ph at h7 ⊢
    omega
  · intro wa' de' st' qu' c1 c2 c3
    refine K wa' de' st' qu' (upd fl s (nI lk)) (upd ln lk (fl s)) (upd lt lk (nI t)) (fun j => if j = lk then s else sr j) c1 c2 c3 ?_ ⟨lk, by omega, sr1, pk_us⟩
    rintro p q ⟨j, a, c, d⟩
    exact ⟨j, by omega, by rw [sr0 j a]; exact c, by rw [pk_un (by omega)]; exact d⟩
end
end
section
section
variable {e : ir_E} {la ll zt vo li : Int32} {be ex ab ha ow ne hi : ir_A} {wa lk : Nat} {ma de st qu fl ln lt : ir_A} {sr : Nat → Nat} {n b : Nat} {post : SX → Prop}
theorem xg_28 {s : Nat} (hL : ir_LI lk de fl ln lt sr) : ∀ (k i f wa : Nat) (st qu : ir_A), k ≤ lk → i + k ≤ lk → k < f → ir_QI wa st qu → (∀ t, t < 48 → qu t ≠ 0 → de t ≠ 0) →
    (∀ wa' st' qu', ir_QI wa' st' qu' → wa' ≤ wa + ir_sm (fun j => if sr j = s then 1 else 0) k → (∀ t, qu t ≠ 0 → qu' t ≠ 0) → (∀ t, t < 48 → qu' t ≠ 0 → de t ≠ 0) →
      (∀ j, j < k → sr j = s → ∀ t, t < 48 → lt j = nI t → qu' t ≠ 0) → post (ir_XS e la ll zt vo li be ex ab ha ow ne hi wa' lk ma de st' qu' fl ln lt)) →
    wX_grow_28 post f (ir_ll sr s k) (nI i) (nI (e_N e)) (e_rl e) (e_dl e) (e_cl e) (e_nw e) la ll zt vo li (nI wa) (nI lk) (e_ad e) (e_al e) (e_se e) (e_gl e) (e_mo e) (e_fn e) (e_fa e) (e_rm e) (e_ra e) (e_re e) (e_cs e) (e_ch e) (e_ce e) ma de be ex ab ha ow ne hi st qu fl ln lt := by
  intro k
  induction k with
  | zero =>
    intro i f wa st qu hk hi hf hQ hq K
    obtain ⟨f, rfl⟩ : ∃ k, f = k + 1 := ⟨f - 1, by omega⟩
    have kk := K wa st qu hQ (by omega) (fun _ h => h) hq (fun j hj => by omega)
    simp only [wX_grow_28]
    exact br_c (fun _ => kk) (fun _ => br_t (show ir_ll sr s 0 < 0 by simp only [ir_ll]; decide) kk)
  | succ k ih =>
    intro i f wa st qu hk hi hf hQ hq K
    have hlk := hL.1
    rcases Nat.decEq (sr k) s with z | z
    · have e1 : ir_ll sr s (k + 1) = ir_ll sr s k := if_neg z
      rw [e1]
      refine ih i f wa st qu (by omega) (by omega) (by omega) hQ hq (fun wa' st' qu' a1 a2 a3 a4 a5 => K wa' st' qu' a1 ?_ a3 a4 ?_)
      · simp only [ir_sm]
        omega
      · intro j hj hs
        rcases Nat.lt_or_ge j k with y | y
        · exact a5 j y hs
        · have : j = k := by omega
          subst this
          exact absurd hs z
    · have e1 : ir_ll sr s (k + 1) = nI k := if_pos z
      obtain ⟨f, rfl⟩ : ∃ k, f = k + 1 := ⟨f - 1, by omega⟩
      obtain ⟨hln, t, ht, hlt, hdt⟩ := hL.2.2 k (by omega)
      rw [z] at hln
      rw [e1]
      simp only [wX_grow_28]
      rw [nI_clamp (show k < 2 ^ 31 by omega), hlt]
      have hin : vp_in (nI k) 128 := vp_in_nI (by omega) (by omega)
      refine br_f (nI_ge (by omega) (by omega)) (br_f (nI_pos (by omega)) ⟨hin, ?_⟩)
      have hsm : ir_sm (fun j => if sr j = s then 1 else 0) (k + 1) = ir_sm (fun j => if sr j = s then 1 else 0) k + 1 := by
        simp only [ir_sm]
        rw [if_pos z]
      refine xc_push ht (ir_QI_w hQ) (fun h => (ir_QI_push hQ ht h).1) (fun h => ⟨hin, nm_r hln (nm_r (nI_1 i) ?_)⟩) (fun h => ⟨hin, nm_r hln (nm_r (nI_1 i) ?_)⟩)
      · refine ih (i + 1) f wa st qu (by omega) (by omega) (by omega) hQ hq (fun wa' st' qu' a1 a2 a3 a4 a5 => K wa' st' qu' a1 (by omega) a3 a4 ?_)
        intro j hj hs t' ht' hlt'
        rcases Nat.lt_or_ge j k with y | y
        · exact a5 j y hs t' ht' hlt'
        · have : j = k := by omega
          subst this
          rw [hlt, nI_eq (by omega) (by omega)] at hlt'
          subst hlt'
          exact a3 t h
      · obtain ⟨_, hQ'⟩ := ir_QI_push hQ ht h
        refine ih (i + 1) f (wa + 1) (upd st wa (nI t)) (upd qu t 1) (by omega) (by omega) (by omega) hQ' ?_ (fun wa' st' qu' a1 a2 a3 a4 a5 => K wa' st' qu' a1 (by omega) (fun t ht => a3 t (ir_upn ir_1ne ht)) a4 ?_)
        · intro t' ht' hqt
          rcases Nat.decEq t' t with y | y
          · rw [pk_un y] at hqt
            exact hq t' ht' hqt
          · subst y
            exact hdt
        · intro j hj hs t' ht' hlt'
          rcases Nat.lt_or_ge j k with y | y
          · exact a5 j y hs t' ht' hlt'
          · have : j = k := by omega
            subst this
            rw [hlt, nI_eq (by omega) (by omega)] at hlt'
            subst hlt'
            exact a3 t (by rw [pk_us]; exact ir_1ne)
theorem ir_m_up {ma : ir_A} {t : Nat} {v : Int32} (hv : ∀ i, bt (ma t) i = true → bt v i = true) : ∀ s i, ir_m ma s i → ir_m (upd ma t v) s i := by
  intro s i h
  rcases Nat.decEq s t with z | z
  · exact ⟨h.1, by rw [pk_un z]; exact h.2⟩
  · subst z
    exact ⟨h.1, by rw [pk_us]; exact hv i h.2⟩
theorem ir_m_un {ma : ir_A} {t s : Nat} {v : Int32} (h : s ≠ t) (i : Nat) : ir_m (upd ma t v) s i ↔ ir_m ma s i := by
  unfold ir_m
  rw [pk_un h]
theorem xg_grow {t : Nat} {v : Int32} (ht : t < 48) (h : ir_CI e n b wa lk ma de st qu fl ln lt sr) (hm : ∀ i, bt (ma t) i = true → bt v i = true) (hF : ∀ i, bt v i = true → ir_F e (ir_m ma) t i)
    (K : ∀ wa' st' qu', ir_CI e n b wa' lk (upd ma t v) de st' qu' fl ln lt sr → (∀ t, qu t ≠ 0 → qu' t ≠ 0) → (ma t ≠ v → ∀ t', t' < 48 → ir_Lk lk lt sr t t' → qu' t' ≠ 0) → post (ir_XS e la ll zt vo li be ex ab ha ow ne hi wa' lk (upd ma t v) de st' qu' fl ln lt)) :
    wpX_grow post (ir_XS e la ll zt vo li be ex ab ha ow ne hi wa lk ma de st qu fl ln lt) (nI t) v := by
  unfold wpX_grow ir_XS
  dsimp only
  rw [nI_clamp (show t < 2 ^ 31 by omega)]
  have hin : vp_in (nI t) 48 := vp_in_nI ht (by omega)
  refine ⟨hin, fun hv => ?_, fun hv => ⟨hin, nm_e ⟨hin, nm_e (Exists.intro (lk + 1) ?_)⟩⟩⟩
  · have := K wa st qu
    rw [← hv, ir_uself] at this
    exact this h (fun _ h => h) (fun z => absurd rfl z)
  · obtain ⟨h1, h2, h3, h4, h5, h6, h7⟩ := h
    have mu := ir_m_up hm
    have vF : ∀ s i, ir_m (upd ma t v) s i → ir_F e (ir_m ma) s i := by
      intro s i hsi
      rcases Nat.decEq s t with z | z
      · exact h5 s i ((ir_m_un z i).mp hsi)
      · subst z
        have := hsi.2
        rw [pk_us] at this
        exact hF i this
    have hv6 : ir_s6 v := fun i hi => (hF i hi).1
    have hpc : ir_pc (ma t) < ir_pc v := ir_pc_lt hm hv6 hv
    have hct : ir_sm (ir_ct (upd ma t v) sr lk) 128 + ir_sm (fun j => if sr j = t then 1 else 0) lk ≤ ir_sm (ir_ct ma sr lk) 128 := by
      have e1 : ir_sm (fun j => if sr j = t then 1 else 0) lk ≤ ir_sm (fun j => if j < lk ∧ sr j = t then 1 else 0) 128 := by
        have mono : ∀ d, ir_sm (fun j => if j < lk ∧ sr j = t then 1 else 0) lk ≤ ir_sm (fun j => if j < lk ∧ sr j = t then 1 else 0) (lk + d) := by
          intro d
          induction d with
          | zero => exact Nat.le_refl _
          | succ d ih => rw [← Nat.add_assoc]; simp only [ir_sm]; omega
        have e2 : ir_sm (fun j => if sr j = t then 1 else 0) lk = ir_sm (fun j => if j < lk ∧ sr j = t then 1 else 0) lk :=
          ir_sm_eq (fun j hj => by simp [hj])
        have e3 := mono (128 - lk)
        rw [Nat.add_sub_cancel' h2.1] at e3
        omega
      have e4 := ir_sm_add (f := ir_ct (upd ma t v) sr lk) (g := fun j => if j < lk ∧ sr j = t then 1 else 0) (h := ir_ct ma sr lk) (n := 128) (fun j hj => ?_)
      · omega
      · unfold ir_ct
        rcases Nat.lt_or_ge j lk with z | z
        · rw [if_pos z, if_pos z]
          rcases Nat.decEq (sr j) t with y | y
          · rw [pk_un y, if_neg (fun w => y w.2)]
            exact Nat.le_refl _
          · rw [y, pk_us, if_pos ⟨z, rfl⟩]
            have := ir_pc_le v
            omega
        · rw [if_neg (by omega), if_neg (by omega), if_neg (fun w => by omega)]
          exact Nat.le_refl _
    have hx : fl t = ir_ll sr t lk := h2.2.1 t ht
    rw [hx]
    refine xg_28 (ma := upd ma t v) h2 lk 0 (lk + 1) wa st qu (Nat.le_refl _) (by omega) (by omega) h1 h3 (fun wa' st' qu' a1 a2 a3 a4 a5 => K wa' st' qu' ?_ a3 (fun _ t' ht' hl => ?_))
    · refine ⟨a1, h2, a4, h4, fun s i hsi => ir_F_m mu (vF s i hsi), fun s i hsi => ir_L_cl (ir_F_m h6 (vF s i hsi)), ?_⟩
      unfold ir_ph at h7 ⊢
      omega
    · obtain ⟨j, q1, q2, q3⟩ := hl
      exact a5 j q1 q2 t' ht' q3
end
end
section
/-! what holds of each task -/
def ir_ON (e : ir_E) (V : ir_V) (D : Nat → Prop) (K : Nat → Nat → Prop) (b x a h o nx : Int32) (m : Nat) : Prop :=
  (b = 0 → x = 0 ∧ h = 0) ∧
  (b ≠ 0 → nx = ir_va e m ∧ (ir_lv e m → h ≠ 0 ∧ o = e_rm e m) ∧ (¬ ir_lv e m → a = nI (ir_zn e m) ∧ K (24 + ir_zn e m) m ∧ D (24 + ir_zn e m))) ∧
  (x ≠ 0 → K (ir_va e m).toNatClampNeg m ∧ D (ir_va e m).toNatClampNeg) ∧ (h ≠ 0 → ir_hp e V m) ∧ (b ≠ 0 → D m)
def ir_OZ (e : ir_E) (V : ir_V) (D : Nat → Prop) (K : Nat → Nat → Prop) (b x a : Int32) (hi : ir_A) (z : Nat) : Prop :=
  (b = 0 → x = 0) ∧
  (b ≠ 0 → (ir_hd e z → ∀ j, ir_sl z j → hi j = e_ch e j) ∧ (¬ ir_hd e z → a = nI (ir_up e z) ∧ K (24 + ir_up e z) (24 + z) ∧ D (24 + ir_up e z))) ∧
  (x ≠ 0 → ir_op e V z ∧ ∀ j, ir_sl z j → 0 ≤ ir_vs e j → K (ir_vs e j).toNatClampNeg (24 + z) ∧ D (ir_vs e j).toNatClampNeg) ∧
  (¬ ir_hd e z → ∀ j, ir_sl z j → ¬ (0 ≤ ir_vs e j ∧ ir_ab (ir_up e z) (ir_vs e j).toNatClampNeg) → hi j = 0) ∧ (b ≠ 0 → D (24 + z))
def ir_PN (e : ir_E) (V : ir_V) (b x h o : Int32) (m : Nat) (v : Int32) : Prop :=
  b ≠ 0 ∧ (ir_hp e V m → h ≠ 0 ∧ (∀ i, bt o i = true ↔ ir_ow e V m i) ∧ (0 ≤ ir_va e m → x ≠ 0)) ∧ ∀ i, bt v i = true ↔ ir_F e V m i
def ir_PZ (e : ir_E) (V : ir_V) (b x : Int32) (hi : ir_A) (z : Nat) (v : Int32) : Prop :=
  (z ≠ 0 → b ≠ 0 ∧ (ir_op e V z → x ≠ 0 ∧ (¬ ir_hd e z → ∀ j, ir_sl z j → ∀ i, bt (hi j) i = true ↔ ir_hn e V z j i))) ∧ ∀ i, bt v i = true ↔ ir_F e V (24 + z) i
def ir_OI (e : ir_E) (V : ir_V) (D : Nat → Prop) (K : Nat → Nat → Prop) (b x a h o nx : Int32) (hi : ir_A) (t : Nat) : Prop :=
  (t < e_N e → ir_ON e V D K b x a h o nx t) ∧ (24 < t → t < 24 + e_N e → ir_OZ e V D K b x a hi (t - 24))
def ir_PI (e : ir_E) (V : ir_V) (b x h o : Int32) (hi : ir_A) (t : Nat) (v : Int32) : Prop :=
  (t < e_N e → ir_PN e V b x h o t v) ∧ (24 ≤ t → t < 24 + e_N e → ir_PZ e V b x hi (t - 24) v)
/-- room for links -/
def ir_cp (be ex : ir_A) : Nat := ir_sm (fun t => ir_f (be t) + (if t < 24 then 1 else 2) * ir_f (ex t)) 48
theorem ir_cp_le (be ex : ir_A) : ir_cp be ex ≤ 120 := by
  have h : ir_sm (fun t => if t < 24 then 2 else 3) 48 = 120 := by decide
  rw [← h]
  refine ir_sm_le (fun k _ => ?_)
  have h1 := ir_f_le (be k)
  have h2 := ir_f_le (ex k)
  rcases Nat.lt_or_ge k 24 with z | z
  · rw [if_pos z, if_pos z]; omega
  · rw [if_neg (Nat.not_lt.mpr z), if_neg (Nat.not_lt.mpr z)]; omega
theorem ir_cp_b {be ex : ir_A} {t : Nat} (ht : t < 48) (h0 : be t = 0) : ir_cp (upd be t 1) ex = ir_cp be ex + 1 := by
  have := ir_sm_at (f := fun t => ir_f (be t) + (if t < 24 then 1 else 2) * ir_f (ex t)) (g := fun k => ir_f (upd be t 1 k) + (if k < 24 then 1 else 2) * ir_f (ex k)) (a := t) (n := 48)
    (fun k _ hk => by rw [pk_un hk]) ht
  rw [pk_us, ir_f0 h0, ir_f_one] at this
  unfold ir_cp
  omega
theorem ir_cp_x {be ex : ir_A} {t : Nat} (ht : t < 48) (h0 : ex t = 0) : ir_cp be (upd ex t 1) = ir_cp be ex + (if t < 24 then 1 else 2) := by
  have := ir_sm_at (f := fun t => ir_f (be t) + (if t < 24 then 1 else 2) * ir_f (ex t)) (g := fun k => ir_f (be k) + (if k < 24 then 1 else 2) * ir_f (upd ex t 1 k)) (a := t) (n := 48)
    (fun k _ hk => by rw [pk_un hk]) ht
  rw [pk_us, ir_f0 h0, ir_f_one] at this
  unfold ir_cp
  omega
/-- the query is demanded; what isn't demanded is empty -/
def ir_dn (n : Nat) (ma de : ir_A) : Prop := de n ≠ 0 ∧ ∀ t, t < 48 → de t = 0 → ma t = 0
theorem ir_EX_n {n : Nat} {ma de qu de' qu' : ir_A} (h : ir_EX de qu de' qu') (a : ir_dn n ma de) : ir_dn n ma de' :=
  ⟨h.1 n a.1, fun t ht h0 => a.2 t ht (Classical.byContradiction (fun z => h.1 t z h0))⟩
def ir_WC (e : ir_E) (n b t : Nat) (be ex ab ha ow ne hi : ir_A) (wa lk : Nat) (ma de st qu fl ln lt : ir_A) (sr : Nat → Nat) : Prop :=
  ir_CI e n b wa lk ma de st qu fl ln lt sr ∧ lk ≤ ir_cp be ex ∧
  (∀ s, s < 48 → ir_OI e (ir_m ma) (fun k => de k ≠ 0) (ir_Lk lk lt sr) (be s) (ex s) (ab s) (ha s) (ow s) (ne s) hi s) ∧
  (∀ s, s < 48 → s ≠ t → de s ≠ 0 → qu s = 0 → ir_PI e (ir_m ma) (be s) (ex s) (ha s) (ow s) hi s (ma s)) ∧ ir_dn n ma de
def ir_WI (e : ir_E) (n b : Nat) (be ex ab ha ow ne hi : ir_A) (wa lk : Nat) (ma de st qu fl ln lt : ir_A) : Prop :=
  ∃ sr, ir_CI e n b wa lk ma de st qu fl ln lt sr ∧ lk ≤ ir_cp be ex ∧
  (∀ s, s < 48 → ir_OI e (ir_m ma) (fun k => de k ≠ 0) (ir_Lk lk lt sr) (be s) (ex s) (ab s) (ha s) (ow s) (ne s) hi s) ∧
  (∀ s, s < 48 → de s ≠ 0 → qu s = 0 → ir_PI e (ir_m ma) (be s) (ex s) (ha s) (ow s) hi s (ma s)) ∧ ir_dn n ma de
section
variable {e : ir_E} {V V' : ir_V} {D D' : Nat → Prop} {K K' : Nat → Nat → Prop} {b' x a h o nx v : Int32} {hi hi' : ir_A} {t : Nat}
theorem ir_OI_m (hV : ∀ t i, V t i → V' t i) (hD : ∀ t, D t → D' t) (hK : ∀ p q, K p q → K' p q) (H : ir_OI e V D K b' x a h o nx hi t) : ir_OI e V' D' K' b' x a h o nx hi t := by
  refine ⟨fun ht => ?_, fun h24 ht => ?_⟩
  · obtain ⟨h1, h2, h3, h4, h5⟩ := H.1 ht
    exact ⟨h1, fun hb => ⟨(h2 hb).1, (h2 hb).2.1, fun hl => ⟨((h2 hb).2.2 hl).1, hK _ _ ((h2 hb).2.2 hl).2.1, hD _ ((h2 hb).2.2 hl).2.2⟩⟩, fun hx => ⟨hK _ _ (h3 hx).1, hD _ (h3 hx).2⟩, fun hh => ir_hp_m hV (h4 hh), fun hb => hD _ (h5 hb)⟩
  · obtain ⟨h1, h2, h3, h4, h5⟩ := H.2 h24 ht
    exact ⟨h1, fun hb => ⟨(h2 hb).1, fun hl => ⟨((h2 hb).2 hl).1, hK _ _ ((h2 hb).2 hl).2.1, hD _ ((h2 hb).2 hl).2.2⟩⟩, fun hx => ⟨ir_op_m hV (h3 hx).1, fun j hj h0 => ⟨hK _ _ ((h3 hx).2 j hj h0).1, hD _ ((h3 hx).2 j hj h0).2⟩⟩, h4, fun hb => hD _ (h5 hb)⟩
theorem ir_OI_h (hh : 24 < t → ∀ j, ir_sl (t - 24) j → hi' j = hi j) (H : ir_OI e V D K b' x a h o nx hi t) : ir_OI e V D K b' x a h o nx hi' t := by
  refine ⟨H.1, fun h24 ht => ?_⟩
  obtain ⟨h1, h2, h3, h4, h5⟩ := H.2 h24 ht
  exact ⟨h1, fun hb => ⟨fun hd j hj => by rw [hh h24 j hj]; exact (h2 hb).1 hd j hj, (h2 hb).2⟩, h3, fun hd j hj => by rw [hh h24 j hj]; exact h4 hd j hj, h5⟩
theorem ir_PI_h (hh : 24 < t → ∀ j, ir_sl (t - 24) j → hi' j = hi j) (H : ir_PI e V b' x h o hi t v) : ir_PI e V b' x h o hi' t v := by
  refine ⟨H.1, fun h24 ht => ?_⟩
  obtain ⟨h1, h2⟩ := H.2 h24 ht
  refine ⟨fun hz => ⟨(h1 hz).1, fun ho => ⟨((h1 hz).2 ho).1, fun hd j hj => ?_⟩⟩, h2⟩
  rw [hh (by omega) j hj]
  exact ((h1 hz).2 ho).2 hd j hj
/-- all that a stable task demands is listened to and demanded -/
theorem ir_dl {s : Nat} (hO : ir_OI e V D K b' x a h o nx hi t) (hP : ir_PI e V b' x h o hi t v) (d : ir_dm e V t s) : K s t ∧ D s := by
  rcases d with ⟨h1, h2, rfl⟩ | ⟨h1, h2, h0, rfl⟩ | ⟨h1, h2, h3, rfl⟩ | ⟨h1, h2, h3, j, hj, h0, rfl⟩
  · exact (((hO.1 h1).2.1 (hP.1 h1).1).2.2 h2).2
  · exact (hO.1 h1).2.2.1 (((hP.1 h1).2.1 h2).2.2 h0)
  · have q := (((hO.2 h1 h2).2.1 ((hP.2 (by omega) h2).1 (by omega)).1).2 h3).2
    rw [Nat.add_sub_cancel' (show 24 ≤ t by omega)] at q
    exact q
  · have q := ((hO.2 h1 h2).2.2.1 (((hP.2 (by omega) h2).1 (by omega)).2 h3).1).2 j hj h0
    rw [Nat.add_sub_cancel' (show 24 ≤ t by omega)] at q
    exact q
theorem ir_PI_c (hN : e_N e ≤ 24) (hs : ir_sm' e V V' t) (H : ir_PI e V b' x h o hi t v) : ir_PI e V' b' x h o hi t v := by
  refine ⟨fun ht => ?_, fun h24 ht => ?_⟩
  · obtain ⟨h1, h2, h3⟩ := H.1 ht
    have c := ir_cN ht hs
    refine ⟨h1, fun hp => ?_, fun i => by rw [ir_cF hN hs]; exact h3 i⟩
    rw [ir_hp_c c] at hp
    exact ⟨(h2 hp).1, fun i => by rw [ir_ow_c c]; exact (h2 hp).2.1 i, (h2 hp).2.2⟩
  · obtain ⟨h1, h2⟩ := H.2 h24 ht
    have hs' : ir_sm' e V V' (24 + (t - 24)) := by rw [Nat.add_sub_cancel' h24]; exact hs
    refine ⟨fun hz => ⟨(h1 hz).1, fun ho => ?_⟩, fun i => by rw [ir_cF hN hs']; exact h2 i⟩
    have c := ir_cZ (by omega) (by omega) hs'
    rw [ir_op_c c] at ho
    exact ⟨((h1 hz).2 ho).1, fun hd j hj i => by rw [ir_hn_c c]; exact ((h1 hz).2 ho).2 hd j hj i⟩
end
section
variable {e : ir_E} {be ex ab ha ow ne hi be' ex' ab' ha' ow' ne' hi' : ir_A} {wa lk wa' lk' : Nat} {ma de st qu fl ln lt de' st' qu' fl' ln' lt' : ir_A} {sr sr' : Nat → Nat} {n b t : Nat}
theorem ir_WC_l (h : ir_WC e n b t be ex ab ha ow ne hi wa lk ma de st qu fl ln lt sr) (hs : ∀ s, s ≠ t → be' s = be s ∧ ex' s = ex s ∧ ab' s = ab s ∧ ha' s = ha s ∧ ow' s = ow s ∧ ne' s = ne s)
    (hh : ∀ s, s ≠ t → 24 < s → ∀ j, ir_sl (s - 24) j → hi' j = hi j) (hc : lk ≤ ir_cp be' ex')
    (ho : ir_OI e (ir_m ma) (fun k => de k ≠ 0) (ir_Lk lk lt sr) (be' t) (ex' t) (ab' t) (ha' t) (ow' t) (ne' t) hi' t) : ir_WC e n b t be' ex' ab' ha' ow' ne' hi' wa lk ma de st qu fl ln lt sr := by
  obtain ⟨h1, h2, h3, h4, h5⟩ := h
  refine ⟨h1, hc, fun s hs48 => ?_, fun s hs48 hne hd hq => ?_, h5⟩
  · rcases Nat.decEq s t with z | z
    · obtain ⟨q1, q2, q3, q4, q5, q6⟩ := hs s z
      rw [q1, q2, q3, q4, q5, q6]
      exact ir_OI_h (hh s z) (h3 s hs48)
    · subst z
      exact ho
  · obtain ⟨q1, q2, q3, q4, q5, q6⟩ := hs s hne
    rw [q1, q2, q4, q5]
    exact ir_PI_h (hh s hne) (h4 s hs48 hne hd hq)
theorem ir_WC_c (h : ir_WC e n b t be ex ab ha ow ne hi wa lk ma de st qu fl ln lt sr) (hC : ir_CI e n b wa' lk' ma de' st' qu' fl' ln' lt' sr') (hx : ir_EX de qu de' qu') (hl : ∀ p q, ir_Lk lk lt sr p q → ir_Lk lk' lt' sr' p q)
    (hc : lk' ≤ ir_cp be ex) : ir_WC e n b t be ex ab ha ow ne hi wa' lk' ma de' st' qu' fl' ln' lt' sr' := by
  obtain ⟨h1, h2, h3, h4, h5⟩ := h
  refine ⟨hC, hc, fun s hs48 => ir_OI_m (fun _ _ z => z) hx.1 hl (h3 s hs48), fun s hs48 hne hd hq => ?_, ir_EX_n hx h5⟩
  have hq0 : qu s = 0 := Classical.byContradiction (fun z => hx.2.1 s z hq)
  have hd0 : de s ≠ 0 := (hx.2.2 s hd).elim id (fun z => absurd hq z)
  exact h4 s hs48 hne hd0 hq0
/-- without growth -/
theorem ir_WC_0 (h : ir_WC e n b t be ex ab ha ow ne hi wa lk ma de st qu fl ln lt sr) (hp : ir_PI e (ir_m ma) (be t) (ex t) (ha t) (ow t) hi t (ma t)) : ir_WI e n b be ex ab ha ow ne hi wa lk ma de st qu fl ln lt := by
  obtain ⟨h1, h2, h3, h4, h5⟩ := h
  refine ⟨sr, h1, h2, h3, fun s hs48 hd hq => ?_, h5⟩
  rcases Nat.decEq s t with z | z
  · exact h4 s hs48 z hd hq
  · subst z
    exact hp
/-- with growth -/
theorem ir_WC_g {v : Int32} (hN : e_N e ≤ 24) (hdt : de t ≠ 0) (h : ir_WC e n b t be ex ab ha ow ne hi wa lk ma de st qu fl ln lt sr) (hm : ∀ i, bt (ma t) i = true → bt v i = true)
    (hp : ir_PI e (ir_m ma) (be t) (ex t) (ha t) (ow t) hi t v)
    (hC : ir_CI e n b wa' lk (upd ma t v) de st' qu' fl ln lt sr) (hq : ∀ t, qu t ≠ 0 → qu' t ≠ 0) (hg : ma t ≠ v → ∀ t', t' < 48 → ir_Lk lk lt sr t t' → qu' t' ≠ 0) :
    ir_WI e n b be ex ab ha ow ne hi wa' lk (upd ma t v) de st' qu' fl ln lt := by
  obtain ⟨h1, h2, h3, h4, h5⟩ := h
  refine ⟨sr, hC, h2, fun s hs48 => ir_OI_m (ir_m_up hm) (fun _ z => z) (fun _ _ z => z) (h3 s hs48), fun s hs48 hd hq0 => ?_, h5.1, fun s hs48 h0 => ?_⟩
  rotate_left
  · rw [pk_un (fun y => hdt (by rw [← y]; exact h0))]
    exact h5.2 s hs48 h0
  have key : ir_PI e (ir_m ma) (be s) (ex s) (ha s) (ow s) hi s (upd ma t v s) := by
    rcases Nat.decEq s t with z | z
    · rw [pk_un z]
      exact h4 s hs48 z hd (Classical.byContradiction (fun y => hq s y hq0))
    · subst z
      rw [pk_us]
      exact hp
  refine ir_PI_c hN (fun s' hs' i => ?_) key
  rcases Nat.decEq s' t with z | z
  · exact ir_m_un z i
  · subst z
    rcases Classical.em (ma s' = v) with y | y
    · rw [← y, ir_uself]
    · exact absurd hq0 (hg y s hs48 (ir_dl (h3 s hs48) key hs').1)
end
end
section
section
variable {e : ir_E} {la ll zt vo li : Int32} {be ex ab ha ow ne hi : ir_A} {wa lk : Nat} {ma de st qu fl ln lt : ir_A} {sr : Nat → Nat} {n b : Nat} {post : SX → Prop}
theorem xn_ask {t m : Nat} (ht : t < 48) (hdt : de t ≠ 0) (hm : m < 24) (hD : ir_D e n (24 + ir_zn e m)) (hlk : lk < 128) (h : ir_CI e n b wa lk ma de st qu fl ln lt sr)
    (K : ∀ wa' de' st' qu' fl' ln' lt' sr', ir_CI e n b wa' (lk + 1) ma de' st' qu' fl' ln' lt' sr' → ir_EX de qu de' qu' → de' (24 + ir_zn e m) ≠ 0 →
      (∀ p q, ir_Lk lk lt sr p q → ir_Lk (lk + 1) lt' sr' p q) → ir_Lk (lk + 1) lt' sr' (24 + ir_zn e m) t → post (ir_XS e la ll zt vo li be ex (upd ab t (nI (ir_zn e m))) ha ow ne hi wa' (lk + 1) ma de' st' qu' fl' ln' lt')) :
    wpX_askZoneOf post (ir_XS e la ll zt vo li be ex ab ha ow ne hi wa lk ma de st qu fl ln lt) (nI t) (nI m) := by
  unfold wpX_askZoneOf ir_XS
  dsimp only
  have hz := ir_znle e m
  refine xr_zoneAt hm ?_
  rw [nI_clamp (show t < 2 ^ 31 by omega), ir_24]
  refine ⟨vp_in_nI ht (by omega), nm_e ?_⟩
  exact xc_listen (ab := upd ab t (nI (ir_zn e m))) ht hdt (by omega) hD hlk h K
theorem xn_start {m : Nat} (hE : ir_EI e) (hm : m < e_N e) (hdm : de m ≠ 0) (hb : be m = 0) (h : ir_WC e n b m be ex ab ha ow ne hi wa lk ma de st qu fl ln lt sr)
    (K : ∀ be' ab' ha' ow' ne' wa' lk' de' st' qu' fl' ln' lt' sr', ir_WC e n b m be' ex ab' ha' ow' ne' hi wa' lk' ma de' st' qu' fl' ln' lt' sr' → be' m ≠ 0 → de' m ≠ 0 →
      post (ir_XS e la ll zt vo li be' ex ab' ha' ow' ne' hi wa' lk' ma de' st' qu' fl' ln' lt')) : wpX_startName post (ir_XS e la ll zt vo li be ex ab ha ow ne hi wa lk ma de st qu fl ln lt) (nI m) := by
  have hN := ir_EI_N hE
  have hO := (h.2.2.1 m (by omega)).1 hm
  obtain ⟨hx0, hh0⟩ := hO.1 hb
  have hcp := ir_cp_b (ex := ex) (t := m) (by omega) hb
  have hc := h.2.1
  have h120 := ir_cp_le be ex
  unfold wpX_startName ir_XS
  dsimp only
  rw [nI_clamp (show m < 2 ^ 31 by omega), ir_nb1]
  have h24 : vp_in (nI m) 24 := vp_in_nI (by omega) (by omega)
  have h48 : vp_in (nI m) 48 := vp_in_nI (by omega) (by omega)
  refine ⟨h48, nm_e (xr_liveRecord (be := upd be m 1) (by omega) (fun hl => br_t rfl ⟨h24, h24, nm_e ?_⟩) (fun hl => br_f ir_1ne ⟨h24, nm_e ⟨h24, h24, nm_e ⟨h24, h24, nm_e ?_⟩⟩⟩))⟩
  · have hD : ir_D e n (24 + ir_zn e m) := ir_D_s (h.1.2.2.2.1 m (by omega) hdm) (Or.inl ⟨hm, hl, rfl⟩)
    refine xn_ask (be := upd be m 1) (ne := upd ne m (e_al e m)) (by omega) hdm (by omega) hD (by omega) h.1 ?_
    intro wa' de' st' qu' fl' ln' lt' sr' c1 c2 c3 c4 c5
    refine K (upd be m 1) (upd ab m (nI (ir_zn e m))) ha ow (upd ne m (e_al e m)) wa' (lk + 1) de' st' qu' fl' ln' lt' sr' ?_ (by rw [pk_us]; exact ir_1ne) (c2.1 m hdm)
    obtain ⟨g1, g2, g3, g4, g5⟩ := h
    refine ⟨c1, by omega, fun s hs => ?_, fun s hs hne hd hq => ?_, ir_EX_n c2 g5⟩
    · rcases Nat.decEq s m with z | z
      · rw [pk_un z, pk_un z, pk_un z]
        exact ir_OI_m (fun _ _ z => z) c2.1 c4 (g3 s hs)
      · subst z
        rw [pk_us, pk_us, pk_us]
        refine ⟨fun _ => ⟨fun z => absurd z ir_1ne, fun _ => ⟨(ir_va_n hl).symm, fun y => absurd y hl, fun _ => ⟨rfl, c5, c3⟩⟩, fun z => absurd hx0 z, fun z => absurd hh0 z, fun _ => c2.1 _ hdm⟩, fun z => by omega⟩
    · rw [pk_un hne]
      have hq0 : qu s = 0 := Classical.byContradiction (fun z => c2.2.1 s z hq)
      have hd0 : de s ≠ 0 := (c2.2.2 s hd).elim id (fun z => absurd hq z)
      exact g4 s hs hne hd0 hq0
  · refine K (upd be m 1) ab (upd ha m 1) (upd ow m (e_rm e m)) (upd ne m (e_ra e m)) wa lk de st qu fl ln lt sr (ir_WC_l h (fun s hs => ?_) (fun _ _ _ _ _ => rfl) (by omega) ?_) (by rw [pk_us]; exact ir_1ne) hdm
    · rw [pk_un hs, pk_un hs, pk_un hs, pk_un hs]
      exact ⟨rfl, rfl, rfl, rfl, rfl, rfl⟩
    · rw [pk_us, pk_us, pk_us, pk_us]
      exact ⟨fun _ => ⟨fun z => absurd z ir_1ne, fun _ => ⟨(ir_va_l hl).symm, fun _ => ⟨ir_1ne, rfl⟩, fun y => absurd hl y⟩, fun z => absurd hx0 z, fun _ => Or.inl hl, fun _ => hdm⟩, fun z => by omega⟩
/-- the end of a step of a name: grow -/
theorem xn_72 {m : Nat} {v : Int32} (hE : ir_EI e) (hm : m < e_N e) (hdm : de m ≠ 0) (h : ir_WC e n b m be ex ab ha ow ne hi wa lk ma de st qu fl ln lt sr) (hP : ir_PI e (ir_m ma) (be m) (ex m) (ha m) (ow m) hi m v)
    (K : ∀ wa' ma' st' qu', ir_WI e n b be ex ab ha ow ne hi wa' lk ma' de st' qu' fl ln lt → post (ir_XS e la ll zt vo li be ex ab ha ow ne hi wa' lk ma' de st' qu' fl ln lt)) : wX_stepName_72 post (nI m) v (nI (e_N e)) (e_rl e) (e_dl e) (e_cl e) (e_nw e) la ll zt vo li (nI wa) (nI lk) (e_ad e) (e_al e) (e_se e) (e_gl e) (e_mo e) (e_fn e) (e_fa e) (e_rm e) (e_ra e) (e_re e) (e_cs e) (e_ch e) (e_ce e) ma de be ex ab ha ow ne hi st qu fl ln lt := by
  have hN := ir_EI_N hE
  have hF := (hP.1 hm).2.2
  have hmo : ∀ i, bt (ma m) i = true → bt v i = true := fun i hi' => (hF i).mpr (h.1.2.2.2.2.1 m i ⟨by omega, hi'⟩)
  unfold wX_stepName_72
  refine xg_grow (by omega) h.1 hmo (fun i hi' => (hF i).mp hi') (fun wa' st' qu' c1 c2 c3 => ?_)
  exact K wa' (upd ma m v) st' qu' (ir_WC_g hN.2 hdm h hmo hP c1 c2 c3)
theorem xn_follow {m : Nat} (hE : ir_EI e) (hm : m < e_N e) (hdm : de m ≠ 0) (hb : be m ≠ 0) (hp : ir_hp e (ir_m ma) m) (hn : 0 ≤ ir_va e m) (h : ir_WC e n b m be ex ab ha ow ne hi wa lk ma de st qu fl ln lt sr)
    (K : ∀ ex' wa' lk' de' st' qu' fl' ln' lt' sr', ir_WC e n b m be ex' ab ha ow ne hi wa' lk' ma de' st' qu' fl' ln' lt' sr' → ex' m ≠ 0 → de' m ≠ 0 →
      post (ir_XS e la ll zt vo li be ex' ab ha ow ne hi wa' lk' ma de' st' qu' fl' ln' lt')) : wpX_followAlias post (ir_XS e la ll zt vo li be ex ab ha ow ne hi wa lk ma de st qu fl ln lt) (nI m) := by
  have hN := ir_EI_N hE
  have hO := (h.2.2.1 m (by omega)).1 hm
  have h24 : vp_in (nI m) 24 := vp_in_nI (by omega) (by omega)
  have h48 : vp_in (nI m) 48 := vp_in_nI (by omega) (by omega)
  obtain ⟨hv, hq⟩ := ir_va_lt hE hn
  have hne : ne m = nI (ir_va e m).toNatClampNeg := (hO.2.1 hb).1.trans hq
  unfold wpX_followAlias ir_XS
  dsimp only
  rw [nI_clamp (show m < 2 ^ 31 by omega), ir_nb1, hne]
  refine ⟨h48, fun hx => ⟨h48, nm_e ⟨h24, ?_⟩⟩, fun hx => K ex wa lk de st qu fl ln lt sr h hx hdm⟩
  have hcp := ir_cp_x (be := be) (t := m) (by omega) hx
  rw [if_pos (show m < 24 by omega)] at hcp
  have hc := h.2.1
  have h120 := ir_cp_le be ex
  have hD : ir_D e n (ir_va e m).toNatClampNeg := ir_D_s (h.1.2.2.2.1 m (by omega) hdm) (Or.inr (Or.inl ⟨hm, ir_hp_m h.1.2.2.2.2.2.1 hp, hn, rfl⟩))
  refine xc_listen (ex := upd ex m 1) (by omega) hdm (by omega) hD (by omega) h.1 (fun wa' de' st' qu' fl' ln' lt' sr' c1 c2 c3 c4 c5 => ?_)
  refine K (upd ex m 1) wa' (lk + 1) de' st' qu' fl' ln' lt' sr' ?_ (by rw [pk_us]; exact ir_1ne) (c2.1 _ hdm)
  obtain ⟨g1, g2, g3, g4, g5⟩ := h
  refine ⟨c1, by omega, fun s hs => ?_, fun s hs hne' hd hq' => ?_, ir_EX_n c2 g5⟩
  · rcases Nat.decEq s m with z | z
    · rw [pk_un z]
      exact ir_OI_m (fun _ _ z => z) c2.1 c4 (g3 s hs)
    · subst z
      rw [pk_us]
      have q := ir_OI_m (fun _ _ z => z) c2.1 c4 (g3 s hs)
      refine ⟨fun hs' => ?_, fun z => by omega⟩
      obtain ⟨q1, q2, q3, q4⟩ := q.1 hs'
      exact ⟨fun z => absurd z hb, q2, fun _ => ⟨c5, c3⟩, q4⟩
  · rw [pk_un hne']
    have hq0 : qu s = 0 := Classical.byContradiction (fun z => c2.2.1 s z hq')
    have hd0 : de s ≠ 0 := (c2.2.2 s hd).elim id (fun z => absurd hq' z)
    exact g4 s hs hne' hd0 hq0
theorem xn_27 {m : Nat} (hE : ir_EI e) (hm : m < e_N e) (hdm : de m ≠ 0) (hb : be m ≠ 0) (h : ir_WC e n b m be ex ab ha ow ne hi wa lk ma de st qu fl ln lt sr)
    (hh : ir_hp e (ir_m ma) m → ha m ≠ 0 ∧ ∀ i, bt (ow m) i = true ↔ ir_ow e (ir_m ma) m i)
    (K : ∀ ex' wa' lk' ma' de' st' qu' fl' ln' lt', ir_WI e n b be ex' ab ha ow ne hi wa' lk' ma' de' st' qu' fl' ln' lt' →
      post (ir_XS e la ll zt vo li be ex' ab ha ow ne hi wa' lk' ma' de' st' qu' fl' ln' lt')) : wX_stepName_27 post (nI m) (nI (e_N e)) (e_rl e) (e_dl e) (e_cl e) (e_nw e) la ll zt vo li (nI wa) (nI lk) (e_ad e) (e_al e) (e_se e) (e_gl e) (e_mo e) (e_fn e) (e_fa e) (e_rm e) (e_ra e) (e_re e) (e_cs e) (e_ch e) (e_ce e) ma de be ex ab ha ow ne hi st qu fl ln lt := by
  have hN := ir_EI_N hE
  have hO := (h.2.2.1 m (by omega)).1 hm
  have hne := (hO.2.1 hb).1
  have h24 : vp_in (nI m) 24 := vp_in_nI (by omega) (by omega)
  have h48 : vp_in (nI m) 48 := vp_in_nI (by omega) (by omega)
  unfold wX_stepName_27
  rw [nI_clamp (show m < 2 ^ 31 by omega)]
  refine ⟨h24, fun h0 => ?_, fun h0 => ⟨h24, nm_e ⟨h24, ?_⟩⟩⟩
  · have nhp : ¬ ir_hp e (ir_m ma) m := fun z => (hh z).1 h0
    refine K ex wa lk ma de st qu fl ln lt (ir_WC_0 h ⟨fun _ => ⟨hb, fun z => absurd z nhp, fun i => ⟨fun hi' => h.1.2.2.2.2.1 m i ⟨by omega, hi'⟩, fun hF => ?_⟩⟩, fun z => by omega⟩)
    exfalso
    rcases hF.2 with ⟨_, hf⟩ | ⟨hf, _⟩
    · rcases hf with hf | hf
      · rcases hf.2 with y | y
        · exact nhp (Or.inl y.1)
        · exact nhp (Or.inr y.2.1)
      · exact nhp hf.1
    · omega
  · have hp := hO.2.2.2.1 h0
    obtain ⟨_, hob⟩ := hh hp
    rw [hne]
    refine ⟨fun hn => ?_, fun hn => ?_⟩
    · refine xn_72 hE hm hdm h ⟨fun _ => ⟨hb, fun _ => ⟨h0, hob, fun z => absurd hn (Int32.not_lt.mpr z)⟩, fun i => ?_⟩, fun z => by omega⟩ (fun wa' ma' st' qu' c => K ex wa' lk ma' de st' qu' fl ln lt c)
      rw [hob i]
      unfold ir_F ir_FN
      constructor
      · exact fun z => ⟨z.1, Or.inl ⟨hm, Or.inl z⟩⟩
      · rintro ⟨_, ⟨_, y | y⟩ | y⟩
        · exact y
        · exact absurd hn (Int32.not_lt.mpr y.2.1)
        · omega
    · have hn' := ir_nlt.mp hn
      obtain ⟨hv, hq⟩ := ir_va_lt hE hn'
      have hvin : vp_in (ir_va e m) 48 := by rw [hq]; exact vp_in_nI (by omega) (by omega)
      have fin : ∀ (ex' : ir_A) (wa' lk' : Nat) (de' st' qu' fl' ln' lt' : ir_A) (sr' : Nat → Nat), ir_WC e n b m be ex' ab ha ow ne hi wa' lk' ma de' st' qu' fl' ln' lt' sr' → ex' m ≠ 0 → de' m ≠ 0 →
          wX_stepName_72 post (nI m) (ow m ||| ma (ir_va e m).toNatClampNeg) (nI (e_N e)) (e_rl e) (e_dl e) (e_cl e) (e_nw e) la ll zt vo li (nI wa') (nI lk') (e_ad e) (e_al e) (e_se e) (e_gl e) (e_mo e) (e_fn e) (e_fa e) (e_rm e) (e_ra e) (e_re e) (e_cs e) (e_ch e) (e_ce e) ma de' be ex' ab ha ow ne hi st' qu' fl' ln' lt' := by
        intro ex' wa' lk' de' st' qu' fl' ln' lt' sr' w hx hd'
        refine xn_72 hE hm hd' w ⟨fun _ => ⟨hb, fun _ => ⟨h0, hob, fun _ => hx⟩, fun i => ?_⟩, fun z => by omega⟩ (fun wa'' ma' st'' qu'' c => K ex' wa'' lk' ma' de' st'' qu'' fl' ln' lt' c)
        rw [ir_orb, hob i]
        unfold ir_F ir_FN
        constructor
        · rintro (z | z)
          · exact ⟨z.1, Or.inl ⟨hm, Or.inl z⟩⟩
          · have := h.1.2.2.2.2.1 (ir_va e m).toNatClampNeg i ⟨by omega, z⟩
            exact ⟨this.1, Or.inl ⟨hm, Or.inr ⟨hp, hn', by omega, z⟩⟩⟩
        · rintro ⟨_, ⟨_, y | y⟩ | y⟩
          · exact Or.inl y
          · exact Or.inr y.2.2.2
          · omega
      refine xn_follow hE hm hdm hb hp hn' h (fun ex' wa' lk' de' st' qu' fl' ln' lt' sr' w hx hd' => ?_)
      show vp_in (nI m) 24 ∧ (vp_in (ne m) 48 ∧ (∀ x2 : Int32, x2 = ow m ||| ma (ne m).toNatClampNeg → wX_stepName_72 post (nI m) x2 (nI (e_N e)) (e_rl e) (e_dl e) (e_cl e) (e_nw e) la ll zt vo li (nI wa') (nI lk') (e_ad e) (e_al e) (e_se e) (e_gl e) (e_mo e) (e_fn e) (e_fa e) (e_rm e) (e_ra e) (e_re e) (e_cs e) (e_ch e) (e_ce e) ma de' be ex' ab ha ow ne hi st' qu' fl' ln' lt'))
      rw [hne]
      exact ⟨h24, hvin, nm_e (fin ex' wa' lk' de' st' qu' fl' ln' lt' sr' w hx hd')⟩
theorem xn_14 {m : Nat} (hE : ir_EI e) (hS : ir_SV e vo li) (hm : m < e_N e) (hdm : de m ≠ 0) (hb : be m ≠ 0) (h : ir_WC e n b m be ex ab ha ow ne hi wa lk ma de st qu fl ln lt sr)
    (K : ∀ ex' ha' ow' wa' lk' ma' de' st' qu' fl' ln' lt', ir_WI e n b be ex' ab ha' ow' ne hi wa' lk' ma' de' st' qu' fl' ln' lt' →
      post (ir_XS e la ll zt vo li be ex' ab ha' ow' ne hi wa' lk' ma' de' st' qu' fl' ln' lt')) : wX_stepName_14 post (nI m) (nI (e_N e)) (e_rl e) (e_dl e) (e_cl e) (e_nw e) la ll zt vo li (nI wa) (nI lk) (e_ad e) (e_al e) (e_se e) (e_gl e) (e_mo e) (e_fn e) (e_fa e) (e_rm e) (e_ra e) (e_re e) (e_cs e) (e_ch e) (e_ce e) ma de be ex ab ha ow ne hi st qu fl ln lt := by
  have hN := ir_EI_N hE
  have hO := (h.2.2.1 m (by omega)).1 hm
  have hz := ir_znle e m
  have h24 : vp_in (nI m) 24 := vp_in_nI (by omega) (by omega)
  have h48 : vp_in (nI m) 48 := vp_in_nI (by omega) (by omega)
  have hz48 : vp_in (nI (24 + ir_zn e m)) 48 := vp_in_nI (by omega) (by omega)
  unfold wX_stepName_14
  refine xr_liveRecord (by omega) (fun hl => br_t rfl ?_) (fun hl => br_f ir_1ne ?_)
  · have hab := ((hO.2.1 hb).2.2 hl).1
    unfold wpX_hearZone
    dsimp only
    rw [nI_clamp (show m < 2 ^ 31 by omega), hab, ir_24, nI_clamp (show 24 + ir_zn e m < 2 ^ 31 by omega), ir_nb1]
    refine ⟨h48, hz48, nm_e ⟨fun h0 => ?_, fun h0 => ⟨h24, nm_e ⟨h24, ?_⟩⟩⟩⟩
    · refine xn_27 hE hm hdm hb h (fun hp => ?_) (fun ex' wa' lk' ma' de' st' qu' fl' ln' lt' c => K ex' ha ow wa' lk' ma' de' st' qu' fl' ln' lt' c)
      exfalso
      rcases hp with y | ⟨i, y⟩
      · exact hl y
      · exact ir_0bit.mp h0 i y.2
    · refine xr_forgedFor (ha := upd ha m 1) hE hS (by omega) (by omega) (fun r hr => ⟨h24, nm_e ?_⟩)
      have tk : ir_tk (ir_m ma) (ir_zn e m) := by
        obtain ⟨i, y⟩ := ir_n0bit.mp h0
        exact ⟨i, by omega, y⟩
      refine xn_27 (ha := upd ha m 1) (ow := upd ow m (e_ad e m ||| r)) hE hm hdm hb (ir_WC_l h (fun s hs => ?_) (fun _ _ _ _ _ => rfl) h.2.1 ?_) (fun hp => ?_) (fun ex' wa' lk' ma' de' st' qu' fl' ln' lt' c => K ex' (upd ha m 1) (upd ow m (e_ad e m ||| r)) wa' lk' ma' de' st' qu' fl' ln' lt' c)
      · rw [pk_un hs, pk_un hs]
        exact ⟨rfl, rfl, rfl, rfl, rfl, rfl⟩
      · rw [pk_us, pk_us]
        obtain ⟨q1, q2, q3, q4, q5⟩ := hO
        exact ⟨fun _ => ⟨fun z => absurd z hb, fun _ => ⟨(q2 hb).1, fun y => absurd y hl, (q2 hb).2.2⟩, q3, fun _ => Or.inr tk, q5⟩, fun z => by omega⟩
      · rw [pk_us, pk_us]
        refine ⟨ir_1ne, fun i => ?_⟩
        rw [ir_orb, hr i]
        constructor
        · rintro (y | y)
          · exact ⟨hE.2.2.2.2.2.2.1 m i y, Or.inr ⟨hl, tk, Or.inl y⟩⟩
          · exact ⟨y.1, Or.inr ⟨hl, tk, Or.inr y.2⟩⟩
        · rintro ⟨y0, y | ⟨_, _, y⟩⟩
          · exact absurd y.1 hl
          · exact y.imp id (fun y => ⟨y0, y⟩)
  · refine xn_27 hE hm hdm hb h (fun hp => ?_) (fun ex' wa' lk' ma' de' st' qu' fl' ln' lt' c => K ex' ha ow wa' lk' ma' de' st' qu' fl' ln' lt' c)
    obtain ⟨q1, q2⟩ := (hO.2.1 hb).2.1 hl
    refine ⟨q1, fun i => ?_⟩
    rw [q2]
    constructor
    · exact fun y => ⟨hE.2.2.2.2.2.2.2.1 m i y, Or.inl ⟨hl, y⟩⟩
    · rintro ⟨y0, y | ⟨y, _⟩⟩
      · exact y.2
      · exact absurd hl y
theorem xn_step {m : Nat} (hE : ir_EI e) (hS : ir_SV e vo li) (hm : m < e_N e) (hdm : de m ≠ 0) (h : ir_WC e n b m be ex ab ha ow ne hi wa lk ma de st qu fl ln lt sr)
    (K : ∀ be' ex' ab' ha' ow' ne' wa' lk' ma' de' st' qu' fl' ln' lt', ir_WI e n b be' ex' ab' ha' ow' ne' hi wa' lk' ma' de' st' qu' fl' ln' lt' →
      post (ir_XS e la ll zt vo li be' ex' ab' ha' ow' ne' hi wa' lk' ma' de' st' qu' fl' ln' lt')) : wpX_stepName post (ir_XS e la ll zt vo li be ex ab ha ow ne hi wa lk ma de st qu fl ln lt) (nI m) := by
  have hN := ir_EI_N hE
  unfold wpX_stepName ir_XS
  dsimp only
  rw [nI_clamp (show m < 2 ^ 31 by omega)]
  refine ⟨vp_in_nI (by omega) (by omega), fun hb => ?_, fun hb => ?_⟩
  · refine xn_start hE hm hdm hb h (fun be' ab' ha' ow' ne' wa' lk' de' st' qu' fl' ln' lt' sr' w hb' hd' => ?_)
    exact xn_14 hE hS hm hd' hb' w (fun ex' ha'' ow'' wa'' lk'' ma'' de'' st'' qu'' fl'' ln'' lt'' c => K be' ex' ab' ha'' ow'' ne' wa'' lk'' ma'' de'' st'' qu'' fl'' ln'' lt'' c)
  · exact xn_14 hE hS hm hdm hb h (fun ex' ha'' ow'' wa'' lk'' ma'' de'' st'' qu'' fl'' ln'' lt'' c => K be ex' ab ha'' ow'' ne wa'' lk'' ma'' de'' st'' qu'' fl'' ln'' lt'' c)
end
end
section
section
variable {e : ir_E} {la ll zt vo li : Int32} {be ex ab ha ow ne hi : ir_A} {wa lk : Nat} {ma de st qu fl ln lt : ir_A} {sr : Nat → Nat} {n b : Nat} {post : SX → Prop}
theorem xz_start {z : Nat} (hE : ir_EI e) (hz : z < e_N e) (h0z : 0 < z) (hdm : de (24 + z) ≠ 0) (hb : be (24 + z) = 0) (h : ir_WC e n b (24 + z) be ex ab ha ow ne hi wa lk ma de st qu fl ln lt sr)
    (K : ∀ be' ab' hi' wa' lk' de' st' qu' fl' ln' lt' sr', ir_WC e n b (24 + z) be' ex ab' ha ow ne hi' wa' lk' ma de' st' qu' fl' ln' lt' sr' → be' (24 + z) ≠ 0 → de' (24 + z) ≠ 0 →
      post (ir_XS e la ll zt vo li be' ex ab' ha ow ne hi' wa' lk' ma de' st' qu' fl' ln' lt')) : wpX_startZone post (ir_XS e la ll zt vo li be ex ab ha ow ne hi wa lk ma de st qu fl ln lt) (nI z) := by
  have hN := ir_EI_N hE
  have hO0 := (h.2.2.1 (24 + z) (by omega)).2 (by omega) (by omega)
  rw [Nat.add_sub_cancel_left] at hO0
  have hx0 := hO0.1 hb
  have hcp := ir_cp_b (ex := ex) (t := 24 + z) (by omega) hb
  have hc := h.2.1
  have h120 := ir_cp_le be ex
  unfold wpX_startZone ir_XS
  dsimp only
  rw [ir_24, ir_2m, nI_1, ir_half h0z (by omega)]
  refine nm_e ?_
  rw [nI_clamp (show 24 + z < 2 ^ 31 by omega), nI_clamp (show 2 * z < 2 ^ 31 by omega), nI_clamp (show 2 * z + 1 < 2 ^ 31 by omega), ir_nb1]
  have h48 : vp_in (nI (24 + z)) 48 := vp_in_nI (by omega) (by omega)
  have hA : vp_in (nI (2 * z)) 48 := vp_in_nI (by omega) (by omega)
  have hB : vp_in (nI (2 * z + 1)) 48 := vp_in_nI (by omega) (by omega)
  refine ⟨h48, nm_e (xr_liveCut (be := upd be (24 + z) 1) (by omega) (fun hl => br_t rfl ⟨by decide, ?_⟩) (fun hl => br_f ir_1ne ⟨hA, hA, nm_e ⟨hB, hB, nm_e ?_⟩⟩))⟩
  · have hD : ir_D e n (24 + ir_up e z) := ir_D_s (h.1.2.2.2.1 (24 + z) (by omega) hdm) (Or.inr (Or.inr (Or.inl ⟨by omega, by omega, by rw [Nat.add_sub_cancel_left]; exact ⟨hl, rfl⟩⟩)))
    refine xn_ask (be := upd be (24 + z) 1) (m := (z - 1) / 2) (by omega) hdm (by omega) hD (by omega) h.1 ?_
    intro wa' de' st' qu' fl' ln' lt' sr' c1 c2 c3 c4 c5
    refine K (upd be (24 + z) 1) (upd ab (24 + z) (nI (ir_up e z))) hi wa' (lk + 1) de' st' qu' fl' ln' lt' sr' ?_ (by rw [pk_us]; exact ir_1ne) (c2.1 (24 + z) hdm)
    obtain ⟨g1, g2, g3, g4, g5⟩ := h
    refine ⟨c1, by omega, fun s hs => ?_, fun s hs hne hd hq => ?_, ir_EX_n c2 g5⟩
    · rcases Nat.decEq s (24 + z) with y | y
      · rw [pk_un y, pk_un y]
        exact ir_OI_m (fun _ _ z => z) c2.1 c4 (g3 s hs)
      · subst y
        rw [pk_us, pk_us]
        refine ⟨fun y => by omega, fun _ _ => ?_⟩
        rw [Nat.add_sub_cancel_left]
        exact ⟨fun y => absurd y ir_1ne, fun _ => ⟨fun y => absurd y hl, fun _ => ⟨rfl, c5, c3⟩⟩, fun y => absurd hx0 y, hO0.2.2.2.1, fun _ => c2.1 _ hdm⟩
    · rw [pk_un hne]
      have hq0 : qu s = 0 := Classical.byContradiction (fun z => c2.2.1 s z hq)
      have hd0 : de s ≠ 0 := (c2.2.2 s hd).elim id (fun z => absurd hq z)
      exact g4 s hs hne hd0 hq0
  · refine K (upd be (24 + z) 1) ab (upd (upd hi (2 * z) (e_ch e (2 * z))) (2 * z + 1) (e_ch e (2 * z + 1))) wa lk de st qu fl ln lt sr (ir_WC_l h (fun s hs => ?_) (fun s hs hs24 j hj => ?_) (by omega) ?_) (by rw [pk_us]; exact ir_1ne) hdm
    · rw [pk_un hs]
      exact ⟨rfl, rfl, rfl, rfl, rfl, rfl⟩
    · rw [pk_un (by rcases hj with y | y <;> omega), pk_un (by rcases hj with y | y <;> omega)]
    · rw [pk_us]
      refine ⟨fun y => by omega, fun _ _ => ?_⟩
      rw [Nat.add_sub_cancel_left]
      refine ⟨fun y => absurd y ir_1ne, fun _ => ⟨fun _ j hj => ?_, fun y => absurd hl y⟩, fun y => absurd hx0 y, fun y => absurd hl y, fun _ => hdm⟩
      rcases hj with rfl | rfl
      · rw [pk_un (by omega), pk_us]
      · rw [pk_us]
/-- the hints of one slot as they are gathered -/
def ir_gh (e : ir_E) (V : ir_V) (top j i : Nat) : Prop := i < 6 ∧ (e_gl e j = nI i ∨ ir_fg e V top (e_se e j).toNatClampNeg i)
def ir_bw (e : ir_E) (top j : Nat) : Prop := 0 ≤ e_se e j ∧ ir_ab top (e_se e j).toNatClampNeg
theorem xz_gather25 {z top : Nat} (hE : ir_EI e) (hS : ir_SV e vo li) (hz : z < 24) (ht : top < 24) : ∀ (d k f : Nat) (hi : ir_A), k + d = 2 → d < f →
    (∀ hi', (∀ j, ¬ (2 * z + k ≤ j ∧ ir_sl z j) → hi' j = hi j) → (∀ j, 2 * z + k ≤ j → ir_sl z j → (ir_bw e top j → ∀ i, bt (hi' j) i = true ↔ ir_gh e (ir_m ma) top j i) ∧ (¬ ir_bw e top j → hi' j = hi j)) → post (ir_XS e la ll zt vo li be ex ab ha ow ne hi' wa lk ma de st qu fl ln lt)) →
    wX_gatherHints_25 post (nI z) (nI top) (ma (24 + top)) (nI (e_N e)) (e_rl e) (e_dl e) (e_cl e) (e_nw e) la ll zt vo li (nI wa) (nI lk) f (nI (2 * z + k)) (e_ad e) (e_al e) (e_se e) (e_gl e) (e_mo e) (e_fn e) (e_fa e) (e_rm e) (e_ra e) (e_re e) (e_cs e) (e_ch e) (e_ce e) ma de be ex ab ha ow ne hi st qu fl ln lt := by
  intro d
  induction d with
  | zero =>
    intro k f hi hk hf K
    obtain ⟨f, rfl⟩ : ∃ k, f = k + 1 := ⟨f - 1, by omega⟩
    simp only [wX_gatherHints_25]
    rw [ir_2m, nI_1]
    refine br_t (nI_lt (by omega) (by omega)) (K hi (fun _ _ => rfl) (fun j hj hs => ?_))
    rcases hs with hs | hs <;> omega
  | succ d ih =>
    intro k f hi hk hf K
    obtain ⟨f, rfl⟩ : ∃ k, f = k + 1 := ⟨f - 1, by omega⟩
    have hN := ir_EI_N hE
    have hsl : ir_sl z (2 * z + k) := by unfold ir_sl; omega
    have h48 : vp_in (nI (2 * z + k)) 48 := vp_in_nI (by omega) (by omega)
    have step : ∀ hi1 : ir_A, (∀ j, j ≠ 2 * z + k → hi1 j = hi j) → (ir_bw e top (2 * z + k) → ∀ i, bt (hi1 (2 * z + k)) i = true ↔ ir_gh e (ir_m ma) top (2 * z + k) i) → (¬ ir_bw e top (2 * z + k) → hi1 (2 * z + k) = hi (2 * z + k)) →
        wX_gatherHints_25 post (nI z) (nI top) (ma (24 + top)) (nI (e_N e)) (e_rl e) (e_dl e) (e_cl e) (e_nw e) la ll zt vo li (nI wa) (nI lk) f (nI (2 * z + k + 1)) (e_ad e) (e_al e) (e_se e) (e_gl e) (e_mo e) (e_fn e) (e_fa e) (e_rm e) (e_ra e) (e_re e) (e_cs e) (e_ch e) (e_ce e) ma de be ex ab ha ow ne hi1 st qu fl ln lt := by
      intro hi1 g1 g2 g3
      refine ih (k + 1) f hi1 (by omega) (by omega) (fun hi' c1 c2 => K hi' (fun j hj => ?_) (fun j hj hs => ?_))
      · rw [c1 j (fun y => hj ⟨by omega, y.2⟩)]
        rcases Nat.decEq j (2 * z + k) with y | y
        · exact g1 j y
        · subst y
          exact absurd ⟨Nat.le_refl _, hsl⟩ hj
      · rcases Nat.lt_or_ge (2 * z + k) j with y | y
        · obtain ⟨c3, c4⟩ := c2 j (by omega) hs
          exact ⟨c3, fun w => (c4 w).trans (g1 j (by omega))⟩
        · have : j = 2 * z + k := by omega
          subst this
          have c3 := c1 (2 * z + k) (fun w => by omega)
          rw [c3]
          exact ⟨g2, g3⟩
    simp only [wX_gatherHints_25]
    rw [ir_2m, nI_1, nI_1, nI_clamp (show 2 * z + k < 2 ^ 31 by omega)]
    refine br_f (nI_nlt (by omega) (by omega)) ⟨h48, nm_e ⟨fun hs => ?_, fun hs => ?_⟩⟩
    · exact nm_e (step hi (fun _ _ => rfl) (fun y => absurd y.1 (Int32.not_le.mpr hs)) (fun _ => rfl))
    · have h0 := ir_nlt.mp hs
      obtain ⟨hv, hq⟩ := ir_id_nn (by omega) (hE.2.2.2.2.1 (2 * z + k)) h0
      have hfa : ∀ (s : Nat), s = (e_se e (2 * z + k)).toNatClampNeg → nI s = e_se e (2 * z + k) := fun s hs' => by rw [hs']; exact hq.symm
      generalize hsv : (e_se e (2 * z + k)).toNatClampNeg = s at *
      rw [hq]
      refine xr_atOrBelow (by omega) (by omega) (fun ha' => br_f ir_1ne ?_) (fun ha' => br_t rfl ?_)
      · refine xr_forgedFor hE hS (by omega) ht (fun r hr => ⟨h48, fun hg => ⟨h48, nm_e (nm_e ?_)⟩, fun hg => ⟨h48, nm_e ⟨h48, nm_e (nm_e ?_)⟩⟩⟩)
        · refine step _ (fun j hj => pk_un hj) (fun _ i => ?_) (fun y => absurd ⟨h0, by rw [hsv]; exact ha'⟩ y)
          rw [pk_us, hr i]
          unfold ir_gh
          rw [hsv]
          refine and_congr_right fun hi6 => ⟨Or.inr, fun y => y.elim (fun y => ?_) id⟩
          rw [y] at hg
          exact absurd hg (nI_pos (by omega))
        · refine step _ (fun j hj => pk_un hj) (fun _ i => ?_) (fun y => absurd ⟨h0, by rw [hsv]; exact ha'⟩ y)
          obtain ⟨hg6, hgq⟩ := ir_id_nn (by omega) (hE.2.2.2.2.2.2.2.2.2.1 (2 * z + k)) (ir_nlt.mp hg)
          generalize (e_gl e (2 * z + k)).toNatClampNeg = g at *
          rw [pk_us, ir_orb, hr i, hgq, ir_one hg6]
          unfold ir_gh
          rw [hsv, hgq]
          constructor
          · rintro (y | y)
            · exact ⟨y.1, Or.inr y.2⟩
            · subst y; exact ⟨hg6, Or.inl rfl⟩
          · rintro ⟨y0, y | y⟩
            · rw [nI_eq (by omega) (by omega)] at y
              exact Or.inr y.symm
            · exact Or.inl ⟨y0, y⟩
      · exact nm_e (step hi (fun _ _ => rfl) (fun y => absurd (by have := y.2; rw [hsv] at this; exact this) ha') (fun _ => rfl))
theorem xz_servers26 {z : Nat} (hE : ir_EI e) (hz : z < e_N e) (h0z : 0 < z) (hop : ir_op e (ir_L e) z) : ∀ (d k f wa lk : Nat) (de st qu fl ln lt : ir_A) (sr : Nat → Nat), k + d = 2 → d < f →
    de (24 + z) ≠ 0 → lk + d ≤ 128 → ir_CI e n b wa lk ma de st qu fl ln lt sr →
    (∀ wa' lk' de' st' qu' fl' ln' lt' sr', ir_CI e n b wa' lk' ma de' st' qu' fl' ln' lt' sr' → ir_EX de qu de' qu' → lk' ≤ lk + d → (∀ p q, ir_Lk lk lt sr p q → ir_Lk lk' lt' sr' p q) →
      (∀ j, 2 * z + k ≤ j → ir_sl z j → 0 ≤ ir_vs e j → ir_Lk lk' lt' sr' (ir_vs e j).toNatClampNeg (24 + z) ∧ de' (ir_vs e j).toNatClampNeg ≠ 0) →
      post (ir_XS e la ll zt vo li be ex ab ha ow ne hi wa' lk' ma de' st' qu' fl' ln' lt')) →
    wX_askServers_26 post (nI z) (nI (24 + z)) f (nI (2 * z + k)) (nI (e_N e)) (e_rl e) (e_dl e) (e_cl e) (e_nw e) la ll zt vo li (nI wa) (nI lk) (e_ad e) (e_al e) (e_se e) (e_gl e) (e_mo e) (e_fn e) (e_fa e) (e_rm e) (e_ra e) (e_re e) (e_cs e) (e_ch e) (e_ce e) ma de be ex ab ha ow ne hi st qu fl ln lt := by
  intro d
  induction d with
  | zero =>
    intro k f wa lk de st qu fl ln lt sr hk hf hd hlk hC K
    obtain ⟨f, rfl⟩ : ∃ k, f = k + 1 := ⟨f - 1, by omega⟩
    have hN := ir_EI_N hE
    simp only [wX_askServers_26]
    rw [ir_2m, nI_1]
    refine br_t (nI_lt (by omega) (by omega)) (K wa lk de st qu fl ln lt sr hC ir_EX_r (by omega) (fun _ _ y => y) (fun j hj hs => ?_))
    rcases hs with hs | hs <;> omega
  | succ d ih =>
    intro k f wa lk de st qu fl ln lt sr hk hf hd hlk hC K
    obtain ⟨f, rfl⟩ : ∃ k, f = k + 1 := ⟨f - 1, by omega⟩
    have hN := ir_EI_N hE
    have hsl : ir_sl z (2 * z + k) := by unfold ir_sl; omega
    simp only [wX_askServers_26]
    rw [ir_2m, nI_1, nI_1]
    refine br_f (nI_nlt (by omega) (by omega)) (xr_listed (by omega) hsl ⟨fun hs => ?_, fun hs => ?_⟩)
    · refine nm_e (ih (k + 1) f wa lk de st qu fl ln lt sr (by omega) (by omega) hd (by omega) hC (fun wa' lk' de' st' qu' fl' ln' lt' sr' c1 c2 c3 c4 c5 => K wa' lk' de' st' qu' fl' ln' lt' sr' c1 c2 (by omega) c4 (fun j hj hs' h0 => ?_)))
      rcases Nat.lt_or_ge (2 * z + k) j with y | y
      · exact c5 j (by omega) hs' h0
      · have : j = 2 * z + k := by omega
        subst this
        exact absurd hs (Int32.not_lt.mpr h0)
    · have h0 := ir_nlt.mp hs
      obtain ⟨hv, hq⟩ := ir_vs_lt hE h0
      have hD : ir_D e n (ir_vs e (2 * z + k)).toNatClampNeg := ir_D_s (hC.2.2.2.1 (24 + z) (by omega) hd) (Or.inr (Or.inr (Or.inr ⟨by omega, by omega, by rw [Nat.add_sub_cancel_left]; exact ⟨hop, _, hsl, h0, rfl⟩⟩)))
      rw [hq]
      refine xc_listen (by omega) hd (by omega) hD (by omega) hC (fun wa1 de1 st1 qu1 fl1 ln1 lt1 sr1 b1 b2 b3 b4 b5 => ?_)
      refine nm_e (ih (k + 1) f wa1 (lk + 1) de1 st1 qu1 fl1 ln1 lt1 sr1 (by omega) (by omega) (b2.1 _ hd) (by omega) b1 (fun wa' lk' de' st' qu' fl' ln' lt' sr' c1 c2 c3 c4 c5 => K wa' lk' de' st' qu' fl' ln' lt' sr' c1 (ir_EX_t b2 c2) (by omega) (fun p q y => c4 p q (b4 p q y)) (fun j hj hs' h0 => ?_)))
      rcases Nat.lt_or_ge (2 * z + k) j with y | y
      · exact c5 j (by omega) hs' h0
      · have : j = 2 * z + k := by omega
        subst this
        exact ⟨c4 _ _ b5, c2.1 _ b3⟩
theorem xz_servers {z : Nat} (hE : ir_EI e) (hz : z < e_N e) (h0z : 0 < z) (hdm : de (24 + z) ≠ 0) (hb : be (24 + z) ≠ 0) (hop : ir_op e (ir_m ma) z) (h : ir_WC e n b (24 + z) be ex ab ha ow ne hi wa lk ma de st qu fl ln lt sr)
    (K : ∀ ex' wa' lk' de' st' qu' fl' ln' lt' sr', ir_WC e n b (24 + z) be ex' ab ha ow ne hi wa' lk' ma de' st' qu' fl' ln' lt' sr' → ex' (24 + z) ≠ 0 → de' (24 + z) ≠ 0 →
      post (ir_XS e la ll zt vo li be ex' ab ha ow ne hi wa' lk' ma de' st' qu' fl' ln' lt')) : wpX_askServers post (ir_XS e la ll zt vo li be ex ab ha ow ne hi wa lk ma de st qu fl ln lt) (nI z) := by
  have hN := ir_EI_N hE
  have h48 : vp_in (nI (24 + z)) 48 := vp_in_nI (by omega) (by omega)
  unfold wpX_askServers ir_XS
  dsimp only
  rw [ir_24, ir_2m]
  refine nm_e ?_
  rw [nI_clamp (show 24 + z < 2 ^ 31 by omega), ir_nb1]
  refine ⟨h48, fun hx => ⟨h48, nm_e (nm_e (Exists.intro 3 ?_))⟩, fun hx => K ex wa lk de st qu fl ln lt sr h hx hdm⟩
  have hcp := ir_cp_x (be := be) (t := 24 + z) (by omega) hx
  rw [if_neg (show ¬ 24 + z < 24 by omega)] at hcp
  have hc := h.2.1
  have h120 := ir_cp_le be ex
  refine xz_servers26 (ex := upd ex (24 + z) 1) hE hz h0z (ir_op_m h.1.2.2.2.2.2.1 hop) 2 0 3 wa lk de st qu fl ln lt sr rfl (by omega) hdm (by omega) h.1 (fun wa' lk' de' st' qu' fl' ln' lt' sr' c1 c2 c3 c4 c5 => ?_)
  refine K (upd ex (24 + z) 1) wa' lk' de' st' qu' fl' ln' lt' sr' ?_ (by rw [pk_us]; exact ir_1ne) (c2.1 _ hdm)
  obtain ⟨g1, g2, g3, g4, g5⟩ := h
  refine ⟨c1, by omega, fun s hs => ?_, fun s hs hne' hd hq' => ?_, ir_EX_n c2 g5⟩
  · rcases Nat.decEq s (24 + z) with y | y
    · rw [pk_un y]
      exact ir_OI_m (fun _ _ z => z) c2.1 c4 (g3 s hs)
    · subst y
      rw [pk_us]
      have q := ir_OI_m (fun _ _ z => z) c2.1 c4 (g3 (24 + z) hs)
      refine ⟨fun y => by omega, fun y1 y2 => ?_⟩
      have q' := q.2 y1 y2
      rw [Nat.add_sub_cancel_left] at q' ⊢
      obtain ⟨q1, q2, q3, q4⟩ := q'
      exact ⟨fun y => absurd y hb, q2, fun _ => ⟨hop, fun j hj h0 => c5 j (by rcases hj with y | y <;> omega) hj h0⟩, q4⟩
  · rw [pk_un hne']
    have hq0 : qu s = 0 := Classical.byContradiction (fun z => c2.2.1 s z hq')
    have hd0 : de s ≠ 0 := (c2.2.2 s hd).elim id (fun z => absurd hq' z)
    exact g4 s hs hne' hd0 hq0
theorem xz_66 {z : Nat} (hE : ir_EI e) (hS : ir_SV e vo li) (hz : z < e_N e) (h0z : 0 < z) (hdm : de (24 + z) ≠ 0) (hb : be (24 + z) ≠ 0) (hop : ir_op e (ir_m ma) z)
    (hH : ¬ ir_hd e z → ∀ j, ir_sl z j → ∀ i, bt (hi j) i = true ↔ ir_hn e (ir_m ma) z j i) (h : ir_WC e n b (24 + z) be ex ab ha ow ne hi wa lk ma de st qu fl ln lt sr)
    (K : ∀ ex' wa' lk' ma' de' st' qu' fl' ln' lt', ir_WI e n b be ex' ab ha ow ne hi wa' lk' ma' de' st' qu' fl' ln' lt' →
      post (ir_XS e la ll zt vo li be ex' ab ha ow ne hi wa' lk' ma' de' st' qu' fl' ln' lt')) : wX_stepZone_66 post (nI z) (nI (24 + z)) (nI (e_N e)) (e_rl e) (e_dl e) (e_cl e) (e_nw e) la ll zt vo li (nI wa) (nI lk) (e_ad e) (e_al e) (e_se e) (e_gl e) (e_mo e) (e_fn e) (e_fa e) (e_rm e) (e_ra e) (e_re e) (e_cs e) (e_ch e) (e_ce e) ma de be ex ab ha ow ne hi st qu fl ln lt := by
  have hN := ir_EI_N hE
  have hO0 := (h.2.2.1 (24 + z) (by omega)).2 (by omega) (by omega)
  rw [Nat.add_sub_cancel_left] at hO0
  have hHH : ∀ j, ir_sl z j → 0 ≤ ir_vs e j → ∀ i, bt (hi j) i = true ↔ ir_hn e (ir_m ma) z j i := by
    intro j hj h0 i
    rcases Classical.em (ir_hd e z) with hd | hd
    · rw [(hO0.2.1 hb).1 hd j hj]
      constructor
      · exact fun y => ⟨hE.2.2.2.2.2.2.2.2.1 j i y, h0, Or.inl ⟨hd, y⟩⟩
      · rintro ⟨_, _, y | y⟩
        · exact y.2
        · exact absurd hd y.1
    · exact hH hd j hj i
  unfold wX_stepZone_66
  refine xz_servers hE hz h0z hdm hb hop h (fun ex' wa' lk' de' st' qu' fl' ln' lt' sr' w hx hd' => ?_)
  refine xr_reachable hE (by omega) (fun r hr => ?_)
  have hv : ∀ i, bt (r &&& vo) i = true ↔ ir_F e (ir_m ma) (24 + z) i := by
    intro i
    rw [ir_andb, hr i, hS.1 i]
    unfold ir_F ir_FZ
    rw [Nat.add_sub_cancel_left]
    constructor
    · rintro ⟨⟨j, hj, h0, y⟩, hi6, hmo⟩
      refine ⟨hi6, Or.inr ⟨by omega, by omega, hmo, Or.inr ⟨by omega, hop, j, hj, h0, ?_⟩⟩⟩
      have := (ir_vs_lt hE h0).1
      rcases y with y | y
      · exact Or.inl ⟨by omega, y⟩
      · exact Or.inr ⟨y.1, (hHH j hj h0 i).mp y.2⟩
    · rintro ⟨hi6, y | ⟨_, _, hmo, y | ⟨_, _, j, hj, h0, y⟩⟩⟩
      · omega
      · omega
      · refine ⟨⟨j, hj, h0, ?_⟩, hi6, hmo⟩
        rcases y with y | y
        · exact Or.inl y.2
        · exact Or.inr ⟨y.1, (hHH j hj h0 i).mpr y.2⟩
  have hmo : ∀ i, bt (ma (24 + z)) i = true → bt (r &&& vo) i = true := fun i y => (hv i).mpr (h.1.2.2.2.2.1 (24 + z) i ⟨by omega, y⟩)
  refine xg_grow (by omega) w.1 hmo (fun i y => (hv i).mp y) (fun wa'' st'' qu'' c1 c2 c3 => ?_)
  refine K ex' wa'' lk' (upd ma (24 + z) (r &&& vo)) de' st'' qu'' fl' ln' lt' (ir_WC_g hN.2 hd' w hmo ⟨fun y => by omega, fun _ _ => ?_⟩ c1 c2 c3)
  rw [Nat.add_sub_cancel_left]
  exact ⟨fun _ => ⟨hb, fun _ => ⟨hx, hH⟩⟩, hv⟩
theorem xz_35 {z : Nat} (hE : ir_EI e) (hS : ir_SV e vo li) (hz : z < e_N e) (h0z : 0 < z) (hdm : de (24 + z) ≠ 0) (hb : be (24 + z) ≠ 0) (h : ir_WC e n b (24 + z) be ex ab ha ow ne hi wa lk ma de st qu fl ln lt sr)
    (K : ∀ ex' hi' wa' lk' ma' de' st' qu' fl' ln' lt', ir_WI e n b be ex' ab ha ow ne hi' wa' lk' ma' de' st' qu' fl' ln' lt' →
      post (ir_XS e la ll zt vo li be ex' ab ha ow ne hi' wa' lk' ma' de' st' qu' fl' ln' lt')) : wX_stepZone_35 post (nI z) (nI (24 + z)) (nI (e_N e)) (e_rl e) (e_dl e) (e_cl e) (e_nw e) la ll zt vo li (nI wa) (nI lk) (e_ad e) (e_al e) (e_se e) (e_gl e) (e_mo e) (e_fn e) (e_fa e) (e_rm e) (e_ra e) (e_re e) (e_cs e) (e_ch e) (e_ce e) ma de be ex ab ha ow ne hi st qu fl ln lt := by
  have hN := ir_EI_N hE
  have hO0 := (h.2.2.1 (24 + z) (by omega)).2 (by omega) (by omega)
  rw [Nat.add_sub_cancel_left] at hO0
  have hup : ir_up e z ≤ (z - 1) / 2 := ir_znle e _
  have h48 : vp_in (nI (24 + z)) 48 := vp_in_nI (by omega) (by omega)
  have hu48 : vp_in (nI (24 + ir_up e z)) 48 := vp_in_nI (by omega) (by omega)
  unfold wX_stepZone_35
  refine xr_liveCut (by omega) (fun hl => br_t rfl ?_) (fun hl => br_f ir_1ne ?_)
  · have hab := ((hO0.2.1 hb).2 hl).1
    rw [nI_clamp (show 24 + z < 2 ^ 31 by omega), hab, ir_24, nI_clamp (show 24 + ir_up e z < 2 ^ 31 by omega)]
    refine ⟨h48, hu48, fun h0 => ?_, fun h0 => ?_⟩
    · have nop : ¬ ir_op e (ir_m ma) z := by
        rintro (y | ⟨i, y⟩)
        · exact hl y
        · exact ir_0bit.mp h0 i y.2
      refine K ex hi wa lk ma de st qu fl ln lt (ir_WC_0 h ⟨fun y => by omega, fun _ _ => ?_⟩)
      rw [Nat.add_sub_cancel_left]
      refine ⟨fun _ => ⟨hb, fun y => absurd y nop⟩, fun i => ⟨fun y => h.1.2.2.2.2.1 (24 + z) i ⟨by omega, y⟩, fun hF => ?_⟩⟩
      exfalso
      unfold ir_F ir_FZ at hF
      rw [Nat.add_sub_cancel_left] at hF
      rcases hF with ⟨hi6, y | ⟨_, _, hmo, y | y⟩⟩
      · omega
      · omega
      · exact nop y.2.1
    · have tk : ir_tk (ir_m ma) (ir_up e z) := by
        obtain ⟨i, y⟩ := ir_n0bit.mp h0
        exact ⟨i, by omega, y⟩
      unfold wpX_gatherHints
      dsimp only
      rw [ir_24, nI_clamp (show 24 + z < 2 ^ 31 by omega), hab, ir_2m]
      refine ⟨h48, nm_e ?_⟩
      rw [ir_24, nI_clamp (show 24 + ir_up e z < 2 ^ 31 by omega)]
      refine ⟨hu48, nm_e (nm_e (Exists.intro 3 ?_))⟩
      refine xz_gather25 hE hS (by omega) (by omega) 2 0 3 hi rfl (by omega) (fun hi' c1 c2 => ?_)
      have hvs : ∀ j, ir_sl z j → ir_vs e j = e_se e j := fun j hj => ir_vs_n (ir_sl_half hj) hl
      have hH : ∀ j, ir_sl z j → ∀ i, bt (hi' j) i = true ↔ ir_hn e (ir_m ma) z j i := by
        intro j hj i
        obtain ⟨c3, c4⟩ := c2 j (by rcases hj with y | y <;> omega) hj
        rcases Classical.em (ir_bw e (ir_up e z) j) with w | w
        · rw [c3 w i]
          unfold ir_gh ir_hn
          rw [hvs j hj]
          exact ⟨fun y => ⟨y.1, w.1, Or.inr ⟨hl, w.2, y.2⟩⟩, fun y => ⟨y.1, y.2.2.elim (fun y => absurd y.1 hl) (fun y => y.2.2)⟩⟩
        · have z0 := hO0.2.2.2.1 hl j hj (by rw [hvs j hj]; exact w)
          rw [c4 w, z0, b_0]
          refine ⟨fun y => absurd y (by decide), fun y => ?_⟩
          unfold ir_hn at y
          rw [hvs j hj] at y
          exact absurd ⟨y.2.1, y.2.2.elim (fun y => absurd y.1 hl) (fun y => y.2.1)⟩ w
      refine xz_66 (hi := hi') hE hS hz h0z hdm hb (Or.inr tk) (fun _ => hH) (ir_WC_l h (fun s _ => ⟨rfl, rfl, rfl, rfl, rfl, rfl⟩) (fun s hs hs24 j hj => c1 j (fun y => ?_)) h.2.1 ⟨fun y => by omega, fun _ _ => ?_⟩)
        (fun ex' wa' lk' ma' de' st' qu' fl' ln' lt' c => K ex' hi' wa' lk' ma' de' st' qu' fl' ln' lt' c)
      · have := ir_sl_half hj
        have := ir_sl_half y.2
        omega
      · rw [Nat.add_sub_cancel_left]
        obtain ⟨q1, q2, q3, q4, q5⟩ := hO0
        refine ⟨q1, fun y => ⟨fun y => absurd y hl, (q2 y).2⟩, q3, fun _ j hj w => ?_, q5⟩
        have w' : ¬ ir_bw e (ir_up e z) j := by unfold ir_bw; rw [← hvs j hj]; exact w
        rw [(c2 j (by rcases hj with y | y <;> omega) hj).2 w']
        exact q4 hl j hj w
  · exact xz_66 hE hS hz h0z hdm hb (Or.inl hl) (fun y => absurd hl y) h (fun ex' wa' lk' ma' de' st' qu' fl' ln' lt' c => K ex' hi wa' lk' ma' de' st' qu' fl' ln' lt' c)
theorem xz_step {z : Nat} (hE : ir_EI e) (hS : ir_SV e vo li) (hz : z < e_N e) (hdm : de (24 + z) ≠ 0) (h : ir_WC e n b (24 + z) be ex ab ha ow ne hi wa lk ma de st qu fl ln lt sr)
    (K : ∀ be' ex' ab' hi' wa' lk' ma' de' st' qu' fl' ln' lt', ir_WI e n b be' ex' ab' ha ow ne hi' wa' lk' ma' de' st' qu' fl' ln' lt' →
      post (ir_XS e la ll zt vo li be' ex' ab' ha ow ne hi' wa' lk' ma' de' st' qu' fl' ln' lt')) : wpX_stepZone post (ir_XS e la ll zt vo li be ex ab ha ow ne hi wa lk ma de st qu fl ln lt) (nI z) := by
  have hN := ir_EI_N hE
  unfold wpX_stepZone ir_XS
  dsimp only
  rw [ir_24]
  refine nm_e (pk_eq z 0 (fun h0 => ?_) (fun h0 => ?_))
  · subst h0
    have hv : ∀ i, bt (vo &&& 1) i = true ↔ ir_F e (ir_m ma) (24 + 0) i := by
      intro i
      rw [ir_andb, hS.1 i, ir_1bit]
      unfold ir_F ir_FZ
      rw [Nat.add_sub_cancel_left]
      constructor
      · rintro ⟨⟨h6, hmo⟩, h0⟩
        exact ⟨h6, Or.inr ⟨by omega, by omega, hmo, Or.inl ⟨rfl, h0⟩⟩⟩
      · rintro ⟨h6, y | ⟨_, _, hmo, y | y⟩⟩
        · omega
        · exact ⟨⟨h6, hmo⟩, y.2⟩
        · exact absurd rfl y.1
    have hmo : ∀ i, bt (ma (24 + 0)) i = true → bt (vo &&& 1) i = true := fun i y => (hv i).mpr (h.1.2.2.2.2.1 (24 + 0) i ⟨by omega, y⟩)
    refine xg_grow (t := 24 + 0) (by omega) h.1 hmo (fun i y => (hv i).mp y) (fun wa' st' qu' c1 c2 c3 => ?_)
    refine K be ex ab hi wa' lk (upd ma (24 + 0) (vo &&& 1)) de st' qu' fl ln lt (ir_WC_g hN.2 hdm h hmo ⟨fun y => by omega, fun _ _ => ?_⟩ c1 c2 c3)
    rw [Nat.add_sub_cancel_left]
    exact ⟨fun y => absurd rfl y, hv⟩
  · rw [nI_clamp (show 24 + z < 2 ^ 31 by omega)]
    refine ⟨vp_in_nI (by omega) (by omega), fun hb => ?_, fun hb => ?_⟩
    · refine xz_start hE hz (by omega) hdm hb h (fun be' ab' hi' wa' lk' de' st' qu' fl' ln' lt' sr' w hb' hd' => ?_)
      exact xz_35 hE hS hz (by omega) hd' hb' w (fun ex' hi'' wa'' lk'' ma'' de'' st'' qu'' fl'' ln'' lt'' c => K be' ex' ab' hi'' wa'' lk'' ma'' de'' st'' qu'' fl'' ln'' lt'' c)
    · exact xz_35 hE hS hz (by omega) hdm hb h (fun ex' hi'' wa'' lk'' ma'' de'' st'' qu'' fl'' ln'' lt'' c => K be ex' ab hi'' wa'' lk'' ma'' de'' st'' qu'' fl'' ln'' lt'' c)
end
end
section
section
variable {e : ir_E} {la ll zt vo li : Int32} {n b : Nat} {post : SX → Prop}
theorem ir_WI_pop {be ex ab ha ow ne hi : ir_A} {wa lk : Nat} {ma de st qu fl ln lt : ir_A} (hE : ir_EI e) (hn : n < e_N e) (h : ir_WI e n b be ex ab ha ow ne hi (wa + 1) lk ma de st qu fl ln lt) :
    ∃ b', b = b' + 1 ∧ ∃ t, ir_ok e t ∧ st wa = nI t ∧ de t ≠ 0 ∧ ∃ sr, ir_WC e n b' t be ex ab ha ow ne hi wa lk ma de st (upd qu t 0) fl ln lt sr := by
  obtain ⟨sr, ⟨h1, h2, h3, h4, h5, h6, h7⟩, g2, g3, g4, g5⟩ := h
  obtain ⟨t, ht, hs, hq, hQ⟩ := ir_QI_pop h1
  have hdt := h3 t ht hq
  unfold ir_ph at h7
  refine ⟨b - 1, by omega, t, ir_D_ok hE hn (h4 t ht hdt), hs, hdt, sr, ⟨hQ, h2, fun s hs48 hqs => ?_, h4, h5, h6, ?_⟩, g2, g3, fun s hs48 hne hd hqs => ?_, g5⟩
  · rcases Nat.decEq s t with y | y
    · rw [pk_un y] at hqs
      exact h3 s hs48 hqs
    · subst y
      exact hdt
  · unfold ir_ph
    omega
  · rw [pk_un hne] at hqs
    exact g4 s hs48 hd hqs
theorem ir_WI_0 {be ex ab ha ow ne hi : ir_A} {wa lk : Nat} {ma de st qu fl ln lt : ir_A} (h : ir_WI e n 0 be ex ab ha ow ne hi wa lk ma de st qu fl ln lt) : wa = 0 := by
  obtain ⟨sr, ⟨h1, h2, h3, h4, h5, h6, h7⟩, _⟩ := h
  unfold ir_ph at h7
  omega
theorem ir_WI_w {be ex ab ha ow ne hi : ir_A} {wa lk : Nat} {ma de st qu fl ln lt : ir_A} (h : ir_WI e n b be ex ab ha ow ne hi wa lk ma de st qu fl ln lt) : wa ≤ 48 := by
  obtain ⟨sr, h1, _⟩ := h
  exact ir_QI_w h1.1
theorem xw_2 (hE : ir_EI e) (hS : ir_SV e vo li) (hn : n < e_N e)
    (K : ∀ b be ex ab ha ow ne hi lk ma de st qu fl ln lt, ir_WI e n b be ex ab ha ow ne hi 0 lk ma de st qu fl ln lt → post (ir_XS e la ll zt vo li be ex ab ha ow ne hi 0 lk ma de st qu fl ln lt)) : ∀ (d i f : Nat) (be ex ab ha ow ne hi : ir_A) (wa lk : Nat) (ma de st qu fl ln lt : ir_A), i + d = 816 → d < f →
    ir_WI e n d be ex ab ha ow ne hi wa lk ma de st qu fl ln lt → wX_work_2 post f (nI i) (nI (e_N e)) (e_rl e) (e_dl e) (e_cl e) (e_nw e) la ll zt vo li (nI wa) (nI lk) (e_ad e) (e_al e) (e_se e) (e_gl e) (e_mo e) (e_fn e) (e_fa e) (e_rm e) (e_ra e) (e_re e) (e_cs e) (e_ch e) (e_ce e) ma de be ex ab ha ow ne hi st qu fl ln lt := by
  intro d
  induction d with
  | zero =>
    intro i f be ex ab ha ow ne hi wa lk ma de st qu fl ln lt hi' hf h
    obtain ⟨f, rfl⟩ : ∃ k, f = k + 1 := ⟨f - 1, by omega⟩
    have h0 := ir_WI_0 h
    subst h0
    simp only [wX_work_2]
    exact br_f (nI_ge (b := 1000) (by omega) (by omega)) (br_t (by decide) (K 0 be ex ab ha ow ne hi lk ma de st qu fl ln lt h))
  | succ d ih =>
    intro i f be ex ab ha ow ne hi wa lk ma de st qu fl ln lt hi' hf h
    obtain ⟨f, rfl⟩ : ∃ k, f = k + 1 := ⟨f - 1, by omega⟩
    have hw := ir_WI_w h
    have hN := ir_EI_N hE
    simp only [wX_work_2]
    refine br_f (nI_ge (b := 1000) (by omega) (by omega)) ?_
    cases wa with
    | zero => exact br_t (by decide) (K _ be ex ab ha ow ne hi lk ma de st qu fl ln lt h)
    | succ wa =>
      refine br_f (nI_nle (by omega) (by omega)) (nm_r (nI_pred wa) ?_)
      obtain ⟨b', hb', t, hok, hst, hdt, sr, hw'⟩ := ir_WI_pop hE hn h
      have hbd : b' = d := by omega
      subst hbd
      have ht := ir_ok48 hE hok
      rw [nI_clamp (show wa < 2 ^ 31 by omega), hst, nI_1, ir_nb0]
      refine ⟨vp_in_nI (by omega) (by omega), nm_e ?_⟩
      rw [nI_clamp (show t < 2 ^ 31 by omega)]
      refine ⟨vp_in_nI ht (by omega), nm_e (pk_le 24 t (fun h24 => ?_) (fun h24 => ?_))⟩
      · obtain ⟨z, rfl⟩ : ∃ z, t = 24 + z := ⟨t - 24, by omega⟩
        have hz : z < e_N e := by rcases hok with y | y <;> omega
        rw [show nI (24 + z) - 24 = nI z from (pk_sub (a := 24 + z) (b := 24) (by omega)).trans (congrArg nI (by omega))]
        refine xz_step (wa := wa) (qu := upd qu (24 + z) 0) hE hS hz hdt hw' (fun be' ex' ab' hi' wa' lk' ma' de' st' qu' fl' ln' lt' c => ?_)
        exact nm_e (ih (i + 1) f be' ex' ab' ha ow ne hi' wa' lk' ma' de' st' qu' fl' ln' lt' (by omega) (by omega) c)
      · have hm : t < e_N e := by rcases hok with y | y <;> omega
        refine xn_step (wa := wa) (qu := upd qu t 0) hE hS hm hdt hw' (fun be' ex' ab' ha' ow' ne' wa' lk' ma' de' st' qu' fl' ln' lt' c => ?_)
        exact nm_e (ih (i + 1) f be' ex' ab' ha' ow' ne' hi wa' lk' ma' de' st' qu' fl' ln' lt' (by omega) (by omega) c)
theorem xw_work {be ex ab ha ow ne hi : ir_A} {wa lk : Nat} {ma de st qu fl ln lt : ir_A} (hE : ir_EI e) (hS : ir_SV e vo li) (hn : n < e_N e) (h : ir_WI e n 816 be ex ab ha ow ne hi wa lk ma de st qu fl ln lt)
    (K : ∀ b be ex ab ha ow ne hi lk ma de st qu fl ln lt, ir_WI e n b be ex ab ha ow ne hi 0 lk ma de st qu fl ln lt → post (ir_XS e la ll zt vo li be ex ab ha ow ne hi 0 lk ma de st qu fl ln lt)) : wpX_work post (ir_XS e la ll zt vo li be ex ab ha ow ne hi wa lk ma de st qu fl ln lt) :=
  Exists.intro 817 (xw_2 hE hS hn K 816 0 817 be ex ab ha ow ne hi wa lk ma de st qu fl ln lt rfl (by omega) h)
/-- the end of the work: the least sets -/
theorem ir_WI_end {be ex ab ha ow ne hi : ir_A} {lk : Nat} {ma de st qu fl ln lt : ir_A} (hE : ir_EI e) (hn : n < e_N e) (h : ir_WI e n b be ex ab ha ow ne hi 0 lk ma de st qu fl ln lt) :
    (∀ t, t < 48 → (de t ≠ 0 ↔ ir_D e n t)) ∧ (∀ t, ir_D e n t → ∀ i, bt (ma t) i = true ↔ ir_L e t i) ∧ (∀ t, t < 48 → ¬ ir_D e n t → ma t = 0) ∧
    (∀ m, m < e_N e → (ha m ≠ 0 ↔ ir_D e n m ∧ ir_hp e (ir_L e) m)) ∧ (∀ m, m < e_N e → ha m ≠ 0 → ne m = ir_va e m ∧ ∀ i, bt (ow m) i = true ↔ ir_ow e (ir_L e) m i) ∧
    (∀ z, 0 < z → z < e_N e → (ex (24 + z) ≠ 0 ↔ ir_D e n (24 + z) ∧ ir_op e (ir_L e) z)) ∧
    (∀ z, 0 < z → z < e_N e → ex (24 + z) ≠ 0 → ¬ ir_hd e z → ∀ j, ir_sl z j → ∀ i, bt (hi j) i = true ↔ ir_hn e (ir_L e) z j i) := by
  have hN := ir_EI_N hE
  obtain ⟨sr, ⟨h1, h2, h3, h4, h5, h6, h7⟩, g2, g3, g4, g5⟩ := h
  have hP : ∀ t, t < 48 → de t ≠ 0 → ir_PI e (ir_m ma) (be t) (ex t) (ha t) (ow t) hi t (ma t) := fun t ht hd => g4 t ht hd (ir_QI_0 h1 ht)
  have f2 : ∀ t, (t < 48 ∧ de t ≠ 0) → ∀ i, ir_m ma t i ↔ ir_F e (ir_m ma) t i := by
    intro t ⟨ht, hd⟩ i
    refine ⟨h5 t i, fun hF => ⟨ht, ?_⟩⟩
    rcases ir_D_ok hE hn (h4 t ht hd) with y | y
    · exact (((hP t ht hd).1 y).2.2 i).mpr hF
    · have q := ((hP t ht hd).2 y.1 y.2).2 i
      rw [Nat.add_sub_cancel' y.1] at q
      exact q.mpr hF
  have f3 : ∀ t s, (t < 48 ∧ de t ≠ 0) → ir_dm e (ir_m ma) t s → (s < 48 ∧ de s ≠ 0) :=
    fun t s ⟨ht, hd⟩ hs => ⟨ir_ok48 hE (ir_dm_ok hE hs), (ir_dl (g3 t ht) (hP t ht hd) hs).2⟩
  have f4 : n < 48 ∧ de n ≠ 0 := ⟨by omega, g5.1⟩
  have f5 : ∀ t, (t < 48 ∧ de t ≠ 0) → ir_D e n t := fun t ⟨ht, hd⟩ => h4 t ht hd
  have F := fun t (ht : t < 48 ∧ de t ≠ 0) i => ir_fin hN.2 (D := fun t => t < 48 ∧ de t ≠ 0) h6 f2 f3 ht i
  have G := ir_fd hN.2 (D := fun t => t < 48 ∧ de t ≠ 0) h6 f2 f3 f4 f5
  have S : ∀ t, (t < 48 ∧ de t ≠ 0) → ir_sm' e (ir_m ma) (ir_L e) t := fun t ht s hs i => (F s (f3 t s ht hs) i).symm
  refine ⟨fun t ht => ⟨fun hd => h4 t ht hd, fun hD => ((G t).mpr hD).2⟩, fun t hD i => ?_, fun t ht hd => ?_, fun m hm => ⟨fun h0 => ?_, fun h0 => ?_⟩, fun m hm h0 => ?_, fun z h0z hz => ⟨fun h0 => ?_, fun h0 => ?_⟩, fun z h0z hz h0 hl j hj i => ?_⟩
  · have ht := (G t).mpr hD
    rw [← F t ht i]
    exact ⟨fun y => ⟨ht.1, y⟩, fun y => y.2⟩
  · exact g5.2 t ht (Classical.byContradiction (fun y => hd (h4 t ht y)))
  · have o := (g3 m (by omega)).1 hm
    have hb : be m ≠ 0 := fun y => h0 (o.1 y).2
    exact ⟨h4 m (by omega) (o.2.2.2.2 hb), ir_hp_m h6 (o.2.2.2.1 h0)⟩
  · have ht := (G m).mpr h0.1
    have hp := (ir_hp_c (ir_cN hm (S m ht))).mp h0.2
    exact (((hP m ht.1 ht.2).1 hm).2.1 hp).1
  · have o := (g3 m (by omega)).1 hm
    have hb : be m ≠ 0 := fun y => h0 (o.1 y).2
    have ht : m < 48 ∧ de m ≠ 0 := ⟨by omega, o.2.2.2.2 hb⟩
    refine ⟨(o.2.1 hb).1, fun i => ?_⟩
    rw [ir_ow_c (ir_cN hm (S m ht))]
    exact (((hP m ht.1 ht.2).1 hm).2.1 (o.2.2.2.1 h0)).2.1 i
  · have o := (g3 (24 + z) (by omega)).2 (by omega) (by omega)
    rw [Nat.add_sub_cancel_left] at o
    have hb : be (24 + z) ≠ 0 := fun y => h0 (o.1 y)
    exact ⟨h4 _ (by omega) (o.2.2.2.2 hb), ir_op_m h6 (o.2.2.1 h0).1⟩
  · have ht := (G (24 + z)).mpr h0.1
    have hp := (ir_op_c (ir_cZ h0z hz (S _ ht))).mp h0.2
    have q := (hP _ ht.1 ht.2).2 (by omega) (by omega)
    rw [Nat.add_sub_cancel_left] at q
    exact ((q.1 (by omega)).2 hp).1
  · have o := (g3 (24 + z) (by omega)).2 (by omega) (by omega)
    rw [Nat.add_sub_cancel_left] at o
    have hb : be (24 + z) ≠ 0 := fun y => h0 (o.1 y)
    have ht : 24 + z < 48 ∧ de (24 + z) ≠ 0 := ⟨by omega, o.2.2.2.2 hb⟩
    have q := (hP _ ht.1 ht.2).2 (by omega) (by omega)
    rw [Nat.add_sub_cancel_left] at q
    rw [ir_hn_c (ir_cZ h0z hz (S _ ht))]
    exact ((q.1 (by omega)).2 (o.2.2.1 h0).1).2 hl j hj i
end
end
section
section
variable {e : ir_E} {la ll zt vo li : Int32} {be ex ab ha ow ne hi : ir_A} {wa lk : Nat} {ma de st qu fl ln lt : ir_A} {n b : Nat} {post : SX → Prop}
theorem xb_sort12 : ∀ (d i f : Nat) (vo li : Int32), i + d = 6 → d < f → (∀ h, bt vo h = true ↔ h < i ∧ e_mo e h ≠ 1) → (∀ h, bt li h = true ↔ h < i ∧ e_mo e h = 2) →
    (∀ vo' li', ir_SV e vo' li' → post (ir_XS e la ll zt vo' li' be ex ab ha ow ne hi wa lk ma de st qu fl ln lt)) → wX_sortMachines_12 post (nI (e_N e)) (e_rl e) (e_dl e) (e_cl e) (e_nw e) la ll zt (nI wa) (nI lk) (e_ad e) (e_al e) (e_se e) (e_gl e) (e_mo e) (e_fn e) (e_fa e) (e_rm e) (e_ra e) (e_re e) (e_cs e) (e_ch e) (e_ce e) ma de be ex ab ha ow ne hi st qu fl ln lt f (nI i) vo li := by
  intro d
  induction d with
  | zero =>
    intro i f vo li hi' hf h1 h2 K
    obtain ⟨f, rfl⟩ : ∃ k, f = k + 1 := ⟨f - 1, by omega⟩
    have : i = 6 := by omega
    subst this
    simp only [wX_sortMachines_12]
    exact br_t (by decide) (K vo li ⟨h1, h2⟩)
  | succ d ih =>
    intro i f vo li hi' hf h1 h2 K
    obtain ⟨f, rfl⟩ : ∃ k, f = k + 1 := ⟨f - 1, by omega⟩
    have h6 : vp_in (nI i) 6 := vp_in_nI (by omega) (by omega)
    have join : ∀ vo' : Int32, (∀ h, bt vo' h = true ↔ h < i + 1 ∧ e_mo e h ≠ 1) → wX_sortMachines_40 post (wX_sortMachines_12 post (nI (e_N e)) (e_rl e) (e_dl e) (e_cl e) (e_nw e) la ll zt (nI wa) (nI lk) (e_ad e) (e_al e) (e_se e) (e_gl e) (e_mo e) (e_fn e) (e_fa e) (e_rm e) (e_ra e) (e_re e) (e_cs e) (e_ch e) (e_ce e) ma de be ex ab ha ow ne hi st qu fl ln lt f) (nI i) (nI (e_N e)) (e_rl e) (e_dl e) (e_cl e) (e_nw e) la ll zt vo' li (nI wa) (nI lk) (e_ad e) (e_al e) (e_se e) (e_gl e) (e_mo e) (e_fn e) (e_fa e) (e_rm e) (e_ra e) (e_re e) (e_cs e) (e_ch e) (e_ce e) ma de be ex ab ha ow ne hi st qu fl ln lt := by
      intro vo' hv
      unfold wX_sortMachines_40
      rw [nI_clamp (show i < 2 ^ 31 by omega), nI_1]
      refine ⟨h6, fun hm => nm_e (nm_e (ih (i + 1) f vo' _ (by omega) (by omega) hv (fun h => ?_) K)), fun hm => nm_e (ih (i + 1) f vo' li (by omega) (by omega) hv (fun h => ?_) K)⟩
      · rw [ir_orb, ir_one (by omega), h2 h]
        constructor
        · rintro (y | y)
          · exact ⟨by omega, y.2⟩
          · subst y; exact ⟨by omega, hm⟩
        · rintro ⟨y1, y2⟩
          rcases Nat.lt_or_ge h i with y | y
          · exact Or.inl ⟨y, y2⟩
          · exact Or.inr (by omega)
      · rw [h2 h]
        refine ⟨fun y => ⟨by omega, y.2⟩, fun y => ⟨?_, y.2⟩⟩
        rcases Nat.lt_or_ge h i with w | w
        · exact w
        · have : h = i := by omega
          subst this
          exact absurd y.2 hm
    simp only [wX_sortMachines_12]
    rw [nI_clamp (show i < 2 ^ 31 by omega)]
    refine br_f (nI_ge (b := 6) (by omega) (by omega)) ⟨h6, fun hm => join vo (fun h => ?_), fun hm => nm_e (join _ (fun h => ?_))⟩
    · rw [h1 h]
      refine ⟨fun y => ⟨by omega, y.2⟩, fun y => ⟨?_, y.2⟩⟩
      rcases Nat.lt_or_ge h i with w | w
      · exact w
      · have : h = i := by omega
        subst this
        exact absurd hm y.2
    · rw [ir_orb, ir_one (by omega), h1 h]
      constructor
      · rintro (y | y)
        · exact ⟨by omega, y.2⟩
        · subst y; exact ⟨by omega, hm⟩
      · rintro ⟨y1, y2⟩
        rcases Nat.lt_or_ge h i with y | y
        · exact Or.inl ⟨y, y2⟩
        · exact Or.inr (by omega)
theorem xb_sort (K : ∀ vo' li', ir_SV e vo' li' → post (ir_XS e la ll zt vo' li' be ex ab ha ow ne hi wa lk ma de st qu fl ln lt)) : wpX_sortMachines post (ir_XS e la ll zt vo li be ex ab ha ow ne hi wa lk ma de st qu fl ln lt) :=
  Exists.intro 7 (xb_sort12 6 0 7 0 0 rfl (by omega) (fun h => by rw [b_0]; simp) (fun h => by rw [b_0]; simp) K)
theorem xb_65 : ∀ (d i f : Nat) (ha ow ne : ir_A), i + d = 24 → d < f → (∀ m, m < i → ha m = 0) →
    (∀ vo' li' ha' ow' ne', ir_SV e vo' li' → (∀ m, m < 24 → ha' m = 0) → post (ir_XS e la ll zt vo' li' be ex ab ha' ow' ne' hi 0 0 ma de st qu fl ln lt)) → wX_beginQuery_65 post (nI (e_N e)) (e_rl e) (e_dl e) (e_cl e) (e_nw e) la ll zt vo li (nI wa) (nI lk) f (nI i) (e_ad e) (e_al e) (e_se e) (e_gl e) (e_mo e) (e_fn e) (e_fa e) (e_rm e) (e_ra e) (e_re e) (e_cs e) (e_ch e) (e_ce e) ma de be ex ab ha ow ne hi st qu fl ln lt := by
  intro d
  induction d with
  | zero =>
    intro i f ha ow ne hi' hf h1 K
    obtain ⟨f, rfl⟩ : ∃ k, f = k + 1 := ⟨f - 1, by omega⟩
    have : i = 24 := by omega
    subst this
    simp only [wX_beginQuery_65]
    exact br_t (by decide) (xb_sort (wa := 0) (lk := 0) (fun vo' li' hs => K vo' li' ha ow ne hs h1))
  | succ d ih =>
    intro i f ha ow ne hi' hf h1 K
    obtain ⟨f, rfl⟩ : ∃ k, f = k + 1 := ⟨f - 1, by omega⟩
    have h24 : vp_in (nI i) 24 := vp_in_nI (by omega) (by omega)
    simp only [wX_beginQuery_65]
    rw [nI_clamp (show i < 2 ^ 31 by omega), nI_1, ir_nb0]
    refine br_f (nI_ge (b := 24) (by omega) (by omega)) ⟨h24, nm_e ⟨h24, nm_e ⟨h24, nm_e (nm_e (ih (i + 1) f _ _ _ (by omega) (by omega) (fun m hm => ?_) K))⟩⟩⟩
    rcases Nat.decEq m i with y | y
    · rw [pk_un y]; exact h1 m (by omega)
    · subst y; exact pk_us
/-- all is reset -/
def ir_rs (k : Nat) (ma de be ex hi qu fl : ir_A) : Prop := ∀ t, t < k → ma t = 0 ∧ de t = 0 ∧ be t = 0 ∧ ex t = 0 ∧ hi t = 0 ∧ qu t = 0 ∧ fl t = -1
theorem xb_2 : ∀ (d i f : Nat) (ma de be ex hi qu fl : ir_A), i + d = 48 → d < f → ir_rs i ma de be ex hi qu fl →
    (∀ vo' li' ha' ow' ne' ma' de' be' ex' hi' qu' fl', ir_SV e vo' li' → (∀ m, m < 24 → ha' m = 0) → ir_rs 48 ma' de' be' ex' hi' qu' fl' →
      post (ir_XS e la ll zt vo' li' be' ex' ab ha' ow' ne' hi' 0 0 ma' de' st qu' fl' ln lt)) → wX_beginQuery_2 post (nI (e_N e)) (e_rl e) (e_dl e) (e_cl e) (e_nw e) la ll zt vo li (nI wa) (nI lk) f (nI i) (e_ad e) (e_al e) (e_se e) (e_gl e) (e_mo e) (e_fn e) (e_fa e) (e_rm e) (e_ra e) (e_re e) (e_cs e) (e_ch e) (e_ce e) ma de be ex ab ha ow ne hi st qu fl ln lt := by
  intro d
  induction d with
  | zero =>
    intro i f ma de be ex hi qu fl hi' hf h1 K
    obtain ⟨f, rfl⟩ : ∃ k, f = k + 1 := ⟨f - 1, by omega⟩
    have : i = 48 := by omega
    subst this
    simp only [wX_beginQuery_2]
    exact br_t (by decide) (Exists.intro 25 (xb_65 24 0 25 ha ow ne rfl (by omega) (fun m hm => by omega) (fun vo' li' ha' ow' ne' hs hh => K vo' li' ha' ow' ne' ma de be ex hi qu fl hs hh h1)))
  | succ d ih =>
    intro i f ma de be ex hi qu fl hi' hf h1 K
    obtain ⟨f, rfl⟩ : ∃ k, f = k + 1 := ⟨f - 1, by omega⟩
    have h48 : vp_in (nI i) 48 := vp_in_nI (by omega) (by omega)
    simp only [wX_beginQuery_2]
    rw [nI_clamp (show i < 2 ^ 31 by omega), nI_1, ir_nb0]
    refine br_f (nI_ge (b := 48) (by omega) (by omega)) ⟨h48, nm_e ⟨h48, nm_e ⟨h48, nm_e ⟨h48, nm_e ⟨h48, nm_e ⟨h48, nm_e ⟨h48, nm_e (nm_e (ih (i + 1) f _ _ _ _ _ _ _ (by omega) (by omega) (fun m hm => ?_) K))⟩⟩⟩⟩⟩⟩⟩
    rcases Nat.decEq m i with y | y
    · rw [pk_un y, pk_un y, pk_un y, pk_un y, pk_un y, pk_un y, pk_un y]; exact h1 m (by omega)
    · subst y; rw [pk_us, pk_us, pk_us, pk_us, pk_us, pk_us, pk_us]; exact ⟨rfl, rfl, rfl, rfl, rfl, rfl, rfl⟩
theorem xb_begin (K : ∀ vo' li' ha' ow' ne' ma' de' be' ex' hi' qu' fl', ir_SV e vo' li' → (∀ m, m < 24 → ha' m = 0) → ir_rs 48 ma' de' be' ex' hi' qu' fl' →
      post (ir_XS e la ll zt vo' li' be' ex' ab ha' ow' ne' hi' 0 0 ma' de' st qu' fl' ln lt)) : wpX_beginQuery post (ir_XS e la ll zt vo li be ex ab ha ow ne hi wa lk ma de st qu fl ln lt) :=
  Exists.intro 49 (xb_2 48 0 49 ma de be ex hi qu fl rfl (by omega) (fun t ht => by omega) K)
/-- after the reset the core holds, but for the demand -/
theorem ir_CI_0 (hr : ir_rs 48 ma de be ex hi qu fl) : ir_CI e n 816 0 0 ma de st qu fl ln lt (fun _ => 0) := by
  have hm : ∀ t i, ¬ ir_m ma t i := fun t i y => by
    have := y.2
    rw [(hr t y.1).1, b_0] at this
    exact absurd this (by decide)
  refine ⟨⟨fun i hi' => by omega, fun i j _ hj => by omega, ?_⟩, ⟨by omega, fun s hs => (hr s hs).2.2.2.2.2.2, fun j hj => by omega⟩, fun t ht y => absurd (hr t ht).2.2.2.2.2.1 y, fun t ht y => absurd (hr t ht).2.1 y, fun t i y => absurd y (hm t i), fun t i y => absurd y (hm t i), ?_⟩
  · have := ir_sm_c (f := fun t => ir_f (qu t)) (c := 0) (n := 48) (fun k hk => Nat.le_of_eq (ir_f0 (hr k hk).2.2.2.2.2.1))
    omega
  · have h1 := ir_sm_c (f := fun t => 1 - ir_f (de t)) (c := 1) (n := 48) (fun k hk => Nat.sub_le _ _)
    have h2 := ir_sm_c (f := ir_ct ma (fun _ => 0) 0) (c := 6) (n := 128) (fun k hk => Nat.le_of_eq (if_neg (by omega)))
    unfold ir_ph
    omega
theorem ir_WI_start {de' : ir_A} (hE : ir_EI e) (hr : ir_rs 48 ma de be ex hi qu fl) (hh : ∀ m, m < 24 → ha m = 0) {wa' : Nat} {st' qu' : ir_A} (hC : ir_CI e n 816 wa' 0 ma de' st' qu' fl ln lt (fun _ => 0))
    (hX : ir_EX de qu de' qu') (hn : de' n ≠ 0) : ir_WI e n 816 be ex ab ha ow ne hi wa' 0 ma de' st' qu' fl ln lt := by
  have hN := ir_EI_N hE
  refine ⟨fun _ => 0, hC, Nat.zero_le _, fun s hs => ?_, fun s hs hd hq => ?_, hn, fun t ht _ => (hr t ht).1⟩
  · obtain ⟨r1, r2, r3, r4, r5, r6, r7⟩ := hr s hs
    refine ⟨fun hs' => ⟨fun _ => ⟨r4, hh s (by omega)⟩, fun y => absurd r3 y, fun y => absurd r4 y, fun y => absurd (hh s (by omega)) y, fun y => absurd r3 y⟩, fun h24 hs' => ⟨fun _ => r4, fun y => absurd r3 y, fun y => absurd r4 y, fun _ j hj _ => ?_, fun y => absurd r3 y⟩⟩
    exact (hr j (by rcases hj with y | y <;> omega)).2.2.2.2.1
  · rcases hX.2.2 s hd with y | y
    · exact absurd (hr s hs).2.1 y
    · exact absurd hq y
end
end
section
noncomputable def ir_lr (P : Nat → Prop) (g f : ir_A) : ir_A := fun j => @ite Int32 (P j) (Classical.propDecidable _) (g j) (f j)
theorem ir_lr_t {P : Nat → Prop} {g f : ir_A} {j : Nat} (h : P j) : ir_lr P g f j = g j := by unfold ir_lr; rw [if_pos h]
theorem ir_lr_f {P : Nat → Prop} {g f : ir_A} {j : Nat} (h : ¬ P j) : ir_lr P g f j = f j := by unfold ir_lr; rw [if_neg h]
theorem ir_lr_c {P Q : Nat → Prop} {g g' f : ir_A} (h : ∀ j, P j ↔ Q j) (hg : ∀ j, P j → g j = g' j) : ir_lr P g f = ir_lr Q g' f := by
  funext j
  rcases Classical.em (P j) with p | p
  · rw [ir_lr_t p, ir_lr_t ((h j).mp p), hg j p]
  · rw [ir_lr_f p, ir_lr_f (fun y => p ((h j).mpr y))]
theorem ir_lr_u {R : Nat → Prop} {g f : ir_A} {k : Nat} {x : Int32} (h : R k) (hx : x = g k) : upd (ir_lr (fun j => j < k ∧ R j) g f) k x = ir_lr (fun j => j < k + 1 ∧ R j) g f := by
  funext j
  rcases Nat.decEq j k with y | y
  · rw [pk_un y]
    rcases Classical.em (j < k ∧ R j) with p | p
    · rw [ir_lr_t p, ir_lr_t ⟨by omega, p.2⟩]
    · rw [ir_lr_f p, ir_lr_f (fun w => p ⟨by omega, w.2⟩)]
  · subst y
    rw [pk_us, ir_lr_t ⟨by omega, h⟩, hx]
theorem ir_lr_s {R : Nat → Prop} {g f : ir_A} {k : Nat} (h : ¬ R k) : ir_lr (fun j => j < k ∧ R j) g f = ir_lr (fun j => j < k + 1 ∧ R j) g f := by
  refine ir_lr_c (fun j => ⟨fun y => ⟨by omega, y.2⟩, fun y => ⟨?_, y.2⟩⟩) (fun _ _ => rfl)
  rcases Nat.lt_or_ge j k with w | w
  · exact w
  · have : j = k := by omega
    subst this
    exact absurd y.2 h
theorem ir_lr_u2 {C : Nat → Prop} {g f : ir_A} {k : Nat} {x y : Int32} (h : C k) (hx : x = g (2 * k)) (hy : y = g (2 * k + 1)) : upd (upd (ir_lr (fun j => j / 2 < k ∧ C (j / 2)) g f) (2 * k) x) (2 * k + 1) y = ir_lr (fun j => j / 2 < k + 1 ∧ C (j / 2)) g f := by
  funext j
  have h1 : 2 * k / 2 = k := by omega
  have h2 : (2 * k + 1) / 2 = k := by omega
  rcases Nat.decEq j (2 * k + 1) with y1 | y1
  · rw [pk_un y1]
    rcases Nat.decEq j (2 * k) with y2 | y2
    · rw [pk_un y2]
      rcases Classical.em (j / 2 < k ∧ C (j / 2)) with p | p
      · rw [ir_lr_t p, ir_lr_t ⟨by omega, p.2⟩]
      · rw [ir_lr_f p, ir_lr_f (fun w => p ⟨by omega, w.2⟩)]
    · subst y2
      rw [pk_us, ir_lr_t ⟨by omega, by rw [h1]; exact h⟩, hx]
  · subst y1
    rw [pk_us, ir_lr_t ⟨by omega, by rw [h2]; exact h⟩, hy]
theorem ir_lr_s2 {C : Nat → Prop} {g f : ir_A} {k : Nat} (h : ¬ C k) : ir_lr (fun j => j / 2 < k ∧ C (j / 2)) g f = ir_lr (fun j => j / 2 < k + 1 ∧ C (j / 2)) g f := by
  refine ir_lr_c (fun j => ⟨fun y => ⟨by omega, y.2⟩, fun y => ⟨?_, y.2⟩⟩) (fun _ _ => rfl)
  rcases Nat.lt_or_ge (j / 2) k with w | w
  · exact w
  · have : j / 2 = k := by omega
    rw [this] at y
    exact absurd y.2 h
theorem ir_lr_0 {R : Nat → Prop} {g f : ir_A} : ir_lr (fun j => j < 0 ∧ R j) g f = f := by
  funext j
  exact ir_lr_f (fun y => by omega)
theorem ir_lr_02 {C : Nat → Prop} {g f : ir_A} : ir_lr (fun j => j / 2 < 0 ∧ C (j / 2)) g f = f := by
  funext j
  exact ir_lr_f (fun y => by omega)
/-- the environment with what is learned below a and c -/
noncomputable def ir_le (e : ir_E) (R C : Nat → Prop) (ow ne hi : ir_A) (a c : Nat) : ir_E :=
  (e_N e, e_rl e, e_dl e, e_cl e, e_nw e, e_ad e, e_al e, e_se e, e_gl e, e_mo e, e_fn e, e_fa e, ir_lr (fun j => j < a ∧ R j) ow (e_rm e), ir_lr (fun j => j < a ∧ R j) ne (e_ra e),
   ir_lr (fun j => j < a ∧ R j) (fun j => e_nw e + if ow j = 0 ∧ ne j < 0 then e_dl e else e_rl e) (e_re e), ir_lr (fun j => j / 2 < c ∧ C (j / 2)) (e_se e) (e_cs e),
   ir_lr (fun j => j / 2 < c ∧ C (j / 2)) hi (e_ch e), ir_lr (fun j => j < c ∧ C j) (fun _ => e_nw e + e_cl e) (e_ce e))
theorem ir_le_0 {e : ir_E} {R C : Nat → Prop} {ow ne hi : ir_A} : ir_le e R C ow ne hi 0 0 = e := by
  unfold ir_le
  rw [ir_lr_0, ir_lr_0, ir_lr_0, ir_lr_02, ir_lr_02, ir_lr_0]
  rfl
theorem ir_le_R {e : ir_E} {R C : Nat → Prop} {ow ne hi : ir_A} {k c : Nat} (h : ¬ R k) : ir_le e R C ow ne hi k c = ir_le e R C ow ne hi (k + 1) c := by
  unfold ir_le
  rw [ir_lr_s h, ir_lr_s h, ir_lr_s h]
theorem ir_le_C {e : ir_E} {R C : Nat → Prop} {ow ne hi : ir_A} {a k : Nat} (h : ¬ C k) : ir_le e R C ow ne hi a k = ir_le e R C ow ne hi a (k + 1) := by
  unfold ir_le
  rw [ir_lr_s2 h, ir_lr_s2 h, ir_lr_s h]
theorem le_N {e : ir_E} {R C : Nat → Prop} {ow ne hi : ir_A} {a c : Nat} : e_N (ir_le e R C ow ne hi a c) = e_N e := rfl
theorem le_rl {e : ir_E} {R C : Nat → Prop} {ow ne hi : ir_A} {a c : Nat} : e_rl (ir_le e R C ow ne hi a c) = e_rl e := rfl
theorem le_dl {e : ir_E} {R C : Nat → Prop} {ow ne hi : ir_A} {a c : Nat} : e_dl (ir_le e R C ow ne hi a c) = e_dl e := rfl
theorem le_cl {e : ir_E} {R C : Nat → Prop} {ow ne hi : ir_A} {a c : Nat} : e_cl (ir_le e R C ow ne hi a c) = e_cl e := rfl
theorem le_nw {e : ir_E} {R C : Nat → Prop} {ow ne hi : ir_A} {a c : Nat} : e_nw (ir_le e R C ow ne hi a c) = e_nw e := rfl
theorem le_ad {e : ir_E} {R C : Nat → Prop} {ow ne hi : ir_A} {a c : Nat} : e_ad (ir_le e R C ow ne hi a c) = e_ad e := rfl
theorem le_al {e : ir_E} {R C : Nat → Prop} {ow ne hi : ir_A} {a c : Nat} : e_al (ir_le e R C ow ne hi a c) = e_al e := rfl
theorem le_se {e : ir_E} {R C : Nat → Prop} {ow ne hi : ir_A} {a c : Nat} : e_se (ir_le e R C ow ne hi a c) = e_se e := rfl
theorem le_gl {e : ir_E} {R C : Nat → Prop} {ow ne hi : ir_A} {a c : Nat} : e_gl (ir_le e R C ow ne hi a c) = e_gl e := rfl
theorem le_mo {e : ir_E} {R C : Nat → Prop} {ow ne hi : ir_A} {a c : Nat} : e_mo (ir_le e R C ow ne hi a c) = e_mo e := rfl
theorem le_fn {e : ir_E} {R C : Nat → Prop} {ow ne hi : ir_A} {a c : Nat} : e_fn (ir_le e R C ow ne hi a c) = e_fn e := rfl
theorem le_fa {e : ir_E} {R C : Nat → Prop} {ow ne hi : ir_A} {a c : Nat} : e_fa (ir_le e R C ow ne hi a c) = e_fa e := rfl
theorem le_rm {e : ir_E} {R C : Nat → Prop} {ow ne hi : ir_A} {a c : Nat} : e_rm (ir_le e R C ow ne hi a c) = ir_lr (fun j => j < a ∧ R j) ow (e_rm e) := rfl
theorem le_ra {e : ir_E} {R C : Nat → Prop} {ow ne hi : ir_A} {a c : Nat} : e_ra (ir_le e R C ow ne hi a c) = ir_lr (fun j => j < a ∧ R j) ne (e_ra e) := rfl
theorem le_re {e : ir_E} {R C : Nat → Prop} {ow ne hi : ir_A} {a c : Nat} : e_re (ir_le e R C ow ne hi a c) = ir_lr (fun j => j < a ∧ R j) (fun j => e_nw e + if ow j = 0 ∧ ne j < 0 then e_dl e else e_rl e) (e_re e) := rfl
theorem le_cs {e : ir_E} {R C : Nat → Prop} {ow ne hi : ir_A} {a c : Nat} : e_cs (ir_le e R C ow ne hi a c) = ir_lr (fun j => j / 2 < c ∧ C (j / 2)) (e_se e) (e_cs e) := rfl
theorem le_ch {e : ir_E} {R C : Nat → Prop} {ow ne hi : ir_A} {a c : Nat} : e_ch (ir_le e R C ow ne hi a c) = ir_lr (fun j => j / 2 < c ∧ C (j / 2)) hi (e_ch e) := rfl
theorem le_ce {e : ir_E} {R C : Nat → Prop} {ow ne hi : ir_A} {a c : Nat} : e_ce (ir_le e R C ow ne hi a c) = ir_lr (fun j => j < c ∧ C j) (fun _ => e_nw e + e_cl e) (e_ce e) := rfl
noncomputable def ir_cn (R C : Nat → Prop) (a c : Nat) : Nat := ir_sm (fun j => ir_b (R j)) a + ir_sm (fun j => ir_b (C j)) c
theorem ir_cn_Rt {R C : Nat → Prop} {k c : Nat} (h : R k) : ir_cn R C k c + 1 = ir_cn R C (k + 1) c := by
  unfold ir_cn
  simp only [ir_sm]
  rw [ir_b_t h]; omega
theorem ir_cn_Rf {R C : Nat → Prop} {k c : Nat} (h : ¬ R k) : ir_cn R C k c = ir_cn R C (k + 1) c := by
  unfold ir_cn
  simp only [ir_sm]
  rw [ir_b_f h]; omega
theorem ir_cn_Ct {R C : Nat → Prop} {k a : Nat} (h : C k) : ir_cn R C a k + 1 = ir_cn R C a (k + 1) := by
  unfold ir_cn
  simp only [ir_sm]
  rw [ir_b_t h]; omega
theorem ir_cn_Cf {R C : Nat → Prop} {k a : Nat} (h : ¬ C k) : ir_cn R C a k = ir_cn R C a (k + 1) := by
  unfold ir_cn
  simp only [ir_sm]
  rw [ir_b_f h]; omega
end
section
section
variable {e : ir_E} {R C : Nat → Prop} {la ll zt vo li : Int32} {be ex ab ha ow ne hi : ir_A} {wa lk : Nat} {ma de st qu fl ln lt : ir_A}
theorem xl_rec {post : SX → Prop} {k c : Nat} (hk : k < 24) (hR : R k) (K : post (ir_XS (ir_le e R C ow ne hi (k + 1) c) la ll zt vo li be ex ab ha ow ne hi wa lk ma de st qu fl ln lt)) : wpX_learnRecord post (ir_XS (ir_le e R C ow ne hi k c) la ll zt vo li be ex ab ha ow ne hi wa lk ma de st qu fl ln lt) (nI k) := by
  have h24 : vp_in (nI k) 24 := vp_in_nI hk (by omega)
  have e1 : upd (ir_lr (fun j => j < k ∧ R j) ow (e_rm e)) k (ow k) = ir_lr (fun j => j < k + 1 ∧ R j) ow (e_rm e) := ir_lr_u hR rfl
  have e2 : upd (ir_lr (fun j => j < k ∧ R j) ne (e_ra e)) k (ne k) = ir_lr (fun j => j < k + 1 ∧ R j) ne (e_ra e) := ir_lr_u hR rfl
  simp only [ir_XS, le_N, le_rl, le_dl, le_cl, le_nw, le_ad, le_al, le_se, le_gl, le_mo, le_fn, le_fa, le_rm, le_ra, le_re, le_cs, le_ch, le_ce] at K
  unfold wpX_learnRecord
  simp only [ir_XS, le_N, le_rl, le_dl, le_cl, le_nw, le_ad, le_al, le_se, le_gl, le_mo, le_fn, le_fa, le_rm, le_ra, le_re, le_cs, le_ch, le_ce, wX_learnRecord_22, wX_learnRecord_23]
  rw [nI_clamp (show k < 2 ^ 31 by omega), e1, e2]
  have z0 : ¬ (ow k = 0 ∧ ne k < 0) → upd (ir_lr (fun j => j < k ∧ R j) (fun j => e_nw e + if ow j = 0 ∧ ne j < 0 then e_dl e else e_rl e) (e_re e)) k (e_nw e + e_rl e) = ir_lr (fun j => j < k + 1 ∧ R j) (fun j => e_nw e + if ow j = 0 ∧ ne j < 0 then e_dl e else e_rl e) (e_re e) :=
    fun hd => ir_lr_u hR (by rw [if_neg hd])
  refine ⟨h24, fun h0 => ⟨h24, fun h1 => ?_, fun h1 => ?_⟩, fun h0 => ?_⟩
  · refine ⟨h24, h24, nm_e ⟨h24, h24, nm_e (br_t trivial ⟨h24, nm_r (z0 (fun y => absurd y.2 (Int32.not_lt.mpr h1))) ?_⟩)⟩⟩
    exact K
  · refine ⟨h24, h24, nm_e ⟨h24, h24, nm_e (br_f ir_1ne ⟨h24, nm_r (ir_lr_u hR (by rw [if_pos ⟨h0, ir_nle.mp h1⟩])) ?_⟩)⟩⟩
    exact K
  · refine ⟨h24, h24, nm_e ⟨h24, h24, nm_e (br_t trivial ⟨h24, nm_r (z0 (fun y => h0 y.1)) ?_⟩)⟩⟩
    exact K
theorem xl_cut {post : SX → Prop} {k a : Nat} (hk : k < 24) (hC : C k) (K : post (ir_XS (ir_le e R C ow ne hi a (k + 1)) la ll zt vo li be ex ab ha ow ne hi wa lk ma de st qu fl ln lt)) : wpX_learnCut post (ir_XS (ir_le e R C ow ne hi a k) la ll zt vo li be ex ab ha ow ne hi wa lk ma de st qu fl ln lt) (nI k) := by
  have hA : vp_in (nI (2 * k)) 48 := vp_in_nI (by omega) (by omega)
  have hB : vp_in (nI (2 * k + 1)) 48 := vp_in_nI (by omega) (by omega)
  have e1 : upd (upd (ir_lr (fun j => j / 2 < k ∧ C (j / 2)) (e_se e) (e_cs e)) (2 * k) (e_se e (2 * k))) (2 * k + 1) (e_se e (2 * k + 1)) = ir_lr (fun j => j / 2 < k + 1 ∧ C (j / 2)) (e_se e) (e_cs e) := ir_lr_u2 hC rfl rfl
  have e2 : upd (upd (ir_lr (fun j => j / 2 < k ∧ C (j / 2)) hi (e_ch e)) (2 * k) (hi (2 * k))) (2 * k + 1) (hi (2 * k + 1)) = ir_lr (fun j => j / 2 < k + 1 ∧ C (j / 2)) hi (e_ch e) := ir_lr_u2 hC rfl rfl
  have e3 : upd (ir_lr (fun j => j < k ∧ C j) (fun _ => e_nw e + e_cl e) (e_ce e)) k (e_nw e + e_cl e) = ir_lr (fun j => j < k + 1 ∧ C j) (fun _ => e_nw e + e_cl e) (e_ce e) := ir_lr_u hC rfl
  simp only [ir_XS, le_N, le_rl, le_dl, le_cl, le_nw, le_ad, le_al, le_se, le_gl, le_mo, le_fn, le_fa, le_rm, le_ra, le_re, le_cs, le_ch, le_ce] at K
  unfold wpX_learnCut
  simp only [ir_XS, le_N, le_rl, le_dl, le_cl, le_nw, le_ad, le_al, le_se, le_gl, le_mo, le_fn, le_fa, le_rm, le_ra, le_re, le_cs, le_ch, le_ce]
  rw [ir_2m]
  refine nm_e (Exists.intro (0 + 1 + 1 + 1) ?_)
  simp only [wX_learnCut_4]
  rw [ir_2m, nI_1, nI_clamp (show 2 * k < 2 ^ 31 by omega)]
  refine br_f (nI_nlt (by omega) (by omega)) ⟨hA, hA, nm_e ⟨hA, hA, nm_e (nm_e ?_)⟩⟩
  rw [nI_clamp (show 2 * k + 1 < 2 ^ 31 by omega), nI_1]
  refine br_f (nI_nlt (by omega) (by omega)) ⟨hB, hB, nm_e ⟨hB, hB, nm_e (nm_e ?_)⟩⟩
  rw [nI_clamp (show k < 2 ^ 31 by omega), e1, e2, e3]
  exact br_t (nI_lt (by omega) (by omega)) ⟨vp_in_nI hk (by omega), nm_e K⟩
theorem xl_37 {post : Int32 → SX → Prop} {J : Int32 → Int32 → Int32 → Int32 → Int32 → Int32 → Int32 → Int32 → Int32 → Int32 → Int32 → Int32 → Int32 → Int32 → ir_A → ir_A → ir_A → ir_A → ir_A → ir_A → ir_A → ir_A → ir_A → ir_A → ir_A → ir_A → ir_A → ir_A → ir_A → ir_A → ir_A → ir_A → ir_A → ir_A → ir_A → ir_A → ir_A → ir_A → ir_A → ir_A → ir_A → Prop}
    {k a : Nat} (hk : k < 24) (hC : (0 < k ∧ ex (24 + k) ≠ 0 ∧ ¬ ir_hd e k) ↔ C k) (K : J (nI (ir_cn R C a (k + 1))) (nI (k + 1)) (nI (e_N (ir_le e R C ow ne hi a (k + 1)))) (e_rl (ir_le e R C ow ne hi a (k + 1))) (e_dl (ir_le e R C ow ne hi a (k + 1))) (e_cl (ir_le e R C ow ne hi a (k + 1))) (e_nw (ir_le e R C ow ne hi a (k + 1))) la ll zt vo li (nI wa) (nI lk) (e_ad (ir_le e R C ow ne hi a (k + 1))) (e_al (ir_le e R C ow ne hi a (k + 1))) (e_se (ir_le e R C ow ne hi a (k + 1))) (e_gl (ir_le e R C ow ne hi a (k + 1))) (e_mo (ir_le e R C ow ne hi a (k + 1))) (e_fn (ir_le e R C ow ne hi a (k + 1))) (e_fa (ir_le e R C ow ne hi a (k + 1))) (e_rm (ir_le e R C ow ne hi a (k + 1))) (e_ra (ir_le e R C ow ne hi a (k + 1))) (e_re (ir_le e R C ow ne hi a (k + 1))) (e_cs (ir_le e R C ow ne hi a (k + 1))) (e_ch (ir_le e R C ow ne hi a (k + 1))) (e_ce (ir_le e R C ow ne hi a (k + 1))) ma de be ex ab ha ow ne hi st qu fl ln lt) :
    wX_learn_37 post J (nI (ir_cn R C a k)) (nI k) (nI (e_N (ir_le e R C ow ne hi a k))) (e_rl (ir_le e R C ow ne hi a k)) (e_dl (ir_le e R C ow ne hi a k)) (e_cl (ir_le e R C ow ne hi a k)) (e_nw (ir_le e R C ow ne hi a k)) la ll zt vo li (nI wa) (nI lk) (e_ad (ir_le e R C ow ne hi a k)) (e_al (ir_le e R C ow ne hi a k)) (e_se (ir_le e R C ow ne hi a k)) (e_gl (ir_le e R C ow ne hi a k)) (e_mo (ir_le e R C ow ne hi a k)) (e_fn (ir_le e R C ow ne hi a k)) (e_fa (ir_le e R C ow ne hi a k)) (e_rm (ir_le e R C ow ne hi a k)) (e_ra (ir_le e R C ow ne hi a k)) (e_re (ir_le e R C ow ne hi a k)) (e_cs (ir_le e R C ow ne hi a k)) (e_ch (ir_le e R C ow ne hi a k)) (e_ce (ir_le e R C ow ne hi a k)) ma de be ex ab ha ow ne hi st qu fl ln lt := by
  have hf : ¬ C k → J (nI (ir_cn R C a k)) (nI (k + 1)) (nI (e_N (ir_le e R C ow ne hi a k))) (e_rl (ir_le e R C ow ne hi a k)) (e_dl (ir_le e R C ow ne hi a k)) (e_cl (ir_le e R C ow ne hi a k)) (e_nw (ir_le e R C ow ne hi a k)) la ll zt vo li (nI wa) (nI lk) (e_ad (ir_le e R C ow ne hi a k)) (e_al (ir_le e R C ow ne hi a k)) (e_se (ir_le e R C ow ne hi a k)) (e_gl (ir_le e R C ow ne hi a k)) (e_mo (ir_le e R C ow ne hi a k)) (e_fn (ir_le e R C ow ne hi a k)) (e_fa (ir_le e R C ow ne hi a k)) (e_rm (ir_le e R C ow ne hi a k)) (e_ra (ir_le e R C ow ne hi a k)) (e_re (ir_le e R C ow ne hi a k)) (e_cs (ir_le e R C ow ne hi a k)) (e_ch (ir_le e R C ow ne hi a k)) (e_ce (ir_le e R C ow ne hi a k)) ma de be ex ab ha ow ne hi st qu fl ln lt := by
    intro hc
    rw [ir_cn_Cf hc, ir_le_C hc]
    exact K
  have hce : e_ce (ir_le e R C ow ne hi a k) k = e_ce e k := by rw [le_ce]; exact ir_lr_f (fun y => by omega)
  unfold wX_learn_37
  rw [ir_24, nI_1, nI_1, nI_clamp (show 24 + k < 2 ^ 31 by omega)]
  refine ⟨fun h0 => nm_e (hf (fun y => ?_)), fun h0 => ⟨vp_in_nI (by omega) (by omega), fun h1 => nm_e (hf (fun y => (hC.mpr y).2.1 h1)), fun h1 => ?_⟩⟩
  · exact nI_nle (hC.mpr y).1 (by omega) h0
  · have h0' : 0 < k := by
      rcases Nat.eq_zero_or_pos k with y | y
      · subst y; exact absurd (by decide) h0
      · exact y
    refine xr_liveCut hk (fun hl => br_t rfl ?_) (fun hl => br_f ir_1ne (nm_e (hf (fun y => (hC.mpr y).2.2 ?_))))
    · have hc : C k := hC.mp ⟨h0', h1, fun y => hl (by unfold ir_hd at y ⊢; rw [hce]; exact y)⟩
      refine xl_cut hk hc ?_
      refine nm_r (congrArg nI (ir_cn_Ct hc)) (nm_e K)
    · unfold ir_hd at hl ⊢
      rw [hce] at hl
      exact hl
theorem xl_4 {post : Int32 → SX → Prop} (hN : e_N e ≤ 24) (hR : ∀ m, m < e_N e → ((ha m ≠ 0 ∧ ¬ ir_lv e m) ↔ R m)) (hC : ∀ k, k < e_N e → ((0 < k ∧ ex (24 + k) ≠ 0 ∧ ¬ ir_hd e k) ↔ C k))
    (K : post (nI (ir_cn R C (e_N e) (e_N e))) (ir_XS (ir_le e R C ow ne hi (e_N e) (e_N e)) la ll zt vo li be ex ab ha ow ne hi wa lk ma de st qu fl ln lt)) : ∀ (d k f : Nat), k + d = e_N e → d < f → wX_learn_4 post f (nI (ir_cn R C k k)) (nI k) (nI (e_N (ir_le e R C ow ne hi k k))) (e_rl (ir_le e R C ow ne hi k k)) (e_dl (ir_le e R C ow ne hi k k)) (e_cl (ir_le e R C ow ne hi k k)) (e_nw (ir_le e R C ow ne hi k k)) la ll zt vo li (nI wa) (nI lk) (e_ad (ir_le e R C ow ne hi k k)) (e_al (ir_le e R C ow ne hi k k)) (e_se (ir_le e R C ow ne hi k k)) (e_gl (ir_le e R C ow ne hi k k)) (e_mo (ir_le e R C ow ne hi k k)) (e_fn (ir_le e R C ow ne hi k k)) (e_fa (ir_le e R C ow ne hi k k)) (e_rm (ir_le e R C ow ne hi k k)) (e_ra (ir_le e R C ow ne hi k k)) (e_re (ir_le e R C ow ne hi k k)) (e_cs (ir_le e R C ow ne hi k k)) (e_ch (ir_le e R C ow ne hi k k)) (e_ce (ir_le e R C ow ne hi k k)) ma de be ex ab ha ow ne hi st qu fl ln lt := by
  intro d
  induction d with
  | zero =>
    intro k f hk hf
    obtain ⟨f, rfl⟩ : ∃ k, f = k + 1 := ⟨f - 1, by omega⟩
    have : k = e_N e := by omega
    rw [this]
    simp only [wX_learn_4]
    exact br_t (Int32.le_refl _) K
  | succ d ih =>
    intro k f hk hf
    obtain ⟨f, rfl⟩ : ∃ k, f = k + 1 := ⟨f - 1, by omega⟩
    have h24 : vp_in (nI k) 24 := vp_in_nI (by omega) (by omega)
    have hre : e_re (ir_le e R C ow ne hi k k) k = e_re e k := by rw [le_re]; exact ir_lr_f (fun y => by omega)
    have next : ∀ x1, x1 = nI (ir_cn R C (k + 1) k) → wX_learn_37 post (wX_learn_4 post f) x1 (nI k) (nI (e_N (ir_le e R C ow ne hi (k + 1) k))) (e_rl (ir_le e R C ow ne hi (k + 1) k)) (e_dl (ir_le e R C ow ne hi (k + 1) k)) (e_cl (ir_le e R C ow ne hi (k + 1) k)) (e_nw (ir_le e R C ow ne hi (k + 1) k)) la ll zt vo li (nI wa) (nI lk) (e_ad (ir_le e R C ow ne hi (k + 1) k)) (e_al (ir_le e R C ow ne hi (k + 1) k)) (e_se (ir_le e R C ow ne hi (k + 1) k)) (e_gl (ir_le e R C ow ne hi (k + 1) k)) (e_mo (ir_le e R C ow ne hi (k + 1) k)) (e_fn (ir_le e R C ow ne hi (k + 1) k)) (e_fa (ir_le e R C ow ne hi (k + 1) k)) (e_rm (ir_le e R C ow ne hi (k + 1) k)) (e_ra (ir_le e R C ow ne hi (k + 1) k)) (e_re (ir_le e R C ow ne hi (k + 1) k)) (e_cs (ir_le e R C ow ne hi (k + 1) k)) (e_ch (ir_le e R C ow ne hi (k + 1) k)) (e_ce (ir_le e R C ow ne hi (k + 1) k)) ma de be ex ab ha ow ne hi st qu fl ln lt := by
      intro x1 hx
      rw [hx]
      exact xl_37 (by omega) (hC k (by omega)) (ih (k + 1) f (by omega) (by omega))
    have nextf : ¬ R k → wX_learn_37 post (wX_learn_4 post f) (nI (ir_cn R C k k)) (nI k) (nI (e_N (ir_le e R C ow ne hi k k))) (e_rl (ir_le e R C ow ne hi k k)) (e_dl (ir_le e R C ow ne hi k k)) (e_cl (ir_le e R C ow ne hi k k)) (e_nw (ir_le e R C ow ne hi k k)) la ll zt vo li (nI wa) (nI lk) (e_ad (ir_le e R C ow ne hi k k)) (e_al (ir_le e R C ow ne hi k k)) (e_se (ir_le e R C ow ne hi k k)) (e_gl (ir_le e R C ow ne hi k k)) (e_mo (ir_le e R C ow ne hi k k)) (e_fn (ir_le e R C ow ne hi k k)) (e_fa (ir_le e R C ow ne hi k k)) (e_rm (ir_le e R C ow ne hi k k)) (e_ra (ir_le e R C ow ne hi k k)) (e_re (ir_le e R C ow ne hi k k)) (e_cs (ir_le e R C ow ne hi k k)) (e_ch (ir_le e R C ow ne hi k k)) (e_ce (ir_le e R C ow ne hi k k)) ma de be ex ab ha ow ne hi st qu fl ln lt := by
      intro hr
      rw [ir_cn_Rf hr, ir_le_R hr]
      exact next _ rfl
    simp only [wX_learn_4]
    rw [nI_clamp (show k < 2 ^ 31 by omega)]
    refine br_f (nI_ge (b := e_N e) (by omega) (by omega)) ⟨h24, fun h0 => nextf (fun y => ((hR k (by omega)).mpr y).1 h0), fun h0 => ?_⟩
    refine xr_liveRecord (by omega) (fun hl => br_t rfl ?_) (fun hl => br_f ir_1ne (nextf (fun y => ((hR k (by omega)).mpr y).2 ?_)))
    · have hr : R k := (hR k (by omega)).mp ⟨h0, fun y => hl (by unfold ir_lv at y ⊢; rw [hre]; exact y)⟩
      exact xl_rec (by omega) hr (nm_e (next _ (by rw [nI_1, ir_cn_Rt hr])))
    · unfold ir_lv at hl ⊢
      rw [hre] at hl
      exact hl
theorem xl_learn {post : Int32 → SX → Prop} (hN : e_N e ≤ 24) (hR : ∀ m, m < e_N e → ((ha m ≠ 0 ∧ ¬ ir_lv e m) ↔ R m)) (hC : ∀ k, k < e_N e → ((0 < k ∧ ex (24 + k) ≠ 0 ∧ ¬ ir_hd e k) ↔ C k))
    (K : post (nI (ir_cn R C (e_N e) (e_N e))) (ir_XS (ir_le e R C ow ne hi (e_N e) (e_N e)) la ll zt vo li be ex ab ha ow ne hi wa lk ma de st qu fl ln lt)) : wpX_learn post (ir_XS e la ll zt vo li be ex ab ha ow ne hi wa lk ma de st qu fl ln lt) := by
  have := xl_4 hN hR hC K (e_N e) 0 (e_N e + 1) (by omega) (by omega)
  rw [ir_le_0] at this
  exact Exists.intro (e_N e + 1) this
/-- the verdict behind an empty answer -/
noncomputable def ir_vd (e : ir_E) : Nat → Nat → Int32
  | 0, _ => 4
  | k + 1, m => @ite Int32 (ir_hp e (ir_L e) m) (Classical.propDecidable _) (if 0 ≤ ir_va e m then ir_vd e k (ir_va e m).toNatClampNeg else 3) 5
theorem xl_verdict15 {post : Int32 → Prop} {E : ir_E} {n : Nat} (hE : ir_EI e) (hEN : e_N E = e_N e) (hh : ∀ m, m < e_N e → ir_D e n m → ((ha m ≠ 0 ↔ ir_hp e (ir_L e) m) ∧ (ha m ≠ 0 → ne m = ir_va e m))) :
    ∀ (d i f m : Nat), i + d = e_N e → d < f → m < e_N e → ir_D e n m → post (ir_vd e d m) → wX_verdict_15 post (nI (e_N E)) (e_rl E) (e_dl E) (e_cl E) (e_nw E) la ll zt vo li (nI wa) (nI lk) (e_ad E) (e_al E) (e_se E) (e_gl E) (e_mo E) (e_fn E) (e_fa E) (e_rm E) (e_ra E) (e_re E) (e_cs E) (e_ch E) (e_ce E) ma de be ex ab ha ow ne hi st qu fl ln lt f (nI m) (nI i) := by
  have hN := ir_EI_N hE
  intro d
  induction d with
  | zero =>
    intro i f m hi' hf hm hD hp
    obtain ⟨f, rfl⟩ : ∃ k, f = k + 1 := ⟨f - 1, by omega⟩
    have : i = e_N E := by omega
    subst this
    simp only [wX_verdict_15]
    exact br_t (Int32.le_refl _) hp
  | succ d ih =>
    intro i f m hi' hf hm hD hp
    obtain ⟨f, rfl⟩ : ∃ k, f = k + 1 := ⟨f - 1, by omega⟩
    have h24 : vp_in (nI m) 24 := vp_in_nI (by omega) (by omega)
    obtain ⟨q1, q2⟩ := hh m hm hD
    simp only [wX_verdict_15]
    rw [nI_clamp (show m < 2 ^ 31 by omega)]
    simp only [ir_vd] at hp
    refine br_f (nI_ge (by omega) (by omega)) ⟨h24, fun h0 => ?_, fun h0 => ⟨h24, ?_⟩⟩
    · rw [if_neg (fun y => q1.mpr y h0)] at hp
      exact hp
    · have hpm := q1.mp h0
      rw [if_pos hpm] at hp
      rw [q2 h0]
      refine ⟨fun h1 => ⟨h24, nm_e (nm_r (nI_1 i) ?_)⟩, fun h1 => ?_⟩
      · rw [if_pos h1] at hp
        obtain ⟨hv, hq⟩ := ir_va_lt hE h1
        have := ih (i + 1) f (ir_va e m).toNatClampNeg (by omega) (by omega) hv (ir_D_s hD (Or.inr (Or.inl ⟨hm, hpm, h1, rfl⟩))) hp
        rw [← hq] at this
        exact this
      · rw [if_neg h1] at hp
        exact hp
end
end
section
/-- what is learned by the query of n -/
def ir_R (e : ir_E) (n m : Nat) : Prop := ir_D e n m ∧ ir_hp e (ir_L e) m ∧ ¬ ir_lv e m
def ir_C (e : ir_E) (n z : Nat) : Prop := 0 < z ∧ ir_D e n (24 + z) ∧ ir_op e (ir_L e) z ∧ ¬ ir_hd e z
noncomputable def ir_an (e : ir_E) (n : Nat) (x : Int32) : Int32 := if x = 0 then ir_vd e (e_N e) n else 2
def ir_OK (e : ir_E) (n : Nat) (ow ne hi : ir_A) : Prop :=
  (∀ m, m < e_N e → ir_R e n m → ne m = ir_va e m ∧ ∀ i, bt (ow m) i = true ↔ ir_ow e (ir_L e) m i) ∧
  (∀ z, z < e_N e → ir_C e n z → ∀ j, ir_sl z j → ∀ i, bt (hi j) i = true ↔ ir_hn e (ir_L e) z j i)
noncomputable def ir_ln (e : ir_E) (n : Nat) (ow ne hi : ir_A) : ir_E := ir_le e (ir_R e n) (ir_C e n) ow ne hi (e_N e) (e_N e)
section
variable {e : ir_E} {la ll zt vo li : Int32} {be ex ab ha ow ne hi : ir_A} {wa lk : Nat} {ma de st qu fl ln lt : ir_A}
theorem xr_isName {post : Int32 → Prop} {n : Nat} (hn : n < e_N e) (hN : e_N e ≤ 24) (K : post 1) : wpX_isName post (ir_XS e la ll zt vo li be ex ab ha ow ne hi wa lk ma de st qu fl ln lt) (nI n) := by
  unfold wpX_isName ir_XS
  dsimp only
  exact br_f (nI_pos (by omega)) (br_f (nI_ge hn (by omega)) K)
theorem xq_query {post : Int32 → SX → Prop} {n : Nat} (hE : ir_EI e) (hn : n < e_N e)
    (K : ∀ vo' li' be' ex' ab' ha' ow' ne' hi' lk' ma' de' st' qu' fl' ln' lt', ir_OK e n ow' ne' hi' → (∀ i, bt (ma' n) i = true ↔ ir_L e n i) → (∀ z, z < e_N e → ∀ i, bt (ma' (24 + z)) i = true ↔ ir_D e n (24 + z) ∧ ir_L e (24 + z) i) →
      post (ir_an e n (ma' n)) (ir_XS (ir_ln e n ow' ne' hi') (ma' n) (nI (ir_cn (ir_R e n) (ir_C e n) (e_N e) (e_N e))) zt vo' li' be' ex' ab' ha' ow' ne' hi' 0 lk' ma' de' st' qu' fl' ln' lt')) :
    wpX_query post (ir_XS e la ll zt vo li be ex ab ha ow ne hi wa lk ma de st qu fl ln lt) (nI n) := by
  have hN := ir_EI_N hE
  have h48 : vp_in (nI n) 48 := vp_in_nI (by omega) (by omega)
  unfold wpX_query ir_XS
  dsimp only
  refine xr_isName hn hN.2 (br_f ir_1ne ?_)
  refine xb_begin (fun vo1 li1 ha1 ow1 ne1 ma1 de1 be1 ex1 hi1 qu1 fl1 hS hh hr => ?_)
  refine xc_demand (sr := fun _ => 0) (n := n) (b := 816) (by omega) ir_D_n (ir_CI_0 hr) (fun wa2 de2 st2 qu2 c1 c2 c3 => ?_)
  refine xw_work hE hS hn (ir_WI_start hE hr hh c1 c2 c3) (fun b be ex ab ha ow ne hi lk ma de st qu fl ln lt w => ?_)
  obtain ⟨d1, d2, d3, d4, d5, d6, d7⟩ := ir_WI_end hE hn w
  show vp_in (nI n) 48 ∧ _
  refine ⟨h48, nm_r (show ma (nI n).toNatClampNeg = ma n by rw [nI_clamp (by omega)]) ?_⟩
  have hOK : ir_OK e n ow ne hi := by
    refine ⟨fun m hm hR => d5 m hm ((d4 m hm).mpr ⟨hR.1, hR.2.1⟩), fun z hz hC => ?_⟩
    exact d7 z hC.1 hz ((d6 z hC.1 hz).mpr ⟨hC.2.1, hC.2.2.1⟩) hC.2.2.2
  have hKK := K vo1 li1 be ex ab ha ow ne hi lk ma de st qu fl ln lt hOK (d2 n ir_D_n) (fun z hz i => by
    rcases Classical.em (ir_D e n (24 + z)) with y | y
    · rw [d2 _ y i]; exact ⟨fun w => ⟨y, w⟩, fun w => w.2⟩
    · rw [d3 _ (by omega) y, b_0]; exact ⟨fun w => absurd w (by decide), fun w => absurd w.1 y⟩)
  have hR : ∀ m, m < e_N e → ((ha m ≠ 0 ∧ ¬ ir_lv e m) ↔ ir_R e n m) := by
    intro m hm
    rw [d4 m hm]; unfold ir_R; exact and_assoc
  have hC : ∀ z, z < e_N e → ((0 < z ∧ ex (24 + z) ≠ 0 ∧ ¬ ir_hd e z) ↔ ir_C e n z) := by
    intro z hz
    unfold ir_C
    refine and_congr_right (fun h0 => ?_)
    rw [d6 z h0 hz, and_assoc]
  refine xl_learn (R := ir_R e n) (C := ir_C e n) (ha := ha) (ex := ex) hN.2 hR hC ?_
  · show wpX_verdict _ (ir_XS (ir_ln e n ow ne hi) (ma n) (nI (ir_cn (ir_R e n) (ir_C e n) (e_N e) (e_N e))) zt vo1 li1 be ex ab ha ow ne hi 0 lk ma de st qu fl ln lt) (nI n)
    unfold wpX_verdict
    dsimp only [ir_XS]
    rw [nI_clamp (show n < 2 ^ 31 by omega)]
    unfold ir_an at hKK
    refine ⟨h48, fun h0 => Exists.intro (e_N e + 1) ?_, fun h0 => ?_⟩
    · rw [if_pos h0] at hKK
      exact xl_verdict15 (E := ir_ln e n ow ne hi) hE rfl (fun m hm hD => ⟨⟨fun y => ((d4 m hm).mp y).2, fun y => (d4 m hm).mpr ⟨hD, y⟩⟩, fun y => (d5 m hm y).1⟩) (e_N e) 0 (e_N e + 1) n (by omega) (by omega) hn ir_D_n hKK
    · rw [if_neg h0] at hKK
      exact hKK
end
end
section
/-! Y's state by my own names -/
def ir_YS (e : ir_E) (la lc : Int32) (vc vh vl vz vn ta yo an wn wz tl : ir_A) : SY :=
  (nI (e_N e), e_rl e, e_dl e, e_cl e, e_nw e, la, lc, e_ad e, e_al e, e_se e, e_gl e, e_mo e, e_fn e, e_fa e, e_rm e, e_ra e, e_re e, e_cs e, e_ch e, e_ce e, vc, vh, vl, vz, vn, ta, yo, an, wn, wz, tl)
/-- the view -/
def ir_VW (e : ir_E) (vc vh vl vz vn : ir_A) : Prop := ∀ m, m < e_N e → (vc m ≠ 0 ↔ ir_lv e m) ∧ (vh m ≠ 0 ↔ ir_hd e m) ∧ vl m = ir_va e m ∧ (∀ j, ir_sl m j → vz j = ir_vs e j) ∧ vn m = nI (ir_zn e m)
/-- Y's sets -/
def ir_y (e : ir_E) (ta an : ir_A) : ir_V := fun t i => (t < e_N e ∧ bt (an t) i = true) ∨ (24 ≤ t ∧ t < 24 + e_N e ∧ bt (ta (t - 24)) i = true)
theorem ir_y_n {e : ir_E} {ta an : ir_A} {t i : Nat} (hN : e_N e ≤ 24) (ht : t < e_N e) : ir_y e ta an t i ↔ bt (an t) i = true :=
  ⟨fun y => y.elim (fun y => y.2) (fun y => by omega), fun y => Or.inl ⟨ht, y⟩⟩
theorem ir_y_z {e : ir_E} {ta an : ir_A} {z i : Nat} (hN : e_N e ≤ 24) (hz : z < e_N e) : ir_y e ta an (24 + z) i ↔ bt (ta z) i = true := by
  constructor
  · rintro (y | ⟨_, _, y⟩)
    · omega
    · rw [Nat.add_sub_cancel_left] at y; exact y
  · exact fun y => Or.inr ⟨by omega, by omega, by rw [Nat.add_sub_cancel_left]; exact y⟩
theorem ir_y_tk {e : ir_E} {ta an : ir_A} {z : Nat} (hN : e_N e ≤ 24) (hz : z < e_N e) : ir_tk (ir_y e ta an) z ↔ ta z ≠ 0 := by
  rw [ir_n0bit]
  exact exists_congr (fun i => ir_y_z hN hz)
/-- one environment as another, but for the cache -/
def ir_sq (E e : ir_E) : Prop := e_N E = e_N e ∧ e_gl E = e_gl e ∧ e_mo E = e_mo e ∧ e_fn E = e_fn e ∧ e_fa E = e_fa e
theorem ir_sq_r {e : ir_E} : ir_sq e e := ⟨rfl, rfl, rfl, rfl, rfl⟩
section
variable {E e : ir_E} {la lc : Int32} {vc vh vl vz vn ta yo an wn wz tl : ir_A} {post : Int32 → Prop}
theorem yr_had {m : Nat} (hE : ir_EI e) (hV : ir_VW e vc vh vl vz vn) (hm : m < e_N e) (K0 : ¬ ir_hp e (ir_y e ta an) m → post 0) (K1 : ir_hp e (ir_y e ta an) m → post 1) : wpY_had post (ir_YS E la lc vc vh vl vz vn ta yo an wn wz tl) (nI m) := by
  have hN := ir_EI_N hE
  obtain ⟨v1, v2, v3, v4, v5⟩ := hV m hm
  have hz := ir_znle e m
  have h24 : vp_in (nI m) 24 := vp_in_nI (by omega) (by omega)
  have tk := ir_y_tk (ta := ta) (an := an) hN.2 (show ir_zn e m < e_N e by omega)
  unfold wpY_had ir_YS
  dsimp only
  rw [nI_clamp (show m < 2 ^ 31 by omega), v5, nI_clamp (show ir_zn e m < 2 ^ 31 by omega)]
  refine ⟨h24, fun h0 => ⟨h24, vp_in_nI (by omega) (by omega), fun h1 => K0 ?_, fun h1 => K1 ?_⟩, fun h0 => K1 (Or.inl (v1.mp h0))⟩
  · rintro (y | y)
    · exact v1.mpr y h0
    · exact tk.mp y h1
  · exact Or.inr (tk.mpr h1)
theorem yr_open {z : Nat} (hE : ir_EI e) (hV : ir_VW e vc vh vl vz vn) (h0z : 0 < z) (hm : z < e_N e) (K0 : ¬ ir_op e (ir_y e ta an) z → post 0) (K1 : ir_op e (ir_y e ta an) z → post 1) : wpY_isOpen post (ir_YS E la lc vc vh vl vz vn ta yo an wn wz tl) (nI z) := by
  have hN := ir_EI_N hE
  obtain ⟨v1, v2, v3, v4, -⟩ := hV z hm
  obtain ⟨-, -, -, -, v5⟩ := hV ((z - 1) / 2) (by omega)
  have hz : ir_up e z ≤ (z - 1) / 2 := ir_znle e _
  have h24 : vp_in (nI z) 24 := vp_in_nI (by omega) (by omega)
  have tk := ir_y_tk (ta := ta) (an := an) hN.2 (show ir_up e z < e_N e by omega)
  change vn ((z - 1) / 2) = nI (ir_up e z) at v5
  unfold wpY_isOpen ir_YS
  dsimp only
  rw [nI_clamp (show z < 2 ^ 31 by omega), ir_half h0z (by omega), nI_clamp (show (z - 1) / 2 < 2 ^ 31 by omega), v5, nI_clamp (show ir_up e z < 2 ^ 31 by omega)]
  refine ⟨h24, fun h0 => ⟨by decide, vp_in_nI (by omega) (by omega), vp_in_nI (by omega) (by omega), fun h1 => K0 ?_, fun h1 => K1 ?_⟩, fun h0 => K1 (Or.inl (v2.mp h0))⟩
  · rintro (y | y)
    · exact v2.mpr y h0
    · exact tk.mp y h1
  · exact Or.inr (tk.mpr h1)
theorem yr_above5 {top : Nat} (ht : top < 24) : ∀ (f m c : Nat), m < f → m + c < 24 → (ir_ab top m → post 1) → (¬ ir_ab top m → post 0) → wY_atOrAbove_5 post (nI top) (nI (e_N E)) (e_rl E) (e_dl E) (e_cl E) (e_nw E) la lc (e_ad E) (e_al E) (e_se E) (e_gl E) (e_mo E) (e_fn E) (e_fa E) (e_rm E) (e_ra E) (e_re E) (e_cs E) (e_ch E) (e_ce E) vc vh vl vz vn ta yo an wn wz tl f (nI m) (nI c) := by
  intro f
  induction f with
  | zero => intro m c h; omega
  | succ f ih =>
    intro m c hf hc K1 K0
    have stop : (m = top ∨ m = 0) → wY_atOrAbove_33 post (nI top) (nI m) (nI (e_N E)) (e_rl E) (e_dl E) (e_cl E) (e_nw E) la lc (e_ad E) (e_al E) (e_se E) (e_gl E) (e_mo E) (e_fn E) (e_fa E) (e_rm E) (e_ra E) (e_re E) (e_cs E) (e_ch E) (e_ce E) vc vh vl vz vn ta yo an wn wz tl := by
      intro hc
      unfold wY_atOrAbove_33
      refine pk_eq m top (fun h => K1 ?_) (fun h => K0 ?_)
      · subst h
        cases m with
        | zero => exact ir_ab_0.mpr rfl
        | succ m => exact ir_ab_s.mpr (Or.inl rfl)
      · intro y
        rcases hc with hc | hc
        · exact h hc
        · subst hc
          rw [ir_ab_0] at y; omega
    simp only [wY_atOrAbove_5]
    refine br_f (nI_ge (b := 24) (by omega) (by omega)) (pk_eq m top (fun h => stop (Or.inl h)) (fun h => ?_))
    cases m with
    | zero => exact br_t (by decide) (stop (Or.inr rfl))
    | succ m =>
      refine br_f (nI_nle (by omega) (by omega)) ⟨by decide, ?_⟩
      rw [ir_half (by omega) (by omega), Nat.add_sub_cancel, nI_1]
      refine nm_e (nm_e (ih (m / 2) (c + 1) (by omega) (by omega) (fun y => K1 (ir_ab_s.mpr (Or.inr y))) (fun y => K0 (fun w => ?_))))
      rcases ir_ab_s.mp w with w | w
      · exact h w.symm
      · exact y w
theorem yr_above {top m : Nat} (ht : top < 24) (hm : m < 24) (K1 : ir_ab top m → post 1) (K0 : ¬ ir_ab top m → post 0) : wpY_atOrAbove post (ir_YS E la lc vc vh vl vz vn ta yo an wn wz tl) (nI top) (nI m) :=
  Exists.intro 25 (yr_above5 ht 25 m 0 (by omega) (by omega) K1 K0)
theorem yr_forged5 {s z : Nat} (hE : ir_EI e) (hq : ir_sq E e) (hs : s < 48) (hz : z < 24) : ∀ (d i f : Nat) (x3 : Int32), i + d = 6 → d < f →
    (∀ r, (∀ a, a < 32 → (bt r a = true ↔ bt x3 a = true ∨ ∃ h, i ≤ h ∧ h < 6 ∧ bt (ta z) h = true ∧ e_mo e h = 2 ∧ e_fn e h = nI s ∧ e_fa e h = nI a)) → post r) →
    wY_forgedBy_5 post (nI z) (nI s) (nI (e_N E)) (e_rl E) (e_dl E) (e_cl E) (e_nw E) la lc (e_ad E) (e_al E) (e_se E) (e_gl E) (e_mo E) (e_fn E) (e_fa E) (e_rm E) (e_ra E) (e_re E) (e_cs E) (e_ch E) (e_ce E) vc vh vl vz vn ta yo an wn wz tl f x3 (nI i) := by
  obtain ⟨hq1, hq2, hq3, hq4, hq5⟩ := hq
  intro d
  induction d with
  | zero =>
    intro i f x3 hi hf K
    obtain ⟨f, rfl⟩ : ∃ k, f = k + 1 := ⟨f - 1, by omega⟩
    simp only [wY_forgedBy_5]
    refine br_t (nI_le (a := 6) (by omega) (by omega)) (K _ (fun a ha => ⟨Or.inl, fun z => z.elim id (fun ⟨h, h1, h2, _⟩ => by omega)⟩))
  | succ d ih =>
    intro i f x3 hi hf K
    obtain ⟨f, rfl⟩ : ∃ k, f = k + 1 := ⟨f - 1, by omega⟩
    have h6 : vp_in (nI i) 6 := vp_in_nI (by omega) (by omega)
    have step : ∀ y : Int32, (∀ a, a < 32 → (bt y a = true ↔ bt x3 a = true ∨ (bt (ta z) i = true ∧ e_mo e i = 2 ∧ e_fn e i = nI s ∧ e_fa e i = nI a))) → wY_forgedBy_5 post (nI z) (nI s) (nI (e_N E)) (e_rl E) (e_dl E) (e_cl E) (e_nw E) la lc (e_ad E) (e_al E) (e_se E) (e_gl E) (e_mo E) (e_fn E) (e_fa E) (e_rm E) (e_ra E) (e_re E) (e_cs E) (e_ch E) (e_ce E) vc vh vl vz vn ta yo an wn wz tl f y (nI (i + 1)) := by
      intro y hy
      refine ih (i + 1) f y (by omega) (by omega) (fun r hr => K r (fun a ha => ?_))
      rw [hr a ha, hy a ha]
      constructor
      · rintro ((h | h1) | ⟨h, h1, h2⟩)
        · exact Or.inl h
        · exact Or.inr ⟨i, by omega, by omega, h1⟩
        · exact Or.inr ⟨h, by omega, h2⟩
      · rintro (h | ⟨h, h1, h2, h3⟩)
        · exact Or.inl (Or.inl h)
        · rcases Nat.lt_or_ge i h with z | z
          · exact Or.inr ⟨h, by omega, h2, h3⟩
          · have : h = i := by omega
            subst this
            exact Or.inl (Or.inr h3)
    simp only [wY_forgedBy_5]
    rw [nI_1, nI_clamp (show i < 2 ^ 31 by omega), nI_clamp (show z < 2 ^ 31 by omega)]
    refine br_f (nI_ge (b := 6) (by omega) (by omega)) ⟨h6, fun hm => ⟨vp_in_nI hz (by omega), fun hb => ⟨h6, fun hf => ⟨h6, nm_e (nm_e (step _ (fun a ha => ?_)))⟩, fun hf => ?_⟩, fun hb => ?_⟩, fun hm => ?_⟩
    · rw [ir_shr (by omega)] at hb
      rw [hq3] at hm
      rw [hq4] at hf
      obtain ⟨g, hg, hfa⟩ := ir_fnS hE (by omega) hs hf
      rw [hq5, hfa, ir_orb, ir_one hg]
      refine or_congr Iff.rfl ⟨fun z => ⟨hb, hm, hf, by rw [z]⟩, fun z => ?_⟩
      have := z.2.2.2
      rw [nI_eq (by omega) (by omega)] at this
      omega
    · rw [hq4] at hf
      exact nm_e (step x3 (fun a _ => ⟨Or.inl, fun z => z.elim id (fun z => absurd z.2.2.1 hf)⟩))
    · rw [ir_shr (by omega)] at hb
      exact nm_e (step x3 (fun a _ => ⟨Or.inl, fun z => z.elim id (fun z => absurd z.1 hb)⟩))
    · rw [hq3] at hm
      exact nm_e (step x3 (fun a _ => ⟨Or.inl, fun z => z.elim id (fun z => absurd z.2.1 hm)⟩))
theorem yr_forged {s z : Nat} (hE : ir_EI e) (hq : ir_sq E e) (hs : s < 48) (hz : z < e_N e)
    (K : ∀ r, (∀ a, bt r a = true ↔ a < 6 ∧ ir_fg e (ir_y e ta an) z s a) → post r) : wpY_forgedBy post (ir_YS E la lc vc vh vl vz vn ta yo an wn wz tl) (nI z) (nI s) := by
  have hN := ir_EI_N hE
  refine Exists.intro 7 (yr_forged5 hE hq hs (by omega) 6 0 7 0 rfl (by omega) (fun r hr => K r (fun a => ?_)))
  rcases Nat.lt_or_ge a 32 with ha | ha
  · rw [hr a ha, b_0]
    constructor
    · rintro (h | ⟨h, _, h1, h2, h3, h4, h5⟩)
      · exact absurd h (by decide)
      · obtain ⟨g, hg, hfa⟩ := ir_fnS hE h1 hs h4
        refine ⟨?_, h, h1, (ir_y_z hN.2 hz).mpr h2, h3, h4, h5⟩
        rw [hfa, nI_eq (by omega) (by omega)] at h5
        omega
    · rintro ⟨_, h, h1, h2, h3⟩
      exact Or.inr ⟨h, by omega, h1, (ir_y_z hN.2 hz).mp h2, h3⟩
  · rw [b_big ha]
    exact ⟨fun z => absurd z (by decide), fun z => by omega⟩
theorem yr_hints {z j : Nat} (hE : ir_EI e) (hq : ir_sq E e) (hch : ir_hd e z → e_ch E j = e_ch e j) (hV : ir_VW e vc vh vl vz vn) (h0z : 0 < z) (hz : z < e_N e) (hj : ir_sl z j)
    (K : ∀ r, (∀ i, bt r i = true ↔ ir_hn e (ir_y e ta an) z j i) → post r) : wpY_hints post (ir_YS E la lc vc vh vl vz vn ta yo an wn wz tl) (nI z) (nI j) := by
  have hN := ir_EI_N hE
  obtain ⟨v1, v2, v3, v4, -⟩ := hV z hz
  obtain ⟨-, -, -, -, v5⟩ := hV ((z - 1) / 2) (by omega)
  have hup : ir_up e z ≤ (z - 1) / 2 := ir_znle e _
  have hj48 : j < 48 := by rcases hj with y | y <;> omega
  have h24 : vp_in (nI z) 24 := vp_in_nI (by omega) (by omega)
  have hjin : vp_in (nI j) 48 := vp_in_nI (by omega) (by omega)
  have hno : ¬ (0 ≤ ir_vs e j ∧ (ir_hd e z ∨ ir_ab (ir_up e z) (ir_vs e j).toNatClampNeg)) → post 0 := by
    intro hn
    refine K 0 (fun i => ?_)
    rw [b_0]
    refine ⟨fun y => absurd y (by decide), fun y => absurd ⟨y.2.1, y.2.2.imp (fun y => y.1) (fun y => y.2.1)⟩ hn⟩
  change vn ((z - 1) / 2) = nI (ir_up e z) at v5
  unfold wpY_hints ir_YS
  dsimp only
  rw [nI_clamp (show z < 2 ^ 31 by omega), nI_clamp (show j < 2 ^ 31 by omega), ir_half h0z (by omega), nI_clamp (show (z - 1) / 2 < 2 ^ 31 by omega), v5, v4 j hj]
  refine ⟨hjin, nm_e ⟨by decide, vp_in_nI (by omega) (by omega), nm_e ⟨fun h0 => ⟨h24, fun h1 => ?_, fun h1 => ⟨hjin, K _ (fun i => ?_)⟩⟩, fun h0 => hno (fun y => h0 y.1)⟩⟩⟩
  · have hd : ¬ ir_hd e z := fun y => v2.mpr y h1
    obtain ⟨hv, hvq⟩ := ir_vs_lt hE h0
    have fin : ∀ g : Int32, ir_ab (ir_up e z) (ir_vs e j).toNatClampNeg → (∀ i, bt g i = true ↔ i < 6 ∧ e_gl e j = nI i) → wY_hints_74 post (ir_vs e j) (nI (ir_up e z)) g (nI (e_N E)) (e_rl E) (e_dl E) (e_cl E) (e_nw E) la lc (e_ad E) (e_al E) (e_se E) (e_gl E) (e_mo E) (e_fn E) (e_fa E) (e_rm E) (e_ra E) (e_re E) (e_cs E) (e_ch E) (e_ce E) vc vh vl vz vn ta yo an wn wz tl := by
      intro g hab hg
      unfold wY_hints_74
      rw [hvq]
      refine yr_forged hE hq (by omega) (by omega) (fun r hr => K _ (fun i => ?_))
      rw [ir_orb, hg i, hr i]
      constructor
      · rintro (y | y)
        · exact ⟨y.1, h0, Or.inr ⟨hd, hab, Or.inl y.2⟩⟩
        · exact ⟨y.1, h0, Or.inr ⟨hd, hab, Or.inr y.2⟩⟩
      · rintro ⟨y0, _, y | ⟨_, _, y⟩⟩
        · exact absurd y.1 hd
        · exact y.imp (fun y => ⟨y0, y⟩) (fun y => ⟨y0, y⟩)
    have AB : ∀ P : Int32 → Prop, (ir_ab (ir_up e z) (ir_vs e j).toNatClampNeg → P 1) → (¬ ir_ab (ir_up e z) (ir_vs e j).toNatClampNeg → P 0) → wpY_atOrAbove P (ir_YS E la lc vc vh vl vz vn ta yo an wn wz tl) (nI (ir_up e z)) (ir_vs e j) := by
      intro P K1 K0
      generalize hs : (ir_vs e j).toNatClampNeg = s at *
      rw [hvq]
      exact yr_above (by omega) (by omega) K1 K0
    refine AB _ (fun hab => br_f ir_1ne ?_) (fun hab => br_t rfl (hno (fun y => y.2.elim hd hab)))
    refine ⟨hjin, fun hg => ⟨hjin, fin _ hab (fun i => ?_)⟩, fun hg => fin 0 hab (fun i => ?_)⟩
    · rw [hq.2.1] at hg ⊢
      obtain ⟨hg6, hgq⟩ := ir_id_nn (by omega) (hE.2.2.2.2.2.2.2.2.2.1 j) hg
      generalize (e_gl e j).toNatClampNeg = g at *
      rw [hgq, ir_one hg6]
      constructor
      · intro y; subst y; exact ⟨hg6, rfl⟩
      · rintro ⟨y0, y⟩
        rw [nI_eq (by omega) (by omega)] at y
        omega
    · rw [b_0]
      refine ⟨fun y => absurd y (by decide), fun y => ?_⟩
      rw [hq.2.1, y.2] at hg
      exact absurd (nI_pos' (by omega)) hg
  · have hd : ir_hd e z := v2.mp h1
    rw [hch hd]
    constructor
    · exact fun y => ⟨hE.2.2.2.2.2.2.2.2.1 j i y, h0, Or.inl ⟨hd, y⟩⟩
    · rintro ⟨_, _, y | y⟩
      · exact y.2
      · exact absurd hd y.1
theorem yr_talk89 : ∀ (d h f : Nat) (x2 : Int32), h + d = 6 → d < f → (∀ r, (∀ i, bt r i = true ↔ bt x2 i = true ∧ ¬ (h ≤ i ∧ i < 6 ∧ e_mo e i = 1)) → post r) → wY_talkFrom_89 post (nI (e_N e)) (e_rl e) (e_dl e) (e_cl e) (e_nw e) la lc (e_ad e) (e_al e) (e_se e) (e_gl e) (e_mo e) (e_fn e) (e_fa e) (e_rm e) (e_ra e) (e_re e) (e_cs e) (e_ch e) (e_ce e) vc vh vl vz vn ta yo an wn wz tl f x2 (nI h) := by
  intro d
  induction d with
  | zero =>
    intro h f x2 hh hf K
    obtain ⟨f, rfl⟩ : ∃ k, f = k + 1 := ⟨f - 1, by omega⟩
    simp only [wY_talkFrom_89]
    exact br_t (nI_le (a := 6) (by omega) (by omega)) (K x2 (fun i => ⟨fun y => ⟨y, fun w => by omega⟩, fun y => y.1⟩))
  | succ d ih =>
    intro h f x2 hh hf K
    obtain ⟨f, rfl⟩ : ∃ k, f = k + 1 := ⟨f - 1, by omega⟩
    simp only [wY_talkFrom_89]
    rw [nI_1, nI_clamp (show h < 2 ^ 31 by omega)]
    refine br_f (nI_ge (b := 6) (by omega) (by omega)) ⟨vp_in_nI (by omega) (by omega), fun hm => nm_e (nm_e (ih (h + 1) f _ (by omega) (by omega) (fun r hr => K r (fun i => ?_)))), fun hm => nm_e (ih (h + 1) f _ (by omega) (by omega) (fun r hr => K r (fun i => ?_)))⟩
    · rw [hr i, ir_clr (by omega)]
      constructor
      · rintro ⟨⟨y1, y2⟩, y3⟩
        exact ⟨y1, fun w => y3 ⟨by omega, w.2⟩⟩
      · rintro ⟨y1, y2⟩
        refine ⟨⟨y1, fun y => y2 ⟨by omega, by omega, by rw [y]; exact hm⟩⟩, fun w => y2 ⟨by omega, w.2⟩⟩
    · rw [hr i]
      constructor
      · rintro ⟨y1, y3⟩
        refine ⟨y1, fun w => ?_⟩
        rcases Nat.lt_or_ge h i with y | y
        · exact y3 ⟨by omega, w.2⟩
        · have : i = h := by omega
          subst this
          exact hm w.2.2
      · rintro ⟨y1, y2⟩
        exact ⟨y1, fun w => y2 ⟨by omega, w.2⟩⟩
/-- what one slot says -/
def ir_sd (e : ir_E) (V : ir_V) (z j i : Nat) : Prop := 0 ≤ ir_vs e j ∧ ir_op e V z ∧ (V (ir_vs e j).toNatClampNeg i ∨ (¬ ir_lv e (ir_vs e j).toNatClampNeg ∧ ir_hn e V z j i))
theorem yr_talk14 {z : Nat} (hE : ir_EI e) (hV : ir_VW e vc vh vl vz vn) (hz : z < e_N e) : ∀ (d k f : Nat) (x2 : Int32), k + d = 2 → d < f →
    (∀ r, (∀ i, bt r i = true ↔ (bt x2 i = true ∨ ∃ j, 2 * z + k ≤ j ∧ ir_sl z j ∧ ir_sd e (ir_y e ta an) z j i) ∧ ¬ (i < 6 ∧ e_mo e i = 1)) → post r) →
    wY_talkFrom_14 post (nI z) (nI (e_N e)) (e_rl e) (e_dl e) (e_cl e) (e_nw e) la lc (e_ad e) (e_al e) (e_se e) (e_gl e) (e_mo e) (e_fn e) (e_fa e) (e_rm e) (e_ra e) (e_re e) (e_cs e) (e_ch e) (e_ce e) vc vh vl vz vn ta yo an wn wz tl f x2 (nI (2 * z + k)) := by
  have hN := ir_EI_N hE
  intro d
  induction d with
  | zero =>
    intro k f x2 hk hf K
    obtain ⟨f, rfl⟩ : ∃ k, f = k + 1 := ⟨f - 1, by omega⟩
    simp only [wY_talkFrom_14]
    rw [ir_2m, show nI (2 * z) + 2 = nI (2 * z + 2) from nI_add (2 * z) 2]
    refine br_t (nI_le (by omega) (by omega)) (Exists.intro 7 (yr_talk89 6 0 7 x2 rfl (by omega) (fun r hr => K r (fun i => ?_))))
    rw [hr i]
    constructor
    · rintro ⟨y1, y2⟩
      exact ⟨Or.inl y1, fun w => y2 ⟨by omega, w⟩⟩
    · rintro ⟨y1 | ⟨j, y1, y3, _⟩, y2⟩
      · exact ⟨y1, fun w => y2 w.2⟩
      · rcases y3 with y3 | y3 <;> omega
  | succ d ih =>
    intro k f x2 hk hf K
    obtain ⟨f, rfl⟩ : ∃ k, f = k + 1 := ⟨f - 1, by omega⟩
    have hsl : ir_sl z (2 * z + k) := by unfold ir_sl; omega
    obtain ⟨v1, v2, v3, v4, -⟩ := hV z hz
    have step : ∀ y : Int32, (∀ i, bt y i = true ↔ bt x2 i = true ∨ ir_sd e (ir_y e ta an) z (2 * z + k) i) → wY_talkFrom_14 post (nI z) (nI (e_N e)) (e_rl e) (e_dl e) (e_cl e) (e_nw e) la lc (e_ad e) (e_al e) (e_se e) (e_gl e) (e_mo e) (e_fn e) (e_fa e) (e_rm e) (e_ra e) (e_re e) (e_cs e) (e_ch e) (e_ce e) vc vh vl vz vn ta yo an wn wz tl f y (nI (2 * z + k + 1)) := by
      intro y hy
      refine ih (k + 1) f y (by omega) (by omega) (fun r hr => K r (fun i => ?_))
      rw [hr i, hy i]
      refine and_congr_left (fun _ => ?_)
      constructor
      · rintro ((h | h) | ⟨j, h1, h2⟩)
        · exact Or.inl h
        · exact Or.inr ⟨_, Nat.le_refl _, hsl, h⟩
        · exact Or.inr ⟨j, by omega, h2⟩
      · rintro (h | ⟨j, h1, h2, h3⟩)
        · exact Or.inl (Or.inl h)
        · rcases Nat.lt_or_ge (2 * z + k) j with y | y
          · exact Or.inr ⟨j, by omega, h2, h3⟩
          · have : j = 2 * z + k := by omega
            subst this
            exact Or.inl (Or.inr h3)
    simp only [wY_talkFrom_14]
    rw [ir_2m, show nI (2 * z) + 2 = nI (2 * z + 2) from nI_add (2 * z) 2, nI_1, nI_clamp (show 2 * z + k < 2 ^ 31 by omega), v4 _ hsl]
    refine br_f (nI_ge (by omega) (by omega)) ⟨vp_in_nI (by omega) (by omega), nm_e ⟨fun h0 => ?_, fun h0 => ?_⟩⟩
    · exact nm_e (step x2 (fun i => ⟨Or.inl, fun y => y.elim id (fun y => absurd y.1 (Int32.not_le.mpr h0))⟩))
    · have h0' := ir_nlt.mp h0
      obtain ⟨hv, hvq⟩ := ir_vs_lt hE h0'
      have h0z : 0 < z := by
        rcases Nat.eq_zero_or_pos z with y | y
        · subst y
          rw [ir_vs0 hE hsl] at h0'
          exact absurd h0' (by decide)
        · exact y
      have hvin : vp_in (ir_vs e (2 * z + k)) 24 := by rw [hvq]; exact vp_in_nI (by omega) (by omega)
      obtain ⟨w1, -, -, -, -⟩ := hV _ hv
      refine yr_open hE hV h0z hz (fun ho => br_t rfl (nm_e (step x2 (fun i => ⟨Or.inl, fun y => y.elim id (fun y => absurd y.2.1 ho)⟩)))) (fun ho => br_f ir_1ne ⟨hvin, fun hc => ⟨hvin, ?_⟩, fun hc => ⟨hvin, nm_e (nm_e (step _ (fun i => ?_)))⟩⟩)
      · refine yr_hints hE ir_sq_r (fun _ => rfl) hV h0z hz hsl (fun r hr => nm_e (nm_e (step _ (fun i => ?_))))
        have hl : ¬ ir_lv e (ir_vs e (2 * z + k)).toNatClampNeg := fun y => w1.mpr y hc
        rw [ir_orb, ir_orb, hr i, ← ir_y_n (ta := ta) hN.2 hv]
        exact or_congr Iff.rfl ⟨fun y => ⟨h0', ho, y.imp id (fun y => ⟨hl, y⟩)⟩, fun y => y.2.2.imp id (fun y => y.2)⟩
      · rw [ir_orb, ← ir_y_n (ta := ta) hN.2 hv]
        exact or_congr Iff.rfl ⟨fun y => ⟨h0', ho, Or.inl y⟩, fun y => y.2.2.elim id (fun y => absurd (w1.mp hc) y.1)⟩
theorem yr_talk {z : Nat} (hE : ir_EI e) (hV : ir_VW e vc vh vl vz vn) (hz : z < e_N e) (hY : ∀ t i, ir_y e ta an t i → i < 6) (K : ∀ r, (∀ i, bt r i = true ↔ ir_F e (ir_y e ta an) (24 + z) i) → post r) : wpY_talkFrom post (ir_YS e la lc vc vh vl vz vn ta yo an wn wz tl) (nI z) := by
  have hN := ir_EI_N hE
  unfold wpY_talkFrom ir_YS
  dsimp only
  rw [ir_2m]
  refine pk_eq z 0 (fun h0 => nm_e (Exists.intro 3 (yr_talk14 hE hV hz 2 0 3 1 rfl (by omega) (fun r hr => K r (fun i => ?_))))) (fun h0 => nm_e (Exists.intro 3 (yr_talk14 hE hV hz 2 0 3 0 rfl (by omega) (fun r hr => K r (fun i => ?_)))))
  · rw [hr i, ir_1bit]
    unfold ir_F ir_FZ
    rw [Nat.add_sub_cancel_left]
    subst h0
    constructor
    · rintro ⟨y | ⟨j, _, y1, y2, _⟩, y3⟩
      · subst y
        exact ⟨by omega, Or.inr ⟨by omega, by omega, fun w => y3 ⟨by omega, w⟩, Or.inl ⟨rfl, rfl⟩⟩⟩
      · rw [ir_vs0 hE y1] at y2
        exact absurd y2 (by decide)
    · rintro ⟨y0, y | ⟨_, _, y1, y | y⟩⟩
      · omega
      · exact ⟨Or.inl y.2, fun w => y1 w.2⟩
      · exact absurd rfl y.1
  · rw [hr i, b_0]
    unfold ir_F ir_FZ
    rw [Nat.add_sub_cancel_left]
    constructor
    · rintro ⟨y | ⟨j, _, y1, y2, y4, y5⟩, y3⟩
      · exact absurd y (by decide)
      · have h6 : i < 6 := y5.elim (fun y => hY _ _ y) (fun y => y.2.1)
        exact ⟨h6, Or.inr ⟨by omega, by omega, fun w => y3 ⟨h6, w⟩, Or.inr ⟨h0, y4, j, y1, y2, y5⟩⟩⟩
    · rintro ⟨y0, y | ⟨_, _, y1, y | ⟨_, y2, j, y3, y4, y5⟩⟩⟩
      · omega
      · exact absurd y.1 h0
      · exact ⟨Or.inr ⟨j, by rcases y3 with w | w <;> omega, y3, y4, y2, y5⟩, fun w => y1 w.2⟩
end
end
section
/-! growth of Y's sets -/
def ir_YI (e : ir_E) (ta yo an : ir_A) : Prop :=
  (∀ t i, ir_y e ta an t i → ir_F e (ir_y e ta an) t i) ∧ (∀ t i, ir_y e ta an t i → ir_L e t i) ∧ (∀ m, m < e_N e → ∀ i, bt (yo m) i = true → ir_ow e (ir_y e ta an) m i)
def ir_yc (ta yo an : ir_A) : Nat := ir_sm (fun m => ir_pc (ta m) + ir_pc (yo m) + ir_pc (an m)) 24
def ir_yq (e : ir_E) (ta yo an : ir_A) (m : Nat) : Prop :=
  (∀ i, bt (ta m) i = true ↔ ir_F e (ir_y e ta an) (24 + m) i) ∧ (∀ i, bt (yo m) i = true ↔ ir_ow e (ir_y e ta an) m i) ∧ (∀ i, bt (an m) i = true ↔ ir_F e (ir_y e ta an) m i)
theorem ir_yc_le (ta yo an : ir_A) : ir_yc ta yo an ≤ 432 := by
  have := ir_sm_c (f := fun m => ir_pc (ta m) + ir_pc (yo m) + ir_pc (an m)) (c := 18) (n := 24) (fun k _ => by
    have h1 := ir_pc_le (ta k)
    have h2 := ir_pc_le (yo k)
    have h3 := ir_pc_le (an k)
    omega)
  unfold ir_yc
  omega
theorem ir_up1 {e : ir_E} {V V' : ir_V} {t : Nat} (h5 : ∀ s i, V s i → ir_F e V s i) (h6 : ∀ s i, V s i → ir_L e s i) (hs : ∀ s i, s ≠ t → (V' s i ↔ V s i)) (ht : ∀ i, V' t i ↔ ir_F e V t i) :
    (∀ s i, V s i → V' s i) ∧ (∀ s i, V' s i → ir_F e V' s i) ∧ (∀ s i, V' s i → ir_L e s i) := by
  have h1 : ∀ s i, V s i → V' s i := by
    intro s i h
    rcases Nat.decEq s t with y | y
    · exact (hs s i y).mpr h
    · subst y; exact (ht i).mpr (h5 s i h)
  have h2 : ∀ s i, V' s i → ir_F e V s i := by
    intro s i h
    rcases Nat.decEq s t with y | y
    · exact h5 s i ((hs s i y).mp h)
    · subst y; exact (ht i).mp h
  exact ⟨h1, fun s i h => ir_F_m h1 (h2 s i h), fun s i h => ir_L_cl (ir_F_m h6 (h2 s i h))⟩
theorem ir_y_ut {e : ir_E} {ta an : ir_A} {m : Nat} {v : Int32} (hN : e_N e ≤ 24) (s i : Nat) (h : s ≠ 24 + m) : ir_y e (upd ta m v) an s i ↔ ir_y e ta an s i := by
  unfold ir_y
  refine or_congr Iff.rfl (and_congr_right (fun h1 => ?_))
  rw [pk_un (show s - 24 ≠ m by omega)]
theorem ir_y_ua {e : ir_E} {ta an : ir_A} {m : Nat} {v : Int32} (s i : Nat) (h : s ≠ m) : ir_y e ta (upd an m v) s i ↔ ir_y e ta an s i := by
  unfold ir_y
  rw [pk_un h]
theorem ir_yg {e : ir_E} {ta yo an : ir_A} {m : Nat} {tv ov av : Int32} (hN : e_N e ≤ 24) (hm : m < e_N e) (h : ir_YI e ta yo an) (h1 : ∀ i, bt tv i = true ↔ ir_F e (ir_y e ta an) (24 + m) i)
    (h2 : ∀ i, bt ov i = true ↔ ir_ow e (ir_y e (upd ta m tv) an) m i) (h3 : ∀ i, bt av i = true ↔ ir_F e (ir_y e (upd ta m tv) an) m i) :
    ir_YI e (upd ta m tv) (upd yo m ov) (upd an m av) ∧ (∀ i, bt (ta m) i = true → bt tv i = true) ∧ (∀ i, bt (yo m) i = true → bt ov i = true) ∧ (∀ i, bt (an m) i = true → bt av i = true) ∧ ir_s6 tv ∧ ir_s6 ov ∧ ir_s6 av := by
  obtain ⟨g1, g2, g3⟩ := h
  obtain ⟨a1, a2, a3⟩ := ir_up1 (V' := ir_y e (upd ta m tv) an) (t := 24 + m) g1 g2 (ir_y_ut hN) (fun i => by rw [ir_y_z hN hm, pk_us]; exact h1 i)
  obtain ⟨b1, b2, b3⟩ := ir_up1 (V' := ir_y e (upd ta m tv) (upd an m av)) (t := m) a2 a3 ir_y_ua (fun i => by rw [ir_y_n hN hm, pk_us]; exact h3 i)
  have c1 : ∀ s i, ir_y e ta an s i → ir_y e (upd ta m tv) (upd an m av) s i := fun s i y => b1 s i (a1 s i y)
  refine ⟨⟨b2, b3, fun k hk i hb => ?_⟩, fun i y => (h1 i).mpr (g1 _ _ ((ir_y_z hN hm).mpr y)), fun i y => (h2 i).mpr (ir_ow_m a1 (g3 m hm i y)), fun i y => (h3 i).mpr (a2 _ _ (a1 _ _ ((ir_y_n hN hm).mpr y))),
    fun i y => ((h1 i).mp y).1, fun i y => ((h2 i).mp y).1, fun i y => ((h3 i).mp y).1⟩
  rcases Nat.decEq k m with y | y
  · rw [pk_un y] at hb
    exact ir_ow_m c1 (g3 k hk i hb)
  · subst y
    rw [pk_us] at hb
    exact ir_ow_m b1 ((h2 i).mp hb)
/-! sums of masks -/
def ir_nt (x : Int32) : Nat := x.toBitVec.toNat
theorem ir_nt_nI (x : Int32) : x = nI (ir_nt x) := by
  apply Int32.toBitVec_inj.1
  show x.toBitVec = BitVec.ofNat 32 x.toBitVec.toNat
  simp
theorem ir_nt_64 {x : Int32} (h : ir_s6 x) : ir_nt x < 64 := by
  refine Nat.lt_pow_two_of_testBit (n := 6) _ (fun i hi => ?_)
  cases hb : (ir_nt x).testBit i
  · rfl
  · exact absurd (h i hb) (by omega)
theorem ir_nt_le {x y : Int32} (h : ∀ i, bt x i = true → bt y i = true) : ir_nt x ≤ ir_nt y := by
  have : x ||| y = y := ir_bext (fun i _ => by rw [ir_orb]; exact ⟨fun z => z.elim (h i) id, Or.inr⟩)
  have h2 : ir_nt (x ||| y) = ir_nt x ||| ir_nt y := by
    unfold ir_nt
    rw [Int32.toBitVec_or, BitVec.toNat_or]
  rw [this] at h2
  rw [h2]
  exact Nat.left_le_or
theorem ir_sum3 {a b c a' b' c' : Int32} (h1 : ∀ i, bt a i = true → bt a' i = true) (h2 : ∀ i, bt b i = true → bt b' i = true) (h3 : ∀ i, bt c i = true → bt c' i = true) (k1 : ir_s6 a') (k2 : ir_s6 b') (k3 : ir_s6 c')
    (h : (a' + b') + c' = (a + b) + c) : a' = a ∧ b' = b ∧ c' = c := by
  have l1 := ir_nt_le h1
  have l2 := ir_nt_le h2
  have l3 := ir_nt_le h3
  have m1 := ir_nt_64 k1
  have m2 := ir_nt_64 k2
  have m3 := ir_nt_64 k3
  rw [ir_nt_nI a, ir_nt_nI b, ir_nt_nI c, ir_nt_nI a', ir_nt_nI b', ir_nt_nI c', nI_add, nI_add, nI_add, nI_add, nI_eq (by omega) (by omega)] at h
  have e1 : ir_nt a' = ir_nt a := by omega
  have e2 : ir_nt b' = ir_nt b := by omega
  have e3 : ir_nt c' = ir_nt c := by omega
  refine ⟨?_, ?_, ?_⟩
  · rw [ir_nt_nI a, ir_nt_nI a', e1]
  · rw [ir_nt_nI b, ir_nt_nI b', e2]
  · rw [ir_nt_nI c, ir_nt_nI c', e3]
theorem ir_yc_lt {ta yo an : ir_A} {m : Nat} {tv ov av : Int32} (hm : m < 24) (h1 : ∀ i, bt (ta m) i = true → bt tv i = true) (h2 : ∀ i, bt (yo m) i = true → bt ov i = true) (h3 : ∀ i, bt (an m) i = true → bt av i = true)
    (k1 : ir_s6 tv) (k2 : ir_s6 ov) (k3 : ir_s6 av) (h : ¬ (tv + ov) + av = (ta m + yo m) + an m) : ir_yc ta yo an < ir_yc (upd ta m tv) (upd yo m ov) (upd an m av) := by
  have c1 := ir_pc_mono h1
  have c2 := ir_pc_mono h2
  have c3 := ir_pc_mono h3
  have key : ir_pc (ta m) + ir_pc (yo m) + ir_pc (an m) < ir_pc tv + ir_pc ov + ir_pc av := by
    rcases Classical.em (ta m = tv) with y1 | y1
    · rcases Classical.em (yo m = ov) with y2 | y2
      · rcases Classical.em (an m = av) with y3 | y3
        · exact absurd (by rw [y1, y2, y3]) h
        · have := ir_pc_lt h3 k3 y3; omega
      · have := ir_pc_lt h2 k2 y2; omega
    · have := ir_pc_lt h1 k1 y1; omega
  unfold ir_yc
  refine ir_sm_lt (a := m) (fun k hk => ?_) hm ?_
  · rcases Nat.decEq k m with y | y
    · rw [pk_un y, pk_un y, pk_un y]; exact Nat.le_refl _
    · subst y
      rw [pk_us, pk_us, pk_us]; omega
  · rw [pk_us, pk_us, pk_us]; exact key
section
variable {e : ir_E} {la lc : Int32} {vc vh vl vz vn ta yo an wn wz tl : ir_A} {post : Int32 → SY → Prop}
theorem yg_135 {m : Nat} {x2 av : Int32} (hm : m < 24) (K : ∀ r, ((r = 0 ∧ (ta m + yo m) + av = x2) ∨ (r = 1 ∧ ¬ (ta m + yo m) + av = x2)) → post r (ir_YS e la lc vc vh vl vz vn ta yo (upd an m av) wn wz tl)) : wY_grow_135 post (nI m) x2 av (nI m) (nI (e_N e)) (e_rl e) (e_dl e) (e_cl e) (e_nw e) la lc (e_ad e) (e_al e) (e_se e) (e_gl e) (e_mo e) (e_fn e) (e_fa e) (e_rm e) (e_ra e) (e_re e) (e_cs e) (e_ch e) (e_ce e) vc vh vl vz vn ta yo an wn wz tl := by
  have h24 : vp_in (nI m) 24 := vp_in_nI hm (by omega)
  unfold wY_grow_135
  rw [nI_clamp (show m < 2 ^ 31 by omega)]
  refine ⟨h24, nm_e ⟨h24, h24, h24, ?_⟩⟩
  rw [pk_us]
  exact ⟨fun h => K 0 (Or.inl ⟨rfl, h⟩), fun h => K 1 (Or.inr ⟨rfl, h⟩)⟩
theorem yg_85 {m : Nat} {x2 ov : Int32} (hE : ir_EI e) (hV : ir_VW e vc vh vl vz vn) (hm : m < e_N e) (hY : ∀ t i, ir_y e ta an t i → i < 6) (ho : ∀ i, bt ov i = true ↔ ir_ow e (ir_y e ta an) m i)
    (K : ∀ r av, (∀ i, bt av i = true ↔ ir_F e (ir_y e ta an) m i) → ((r = 0 ∧ (ta m + ov) + av = x2) ∨ (r = 1 ∧ ¬ (ta m + ov) + av = x2)) → post r (ir_YS e la lc vc vh vl vz vn ta (upd yo m ov) (upd an m av) wn wz tl)) : wY_grow_85 post (nI m) x2 ov (nI m) (nI (e_N e)) (e_rl e) (e_dl e) (e_cl e) (e_nw e) la lc (e_ad e) (e_al e) (e_se e) (e_gl e) (e_mo e) (e_fn e) (e_fa e) (e_rm e) (e_ra e) (e_re e) (e_cs e) (e_ch e) (e_ce e) vc vh vl vz vn ta yo an wn wz tl := by
  have hN := ir_EI_N hE
  obtain ⟨v1, v2, v3, v4, v5⟩ := hV m hm
  have h24 : vp_in (nI m) 24 := vp_in_nI (by omega) (by omega)
  have plain : (¬ ir_hp e (ir_y e ta an) m ∨ ir_va e m < 0) → wY_grow_129 post (nI m) x2 (nI m) (nI (e_N e)) (e_rl e) (e_dl e) (e_cl e) (e_nw e) la lc (e_ad e) (e_al e) (e_se e) (e_gl e) (e_mo e) (e_fn e) (e_fa e) (e_rm e) (e_ra e) (e_re e) (e_cs e) (e_ch e) (e_ce e) vc vh vl vz vn ta (upd yo m ov) an wn wz tl := by
    intro hc
    unfold wY_grow_129
    rw [nI_clamp (show m < 2 ^ 31 by omega), pk_us]
    refine ⟨h24, yg_135 (by omega) (fun r hr => ?_)⟩
    rw [pk_us] at hr
    refine K r ov (fun i => ?_) hr
    rw [ho i]
    unfold ir_F ir_FN
    constructor
    · exact fun y => ⟨y.1, Or.inl ⟨hm, Or.inl y⟩⟩
    · rintro ⟨_, ⟨_, y | y⟩ | y⟩
      · exact y
      · rcases hc with hc | hc
        · exact absurd y.1 hc
        · exact absurd hc (Int32.not_lt.mpr y.2.1)
      · omega
  unfold wY_grow_85
  rw [nI_clamp (show m < 2 ^ 31 by omega), v3]
  refine ⟨h24, nm_e (yr_had (yo := upd yo m ov) hE hV hm (fun hp => br_t rfl (plain (Or.inl hp))) (fun hp => br_f ir_1ne ⟨h24, fun h0 => plain (Or.inr h0), fun h0 => ?_⟩))⟩
  have h0' := ir_nlt.mp h0
  obtain ⟨hv, hq⟩ := ir_va_lt hE h0'
  have hvin : vp_in (ir_va e m) 24 := by rw [hq]; exact vp_in_nI (by omega) (by omega)
  rw [pk_us]
  refine ⟨h24, h24, hvin, yg_135 (by omega) (fun r hr => ?_)⟩
  rw [pk_us] at hr
  refine K r _ (fun i => ?_) hr
  rw [ir_orb, ho i, ← ir_y_n (ta := ta) hN.2 hv]
  unfold ir_F ir_FN
  constructor
  · rintro (y | y)
    · exact ⟨y.1, Or.inl ⟨hm, Or.inl y⟩⟩
    · exact ⟨hY _ _ y, Or.inl ⟨hm, Or.inr ⟨hp, h0', y⟩⟩⟩
  · rintro ⟨_, ⟨_, y | y⟩ | y⟩
    · exact Or.inl y
    · exact Or.inr y.2.2
    · omega
theorem yg_grow {m : Nat} (hE : ir_EI e) (hV : ir_VW e vc vh vl vz vn) (hm : m < e_N e) (h : ir_YI e ta yo an)
    (K : ∀ r tv ov av, (∀ i, bt tv i = true ↔ ir_F e (ir_y e ta an) (24 + m) i) → (∀ i, bt ov i = true ↔ ir_ow e (ir_y e (upd ta m tv) an) m i) → (∀ i, bt av i = true ↔ ir_F e (ir_y e (upd ta m tv) an) m i) →
      ((r = 0 ∧ (tv + ov) + av = (ta m + yo m) + an m) ∨ (r = 1 ∧ ¬ (tv + ov) + av = (ta m + yo m) + an m)) → post r (ir_YS e la lc vc vh vl vz vn (upd ta m tv) (upd yo m ov) (upd an m av) wn wz tl)) : wpY_grow post (ir_YS e la lc vc vh vl vz vn ta yo an wn wz tl) (nI m) := by
  have hN := ir_EI_N hE
  obtain ⟨v1, v2, v3, v4, v5⟩ := hV m hm
  have hz := ir_znle e m
  have h24 : vp_in (nI m) 24 := vp_in_nI (by omega) (by omega)
  have hY : ∀ t i, ir_y e ta an t i → i < 6 := fun t i y => (h.1 t i y).1
  unfold wpY_grow ir_YS
  dsimp only
  rw [nI_clamp (show m < 2 ^ 31 by omega), v5]
  refine ⟨h24, h24, h24, nm_e (yr_talk hE hV hm hY (fun tv htv => ⟨h24, nm_e ⟨h24, ?_⟩⟩))⟩
  have hY1 : ∀ t i, ir_y e (upd ta m tv) an t i → i < 6 := by
    intro t i y
    rcases Nat.decEq t (24 + m) with w | w
    · exact hY t i ((ir_y_ut hN.2 t i w).mp y)
    · subst w
      rw [ir_y_z hN.2 hm, pk_us] at y
      exact ((htv i).mp y).1
  have fin : ∀ ov : Int32, (∀ i, bt ov i = true ↔ ir_ow e (ir_y e (upd ta m tv) an) m i) → wY_grow_85 post (nI m) ((ta m + yo m) + an m) ov (nI m) (nI (e_N e)) (e_rl e) (e_dl e) (e_cl e) (e_nw e) la lc (e_ad e) (e_al e) (e_se e) (e_gl e) (e_mo e) (e_fn e) (e_fa e) (e_rm e) (e_ra e) (e_re e) (e_cs e) (e_ch e) (e_ce e) vc vh vl vz vn (upd ta m tv) yo an wn wz tl := by
    intro ov ho
    refine yg_85 (ta := upd ta m tv) hE hV hm hY1 ho (fun r av hav hr => ?_)
    rw [pk_us] at hr
    exact K r tv ov av htv ho hav hr
  refine ⟨fun hc => ?_, fun hc => ⟨h24, fin _ (fun i => ?_)⟩⟩
  · have hl : ¬ ir_lv e m := fun y => v1.mpr y hc
    refine yr_had (ta := upd ta m tv) hE hV hm (fun hp => br_t rfl (fin 0 (fun i => ?_))) (fun hp => br_f ir_1ne ⟨h24, h24, ?_⟩)
    · rw [b_0]
      refine ⟨fun y => absurd y (by decide), fun y => ?_⟩
      rcases y.2 with y | y
      · exact absurd y.1 hl
      · exact absurd (Or.inr y.2.1) hp
    · have tk : ir_tk (ir_y e (upd ta m tv) an) (ir_zn e m) := hp.elim (fun y => absurd y hl) id
      refine yr_forged (ta := upd ta m tv) (an := an) hE ir_sq_r (by omega) (by omega) (fun r hr => fin _ (fun i => ?_))
      rw [ir_orb, hr i]
      constructor
      · rintro (y | y)
        · exact ⟨hE.2.2.2.2.2.2.1 m i y, Or.inr ⟨hl, tk, Or.inl y⟩⟩
        · exact ⟨y.1, Or.inr ⟨hl, tk, Or.inr y.2⟩⟩
      · rintro ⟨y0, y | ⟨_, _, y⟩⟩
        · exact absurd y.1 hl
        · exact y.imp id (fun y => ⟨y0, y⟩)
  · have hl : ir_lv e m := v1.mp hc
    constructor
    · exact fun y => ⟨hE.2.2.2.2.2.2.2.1 m i y, Or.inl ⟨hl, y⟩⟩
    · rintro ⟨_, y | y⟩
      · exact y.2
      · exact absurd hl y.1
end
end
section
section
variable {e : ir_E} {la lc : Int32} {vc vh vl vz vn ta yo an wn wz tl : ir_A} {post : Int32 → SY → Prop}
theorem yg_34 {J : Int32 → Int32 → Int32 → Int32 → Int32 → Int32 → Int32 → Int32 → Int32 → ir_A → ir_A → ir_A → ir_A → ir_A → ir_A → ir_A → ir_A → ir_A → ir_A → ir_A → ir_A → ir_A → ir_A → ir_A → ir_A → ir_A → ir_A → ir_A → ir_A → ir_A → ir_A → ir_A → ir_A → Prop}
    {x1 : Int32} {rd c0 : Nat} (hE : ir_EI e) (hV : ir_VW e vc vh vl vz vn)
    (K : ∀ g ta yo an, ir_YI e ta yo an → ((g = 0 ∧ ∀ m, m < e_N e → ir_yq e ta yo an m) ∨ (g = 1 ∧ c0 < ir_yc ta yo an)) → J g (nI (rd + 1)) (nI (e_N e)) (e_rl e) (e_dl e) (e_cl e) (e_nw e) la lc (e_ad e) (e_al e) (e_se e) (e_gl e) (e_mo e) (e_fn e) (e_fa e) (e_rm e) (e_ra e) (e_re e) (e_cs e) (e_ch e) (e_ce e) vc vh vl vz vn ta yo an wn wz tl) :
    ∀ (d k f : Nat) (g : Int32) (ta yo an : ir_A), k + d = e_N e → d < f → ir_YI e ta yo an → c0 ≤ ir_yc ta yo an → ((g = 0 ∧ ∀ m, m < k → ir_yq e ta yo an m) ∨ (g = 1 ∧ c0 < ir_yc ta yo an)) →
    wY_query_34 post J x1 (nI rd) f g (nI k) (nI (e_N e)) (e_rl e) (e_dl e) (e_cl e) (e_nw e) la lc (e_ad e) (e_al e) (e_se e) (e_gl e) (e_mo e) (e_fn e) (e_fa e) (e_rm e) (e_ra e) (e_re e) (e_cs e) (e_ch e) (e_ce e) vc vh vl vz vn ta yo an wn wz tl := by
  have hN := ir_EI_N hE
  intro d
  induction d with
  | zero =>
    intro k f g ta yo an hk hf hY hc hg
    obtain ⟨f, rfl⟩ : ∃ k, f = k + 1 := ⟨f - 1, by omega⟩
    have : k = e_N e := by omega
    subst this
    simp only [wY_query_34]
    exact br_t (Int32.le_refl _) (nm_r (nI_1 rd) (K g ta yo an hY hg))
  | succ d ih =>
    intro k f g ta yo an hk hf hY hc hg
    obtain ⟨f, rfl⟩ : ∃ k, f = k + 1 := ⟨f - 1, by omega⟩
    simp only [wY_query_34]
    refine br_f (nI_ge (b := e_N e) (by omega) (by omega)) (yg_grow hE hV (by omega) hY (fun r tv ov av h1 h2 h3 hr => ?_))
    obtain ⟨a1, a2, a3, a4, a5, a6, a7⟩ := ir_yg hN.2 (by omega) hY h1 h2 h3
    rcases hr with ⟨r0, hs⟩ | ⟨r1, hs⟩
    · obtain ⟨s1, s2, s3⟩ := ir_sum3 a2 a3 a4 a5 a6 a7 hs
      subst s1 s2 s3
      have u1 : upd ta k (ta k) = ta := ir_uself
      have u2 : upd yo k (yo k) = yo := ir_uself
      have u3 : upd an k (an k) = an := ir_uself
      rw [u1] at h2 h3
      rw [u1, u2, u3]
      refine br_t r0 (nm_r (nI_1 k) (ih (k + 1) f g ta yo an (by omega) (by omega) hY hc ?_))
      rcases hg with ⟨g0, hq⟩ | hg
      · refine Or.inl ⟨g0, fun m hm => ?_⟩
        rcases Nat.lt_or_ge m k with y | y
        · exact hq m y
        · have : m = k := by omega
          subst this
          exact ⟨h1, h2, h3⟩
      · exact Or.inr hg
    · have hlt := ir_yc_lt (by omega) a2 a3 a4 a5 a6 a7 hs
      refine br_f (by rw [r1]; exact ir_1ne) (nm_r (nI_1 k) (ih (k + 1) f 1 (upd ta k tv) (upd yo k ov) (upd an k av) (by omega) (by omega) a1 (by omega) (Or.inr ⟨rfl, by omega⟩)))
theorem yg_18 {n : Nat} (hE : ir_EI e) (hV : ir_VW e vc vh vl vz vn) (hn : n < e_N e)
    (K : ∀ ta yo an, ir_YI e ta yo an → (∀ m, m < e_N e → ir_yq e ta yo an m) → ∃ f, wY_query_75 post (nI n) f 0 (nI (e_N e)) (e_rl e) (e_dl e) (e_cl e) (e_nw e) la lc (e_ad e) (e_al e) (e_se e) (e_gl e) (e_mo e) (e_fn e) (e_fa e) (e_rm e) (e_ra e) (e_re e) (e_cs e) (e_ch e) (e_ce e) vc vh vl vz vn ta yo an (upd wn n 1) wz tl) :
    ∀ (d i f : Nat) (g : Int32) (ta yo an : ir_A), i + d = 440 → d < f → ir_YI e ta yo an → ((g = 0 ∧ ∀ m, m < e_N e → ir_yq e ta yo an m) ∨ (g = 1 ∧ i ≤ ir_yc ta yo an)) →
    wY_query_18 post (nI n) f g (nI i) (nI (e_N e)) (e_rl e) (e_dl e) (e_cl e) (e_nw e) la lc (e_ad e) (e_al e) (e_se e) (e_gl e) (e_mo e) (e_fn e) (e_fa e) (e_rm e) (e_ra e) (e_re e) (e_cs e) (e_ch e) (e_ce e) vc vh vl vz vn ta yo an wn wz tl := by
  have hN := ir_EI_N hE
  have h24 : vp_in (nI n) 24 := vp_in_nI (by omega) (by omega)
  intro d
  induction d with
  | zero =>
    intro i f g ta yo an hi hf hY hg
    obtain ⟨f, rfl⟩ : ∃ k, f = k + 1 := ⟨f - 1, by omega⟩
    have hq : ∀ m, m < e_N e → ir_yq e ta yo an m := by
      rcases hg with hg | hg
      · exact hg.2
      · have := ir_yc_le ta yo an
        omega
    simp only [wY_query_18]
    rw [nI_clamp (show n < 2 ^ 31 by omega), ir_nb1]
    exact br_t (nI_le (a := 440) (by omega) (by omega)) ⟨h24, nm_e (K ta yo an hY hq)⟩
  | succ d ih =>
    intro i f g ta yo an hi hf hY hg
    obtain ⟨f, rfl⟩ : ∃ k, f = k + 1 := ⟨f - 1, by omega⟩
    simp only [wY_query_18]
    rw [nI_clamp (show n < 2 ^ 31 by omega), ir_nb1]
    refine br_f (nI_ge (b := 440) (by omega) (by omega)) ?_
    rcases hg with ⟨g0, hq⟩ | ⟨g1, hc⟩
    · exact br_t g0 ⟨h24, nm_e (K ta yo an hY hq)⟩
    · refine br_f (by rw [g1]; exact ir_1ne) (Exists.intro (e_N e + 1) ?_)
      refine yg_34 (c0 := ir_yc ta yo an) hE hV (fun g' ta' yo' an' hY' hg' => ?_) (e_N e) 0 (e_N e + 1) 0 ta yo an (by omega) (by omega) hY (Nat.le_refl _) (Or.inl ⟨rfl, fun m hm => by omega⟩)
      refine ih (i + 1) f g' ta' yo' an' (by omega) (by omega) hY' ?_
      rcases hg' with y | y
      · exact Or.inl y
      · exact Or.inr ⟨y.1, by omega⟩
/-- at the end Y's sets are the least ones -/
theorem ir_yL (hE : ir_EI e) (hY : ir_YI e ta yo an) (hq : ∀ m, m < e_N e → ir_yq e ta yo an m) : ir_y e ta an = ir_L e := by
  have hN := ir_EI_N hE
  funext t i
  refine propext ⟨hY.2.1 t i, fun h => ir_L_least (S := ir_y e ta an) (fun t i hF => ?_) h⟩
  rcases hF.2 with y | y
  · exact (ir_y_n hN.2 y.1).mpr (((hq t y.1).2.2 i).mpr hF)
  · obtain ⟨z, rfl⟩ : ∃ z, t = 24 + z := ⟨t - 24, by omega⟩
    exact (ir_y_z hN.2 (by omega)).mpr (((hq z (by omega)).1 i).mpr hF)
end
end
section
/-! Y's demand -/
def ir_DS (e : ir_E) (wn wz : ir_A) (t : Nat) : Prop := (t < e_N e ∧ wn t ≠ 0) ∨ (24 ≤ t ∧ t < 24 + e_N e ∧ wz (t - 24) ≠ 0)
def ir_cl (e : ir_E) (S : Nat → Prop) : Prop := ∀ t s, S t → ir_dm e (ir_L e) t s → S s
/-- more is wanted, and nothing that no closed set needs -/
def ir_GR (e : ir_E) (wn wz wn' wz' : ir_A) : Prop :=
  (∀ t, ir_DS e wn wz t → ir_DS e wn' wz' t) ∧ (∀ S : Nat → Prop, ir_cl e S → (∀ t, ir_DS e wn wz t → S t) → ∀ t, ir_DS e wn' wz' t → S t)
theorem ir_GR_r {e : ir_E} {wn wz : ir_A} : ir_GR e wn wz wn wz := ⟨fun _ h => h, fun _ _ h => h⟩
theorem ir_GR_t {e : ir_E} {a b c d f g : ir_A} (h : ir_GR e a b c d) (k : ir_GR e c d f g) : ir_GR e a b f g :=
  ⟨fun t x => k.1 t (h.1 t x), fun S hS hs => k.2 S hS (h.2 S hS hs)⟩
theorem ir_DS_n {e : ir_E} {wn wz : ir_A} {t : Nat} (hN : e_N e ≤ 24) (ht : t < e_N e) : ir_DS e wn wz t ↔ wn t ≠ 0 :=
  ⟨fun y => y.elim (fun y => y.2) (fun y => by omega), fun y => Or.inl ⟨ht, y⟩⟩
theorem ir_DS_z {e : ir_E} {wn wz : ir_A} {z : Nat} (hN : e_N e ≤ 24) (hz : z < e_N e) : ir_DS e wn wz (24 + z) ↔ wz z ≠ 0 := by
  constructor
  · rintro (y | ⟨_, _, y⟩)
    · omega
    · rw [Nat.add_sub_cancel_left] at y; exact y
  · exact fun y => Or.inr ⟨by omega, by omega, by rw [Nat.add_sub_cancel_left]; exact y⟩
theorem ir_DS_un {e : ir_E} {wn wz : ir_A} {s : Nat} (hs : s < e_N e) (t : Nat) : ir_DS e (upd wn s 1) wz t ↔ ir_DS e wn wz t ∨ t = s := by
  unfold ir_DS
  rcases Nat.decEq t s with y | y
  · rw [pk_un y]
    exact ⟨Or.inl, fun w => w.elim id (fun w => absurd w y)⟩
  · subst y
    rw [pk_us]
    exact ⟨fun _ => Or.inr rfl, fun _ => Or.inl ⟨hs, ir_1ne⟩⟩
theorem ir_DS_uz {e : ir_E} {wn wz : ir_A} {z : Nat} (hN : e_N e ≤ 24) (hz : z < e_N e) (t : Nat) : ir_DS e wn (upd wz z 1) t ↔ ir_DS e wn wz t ∨ t = 24 + z := by
  unfold ir_DS
  rcases Nat.decEq t (24 + z) with y | y
  · constructor
    · rintro (w | ⟨w1, w2, w3⟩)
      · exact Or.inl (Or.inl w)
      · rw [pk_un (show t - 24 ≠ z by omega)] at w3
        exact Or.inl (Or.inr ⟨w1, w2, w3⟩)
    · rintro ((w | ⟨w1, w2, w3⟩) | w)
      · exact Or.inl w
      · exact Or.inr ⟨w1, w2, by rw [pk_un (show t - 24 ≠ z by omega)]; exact w3⟩
      · exact absurd w y
  · subst y
    refine ⟨fun _ => Or.inr rfl, fun _ => Or.inr ⟨by omega, by omega, ?_⟩⟩
    rw [Nat.add_sub_cancel_left, pk_us]; exact ir_1ne
theorem ir_GR_n {e : ir_E} {wn wz : ir_A} {t s : Nat} (ht : ir_DS e wn wz t) (d : ir_dm e (ir_L e) t s) (hs : s < e_N e) : ir_GR e wn wz (upd wn s 1) wz :=
  ⟨fun q h => (ir_DS_un hs q).mpr (Or.inl h), fun S hS h q hq => ((ir_DS_un hs q).mp hq).elim (h q) (fun y => by rw [y]; exact hS t s (h t ht) d)⟩
theorem ir_GR_z {e : ir_E} {wn wz : ir_A} {t z : Nat} (hN : e_N e ≤ 24) (ht : ir_DS e wn wz t) (d : ir_dm e (ir_L e) t (24 + z)) (hz : z < e_N e) : ir_GR e wn wz wn (upd wz z 1) :=
  ⟨fun q h => (ir_DS_uz hN hz q).mpr (Or.inl h), fun S hS h q hq => ((ir_DS_uz hN hz q).mp hq).elim (h q) (fun y => by rw [y]; exact hS t _ (h t ht) d)⟩
section
variable {e : ir_E} {la lc : Int32} {vc vh vl vz vn ta yo an wn wz tl : ir_A} {post : SY → Prop}
theorem yd_111 {z : Nat} (hE : ir_EI e) (hV : ir_VW e vc vh vl vz vn) (hL : ir_y e ta an = ir_L e) (h0z : 0 < z) (hz : z < e_N e) : ∀ (d k f : Nat) (wn : ir_A), k + d = 2 → d < f → ir_DS e wn wz (24 + z) →
    (∀ wn', ir_GR e wn wz wn' wz → (∀ j, 2 * z + k ≤ j → ir_sl z j → 0 ≤ ir_vs e j → ir_op e (ir_L e) z → ir_DS e wn' wz (ir_vs e j).toNatClampNeg) → post (ir_YS e la lc vc vh vl vz vn ta yo an wn' wz tl)) →
    wY_demand_111 post (nI z) (nI (e_N e)) (e_rl e) (e_dl e) (e_cl e) (e_nw e) la lc f (nI (2 * z + k)) (e_ad e) (e_al e) (e_se e) (e_gl e) (e_mo e) (e_fn e) (e_fa e) (e_rm e) (e_ra e) (e_re e) (e_cs e) (e_ch e) (e_ce e) vc vh vl vz vn ta yo an wn wz tl := by
  have hN := ir_EI_N hE
  obtain ⟨-, -, -, v4, -⟩ := hV z hz
  intro d
  induction d with
  | zero =>
    intro k f wn hk hf hD K
    obtain ⟨f, rfl⟩ : ∃ k, f = k + 1 := ⟨f - 1, by omega⟩
    simp only [wY_demand_111]
    rw [ir_2m, show nI (2 * z) + 2 = nI (2 * z + 2) from nI_add (2 * z) 2]
    refine br_t (nI_le (by omega) (by omega)) (K wn ir_GR_r (fun j hj hs => ?_))
    rcases hs with hs | hs <;> omega
  | succ d ih =>
    intro k f wn hk hf hD K
    obtain ⟨f, rfl⟩ : ∃ k, f = k + 1 := ⟨f - 1, by omega⟩
    have hsl : ir_sl z (2 * z + k) := by unfold ir_sl; omega
    have h48 : vp_in (nI (2 * z + k)) 48 := vp_in_nI (by omega) (by omega)
    have step : ∀ wn1 : ir_A, ir_GR e wn wz wn1 wz → (0 ≤ ir_vs e (2 * z + k) → ir_op e (ir_L e) z → ir_DS e wn1 wz (ir_vs e (2 * z + k)).toNatClampNeg) → wY_demand_111 post (nI z) (nI (e_N e)) (e_rl e) (e_dl e) (e_cl e) (e_nw e) la lc f (nI (2 * z + k + 1)) (e_ad e) (e_al e) (e_se e) (e_gl e) (e_mo e) (e_fn e) (e_fa e) (e_rm e) (e_ra e) (e_re e) (e_cs e) (e_ch e) (e_ce e) vc vh vl vz vn ta yo an wn1 wz tl := by
      intro wn1 g1 g2
      refine ih (k + 1) f wn1 (by omega) (by omega) (g1.1 _ hD) (fun wn' c1 c2 => K wn' (ir_GR_t g1 c1) (fun j hj hs h0 ho => ?_))
      rcases Nat.lt_or_ge (2 * z + k) j with y | y
      · exact c2 j (by omega) hs h0 ho
      · have : j = 2 * z + k := by omega
        subst this
        exact c1.1 _ (g2 h0 ho)
    simp only [wY_demand_111]
    rw [ir_2m, show nI (2 * z) + 2 = nI (2 * z + 2) from nI_add (2 * z) 2, nI_1, nI_clamp (show 2 * z + k < 2 ^ 31 by omega), v4 _ hsl, ir_nb1]
    refine br_f (nI_ge (by omega) (by omega)) ⟨h48, fun h0 => ?_, fun h0 => ?_⟩
    · exact nm_e (step wn ir_GR_r (fun y => absurd h0 (Int32.not_lt.mpr y)))
    · have h0' := ir_nlt.mp h0
      obtain ⟨hv, hvq⟩ := ir_vs_lt hE h0'
      have hvin : vp_in (ir_vs e (2 * z + k)) 24 := by rw [hvq]; exact vp_in_nI (by omega) (by omega)
      refine yr_open hE hV h0z hz (fun ho => br_t rfl (nm_e (step wn ir_GR_r (fun _ y => ?_)))) (fun ho => br_f ir_1ne ⟨h48, hvin, nm_e (nm_e (step _ (ir_GR_n hD (Or.inr (Or.inr (Or.inr ⟨by omega, by omega, ?_⟩))) hv) (fun _ _ => (ir_DS_un hv _).mpr (Or.inr rfl))))⟩)
      · rw [hL] at ho; exact absurd y ho
      · rw [hL] at ho
        rw [Nat.add_sub_cancel_left]
        exact ⟨ho, _, hsl, h0', rfl⟩
theorem yd_68 {z : Nat} (hE : ir_EI e) (hV : ir_VW e vc vh vl vz vn) (hL : ir_y e ta an = ir_L e) (hz : z < e_N e)
    (K : ∀ wn' wz', ir_GR e wn wz wn' wz' → (ir_DS e wn wz (24 + z) → ∀ s, ir_dm e (ir_L e) (24 + z) s → ir_DS e wn' wz' s) → post (ir_YS e la lc vc vh vl vz vn ta yo an wn' wz' tl)) : wY_demand_68 post (nI z) (nI (e_N e)) (e_rl e) (e_dl e) (e_cl e) (e_nw e) la lc (e_ad e) (e_al e) (e_se e) (e_gl e) (e_mo e) (e_fn e) (e_fa e) (e_rm e) (e_ra e) (e_re e) (e_cs e) (e_ch e) (e_ce e) vc vh vl vz vn ta yo an wn wz tl := by
  have hN := ir_EI_N hE
  have h24 : vp_in (nI z) 24 := vp_in_nI (by omega) (by omega)
  unfold wY_demand_68
  refine pk_eq z 0 (fun h0 => K wn wz ir_GR_r (fun _ s d => ?_)) (fun h0 => ?_)
  · subst h0
    rcases d with d | d | d | d
    · omega
    · omega
    · omega
    · omega
  · obtain ⟨-, v2, -, -, -⟩ := hV z hz
    obtain ⟨-, -, -, -, v5⟩ := hV ((z - 1) / 2) (by omega)
    change vn ((z - 1) / 2) = nI (ir_up e z) at v5
    have hup : ir_up e z ≤ (z - 1) / 2 := ir_znle e _
    rw [nI_clamp (show z < 2 ^ 31 by omega), ir_half (by omega) (by omega), nI_clamp (show (z - 1) / 2 < 2 ^ 31 by omega), v5, nI_clamp (show ir_up e z < 2 ^ 31 by omega), ir_2m, ir_nb1]
    refine ⟨h24, fun h1 => K wn wz ir_GR_r (fun y => absurd h1 ((ir_DS_z hN.2 hz).mp y)), fun h1 => ⟨h24, fun h2 => ⟨by decide, vp_in_nI (by omega) (by omega), vp_in_nI (by omega) (by omega), nm_e (nm_e (Exists.intro 3 ?_))⟩, fun h2 => nm_e (Exists.intro 3 ?_)⟩⟩
    · have hd : ¬ ir_hd e z := fun y => v2.mpr y h2
      have hD : ir_DS e wn wz (24 + z) := (ir_DS_z hN.2 hz).mpr h1
      have d1 : ir_dm e (ir_L e) (24 + z) (24 + ir_up e z) := Or.inr (Or.inr (Or.inl ⟨by omega, by omega, by rw [Nat.add_sub_cancel_left]; exact ⟨hd, rfl⟩⟩))
      have g1 := ir_GR_z (wn := wn) hN.2 hD d1 (by omega)
      refine yd_111 (wz := upd wz (ir_up e z) 1) hE hV hL (by omega) hz 2 0 3 wn rfl (by omega) (g1.1 _ hD) (fun wn' c1 c2 => K wn' (upd wz (ir_up e z) 1) (ir_GR_t g1 c1) (fun _ s d => ?_))
      rcases d with d | d | d | d
      · omega
      · omega
      · rw [Nat.add_sub_cancel_left] at d
        rw [d.2.2.2]
        exact c1.1 _ ((ir_DS_uz hN.2 (by omega) _).mpr (Or.inr rfl))
      · rw [Nat.add_sub_cancel_left] at d
        obtain ⟨_, _, ho, j, hj, h0, rfl⟩ := d
        exact c2 j (by rcases hj with y | y <;> omega) hj h0 ho
    · have hd : ir_hd e z := v2.mp h2
      have hD : ir_DS e wn wz (24 + z) := (ir_DS_z hN.2 hz).mpr h1
      refine yd_111 hE hV hL (by omega) hz 2 0 3 wn rfl (by omega) hD (fun wn' c1 c2 => K wn' wz c1 (fun _ s d => ?_))
      rcases d with d | d | d | d
      · omega
      · omega
      · rw [Nat.add_sub_cancel_left] at d
        exact absurd hd d.2.2.1
      · rw [Nat.add_sub_cancel_left] at d
        obtain ⟨_, _, ho, j, hj, h0, rfl⟩ := d
        exact c2 j (by rcases hj with y | y <;> omega) hj h0 ho
theorem yd_30 {m : Nat} (hE : ir_EI e) (hV : ir_VW e vc vh vl vz vn) (hL : ir_y e ta an = ir_L e) (hm : m < e_N e)
    (K : ∀ wn' wz', ir_GR e wn wz wn' wz' → (ir_DS e wn wz m → ir_hp e (ir_L e) m → 0 ≤ ir_va e m → ir_DS e wn' wz' (ir_va e m).toNatClampNeg) →
      (ir_DS e wn wz (24 + m) → ∀ s, ir_dm e (ir_L e) (24 + m) s → ir_DS e wn' wz' s) → post (ir_YS e la lc vc vh vl vz vn ta yo an wn' wz' tl)) : wY_demand_30 post (nI m) (nI (e_N e)) (e_rl e) (e_dl e) (e_cl e) (e_nw e) la lc (e_ad e) (e_al e) (e_se e) (e_gl e) (e_mo e) (e_fn e) (e_fa e) (e_rm e) (e_ra e) (e_re e) (e_cs e) (e_ch e) (e_ce e) vc vh vl vz vn ta yo an wn wz tl := by
  have hN := ir_EI_N hE
  have h24 : vp_in (nI m) 24 := vp_in_nI (by omega) (by omega)
  obtain ⟨-, -, v3, -, -⟩ := hV m hm
  have plain : (¬ (wn m ≠ 0 ∧ ir_hp e (ir_L e) m ∧ 0 ≤ ir_va e m)) → wY_demand_68 post (nI m) (nI (e_N e)) (e_rl e) (e_dl e) (e_cl e) (e_nw e) la lc (e_ad e) (e_al e) (e_se e) (e_gl e) (e_mo e) (e_fn e) (e_fa e) (e_rm e) (e_ra e) (e_re e) (e_cs e) (e_ch e) (e_ce e) vc vh vl vz vn ta yo an wn wz tl := by
    intro hc
    refine yd_68 hE hV hL hm (fun wn' wz' c1 c2 => K wn' wz' c1 (fun y1 y2 y3 => absurd ⟨(ir_DS_n hN.2 hm).mp y1, y2, y3⟩ hc) c2)
  unfold wY_demand_30
  rw [nI_clamp (show m < 2 ^ 31 by omega), v3, ir_nb1]
  refine ⟨h24, fun h0 => plain (fun y => y.1 h0), fun h0 => yr_had hE hV hm (fun hp => br_t rfl (plain (fun y => hp (by rw [hL]; exact y.2.1)))) (fun hp => br_f ir_1ne ⟨h24, fun h1 => plain (fun y => absurd h1 (Int32.not_lt.mpr y.2.2)), fun h1 => ?_⟩)⟩
  rw [hL] at hp
  have h1' := ir_nlt.mp h1
  obtain ⟨hv, hvq⟩ := ir_va_lt hE h1'
  have hvin : vp_in (ir_va e m) 24 := by rw [hvq]; exact vp_in_nI (by omega) (by omega)
  have hD : ir_DS e wn wz m := (ir_DS_n hN.2 hm).mpr h0
  have g1 := ir_GR_n (s := (ir_va e m).toNatClampNeg) hD (Or.inr (Or.inl ⟨hm, hp, h1', rfl⟩)) hv
  refine ⟨h24, hvin, nm_e (yd_68 (wn := upd wn (ir_va e m).toNatClampNeg 1) hE hV hL hm (fun wn' wz' c1 c2 => K wn' wz' (ir_GR_t g1 c1) (fun _ _ _ => c1.1 _ ((ir_DS_un hv _).mpr (Or.inr rfl))) (fun y => c2 (g1.1 _ y))))⟩
theorem yd_demand {m : Nat} (hE : ir_EI e) (hV : ir_VW e vc vh vl vz vn) (hL : ir_y e ta an = ir_L e) (hm : m < e_N e)
    (K : ∀ wn' wz', ir_GR e wn wz wn' wz' → (∀ t s, (t = m ∨ t = 24 + m) → ir_DS e wn wz t → ir_dm e (ir_L e) t s → ir_DS e wn' wz' s) → post (ir_YS e la lc vc vh vl vz vn ta yo an wn' wz' tl)) : wpY_demand post (ir_YS e la lc vc vh vl vz vn ta yo an wn wz tl) (nI m) := by
  have hN := ir_EI_N hE
  have h24 : vp_in (nI m) 24 := vp_in_nI (by omega) (by omega)
  obtain ⟨v1, -, -, -, v5⟩ := hV m hm
  have hz := ir_znle e m
  have fin : ∀ wn' wz' : ir_A, (ir_DS e wn wz m → ¬ ir_lv e m → ir_DS e wn' wz' (24 + ir_zn e m)) → (ir_DS e wn wz m → ir_hp e (ir_L e) m → 0 ≤ ir_va e m → ir_DS e wn' wz' (ir_va e m).toNatClampNeg) →
      (ir_DS e wn wz (24 + m) → ∀ s, ir_dm e (ir_L e) (24 + m) s → ir_DS e wn' wz' s) → ∀ t s, (t = m ∨ t = 24 + m) → ir_DS e wn wz t → ir_dm e (ir_L e) t s → ir_DS e wn' wz' s := by
    intro wn' wz' f1 f2 f3 t s ht hD d
    rcases ht with rfl | rfl
    · rcases d with ⟨_, y, rfl⟩ | ⟨_, y1, y2, rfl⟩ | y | y
      · exact f1 hD y
      · exact f2 hD y1 y2
      · omega
      · omega
    · exact f3 hD s d
  unfold wpY_demand ir_YS
  dsimp only
  rw [nI_clamp (show m < 2 ^ 31 by omega), v5, nI_clamp (show ir_zn e m < 2 ^ 31 by omega), ir_nb1]
  refine ⟨h24, fun h0 => ?_, fun h0 => ⟨h24, fun h1 => ⟨h24, vp_in_nI (by omega) (by omega), nm_e ?_⟩, fun h1 => ?_⟩⟩
  · exact yd_30 hE hV hL hm (fun wn' wz' c1 c2 c3 => K wn' wz' c1 (fin wn' wz' (fun y => absurd h0 ((ir_DS_n hN.2 hm).mp y)) c2 c3))
  · have hl : ¬ ir_lv e m := fun y => v1.mpr y h1
    have hD : ir_DS e wn wz m := (ir_DS_n hN.2 hm).mpr h0
    have g1 := ir_GR_z (wn := wn) (z := ir_zn e m) hN.2 hD (Or.inl ⟨hm, hl, rfl⟩) (by omega)
    exact yd_30 (wz := upd wz (ir_zn e m) 1) hE hV hL hm (fun wn' wz' c1 c2 c3 => K wn' wz' (ir_GR_t g1 c1) (fin wn' wz' (fun _ _ => c1.1 _ ((ir_DS_uz hN.2 (by omega) _).mpr (Or.inr rfl))) (fun y => c2 (g1.1 _ y)) (fun y => c3 (g1.1 _ y))))
  · exact yd_30 hE hV hL hm (fun wn' wz' c1 c2 c3 => K wn' wz' c1 (fin wn' wz' (fun _ y => absurd (v1.mp h1) y) c2 c3))
end
end
section
def ir_dc (e : ir_E) (wn wz : ir_A) : Nat := ir_sm (fun m => ir_f (wn m) + ir_f (wz m)) (e_N e)
section
variable {e : ir_E} {la lc : Int32} {vc vh vl vz vn ta yo an wn wz tl wn' wz' : ir_A} {post : Int32 → SY → Prop}
theorem ir_dc_le (hN : e_N e ≤ 24) : ir_dc e wn wz ≤ 48 := by
  have := ir_sm_c (f := fun m => ir_f (wn m) + ir_f (wz m)) (c := 2) (n := e_N e) (fun k _ => by
    have h1 := ir_f_le (wn k)
    have h2 := ir_f_le (wz k)
    omega)
  unfold ir_dc
  omega
theorem ir_f_m {x y : Int32} (h : x ≠ 0 → y ≠ 0) : ir_f x ≤ ir_f y := by
  rcases Classical.em (x = 0) with a | a
  · rw [ir_f0 a]; omega
  · rw [ir_f1 a, ir_f1 (h a)]; omega
theorem ir_dc_m (hN : e_N e ≤ 24) (g : ir_GR e wn wz wn' wz') : ir_dc e wn wz ≤ ir_dc e wn' wz' ∧ (ir_dc e wn' wz' ≤ ir_dc e wn wz → ∀ t, ir_DS e wn' wz' t → ir_DS e wn wz t) := by
  have h1 : ∀ m, m < e_N e → ir_f (wn m) ≤ ir_f (wn' m) := fun m hm => ir_f_m (fun y => (ir_DS_n hN hm).mp (g.1 m ((ir_DS_n hN hm).mpr y)))
  have h2 : ∀ m, m < e_N e → ir_f (wz m) ≤ ir_f (wz' m) := fun m hm => ir_f_m (fun y => (ir_DS_z hN hm).mp (g.1 _ ((ir_DS_z hN hm).mpr y)))
  have h3 : ∀ m, m < e_N e → ir_f (wn m) + ir_f (wz m) ≤ ir_f (wn' m) + ir_f (wz' m) := fun m hm => Nat.add_le_add (h1 m hm) (h2 m hm)
  refine ⟨ir_sm_le h3, fun hle t hD => Classical.byContradiction (fun hn => ?_)⟩
  have key : ir_dc e wn wz < ir_dc e wn' wz' := by
    rcases hD with ⟨ht, hw⟩ | ⟨h24, ht, hw⟩
    · refine ir_sm_lt (a := t) h3 ht ?_
      have a1 : wn t = 0 := Classical.byContradiction (fun y => hn ((ir_DS_n hN ht).mpr y))
      have a2 := h2 t ht
      rw [ir_f0 a1, ir_f1 hw]
      omega
    · obtain ⟨z, rfl⟩ : ∃ z, t = 24 + z := ⟨t - 24, by omega⟩
      rw [Nat.add_sub_cancel_left] at hw
      have hz : z < e_N e := by omega
      refine ir_sm_lt (a := z) h3 hz ?_
      have a1 : wz z = 0 := Classical.byContradiction (fun y => hn ((ir_DS_z hN hz).mpr y))
      have a2 := h1 z hz
      rw [ir_f0 a1, ir_f1 hw]
      omega
  omega
theorem yd_84 {J : Int32 → Int32 → Int32 → Int32 → Int32 → Int32 → Int32 → Int32 → ir_A → ir_A → ir_A → ir_A → ir_A → ir_A → ir_A → ir_A → ir_A → ir_A → ir_A → ir_A → ir_A → ir_A → ir_A → ir_A → ir_A → ir_A → ir_A → ir_A → ir_A → ir_A → ir_A → ir_A → Prop}
    {x1 : Int32} {rd : Nat} {wn0 wz0 : ir_A} (hE : ir_EI e) (hV : ir_VW e vc vh vl vz vn) (hL : ir_y e ta an = ir_L e)
    (K : ∀ wn wz, ir_GR e wn0 wz0 wn wz → (∀ t s, ir_DS e wn0 wz0 t → ir_dm e (ir_L e) t s → ir_DS e wn wz s) → J (nI (rd + 1)) (nI (e_N e)) (e_rl e) (e_dl e) (e_cl e) (e_nw e) la lc (e_ad e) (e_al e) (e_se e) (e_gl e) (e_mo e) (e_fn e) (e_fa e) (e_rm e) (e_ra e) (e_re e) (e_cs e) (e_ch e) (e_ce e) vc vh vl vz vn ta yo an wn wz tl) :
    ∀ (d k f : Nat) (wn wz : ir_A), k + d = e_N e → d < f → ir_GR e wn0 wz0 wn wz → (∀ m, m < k → ∀ t s, (t = m ∨ t = 24 + m) → ir_DS e wn0 wz0 t → ir_dm e (ir_L e) t s → ir_DS e wn wz s) →
    wY_query_84 post J x1 (nI rd) f (nI k) (nI (e_N e)) (e_rl e) (e_dl e) (e_cl e) (e_nw e) la lc (e_ad e) (e_al e) (e_se e) (e_gl e) (e_mo e) (e_fn e) (e_fa e) (e_rm e) (e_ra e) (e_re e) (e_cs e) (e_ch e) (e_ce e) vc vh vl vz vn ta yo an wn wz tl := by
  have hN := ir_EI_N hE
  intro d
  induction d with
  | zero =>
    intro k f wn wz hk hf hG hq
    obtain ⟨f, rfl⟩ : ∃ k, f = k + 1 := ⟨f - 1, by omega⟩
    have : k = e_N e := by omega
    subst this
    simp only [wY_query_84]
    refine br_t (Int32.le_refl _) (nm_r (nI_1 rd) (K wn wz hG (fun t s hD d => ?_)))
    rcases hD with y | y
    · exact hq t y.1 t s (Or.inl rfl) (Or.inl y) d
    · exact hq (t - 24) (by omega) t s (Or.inr (by omega)) (Or.inr y) d
  | succ d ih =>
    intro k f wn wz hk hf hG hq
    obtain ⟨f, rfl⟩ : ∃ k, f = k + 1 := ⟨f - 1, by omega⟩
    simp only [wY_query_84]
    refine br_f (nI_ge (b := e_N e) (by omega) (by omega)) (yd_demand hE hV hL (by omega) (fun wn' wz' c1 c2 => ?_))
    refine nm_r (nI_1 k) (ih (k + 1) f wn' wz' (by omega) (by omega) (ir_GR_t hG c1) (fun m hm t s ht hD d => ?_))
    rcases Nat.lt_or_ge m k with y | y
    · exact c1.1 _ (hq m y t s ht hD d)
    · have : m = k := by omega
      subst this
      exact c2 t s ht (hG.1 t hD) d
theorem yd_75 {n : Nat} (hE : ir_EI e) (hV : ir_VW e vc vh vl vz vn) (hL : ir_y e ta an = ir_L e) (hn : n < e_N e)
    (K : ∀ wn wz, (∀ t, ir_DS e wn wz t ↔ ir_D e n t) → ∃ f, wY_query_118 post (nI n) f 0 (nI (e_N e)) (e_rl e) (e_dl e) (e_cl e) (e_nw e) la 0 (e_ad e) (e_al e) (e_se e) (e_gl e) (e_mo e) (e_fn e) (e_fa e) (e_rm e) (e_ra e) (e_re e) (e_cs e) (e_ch e) (e_ce e) vc vh vl vz vn ta yo an wn wz tl) :
    ∀ (d i f : Nat) (wn wz : ir_A), i + d = 50 → d < f → ir_DS e wn wz n → (∀ t, ir_DS e wn wz t → ir_D e n t) → (ir_cl e (ir_DS e wn wz) ∨ i ≤ ir_dc e wn wz) →
    wY_query_75 post (nI n) f (nI i) (nI (e_N e)) (e_rl e) (e_dl e) (e_cl e) (e_nw e) la lc (e_ad e) (e_al e) (e_se e) (e_gl e) (e_mo e) (e_fn e) (e_fa e) (e_rm e) (e_ra e) (e_re e) (e_cs e) (e_ch e) (e_ce e) vc vh vl vz vn ta yo an wn wz tl := by
  have hN := ir_EI_N hE
  intro d
  induction d with
  | zero =>
    intro i f wn wz hi hf hDn hD hc
    obtain ⟨f, rfl⟩ : ∃ k, f = k + 1 := ⟨f - 1, by omega⟩
    have hcl : ir_cl e (ir_DS e wn wz) := by
      rcases hc with hc | hc
      · exact hc
      · have := ir_dc_le (wn := wn) (wz := wz) hN.2
        omega
    simp only [wY_query_75]
    exact br_t (nI_le (a := 50) (by omega) (by omega)) (K wn wz (fun t => ⟨hD t, fun y => y _ hDn hcl⟩))
  | succ d ih =>
    intro i f wn wz hi hf hDn hD hc
    obtain ⟨f, rfl⟩ : ∃ k, f = k + 1 := ⟨f - 1, by omega⟩
    simp only [wY_query_75]
    refine br_f (nI_ge (b := 50) (by omega) (by omega)) (Exists.intro (e_N e + 1) ?_)
    refine yd_84 (wn0 := wn) (wz0 := wz) hE hV hL (fun wn' wz' c1 c2 => ?_) (e_N e) 0 (e_N e + 1) wn wz (by omega) (by omega) ir_GR_r (fun m hm => by omega)
    have hm := ir_dc_m hN.2 c1
    refine ih (i + 1) f wn' wz' (by omega) (by omega) (c1.1 n hDn) (c1.2 (ir_D e n) (fun t s h d => ir_D_s h d) hD) ?_
    rcases hc with hc | hc
    · refine Or.inl (fun t s ht d => ?_)
      have hsub := c1.2 (ir_DS e wn wz) hc (fun t h => h)
      exact c1.1 s (hc t s (hsub t ht) d)
    · rcases Nat.lt_or_ge (ir_dc e wn wz) (ir_dc e wn' wz') with y | y
      · exact Or.inr (by omega)
      · refine Or.inl (fun t s ht d => c2 t s (hm.2 y t ht) d)
end
end
section
/-! Y takes its view -/
def ir_VP (e : ir_E) (k : Nat) (vc vh vl vz ta yo an wn wz : ir_A) : Prop := ∀ m, m < k → ((vc m ≠ 0 ↔ ir_lv e m) ∧ (vh m ≠ 0 ↔ ir_hd e m) ∧ vl m = ir_va e m ∧ (∀ j, ir_sl m j → vz j = ir_vs e j)) ∧ ta m = 0 ∧ yo m = 0 ∧ an m = 0 ∧ wn m = 0 ∧ wz m = 0
section
variable {e : ir_E} {la lc : Int32} {vc vh vl vz vn ta yo an wn wz tl : ir_A} {post : SY → Prop}
  {J : Int32 → ir_A → ir_A → ir_A → ir_A → ir_A → ir_A → ir_A → ir_A → ir_A → ir_A → ir_A → ir_A → ir_A → ir_A → ir_A → ir_A → ir_A → ir_A → ir_A → ir_A → ir_A → ir_A → ir_A → ir_A → Prop}
theorem yv_127 {k : Nat} (hk : k < 24) (hv : vh k ≠ 0 ↔ ir_hd e k) (K : J (nI (k + 1)) (e_ad e) (e_al e) (e_se e) (e_gl e) (e_mo e) (e_fn e) (e_fa e) (e_rm e) (e_ra e) (e_re e) (e_cs e) (e_ch e) (e_ce e) vc vh vl (upd (upd vz (2 * k) (ir_vs e (2 * k))) (2 * k + 1) (ir_vs e (2 * k + 1))) vn ta yo an wn wz tl) :
    wY_takeView_127 post J (nI k) (nI (e_N e)) (e_rl e) (e_dl e) (e_cl e) (e_nw e) la lc (0 + 1 + 1 + 1) (nI (2 * k)) (e_ad e) (e_al e) (e_se e) (e_gl e) (e_mo e) (e_fn e) (e_fa e) (e_rm e) (e_ra e) (e_re e) (e_cs e) (e_ch e) (e_ce e) vc vh vl vz vn ta yo an wn wz tl := by
  have hA : vp_in (nI (2 * k)) 48 := vp_in_nI (by omega) (by omega)
  have hB : vp_in (nI (2 * k + 1)) 48 := vp_in_nI (by omega) (by omega)
  have h24 : vp_in (nI k) 24 := vp_in_nI (by omega) (by omega)
  have e2 : ir_sl k (2 * k) := Or.inl rfl
  have e3 : ir_sl k (2 * k + 1) := Or.inr rfl
  have n2 : nI (2 * k) + 2 = nI (2 * k + 2) := nI_add (2 * k) 2
  simp only [wY_takeView_127]
  rw [ir_2m, n2, nI_1, nI_1, nI_clamp (show 2 * k < 2 ^ 31 by omega), nI_clamp (show k < 2 ^ 31 by omega)]
  refine br_f (nI_ge (by omega) (by omega)) ⟨h24, fun h0 => ⟨hA, hA, nm_e (nm_e ?_)⟩, fun h0 => ⟨hA, hA, nm_e (nm_e ?_)⟩⟩
  · have hd : ¬ ir_hd e k := fun y => hv.mpr y h0
    rw [ir_vs_n (ir_sl_half e2) hd, ir_vs_n (ir_sl_half e3) hd] at K
    rw [nI_clamp (show 2 * k + 1 < 2 ^ 31 by omega), nI_1]
    exact br_f (nI_ge (by omega) (by omega)) ⟨h24, fun _ => ⟨hB, hB, nm_e (nm_e (br_t (nI_le (by omega) (by omega)) (nm_e K)))⟩, fun y => absurd h0 y⟩
  · have hd : ir_hd e k := hv.mp h0
    rw [ir_vs_h (ir_sl_half e2) hd, ir_vs_h (ir_sl_half e3) hd] at K
    rw [nI_clamp (show 2 * k + 1 < 2 ^ 31 by omega), nI_1]
    exact br_f (nI_ge (by omega) (by omega)) ⟨h24, fun y => absurd y h0, fun _ => ⟨hB, hB, nm_e (nm_e (br_t (nI_le (by omega) (by omega)) (nm_e K)))⟩⟩
theorem yv_98 {k : Nat} (hk : k < 24) (K : ∀ vh', (∀ m, m ≠ k → vh' m = vh m) → (vh' k ≠ 0 ↔ ir_hd e k) → J (nI (k + 1)) (e_ad e) (e_al e) (e_se e) (e_gl e) (e_mo e) (e_fn e) (e_fa e) (e_rm e) (e_ra e) (e_re e) (e_cs e) (e_ch e) (e_ce e) vc vh' (upd vl k (ir_va e k)) (upd (upd vz (2 * k) (ir_vs e (2 * k))) (2 * k + 1) (ir_vs e (2 * k + 1))) vn ta yo an wn wz tl) :
    wY_takeView_98 post J (nI k) (ir_va e k) (nI k) (nI (e_N e)) (e_rl e) (e_dl e) (e_cl e) (e_nw e) la lc (e_ad e) (e_al e) (e_se e) (e_gl e) (e_mo e) (e_fn e) (e_fa e) (e_rm e) (e_ra e) (e_re e) (e_cs e) (e_ch e) (e_ce e) vc vh vl vz vn ta yo an wn wz tl := by
  have h24 : vp_in (nI k) 24 := vp_in_nI (by omega) (by omega)
  unfold wY_takeView_98
  rw [nI_clamp (show k < 2 ^ 31 by omega), ir_nb0, ir_nb1, ir_2m]
  refine ⟨h24, nm_e ⟨h24, fun h0 => ⟨h24, nm_e (nm_e (Exists.intro (0 + 1 + 1 + 1) ?_))⟩, fun h0 => ⟨h24, nm_e (nm_e (Exists.intro (0 + 1 + 1 + 1) ?_))⟩⟩⟩
  · have q : upd vh k 0 k ≠ 0 ↔ ir_hd e k := by rw [pk_us]; exact ⟨fun y => absurd rfl y, fun y => absurd h0 y⟩
    exact yv_127 hk q (K (upd vh k 0) (fun m hm => pk_un hm) q)
  · have q : upd vh k 1 k ≠ 0 ↔ ir_hd e k := by rw [pk_us]; exact ⟨fun _ => h0, fun _ => ir_1ne⟩
    exact yv_127 hk q (K (upd vh k 1) (fun m hm => pk_un hm) q)
theorem yv_68 {k : Nat} {z0 : Int32} (hk : k < 24) (hz : (z0 = 0 ∧ ¬ ir_lv e k) ∨ (z0 = 1 ∧ ir_lv e k)) (K : ∀ vc' vh', (∀ m, m ≠ k → vc' m = vc m) → (vc' k ≠ 0 ↔ ir_lv e k) → (∀ m, m ≠ k → vh' m = vh m) → (vh' k ≠ 0 ↔ ir_hd e k) →
      J (nI (k + 1)) (e_ad e) (e_al e) (e_se e) (e_gl e) (e_mo e) (e_fn e) (e_fa e) (e_rm e) (e_ra e) (e_re e) (e_cs e) (e_ch e) (e_ce e) vc' vh' (upd vl k (ir_va e k)) (upd (upd vz (2 * k) (ir_vs e (2 * k))) (2 * k + 1) (ir_vs e (2 * k + 1))) vn ta yo an wn wz tl) :
    wY_takeView_68 post J (nI k) z0 (nI k) (nI (e_N e)) (e_rl e) (e_dl e) (e_cl e) (e_nw e) la lc (e_ad e) (e_al e) (e_se e) (e_gl e) (e_mo e) (e_fn e) (e_fa e) (e_rm e) (e_ra e) (e_re e) (e_cs e) (e_ch e) (e_ce e) vc vh vl vz vn ta yo an wn wz tl := by
  have h24 : vp_in (nI k) 24 := vp_in_nI (by omega) (by omega)
  unfold wY_takeView_68
  rw [nI_clamp (show k < 2 ^ 31 by omega)]
  rcases hz with ⟨rfl, hl⟩ | ⟨rfl, hl⟩
  · rw [ir_nb0]
    refine ⟨h24, nm_e ⟨h24, ?_⟩⟩
    rw [pk_us]
    refine br_t rfl ⟨h24, ?_⟩
    rw [← ir_va_n hl]
    exact yv_98 hk (fun vh' c1 c2 => K (upd vc k 0) vh' (fun m hm => pk_un hm) (by rw [pk_us]; exact ⟨fun y => absurd rfl y, fun y => absurd y hl⟩) c1 c2)
  · rw [ir_nb1]
    refine ⟨h24, nm_e ⟨h24, ?_⟩⟩
    rw [pk_us]
    refine br_f ir_1ne ⟨h24, ?_⟩
    rw [← ir_va_l hl]
    exact yv_98 hk (fun vh' c1 c2 => K (upd vc k 1) vh' (fun m hm => pk_un hm) (by rw [pk_us]; exact ⟨fun _ => hl, fun _ => ir_1ne⟩) c1 c2)
theorem yv_192 {k : Nat} (hE : ir_EI e) (hz : ∀ m, m < e_N e → vz (2 * m) = ir_vs e (2 * m)) (hk : k < 24) (K : J (nI (k + 1)) (e_ad e) (e_al e) (e_se e) (e_gl e) (e_mo e) (e_fn e) (e_fa e) (e_rm e) (e_ra e) (e_re e) (e_cs e) (e_ch e) (e_ce e) vc vh vl vz (upd vn k (nI (ir_zn e k))) ta yo an wn wz tl) :
    ∀ (f z c : Nat), z < f → z + c < 24 → z < e_N e → ir_zn e z = ir_zn e k → wY_takeView_192 post J (nI k) (nI (e_N e)) (e_rl e) (e_dl e) (e_cl e) (e_nw e) la lc (e_ad e) (e_al e) (e_se e) (e_gl e) (e_mo e) (e_fn e) (e_fa e) (e_rm e) (e_ra e) (e_re e) (e_cs e) (e_ch e) (e_ce e) vc vh vl vz vn ta yo an wn wz tl f (nI z) (nI c) := by
  have hN := ir_EI_N hE
  have h24 : vp_in (nI k) 24 := vp_in_nI (by omega) (by omega)
  intro f
  induction f with
  | zero => intro z c h; omega
  | succ f ih =>
    intro z c hf hc hzN hzn
    simp only [wY_takeView_192]
    rw [nI_clamp (show k < 2 ^ 31 by omega), nI_1]
    refine br_f (nI_ge (b := 24) (by omega) (by omega)) ?_
    cases z with
    | zero =>
      rw [ir_zn_0] at hzn
      rw [← hzn] at K
      exact br_t (by decide) ⟨h24, nm_e (nm_e K)⟩
    | succ z =>
      refine br_f (nI_nle (by omega) (by omega)) ?_
      rw [ir_2m, nI_clamp (show 2 * (z + 1) < 2 ^ 31 by omega), hz _ hzN, ir_half (by omega) (by omega), Nat.add_sub_cancel, nI_1]
      have hh : (2 * (z + 1)) / 2 = z + 1 := by omega
      refine ⟨vp_in_nI (by omega) (by omega), fun h0 => ?_, fun h0 => ?_⟩
      · have : ir_zn e (z + 1) = z + 1 := by
          refine ir_zn_c (fun y => ?_)
          rw [ir_vs_n hh (fun w => w y.1)] at h0
          exact absurd y.2 (Int32.not_lt.mpr h0)
        rw [← hzn, this] at K
        exact ⟨h24, nm_e (nm_e K)⟩
      · have hd : ¬ ir_hd e (z + 1) := fun y => by
          rw [ir_vs_h hh y] at h0
          exact h0 (ir_hdcs hE y)
        rw [ir_vs_n hh hd] at h0
        have : ir_zn e (z + 1) = ir_zn e (z / 2) := ir_zn_s ⟨Classical.byContradiction hd, ir_nle.mp h0⟩
        exact ⟨by decide, nm_e (nm_e (ih (z / 2) (c + 1) (by omega) (by omega) (by omega) (this.symm.trans hzn)))⟩
end
section
variable {e : ir_E} {la lc : Int32} {vc vh vl vz ta yo an wn wz tl : ir_A} {post : SY → Prop}
theorem yv_180 (hE : ir_EI e) (hz : ∀ m, m < e_N e → vz (2 * m) = ir_vs e (2 * m)) (K : ∀ vn, (∀ m, m < e_N e → vn m = nI (ir_zn e m)) → post (ir_YS e la lc vc vh vl vz vn ta yo an wn wz tl)) :
    ∀ (d k f : Nat) (vn : ir_A), k + d = e_N e → d < f → (∀ m, m < k → vn m = nI (ir_zn e m)) → wY_takeView_180 post (nI (e_N e)) (e_rl e) (e_dl e) (e_cl e) (e_nw e) la lc f (nI k) (e_ad e) (e_al e) (e_se e) (e_gl e) (e_mo e) (e_fn e) (e_fa e) (e_rm e) (e_ra e) (e_re e) (e_cs e) (e_ch e) (e_ce e) vc vh vl vz vn ta yo an wn wz tl := by
  have hN := ir_EI_N hE
  intro d
  induction d with
  | zero =>
    intro k f vn hk hf hv
    obtain ⟨f, rfl⟩ : ∃ k, f = k + 1 := ⟨f - 1, by omega⟩
    have : k = e_N e := by omega
    subst this
    simp only [wY_takeView_180]
    exact br_t (Int32.le_refl _) (K vn hv)
  | succ d ih =>
    intro k f vn hk hf hv
    obtain ⟨f, rfl⟩ : ∃ k, f = k + 1 := ⟨f - 1, by omega⟩
    simp only [wY_takeView_180]
    refine br_f (nI_ge (b := e_N e) (by omega) (by omega)) (Exists.intro 25 ?_)
    refine yv_192 hE hz (by omega) (ih (k + 1) f (upd vn k (nI (ir_zn e k))) (by omega) (by omega) (fun m hm => ?_)) 25 k 0 (by omega) (by omega) (by omega) rfl
    rcases Nat.decEq m k with y | y
    · rw [pk_un y]; exact hv m (by omega)
    · subst y; exact pk_us
theorem yv_2 {vn : ir_A} (hE : ir_EI e) (K : ∀ vc vh vl vz vn ta yo an wn wz, ir_VW e vc vh vl vz vn → (∀ m, m < e_N e → ta m = 0 ∧ yo m = 0 ∧ an m = 0 ∧ wn m = 0 ∧ wz m = 0) → post (ir_YS e la lc vc vh vl vz vn ta yo an wn wz tl)) :
    ∀ (d k f : Nat) (vc vh vl vz ta yo an wn wz : ir_A), k + d = e_N e → d < f → ir_VP e k vc vh vl vz ta yo an wn wz → wY_takeView_2 post (nI (e_N e)) (e_rl e) (e_dl e) (e_cl e) (e_nw e) la lc f (nI k) (e_ad e) (e_al e) (e_se e) (e_gl e) (e_mo e) (e_fn e) (e_fa e) (e_rm e) (e_ra e) (e_re e) (e_cs e) (e_ch e) (e_ce e) vc vh vl vz vn ta yo an wn wz tl := by
  have hN := ir_EI_N hE
  intro d
  induction d with
  | zero =>
    intro k f vc vh vl vz ta yo an wn wz hk hf hv
    obtain ⟨f, rfl⟩ : ∃ k, f = k + 1 := ⟨f - 1, by omega⟩
    have : k = e_N e := by omega
    subst this
    simp only [wY_takeView_2]
    refine br_t (Int32.le_refl _) (Exists.intro (e_N e + 1) (yv_180 hE (fun m hm => (hv m hm).1.2.2.2 _ (Or.inl rfl)) (fun vn' hn => ?_) (e_N e) 0 (e_N e + 1) vn (by omega) (by omega) (fun m hm => by omega)))
    exact K vc vh vl vz vn' ta yo an wn wz (fun m hm => ⟨(hv m hm).1.1, (hv m hm).1.2.1, (hv m hm).1.2.2.1, (hv m hm).1.2.2.2, hn m hm⟩) (fun m hm => (hv m hm).2)
  | succ d ih =>
    intro k f vc vh vl vz ta yo an wn wz hk hf hv
    obtain ⟨f, rfl⟩ : ∃ k, f = k + 1 := ⟨f - 1, by omega⟩
    have h24 : vp_in (nI k) 24 := vp_in_nI (by omega) (by omega)
    have next : ∀ vc' vh' : ir_A, (∀ m, m ≠ k → vc' m = vc m) → (vc' k ≠ 0 ↔ ir_lv e k) → (∀ m, m ≠ k → vh' m = vh m) → (vh' k ≠ 0 ↔ ir_hd e k) →
        wY_takeView_2 post (nI (e_N e)) (e_rl e) (e_dl e) (e_cl e) (e_nw e) la lc f (nI (k + 1)) (e_ad e) (e_al e) (e_se e) (e_gl e) (e_mo e) (e_fn e) (e_fa e) (e_rm e) (e_ra e) (e_re e) (e_cs e) (e_ch e) (e_ce e) vc' vh' (upd vl k (ir_va e k)) (upd (upd vz (2 * k) (ir_vs e (2 * k))) (2 * k + 1) (ir_vs e (2 * k + 1))) vn (upd ta k 0) (upd yo k 0) (upd an k 0) (upd wn k 0) (upd wz k 0) tl := by
      intro vc' vh' c1 c2 c3 c4
      refine ih (k + 1) f _ _ _ _ _ _ _ _ _ (by omega) (by omega) (fun m hm => ?_)
      rcases Nat.decEq m k with y | y
      · obtain ⟨⟨q1, q2, q3, q4⟩, q5⟩ := hv m (by omega)
        rw [c1 m y, c3 m y, pk_un y, pk_un y, pk_un y, pk_un y, pk_un y, pk_un y]
        refine ⟨⟨q1, q2, q3, fun j hj => ?_⟩, q5⟩
        rw [pk_un (by rcases hj with w | w <;> omega), pk_un (by rcases hj with w | w <;> omega)]
        exact q4 j hj
      · subst y
        rw [pk_us, pk_us, pk_us, pk_us, pk_us, pk_us]
        refine ⟨⟨c2, c4, rfl, fun j hj => ?_⟩, rfl, rfl, rfl, rfl, rfl⟩
        rcases hj with rfl | rfl
        · rw [pk_un (by omega), pk_us]
        · rw [pk_us]
    simp only [wY_takeView_2]
    rw [nI_clamp (show k < 2 ^ 31 by omega), ir_nb0]
    refine br_f (nI_ge (b := e_N e) (by omega) (by omega)) ⟨h24, nm_e ⟨h24, nm_e ⟨h24, nm_e ⟨h24, nm_e ⟨h24, nm_e ⟨h24, fun h0 => ?_, fun h0 => ?_⟩⟩⟩⟩⟩⟩
    · exact yv_68 (by omega) (Or.inl ⟨rfl, fun y => y h0⟩) next
    · exact yv_68 (by omega) (Or.inr ⟨rfl, h0⟩) next
theorem yv_view {vn : ir_A} (hE : ir_EI e) (K : ∀ vc vh vl vz vn ta yo an wn wz, ir_VW e vc vh vl vz vn → (∀ m, m < e_N e → ta m = 0 ∧ yo m = 0 ∧ an m = 0 ∧ wn m = 0 ∧ wz m = 0) → post (ir_YS e la lc vc vh vl vz vn ta yo an wn wz tl)) : wpY_takeView post (ir_YS e la lc vc vh vl vz vn ta yo an wn wz tl) :=
  Exists.intro (e_N e + 1) (yv_2 (vn := vn) hE K (e_N e) 0 (e_N e + 1) vc vh vl vz ta yo an wn wz (by omega) (by omega) (fun m hm => by omega))
end
end
section
/-- the environment with another cache -/
def ir_ee (e : ir_E) (rm ra re cs ch ce : ir_A) : ir_E := (e_N e, e_rl e, e_dl e, e_cl e, e_nw e, e_ad e, e_al e, e_se e, e_gl e, e_mo e, e_fn e, e_fa e, rm, ra, re, cs, ch, ce)
theorem ir_ee_le {e : ir_E} {R C : Nat → Prop} {ow ne hi : ir_A} {a c : Nat} : ir_le e R C ow ne hi a c = ir_ee e (ir_lr (fun j => j < a ∧ R j) ow (e_rm e)) (ir_lr (fun j => j < a ∧ R j) ne (e_ra e))
   (ir_lr (fun j => j < a ∧ R j) (fun j => e_nw e + if ow j = 0 ∧ ne j < 0 then e_dl e else e_rl e) (e_re e)) (ir_lr (fun j => j / 2 < c ∧ C (j / 2)) (e_se e) (e_cs e))
   (ir_lr (fun j => j / 2 < c ∧ C (j / 2)) hi (e_ch e)) (ir_lr (fun j => j < c ∧ C j) (fun _ => e_nw e + e_cl e) (e_ce e)) := rfl
section
variable {e : ir_E} {n : Nat} {la lc : Int32} {ow ne hi : ir_A} {rm ra re cs ch ce : ir_A} {vc vh vl vz vn ta yo an wn wz tl : ir_A} {post : SY → Prop}
theorem yl_134 {z : Nat} (hE : ir_EI e) (hV : ir_VW e vc vh vl vz vn) (hL : ir_y e ta an = ir_L e) (h0z : 0 < z) (hz : z < e_N e) (hd : ¬ ir_hd e z) (hh : ∀ j, ir_sl z j → ∀ i, bt (hi j) i = true ↔ ir_hn e (ir_L e) z j i)
    (K : post (ir_YS (ir_ee e rm ra re (upd (upd cs (2 * z) (e_se e (2 * z))) (2 * z + 1) (e_se e (2 * z + 1))) (upd (upd ch (2 * z) (hi (2 * z))) (2 * z + 1) (hi (2 * z + 1))) (upd ce z (e_nw e + e_cl e))) la (lc + 1) vc vh vl vz vn ta yo an wn wz tl)) :
    wY_learn_134 post (nI z) (nI (e_N e)) (e_rl e) (e_dl e) (e_cl e) (e_nw e) la lc (0 + 1 + 1 + 1) (nI (2 * z)) (e_ad e) (e_al e) (e_se e) (e_gl e) (e_mo e) (e_fn e) (e_fa e) rm ra re cs ch ce vc vh vl vz vn ta yo an wn wz tl := by
  have hN := ir_EI_N hE
  obtain ⟨-, -, -, v4, -⟩ := hV z hz
  have hA : vp_in (nI (2 * z)) 48 := vp_in_nI (by omega) (by omega)
  have hB : vp_in (nI (2 * z + 1)) 48 := vp_in_nI (by omega) (by omega)
  have h24 : vp_in (nI z) 24 := vp_in_nI (by omega) (by omega)
  have e2 : ir_sl z (2 * z) := Or.inl rfl
  have e3 : ir_sl z (2 * z + 1) := Or.inr rfl
  have n2 : nI (2 * z) + 2 = nI (2 * z + 2) := nI_add (2 * z) 2
  have w2 : vz (2 * z) = e_se e (2 * z) := (v4 _ e2).trans (ir_vs_n (ir_sl_half e2) hd)
  have w3 : vz (2 * z + 1) = e_se e (2 * z + 1) := (v4 _ e3).trans (ir_vs_n (ir_sl_half e3) hd)
  have req : ∀ (r : Int32) (j : Nat), ir_sl z j → (∀ i, bt r i = true ↔ ir_hn e (ir_y e ta an) z j i) → r = hi j := by
    intro r j hj hr
    rw [hL] at hr
    exact ir_bext (fun i _ => (hr i).trans (hh j hj i).symm)
  simp only [wY_learn_134]
  rw [ir_2m, n2, nI_1, nI_clamp (show 2 * z < 2 ^ 31 by omega), nI_clamp (show z < 2 ^ 31 by omega), w2]
  refine br_f (nI_ge (by omega) (by omega)) ⟨hA, hA, nm_e ?_⟩
  refine yr_hints (E := ir_ee e rm ra re (upd cs (2 * z) (e_se e (2 * z))) ch ce) hE ⟨rfl, rfl, rfl, rfl, rfl⟩ (fun y => absurd y hd) hV h0z hz e2 (fun r hr => ?_)
  rw [req r _ e2 hr]
  refine ⟨hA, nm_e (nm_e ?_)⟩
  rw [nI_clamp (show 2 * z + 1 < 2 ^ 31 by omega), nI_1, w3]
  refine br_f (nI_ge (by omega) (by omega)) ⟨hB, hB, nm_e ?_⟩
  refine yr_hints (E := ir_ee e rm ra re (upd (upd cs (2 * z) (e_se e (2 * z))) (2 * z + 1) (e_se e (2 * z + 1))) (upd ch (2 * z) (hi (2 * z))) ce) hE ⟨rfl, rfl, rfl, rfl, rfl⟩ (fun y => absurd y hd) hV h0z hz e3 (fun r hr => ?_)
  rw [req r _ e3 hr]
  exact ⟨hB, nm_e (nm_e (br_t (nI_le (by omega) (by omega)) ⟨h24, nm_e (nm_e K)⟩))⟩
theorem yl_100 {z : Nat} (hE : ir_EI e) (hV : ir_VW e vc vh vl vz vn) (hL : ir_y e ta an = ir_L e) (hz : z < e_N e) (hD : ∀ t, ir_DS e wn wz t ↔ ir_D e n t) (hO : ir_OK e n ow ne hi)
    (K1 : ir_C e n z → post (ir_YS (ir_ee e rm ra re (upd (upd cs (2 * z) (e_se e (2 * z))) (2 * z + 1) (e_se e (2 * z + 1))) (upd (upd ch (2 * z) (hi (2 * z))) (2 * z + 1) (hi (2 * z + 1))) (upd ce z (e_nw e + e_cl e))) la (lc + 1) vc vh vl vz vn ta yo an wn wz tl))
    (K0 : ¬ ir_C e n z → post (ir_YS (ir_ee e rm ra re cs ch ce) la lc vc vh vl vz vn ta yo an wn wz tl)) : wY_learn_100 post (nI z) (nI (e_N e)) (e_rl e) (e_dl e) (e_cl e) (e_nw e) la lc (e_ad e) (e_al e) (e_se e) (e_gl e) (e_mo e) (e_fn e) (e_fa e) rm ra re cs ch ce vc vh vl vz vn ta yo an wn wz tl := by
  have hN := ir_EI_N hE
  obtain ⟨-, v2, -, -, -⟩ := hV z hz
  have h24 : vp_in (nI z) 24 := vp_in_nI (by omega) (by omega)
  unfold wY_learn_100
  rw [nI_clamp (show z < 2 ^ 31 by omega), ir_2m]
  refine ⟨fun h0 => K0 (fun y => nI_nle y.1 (by omega) h0), fun h0 => ?_⟩
  have h0z : 0 < z := by
    rcases Nat.eq_zero_or_pos z with y | y
    · subst y; exact absurd (by decide) h0
    · exact y
  refine ⟨h24, fun h1 => K0 (fun y => (ir_DS_z hN.2 hz).mp ((hD _).mpr y.2.1) h1), fun h1 => ⟨h24, fun h2 => ?_, fun h2 => K0 (fun y => y.2.2.2 (v2.mp h2))⟩⟩
  have hd : ¬ ir_hd e z := fun y => v2.mpr y h2
  refine yr_open (E := ir_ee e rm ra re cs ch ce) hE hV h0z hz (fun ho => br_t rfl (K0 (fun y => ho (by rw [hL]; exact y.2.2.1)))) (fun ho => br_f ir_1ne (nm_e (Exists.intro (0 + 1 + 1 + 1) ?_)))
  rw [hL] at ho
  have hC : ir_C e n z := ⟨h0z, (hD _).mp ((ir_DS_z hN.2 hz).mpr h1), ho, hd⟩
  exact yl_134 hE hV hL h0z hz hd (hO.2 z hz hC) (K1 hC)
theorem yl_learn {m : Nat} (hE : ir_EI e) (hV : ir_VW e vc vh vl vz vn) (hL : ir_y e ta an = ir_L e) (hm : m < e_N e) (hD : ∀ t, ir_DS e wn wz t ↔ ir_D e n t) (hO : ir_OK e n ow ne hi)
    (hyo : ∀ i, bt (yo m) i = true ↔ ir_ow e (ir_L e) m i)
    (K : ∀ rm' ra' re' cs' ch' ce' lc', (ir_R e n m → rm' = upd rm m (ow m) ∧ ra' = upd ra m (ne m) ∧ re' = upd re m (e_nw e + if ow m = 0 ∧ ne m < 0 then e_dl e else e_rl e)) → (¬ ir_R e n m → rm' = rm ∧ ra' = ra ∧ re' = re) →
      (ir_C e n m → cs' = upd (upd cs (2 * m) (e_se e (2 * m))) (2 * m + 1) (e_se e (2 * m + 1)) ∧ ch' = upd (upd ch (2 * m) (hi (2 * m))) (2 * m + 1) (hi (2 * m + 1)) ∧ ce' = upd ce m (e_nw e + e_cl e)) →
      (¬ ir_C e n m → cs' = cs ∧ ch' = ch ∧ ce' = ce) → lc' = lc + nI (ir_b (ir_R e n m) + ir_b (ir_C e n m)) → post (ir_YS (ir_ee e rm' ra' re' cs' ch' ce') la lc' vc vh vl vz vn ta yo an wn wz tl)) : wpY_learn post (ir_YS (ir_ee e rm ra re cs ch ce) la lc vc vh vl vz vn ta yo an wn wz tl) (nI m) := by
  have hN := ir_EI_N hE
  obtain ⟨v1, -, v3, -, -⟩ := hV m hm
  have h24 : vp_in (nI m) 24 := vp_in_nI (by omega) (by omega)
  have tail : ∀ (rm' ra' re' : ir_A) (lc' : Int32), (ir_R e n m → rm' = upd rm m (ow m) ∧ ra' = upd ra m (ne m) ∧ re' = upd re m (e_nw e + if ow m = 0 ∧ ne m < 0 then e_dl e else e_rl e)) → (¬ ir_R e n m → rm' = rm ∧ ra' = ra ∧ re' = re) →
      lc' = lc + nI (ir_b (ir_R e n m)) → wY_learn_100 post (nI m) (nI (e_N e)) (e_rl e) (e_dl e) (e_cl e) (e_nw e) la lc' (e_ad e) (e_al e) (e_se e) (e_gl e) (e_mo e) (e_fn e) (e_fa e) rm' ra' re' cs ch ce vc vh vl vz vn ta yo an wn wz tl := by
    intro rm' ra' re' lc' r1 r2 hl
    refine yl_100 hE hV hL hm hD hO (fun hC => ?_) (fun hC => ?_)
    · refine K rm' ra' re' _ _ _ _ r1 r2 (fun _ => ⟨rfl, rfl, rfl⟩) (fun y => absurd hC y) ?_
      rw [hl, ir_b_t hC, ← nI_add, Int32.add_assoc]
      rfl
    · refine K rm' ra' re' cs ch ce lc' r1 r2 (fun y => absurd y hC) (fun _ => ⟨rfl, rfl, rfl⟩) ?_
      rw [hl, ir_b_f hC, Nat.add_zero]
  have plain : ¬ ir_R e n m → wY_learn_100 post (nI m) (nI (e_N e)) (e_rl e) (e_dl e) (e_cl e) (e_nw e) la lc (e_ad e) (e_al e) (e_se e) (e_gl e) (e_mo e) (e_fn e) (e_fa e) rm ra re cs ch ce vc vh vl vz vn ta yo an wn wz tl := by
    intro hR
    refine tail rm ra re lc (fun y => absurd y hR) (fun _ => ⟨rfl, rfl, rfl⟩) ?_
    rw [ir_b_f hR]
    exact (Int32.add_zero _).symm
  unfold wpY_learn ir_YS
  dsimp only
  rw [nI_clamp (show m < 2 ^ 31 by omega), v3]
  refine ⟨h24, fun h0 => plain (fun y => (ir_DS_n hN.2 hm).mp ((hD _).mpr y.1) h0), fun h0 => ?_⟩
  refine yr_had (E := ir_ee e rm ra re cs ch ce) hE hV hm (fun hp => br_t rfl (plain (fun y => hp (by rw [hL]; exact y.2.1)))) (fun hp => br_f ir_1ne ⟨h24, fun h1 => ?_, fun h1 => plain (fun y => y.2.2 (v1.mp h1))⟩)
  rw [hL] at hp
  have hl : ¬ ir_lv e m := fun y => v1.mpr y h1
  have hR : ir_R e n m := ⟨(hD _).mp ((ir_DS_n hN.2 hm).mpr h0), hp, hl⟩
  obtain ⟨o1, o2⟩ := hO.1 m hm hR
  have eo : yo m = ow m := ir_bext (fun i _ => (hyo i).trans (o2 i).symm)
  rw [← o1, eo]
  refine ⟨h24, h24, nm_e ⟨h24, h24, nm_e ⟨h24, fun h2 => ⟨h24, fun h3 => ?_, fun h3 => ?_⟩, fun h2 => ?_⟩⟩⟩
  · unfold wY_learn_84 wY_learn_88
    rw [nI_clamp (show m < 2 ^ 31 by omega)]
    refine ⟨h24, nm_e (nm_e (tail _ _ _ _ (fun _ => ⟨rfl, rfl, ?_⟩) (fun y => absurd hR y) ?_))⟩
    · rw [if_neg (fun y => absurd y.2 (Int32.not_lt.mpr h3))]; rfl
    · rw [ir_b_t hR]; rfl
  · unfold wY_learn_88
    rw [nI_clamp (show m < 2 ^ 31 by omega)]
    refine ⟨h24, nm_e (nm_e (tail _ _ _ _ (fun _ => ⟨rfl, rfl, ?_⟩) (fun y => absurd hR y) ?_))⟩
    · rw [if_pos ⟨h2, ir_nle.mp h3⟩]; rfl
    · rw [ir_b_t hR]; rfl
  · unfold wY_learn_84 wY_learn_88
    rw [nI_clamp (show m < 2 ^ 31 by omega)]
    refine ⟨h24, nm_e (nm_e (tail _ _ _ _ (fun _ => ⟨rfl, rfl, ?_⟩) (fun y => absurd hR y) ?_))⟩
    · rw [if_neg (fun y => h2 y.1)]; rfl
    · rw [ir_b_t hR]; rfl
end
end
section
section
variable {e : ir_E} {n : Nat} {la lc : Int32} {ow ne hi : ir_A} {vc vh vl vz vn ta yo an wn wz tl : ir_A} {post : Int32 → SY → Prop}
theorem yq_186 {E : ir_E} (hE : ir_EI e) (hEN : e_N E = e_N e) (hV : ir_VW e vc vh vl vz vn) (hL : ir_y e ta an = ir_L e) :
    ∀ (d i f m : Nat), i + d = e_N e → d < f → m < e_N e → post (ir_vd e d m) (ir_YS E la lc vc vh vl vz vn ta yo an wn wz tl) → wY_query_186 post (nI (e_N E)) (e_rl E) (e_dl E) (e_cl E) (e_nw E) la lc (e_ad E) (e_al E) (e_se E) (e_gl E) (e_mo E) (e_fn E) (e_fa E) (e_rm E) (e_ra E) (e_re E) (e_cs E) (e_ch E) (e_ce E) vc vh vl vz vn ta yo an wn wz tl f (nI m) (nI i) := by
  have hN := ir_EI_N hE
  intro d
  induction d with
  | zero =>
    intro i f m hi' hf hm hp
    obtain ⟨f, rfl⟩ : ∃ k, f = k + 1 := ⟨f - 1, by omega⟩
    have : i = e_N E := by omega
    subst this
    simp only [wY_query_186]
    exact br_t (Int32.le_refl _) hp
  | succ d ih =>
    intro i f m hi' hf hm hp
    obtain ⟨f, rfl⟩ : ∃ k, f = k + 1 := ⟨f - 1, by omega⟩
    have h24 : vp_in (nI m) 24 := vp_in_nI (by omega) (by omega)
    obtain ⟨-, -, v3, -, -⟩ := hV m hm
    simp only [wY_query_186]
    rw [nI_clamp (show m < 2 ^ 31 by omega), v3]
    simp only [ir_vd] at hp
    refine br_f (nI_ge (by omega) (by omega)) (yr_had (E := E) hE hV hm (fun h0 => br_t rfl ?_) (fun h0 => br_f ir_1ne ⟨h24, fun h1 => ⟨h24, nm_e (nm_r (nI_1 i) ?_)⟩, fun h1 => ?_⟩))
    · rw [hL] at h0
      rw [if_neg h0] at hp
      exact hp
    · rw [hL] at h0
      rw [if_pos h0, if_pos h1] at hp
      obtain ⟨hv, hq⟩ := ir_va_lt hE h1
      have := ih (i + 1) f (ir_va e m).toNatClampNeg (by omega) (by omega) hv hp
      rw [← hq] at this
      exact this
    · rw [hL] at h0
      rw [if_pos h0, if_neg h1] at hp
      exact hp
theorem yq_118 (hE : ir_EI e) (hn : n < e_N e) (hV : ir_VW e vc vh vl vz vn) (hL : ir_y e ta an = ir_L e) (hD : ∀ t, ir_DS e wn wz t ↔ ir_D e n t) (hO : ir_OK e n ow ne hi)
    (hyo : ∀ m, m < e_N e → ∀ i, bt (yo m) i = true ↔ ir_ow e (ir_L e) m i)
    (K : ∀ tl la', (∀ i, bt la' i = true ↔ ir_L e n i) → (∀ z, z < e_N e → ∀ i, bt (tl z) i = true ↔ ir_D e n (24 + z) ∧ ir_L e (24 + z) i) →
      post (ir_an e n la') (ir_YS (ir_ln e n ow ne hi) la' (nI (ir_cn (ir_R e n) (ir_C e n) (e_N e) (e_N e))) vc vh vl vz vn ta yo an wn wz tl)) :
    ∀ (d k f : Nat) (tl : ir_A), k + d = e_N e → d < f → (∀ z, z < k → ∀ i, bt (tl z) i = true ↔ ir_D e n (24 + z) ∧ ir_L e (24 + z) i) →
    wY_query_118 post (nI n) f (nI k) (nI (e_N (ir_le e (ir_R e n) (ir_C e n) ow ne hi k k))) (e_rl (ir_le e (ir_R e n) (ir_C e n) ow ne hi k k)) (e_dl (ir_le e (ir_R e n) (ir_C e n) ow ne hi k k)) (e_cl (ir_le e (ir_R e n) (ir_C e n) ow ne hi k k)) (e_nw (ir_le e (ir_R e n) (ir_C e n) ow ne hi k k)) la (nI (ir_cn (ir_R e n) (ir_C e n) k k)) (e_ad (ir_le e (ir_R e n) (ir_C e n) ow ne hi k k)) (e_al (ir_le e (ir_R e n) (ir_C e n) ow ne hi k k)) (e_se (ir_le e (ir_R e n) (ir_C e n) ow ne hi k k)) (e_gl (ir_le e (ir_R e n) (ir_C e n) ow ne hi k k)) (e_mo (ir_le e (ir_R e n) (ir_C e n) ow ne hi k k)) (e_fn (ir_le e (ir_R e n) (ir_C e n) ow ne hi k k)) (e_fa (ir_le e (ir_R e n) (ir_C e n) ow ne hi k k)) (e_rm (ir_le e (ir_R e n) (ir_C e n) ow ne hi k k)) (e_ra (ir_le e (ir_R e n) (ir_C e n) ow ne hi k k)) (e_re (ir_le e (ir_R e n) (ir_C e n) ow ne hi k k)) (e_cs (ir_le e (ir_R e n) (ir_C e n) ow ne hi k k)) (e_ch (ir_le e (ir_R e n) (ir_C e n) ow ne hi k k)) (e_ce (ir_le e (ir_R e n) (ir_C e n) ow ne hi k k)) vc vh vl vz vn ta yo an wn wz tl := by
  have hN := ir_EI_N hE
  intro d
  induction d with
  | zero =>
    intro k f tl hk hf ht
    obtain ⟨f, rfl⟩ : ∃ k, f = k + 1 := ⟨f - 1, by omega⟩
    have hk' : k = e_N e := by omega
    subst hk'
    simp only [wY_query_118]
    rw [nI_clamp (show n < 2 ^ 31 by omega)]
    have hla : ∀ i, bt (an n) i = true ↔ ir_L e n i := fun i => by rw [← ir_y_n (ta := ta) hN.2 hn, hL]
    have hK := K tl (an n) hla ht
    unfold ir_an at hK
    refine br_t (Int32.le_refl _) ⟨vp_in_nI (by omega) (by omega), nm_e ⟨fun h0 => Exists.intro (e_N e + 1) ?_, fun h0 => ?_⟩⟩
    · rw [if_pos h0] at hK
      exact yq_186 (E := ir_ln e n ow ne hi) hE rfl hV hL (e_N e) 0 (e_N e + 1) n (by omega) (by omega) hn hK
    · rw [if_neg h0] at hK
      exact hK
  | succ d ih =>
    intro k f tl hk hf ht
    obtain ⟨f, rfl⟩ : ∃ k, f = k + 1 := ⟨f - 1, by omega⟩
    have h24 : vp_in (nI k) 24 := vp_in_nI (by omega) (by omega)
    have hkN : k < e_N e := by omega
    simp only [wY_query_118]
    rw [ir_ee_le]
    refine br_f (nI_ge (b := e_N e) (by omega) (by omega)) (yl_learn hE hV hL hkN hD hO (hyo k hkN) (fun rm' ra' re' cs' ch' ce' lc' r1 r2 r3 r4 r5 => ?_))
    have hlc : lc' = nI (ir_cn (ir_R e n) (ir_C e n) (k + 1) (k + 1)) := by
      rw [r5, nI_add]
      refine congrArg nI ?_
      unfold ir_cn
      simp only [ir_sm]
      omega
    have hee : ir_ee e rm' ra' re' cs' ch' ce' = ir_le e (ir_R e n) (ir_C e n) ow ne hi (k + 1) (k + 1) := by
      rw [ir_ee_le]
      rcases Classical.em (ir_R e n k) with hR | hR
      · obtain ⟨q1, q2, q3⟩ := r1 hR
        rw [q1, q2, q3, ir_lr_u hR rfl, ir_lr_u hR rfl, ir_lr_u hR rfl]
        rcases Classical.em (ir_C e n k) with hC | hC
        · obtain ⟨p1, p2, p3⟩ := r3 hC
          rw [p1, p2, p3, ir_lr_u2 hC rfl rfl, ir_lr_u2 hC rfl rfl, ir_lr_u hC rfl]
        · obtain ⟨p1, p2, p3⟩ := r4 hC
          rw [p1, p2, p3, ir_lr_s2 hC, ir_lr_s2 hC, ir_lr_s hC]
      · obtain ⟨q1, q2, q3⟩ := r2 hR
        rw [q1, q2, q3, ir_lr_s hR, ir_lr_s hR, ir_lr_s hR]
        rcases Classical.em (ir_C e n k) with hC | hC
        · obtain ⟨p1, p2, p3⟩ := r3 hC
          rw [p1, p2, p3, ir_lr_u2 hC rfl rfl, ir_lr_u2 hC rfl rfl, ir_lr_u hC rfl]
        · obtain ⟨p1, p2, p3⟩ := r4 hC
          rw [p1, p2, p3, ir_lr_s2 hC, ir_lr_s2 hC, ir_lr_s hC]
    rw [hee, hlc]
    unfold ir_YS
    dsimp only
    rw [nI_clamp (show k < 2 ^ 31 by omega)]
    refine ⟨h24, fun h0 => ⟨h24, nm_e (nm_r (nI_1 k) (ih (k + 1) f (upd tl k 0) (by omega) (by omega) (fun z hz i => ?_)))⟩, fun h0 => ⟨h24, h24, nm_e (nm_r (nI_1 k) (ih (k + 1) f (upd tl k (ta k)) (by omega) (by omega) (fun z hz i => ?_)))⟩⟩
    · rcases Nat.decEq z k with y | y
      · rw [pk_un y]; exact ht z (by omega) i
      · subst y
        rw [pk_us, b_0]
        exact ⟨fun y => absurd y (by decide), fun y => absurd h0 ((ir_DS_z hN.2 hkN).mp ((hD _).mpr y.1))⟩
    · rcases Nat.decEq z k with y | y
      · rw [pk_un y]; exact ht z (by omega) i
      · subst y
        rw [pk_us, ← ir_y_z (an := an) hN.2 hkN, hL]
        exact ⟨fun y => ⟨(hD _).mp ((ir_DS_z hN.2 hkN).mpr h0), y⟩, fun y => y.2⟩
theorem yr_isName {post : Int32 → Prop} (hn : n < e_N e) (hN : e_N e ≤ 24) (K : post 1) : wpY_isName post (ir_YS e la lc vc vh vl vz vn ta yo an wn wz tl) (nI n) := by
  unfold wpY_isName ir_YS
  dsimp only
  exact br_f (nI_pos (by omega)) (br_f (nI_ge hn (by omega)) K)
theorem yq_query (hE : ir_EI e) (hn : n < e_N e) (hO : ir_OK e n ow ne hi)
    (K : ∀ vc vh vl vz vn ta yo an wn wz tl la', (∀ i, bt la' i = true ↔ ir_L e n i) → (∀ z, z < e_N e → ∀ i, bt (tl z) i = true ↔ ir_D e n (24 + z) ∧ ir_L e (24 + z) i) →
      post (ir_an e n la') (ir_YS (ir_ln e n ow ne hi) la' (nI (ir_cn (ir_R e n) (ir_C e n) (e_N e) (e_N e))) vc vh vl vz vn ta yo an wn wz tl)) : wpY_query post (ir_YS e la lc vc vh vl vz vn ta yo an wn wz tl) (nI n) := by
  have hN := ir_EI_N hE
  unfold wpY_query ir_YS
  dsimp only
  refine yr_isName hn hN.2 (br_f ir_1ne ?_)
  refine yv_view hE (fun vc vh vl vz vn ta yo an wn wz hV h0 => ?_)
  refine Exists.intro 441 (yg_18 hE hV hn (fun ta yo an hY hq => ?_) 440 0 441 1 ta yo an rfl (by omega) ?_ (Or.inr ⟨rfl, by omega⟩))
  · have hL := ir_yL hE hY hq
    have hDn : ir_DS e (upd wn n 1) wz n := (ir_DS_un hn n).mpr (Or.inr rfl)
    refine Exists.intro 51 (yd_75 hE hV hL hn (fun wn wz hD => ?_) 50 0 51 (upd wn n 1) wz rfl (by omega) hDn (fun t y => ?_) (Or.inr (by omega)))
    · have := yq_118 (la := la) (yo := yo) (post := post) hE hn hV hL hD hO (fun m hm i => by rw [← hL]; exact (hq m hm).2.1 i) (fun tl la' => K vc vh vl vz vn ta yo an wn wz tl la') (e_N e) 0 (e_N e + 1) tl (by omega) (by omega) (fun z hz => by omega)
      rw [ir_le_0] at this
      exact Exists.intro (e_N e + 1) this
    · rcases (ir_DS_un hn t).mp y with y | y
      · exfalso
        rcases y with y | y
        · exact y.2 (h0 t y.1).2.2.2.1
        · exact y.2.2 (h0 (t - 24) (by omega)).2.2.2.2
      · rw [y]; exact ir_D_n
  · have hy : ∀ t i, ¬ ir_y e ta an t i := by
      rintro t i (y | y)
      · have := y.2
        rw [(h0 t y.1).2.2.1, b_0] at this
        exact absurd this (by decide)
      · have := y.2.2
        rw [(h0 (t - 24) (by omega)).1, b_0] at this
        exact absurd this (by decide)
    refine ⟨fun t i y => absurd y (hy t i), fun t i y => absurd y (hy t i), fun m hm i y => ?_⟩
    rw [(h0 m hm).2.1, b_0] at y
    exact absurd y (by decide)
end
end
section
section
variable {e : ir_E} {la ll zt vo li : Int32} {be ex ab ha ow ne hi : ir_A} {wa lk : Nat} {ma de st qu fl ln lt : ir_A} {lc : Int32} {vc vh vl vz vn ta yo an wn wz tl : ir_A} {post : Int32 → Prop} {m : Nat}
theorem xg_zone0 (hE : ir_EI e) (hm : m < e_N e) (K : post (e_ad e m)) : wpX_zoneData post (ir_XS e la ll zt vo li be ex ab ha ow ne hi wa lk ma de st qu fl ln lt) (nI m) (nI 0) := by
  have hN := ir_EI_N hE
  have h24 : vp_in (nI m) 24 := vp_in_nI (by omega) (by omega)
  have hA : vp_in (nI (2 * m)) 48 := vp_in_nI (by omega) (by omega)
  have hB : vp_in (nI (2 * m + 1)) 48 := vp_in_nI (by omega) (by omega)
  unfold wpX_zoneData ir_XS
  dsimp only
  refine xr_isName hm hN.2 (br_f ir_1ne (br_f (by decide) (br_t (by decide) ?_)))
  simp only [wX_zoneData_92, wX_zoneData_66, ir_2m, nI_1, nI_clamp (show m < 2 ^ 31 by omega), nI_clamp (show 2 * m < 2 ^ 31 by omega), nI_clamp (show 2 * m + 1 < 2 ^ 31 by omega), forall_eq]
  exact br_t (by decide) (And.intro h24 K)
theorem yg_zone0 (hE : ir_EI e) (hm : m < e_N e) (K : post (e_ad e m)) : wpY_zoneData post (ir_YS e la lc vc vh vl vz vn ta yo an wn wz tl) (nI m) (nI 0) := by
  have hN := ir_EI_N hE
  have h24 : vp_in (nI m) 24 := vp_in_nI (by omega) (by omega)
  have hA : vp_in (nI (2 * m)) 48 := vp_in_nI (by omega) (by omega)
  have hB : vp_in (nI (2 * m + 1)) 48 := vp_in_nI (by omega) (by omega)
  unfold wpY_zoneData ir_YS
  dsimp only
  refine yr_isName hm hN.2 (br_f ir_1ne (br_f (by decide) (br_t (by decide) ?_)))
  simp only [wY_zoneData_92, wY_zoneData_103, ir_2m, nI_1, nI_clamp (show m < 2 ^ 31 by omega), nI_clamp (show 2 * m < 2 ^ 31 by omega), nI_clamp (show 2 * m + 1 < 2 ^ 31 by omega)]
  exact br_t (by decide) (And.intro h24 K)
theorem xg_zone1 (hE : ir_EI e) (hm : m < e_N e) (K : post (e_al e m)) : wpX_zoneData post (ir_XS e la ll zt vo li be ex ab ha ow ne hi wa lk ma de st qu fl ln lt) (nI m) (nI 1) := by
  have hN := ir_EI_N hE
  have h24 : vp_in (nI m) 24 := vp_in_nI (by omega) (by omega)
  have hA : vp_in (nI (2 * m)) 48 := vp_in_nI (by omega) (by omega)
  have hB : vp_in (nI (2 * m + 1)) 48 := vp_in_nI (by omega) (by omega)
  unfold wpX_zoneData ir_XS
  dsimp only
  refine xr_isName hm hN.2 (br_f ir_1ne (br_f (by decide) (br_t (by decide) ?_)))
  simp only [wX_zoneData_92, wX_zoneData_66, ir_2m, nI_1, nI_clamp (show m < 2 ^ 31 by omega), nI_clamp (show 2 * m < 2 ^ 31 by omega), nI_clamp (show 2 * m + 1 < 2 ^ 31 by omega), forall_eq]
  exact br_f (by decide) (br_t (by decide) (And.intro h24 K))
theorem yg_zone1 (hE : ir_EI e) (hm : m < e_N e) (K : post (e_al e m)) : wpY_zoneData post (ir_YS e la lc vc vh vl vz vn ta yo an wn wz tl) (nI m) (nI 1) := by
  have hN := ir_EI_N hE
  have h24 : vp_in (nI m) 24 := vp_in_nI (by omega) (by omega)
  have hA : vp_in (nI (2 * m)) 48 := vp_in_nI (by omega) (by omega)
  have hB : vp_in (nI (2 * m + 1)) 48 := vp_in_nI (by omega) (by omega)
  unfold wpY_zoneData ir_YS
  dsimp only
  refine yr_isName hm hN.2 (br_f ir_1ne (br_f (by decide) (br_t (by decide) ?_)))
  simp only [wY_zoneData_92, wY_zoneData_103, ir_2m, nI_1, nI_clamp (show m < 2 ^ 31 by omega), nI_clamp (show 2 * m < 2 ^ 31 by omega), nI_clamp (show 2 * m + 1 < 2 ^ 31 by omega)]
  exact br_f (by decide) (br_t (by decide) (And.intro h24 K))
theorem xg_zone3 (hE : ir_EI e) (hm : m < e_N e) (K : post (e_se e (2 * m))) : wpX_zoneData post (ir_XS e la ll zt vo li be ex ab ha ow ne hi wa lk ma de st qu fl ln lt) (nI m) (nI 3) := by
  have hN := ir_EI_N hE
  have h24 : vp_in (nI m) 24 := vp_in_nI (by omega) (by omega)
  have hA : vp_in (nI (2 * m)) 48 := vp_in_nI (by omega) (by omega)
  have hB : vp_in (nI (2 * m + 1)) 48 := vp_in_nI (by omega) (by omega)
  unfold wpX_zoneData ir_XS
  dsimp only
  refine xr_isName hm hN.2 (br_f ir_1ne (br_f (by decide) (br_t (by decide) ?_)))
  simp only [wX_zoneData_92, wX_zoneData_66, ir_2m, nI_1, nI_clamp (show m < 2 ^ 31 by omega), nI_clamp (show 2 * m < 2 ^ 31 by omega), nI_clamp (show 2 * m + 1 < 2 ^ 31 by omega), forall_eq]
  exact br_f (by decide) (br_f (by decide) (br_f (by decide) (br_t (by decide) (br_t (by decide) (And.intro hA K)))))
theorem yg_zone3 (hE : ir_EI e) (hm : m < e_N e) (K : post (e_se e (2 * m))) : wpY_zoneData post (ir_YS e la lc vc vh vl vz vn ta yo an wn wz tl) (nI m) (nI 3) := by
  have hN := ir_EI_N hE
  have h24 : vp_in (nI m) 24 := vp_in_nI (by omega) (by omega)
  have hA : vp_in (nI (2 * m)) 48 := vp_in_nI (by omega) (by omega)
  have hB : vp_in (nI (2 * m + 1)) 48 := vp_in_nI (by omega) (by omega)
  unfold wpY_zoneData ir_YS
  dsimp only
  refine yr_isName hm hN.2 (br_f ir_1ne (br_f (by decide) (br_t (by decide) ?_)))
  simp only [wY_zoneData_92, wY_zoneData_103, ir_2m, nI_1, nI_clamp (show m < 2 ^ 31 by omega), nI_clamp (show 2 * m < 2 ^ 31 by omega), nI_clamp (show 2 * m + 1 < 2 ^ 31 by omega)]
  exact br_f (by decide) (br_f (by decide) (br_f (by decide) (br_t (by decide) (br_t (by decide) (And.intro hA K)))))
theorem xg_zone4 (hE : ir_EI e) (hm : m < e_N e) (K : post (e_gl e (2 * m))) : wpX_zoneData post (ir_XS e la ll zt vo li be ex ab ha ow ne hi wa lk ma de st qu fl ln lt) (nI m) (nI 4) := by
  have hN := ir_EI_N hE
  have h24 : vp_in (nI m) 24 := vp_in_nI (by omega) (by omega)
  have hA : vp_in (nI (2 * m)) 48 := vp_in_nI (by omega) (by omega)
  have hB : vp_in (nI (2 * m + 1)) 48 := vp_in_nI (by omega) (by omega)
  unfold wpX_zoneData ir_XS
  dsimp only
  refine xr_isName hm hN.2 (br_f ir_1ne (br_f (by decide) (br_t (by decide) ?_)))
  simp only [wX_zoneData_92, wX_zoneData_66, ir_2m, nI_1, nI_clamp (show m < 2 ^ 31 by omega), nI_clamp (show 2 * m < 2 ^ 31 by omega), nI_clamp (show 2 * m + 1 < 2 ^ 31 by omega), forall_eq]
  exact br_f (by decide) (br_f (by decide) (br_f (by decide) (br_t (by decide) (br_f (by decide) (br_f (by decide) (And.intro hA K))))))
theorem yg_zone4 (hE : ir_EI e) (hm : m < e_N e) (K : post (e_gl e (2 * m))) : wpY_zoneData post (ir_YS e la lc vc vh vl vz vn ta yo an wn wz tl) (nI m) (nI 4) := by
  have hN := ir_EI_N hE
  have h24 : vp_in (nI m) 24 := vp_in_nI (by omega) (by omega)
  have hA : vp_in (nI (2 * m)) 48 := vp_in_nI (by omega) (by omega)
  have hB : vp_in (nI (2 * m + 1)) 48 := vp_in_nI (by omega) (by omega)
  unfold wpY_zoneData ir_YS
  dsimp only
  refine yr_isName hm hN.2 (br_f ir_1ne (br_f (by decide) (br_t (by decide) ?_)))
  simp only [wY_zoneData_92, wY_zoneData_103, ir_2m, nI_1, nI_clamp (show m < 2 ^ 31 by omega), nI_clamp (show 2 * m < 2 ^ 31 by omega), nI_clamp (show 2 * m + 1 < 2 ^ 31 by omega)]
  exact br_f (by decide) (br_f (by decide) (br_f (by decide) (br_f (by decide) (br_t (by decide) (br_f (by decide) (br_f (by decide) (And.intro hA K)))))))
theorem xg_zone5 (hE : ir_EI e) (hm : m < e_N e) (K : post (e_se e (2 * m + 1))) : wpX_zoneData post (ir_XS e la ll zt vo li be ex ab ha ow ne hi wa lk ma de st qu fl ln lt) (nI m) (nI 5) := by
  have hN := ir_EI_N hE
  have h24 : vp_in (nI m) 24 := vp_in_nI (by omega) (by omega)
  have hA : vp_in (nI (2 * m)) 48 := vp_in_nI (by omega) (by omega)
  have hB : vp_in (nI (2 * m + 1)) 48 := vp_in_nI (by omega) (by omega)
  unfold wpX_zoneData ir_XS
  dsimp only
  refine xr_isName hm hN.2 (br_f ir_1ne (br_f (by decide) (br_t (by decide) ?_)))
  simp only [wX_zoneData_92, wX_zoneData_66, ir_2m, nI_1, nI_clamp (show m < 2 ^ 31 by omega), nI_clamp (show 2 * m < 2 ^ 31 by omega), nI_clamp (show 2 * m + 1 < 2 ^ 31 by omega), forall_eq]
  exact br_f (by decide) (br_f (by decide) (br_f (by decide) (br_f (by decide) (br_f (by decide) (br_t (by decide) (And.intro hB K))))))
theorem yg_zone5 (hE : ir_EI e) (hm : m < e_N e) (K : post (e_se e (2 * m + 1))) : wpY_zoneData post (ir_YS e la lc vc vh vl vz vn ta yo an wn wz tl) (nI m) (nI 5) := by
  have hN := ir_EI_N hE
  have h24 : vp_in (nI m) 24 := vp_in_nI (by omega) (by omega)
  have hA : vp_in (nI (2 * m)) 48 := vp_in_nI (by omega) (by omega)
  have hB : vp_in (nI (2 * m + 1)) 48 := vp_in_nI (by omega) (by omega)
  unfold wpY_zoneData ir_YS
  dsimp only
  refine yr_isName hm hN.2 (br_f ir_1ne (br_f (by decide) (br_t (by decide) ?_)))
  simp only [wY_zoneData_92, wY_zoneData_103, ir_2m, nI_1, nI_clamp (show m < 2 ^ 31 by omega), nI_clamp (show 2 * m < 2 ^ 31 by omega), nI_clamp (show 2 * m + 1 < 2 ^ 31 by omega)]
  exact br_f (by decide) (br_f (by decide) (br_f (by decide) (br_f (by decide) (br_f (by decide) (br_f (by decide) (br_t (by decide) (And.intro hB K)))))))
theorem xg_zone6 (hE : ir_EI e) (hm : m < e_N e) (K : post (e_gl e (2 * m + 1))) : wpX_zoneData post (ir_XS e la ll zt vo li be ex ab ha ow ne hi wa lk ma de st qu fl ln lt) (nI m) (nI 6) := by
  have hN := ir_EI_N hE
  have h24 : vp_in (nI m) 24 := vp_in_nI (by omega) (by omega)
  have hA : vp_in (nI (2 * m)) 48 := vp_in_nI (by omega) (by omega)
  have hB : vp_in (nI (2 * m + 1)) 48 := vp_in_nI (by omega) (by omega)
  unfold wpX_zoneData ir_XS
  dsimp only
  refine xr_isName hm hN.2 (br_f ir_1ne (br_f (by decide) (br_t (by decide) ?_)))
  simp only [wX_zoneData_92, wX_zoneData_66, ir_2m, nI_1, nI_clamp (show m < 2 ^ 31 by omega), nI_clamp (show 2 * m < 2 ^ 31 by omega), nI_clamp (show 2 * m + 1 < 2 ^ 31 by omega), forall_eq]
  exact br_f (by decide) (br_f (by decide) (br_f (by decide) (br_f (by decide) (br_f (by decide) (br_f (by decide) (And.intro hB K))))))
theorem yg_zone6 (hE : ir_EI e) (hm : m < e_N e) (K : post (e_gl e (2 * m + 1))) : wpY_zoneData post (ir_YS e la lc vc vh vl vz vn ta yo an wn wz tl) (nI m) (nI 6) := by
  have hN := ir_EI_N hE
  have h24 : vp_in (nI m) 24 := vp_in_nI (by omega) (by omega)
  have hA : vp_in (nI (2 * m)) 48 := vp_in_nI (by omega) (by omega)
  have hB : vp_in (nI (2 * m + 1)) 48 := vp_in_nI (by omega) (by omega)
  unfold wpY_zoneData ir_YS
  dsimp only
  refine yr_isName hm hN.2 (br_f ir_1ne (br_f (by decide) (br_t (by decide) ?_)))
  simp only [wY_zoneData_92, wY_zoneData_103, ir_2m, nI_1, nI_clamp (show m < 2 ^ 31 by omega), nI_clamp (show 2 * m < 2 ^ 31 by omega), nI_clamp (show 2 * m + 1 < 2 ^ 31 by omega)]
  exact br_f (by decide) (br_f (by decide) (br_f (by decide) (br_f (by decide) (br_f (by decide) (br_f (by decide) (br_f (by decide) (And.intro hB K)))))))
/-- how many servers -/
def ir_ct2 (a b : Int32) : Int32 := if a < 0 then 0 else if b < 0 then 1 else 2
theorem xg_zone2 (hE : ir_EI e) (hm : m < e_N e) (K : post (ir_ct2 (e_se e (2 * m)) (e_se e (2 * m + 1)))) : wpX_zoneData post (ir_XS e la ll zt vo li be ex ab ha ow ne hi wa lk ma de st qu fl ln lt) (nI m) (nI 2) := by
  have hN := ir_EI_N hE
  have h24 : vp_in (nI m) 24 := vp_in_nI (by omega) (by omega)
  have hA : vp_in (nI (2 * m)) 48 := vp_in_nI (by omega) (by omega)
  have hB : vp_in (nI (2 * m + 1)) 48 := vp_in_nI (by omega) (by omega)
  have h2 := hE.2.2.2.2.2.2.2.2.2.2.2.2.2.2.2.2 m
  unfold wpX_zoneData ir_XS
  dsimp only
  refine xr_isName hm hN.2 (br_f ir_1ne (br_f (by decide) (br_t (by decide) ?_)))
  simp only [wX_zoneData_92, wX_zoneData_66, ir_2m, nI_1, nI_clamp (show m < 2 ^ 31 by omega), nI_clamp (show 2 * m < 2 ^ 31 by omega), nI_clamp (show 2 * m + 1 < 2 ^ 31 by omega), forall_eq]
  unfold ir_ct2 at K
  refine br_f (by decide) (br_f (by decide) (br_t (by decide) ⟨hA, fun h0 => ⟨hB, fun h1 => ?_, fun h1 => absurd (h2 h0) h1⟩, fun h0 => ⟨hB, fun h1 => ?_, fun h1 => ?_⟩⟩))
  · rw [if_pos h0] at K; exact K
  · rw [if_neg h0, if_pos h1] at K; exact K
  · rw [if_neg h0, if_neg h1] at K; exact K
theorem yg_zone2 (hE : ir_EI e) (hm : m < e_N e) (K : post (ir_ct2 (e_se e (2 * m)) (e_se e (2 * m + 1)))) : wpY_zoneData post (ir_YS e la lc vc vh vl vz vn ta yo an wn wz tl) (nI m) (nI 2) := by
  have hN := ir_EI_N hE
  have h24 : vp_in (nI m) 24 := vp_in_nI (by omega) (by omega)
  have hA : vp_in (nI (2 * m)) 48 := vp_in_nI (by omega) (by omega)
  have hB : vp_in (nI (2 * m + 1)) 48 := vp_in_nI (by omega) (by omega)
  unfold wpY_zoneData ir_YS
  dsimp only
  refine yr_isName hm hN.2 (br_f ir_1ne (br_f (by decide) (br_t (by decide) ?_)))
  simp only [wY_zoneData_92, wY_zoneData_103, ir_2m, nI_1, nI_clamp (show m < 2 ^ 31 by omega), nI_clamp (show 2 * m < 2 ^ 31 by omega), nI_clamp (show 2 * m + 1 < 2 ^ 31 by omega)]
  unfold ir_ct2 at K
  refine br_f (by decide) (br_f (by decide) (br_t (by decide) ⟨hA, fun h0 => ⟨hB, fun h1 => ?_, fun h1 => ?_⟩, fun h0 => ?_⟩))
  · rw [if_neg (Int32.not_lt.mpr h0), if_neg (Int32.not_lt.mpr h1)] at K; exact K
  · rw [if_neg (Int32.not_lt.mpr h0), if_pos (ir_nle.mp h1)] at K; exact K
  · rw [if_pos (ir_nle.mp h0)] at K; exact K
theorem xg_cache0 (hE : ir_EI e) (hm : m < e_N e) (K : post (if e_re e m ≤ e_nw e then (0) else e_rm e m)) : wpX_cacheData post (ir_XS e la ll zt vo li be ex ab ha ow ne hi wa lk ma de st qu fl ln lt) (nI m) (nI 0) := by
  have hN := ir_EI_N hE
  have h24 : vp_in (nI m) 24 := vp_in_nI (by omega) (by omega)
  have hA : vp_in (nI (2 * m)) 48 := vp_in_nI (by omega) (by omega)
  have hB : vp_in (nI (2 * m + 1)) 48 := vp_in_nI (by omega) (by omega)
  unfold wpX_cacheData ir_XS
  dsimp only
  refine xr_isName hm hN.2 (br_f ir_1ne (br_f (by decide) (br_t (by decide) ?_)))
  simp only [wX_cacheData_35, wpX_recordData, wpX_cutData, wpX_liveRecord, wpX_liveCut, wX_cutData_22, wX_cutData_25, wX_cutData_35, wX_cutData_95, ir_2m, nI_1, nI_clamp (show m < 2 ^ 31 by omega), nI_clamp (show 2 * m < 2 ^ 31 by omega), nI_clamp (show 2 * m + 1 < 2 ^ 31 by omega), forall_eq]
  refine br_t (by decide) (And.intro h24 ?_)
  rcases Classical.em (e_re e m ≤ e_nw e) with hl | hl
  · rw [if_pos hl] at K
    exact br_t hl (br_f (by decide) (br_t trivial (K)))
  · rw [if_neg hl] at K
    exact br_f hl (br_f (by decide) (br_f ir_1ne (br_t (by decide) (And.intro h24 K))))
theorem yg_cache0 (hE : ir_EI e) (hm : m < e_N e) (K : post (if e_re e m ≤ e_nw e then (0) else e_rm e m)) : wpY_cacheData post (ir_YS e la lc vc vh vl vz vn ta yo an wn wz tl) (nI m) (nI 0) := by
  have hN := ir_EI_N hE
  have h24 : vp_in (nI m) 24 := vp_in_nI (by omega) (by omega)
  have hA : vp_in (nI (2 * m)) 48 := vp_in_nI (by omega) (by omega)
  have hB : vp_in (nI (2 * m + 1)) 48 := vp_in_nI (by omega) (by omega)
  unfold wpY_cacheData ir_YS
  dsimp only
  refine yr_isName hm hN.2 (br_f ir_1ne (br_f (by decide) (br_t (by decide) ?_)))
  have key : ∀ x3 z0 : Int32, ((x3 = 0 ∧ e_re e m ≤ e_nw e) ∨ (x3 = 1 ∧ ¬ e_re e m ≤ e_nw e)) → ((z0 = 0 ∧ e_ce e m ≤ e_nw e) ∨ (z0 = 1 ∧ ¬ e_ce e m ≤ e_nw e)) → wY_cacheData_57 post (nI m) (nI 0) x3 z0 (nI (e_N e)) (e_rl e) (e_dl e) (e_cl e) (e_nw e) la lc (e_ad e) (e_al e) (e_se e) (e_gl e) (e_mo e) (e_fn e) (e_fa e) (e_rm e) (e_ra e) (e_re e) (e_cs e) (e_ch e) (e_ce e) vc vh vl vz vn ta yo an wn wz tl := by
    intro x3 z0 hx hz
    simp only [wY_cacheData_57, wY_cacheData_194, wY_cacheData_205, wY_cacheData_217, ir_2m, nI_1, nI_clamp (show m < 2 ^ 31 by omega), nI_clamp (show 2 * m < 2 ^ 31 by omega), nI_clamp (show 2 * m + 1 < 2 ^ 31 by omega)]
    rcases hx with ⟨h0, hl⟩ | ⟨h0, hl⟩
    · rw [if_pos hl] at K
      exact br_f (by decide) (br_t (by decide) (br_t h0 (K)))
    · rw [if_neg hl] at K
      exact br_f (by decide) (br_t (by decide) (br_f (by rw [h0]; exact ir_1ne) (And.intro h24 K)))
  simp only [wY_cacheData_38, nI_clamp (show m < 2 ^ 31 by omega)]
  exact ⟨h24, fun hl => ⟨h24, fun hc => key 0 0 (Or.inl ⟨rfl, hl⟩) (Or.inl ⟨rfl, hc⟩), fun hc => key 0 1 (Or.inl ⟨rfl, hl⟩) (Or.inr ⟨rfl, hc⟩)⟩, fun hl => ⟨h24, fun hc => key 1 0 (Or.inr ⟨rfl, hl⟩) (Or.inl ⟨rfl, hc⟩), fun hc => key 1 1 (Or.inr ⟨rfl, hl⟩) (Or.inr ⟨rfl, hc⟩)⟩⟩
theorem xg_cache1 (hE : ir_EI e) (hm : m < e_N e) (K : post (if e_re e m ≤ e_nw e then (-1) else e_ra e m)) : wpX_cacheData post (ir_XS e la ll zt vo li be ex ab ha ow ne hi wa lk ma de st qu fl ln lt) (nI m) (nI 1) := by
  have hN := ir_EI_N hE
  have h24 : vp_in (nI m) 24 := vp_in_nI (by omega) (by omega)
  have hA : vp_in (nI (2 * m)) 48 := vp_in_nI (by omega) (by omega)
  have hB : vp_in (nI (2 * m + 1)) 48 := vp_in_nI (by omega) (by omega)
  unfold wpX_cacheData ir_XS
  dsimp only
  refine xr_isName hm hN.2 (br_f ir_1ne (br_f (by decide) (br_t (by decide) ?_)))
  simp only [wX_cacheData_35, wpX_recordData, wpX_cutData, wpX_liveRecord, wpX_liveCut, wX_cutData_22, wX_cutData_25, wX_cutData_35, wX_cutData_95, ir_2m, nI_1, nI_clamp (show m < 2 ^ 31 by omega), nI_clamp (show 2 * m < 2 ^ 31 by omega), nI_clamp (show 2 * m + 1 < 2 ^ 31 by omega), forall_eq]
  refine br_f (by decide) (br_t (by decide) (And.intro h24 ?_))
  rcases Classical.em (e_re e m ≤ e_nw e) with hl | hl
  · rw [if_pos hl] at K
    exact br_t hl (br_t (by decide) (br_t trivial (K)))
  · rw [if_neg hl] at K
    exact br_f hl (br_t (by decide) (br_f ir_1ne (And.intro h24 K)))
theorem yg_cache1 (hE : ir_EI e) (hm : m < e_N e) (K : post (if e_re e m ≤ e_nw e then (-1) else e_ra e m)) : wpY_cacheData post (ir_YS e la lc vc vh vl vz vn ta yo an wn wz tl) (nI m) (nI 1) := by
  have hN := ir_EI_N hE
  have h24 : vp_in (nI m) 24 := vp_in_nI (by omega) (by omega)
  have hA : vp_in (nI (2 * m)) 48 := vp_in_nI (by omega) (by omega)
  have hB : vp_in (nI (2 * m + 1)) 48 := vp_in_nI (by omega) (by omega)
  unfold wpY_cacheData ir_YS
  dsimp only
  refine yr_isName hm hN.2 (br_f ir_1ne (br_f (by decide) (br_t (by decide) ?_)))
  have key : ∀ x3 z0 : Int32, ((x3 = 0 ∧ e_re e m ≤ e_nw e) ∨ (x3 = 1 ∧ ¬ e_re e m ≤ e_nw e)) → ((z0 = 0 ∧ e_ce e m ≤ e_nw e) ∨ (z0 = 1 ∧ ¬ e_ce e m ≤ e_nw e)) → wY_cacheData_57 post (nI m) (nI 1) x3 z0 (nI (e_N e)) (e_rl e) (e_dl e) (e_cl e) (e_nw e) la lc (e_ad e) (e_al e) (e_se e) (e_gl e) (e_mo e) (e_fn e) (e_fa e) (e_rm e) (e_ra e) (e_re e) (e_cs e) (e_ch e) (e_ce e) vc vh vl vz vn ta yo an wn wz tl := by
    intro x3 z0 hx hz
    simp only [wY_cacheData_57, wY_cacheData_194, wY_cacheData_205, wY_cacheData_217, ir_2m, nI_1, nI_clamp (show m < 2 ^ 31 by omega), nI_clamp (show 2 * m < 2 ^ 31 by omega), nI_clamp (show 2 * m + 1 < 2 ^ 31 by omega)]
    rcases hx with ⟨h0, hl⟩ | ⟨h0, hl⟩
    · rw [if_pos hl] at K
      exact br_f (by decide) (br_f (by decide) (br_t (by decide) (br_t h0 (K))))
    · rw [if_neg hl] at K
      exact br_f (by decide) (br_f (by decide) (br_t (by decide) (br_f (by rw [h0]; exact ir_1ne) (And.intro h24 K))))
  simp only [wY_cacheData_38, nI_clamp (show m < 2 ^ 31 by omega)]
  exact ⟨h24, fun hl => ⟨h24, fun hc => key 0 0 (Or.inl ⟨rfl, hl⟩) (Or.inl ⟨rfl, hc⟩), fun hc => key 0 1 (Or.inl ⟨rfl, hl⟩) (Or.inr ⟨rfl, hc⟩)⟩, fun hl => ⟨h24, fun hc => key 1 0 (Or.inr ⟨rfl, hl⟩) (Or.inl ⟨rfl, hc⟩), fun hc => key 1 1 (Or.inr ⟨rfl, hl⟩) (Or.inr ⟨rfl, hc⟩)⟩⟩
theorem xg_cache2 (hE : ir_EI e) (hm : m < e_N e) (K : post (if e_ce e m ≤ e_nw e then (0) else ir_ct2 0 (e_cs e (2 * m + 1)))) : wpX_cacheData post (ir_XS e la ll zt vo li be ex ab ha ow ne hi wa lk ma de st qu fl ln lt) (nI m) (nI 2) := by
  have hN := ir_EI_N hE
  have h24 : vp_in (nI m) 24 := vp_in_nI (by omega) (by omega)
  have hA : vp_in (nI (2 * m)) 48 := vp_in_nI (by omega) (by omega)
  have hB : vp_in (nI (2 * m + 1)) 48 := vp_in_nI (by omega) (by omega)
  unfold wpX_cacheData ir_XS
  dsimp only
  refine xr_isName hm hN.2 (br_f ir_1ne (br_f (by decide) (br_t (by decide) ?_)))
  simp only [wX_cacheData_35, wpX_recordData, wpX_cutData, wpX_liveRecord, wpX_liveCut, wX_cutData_22, wX_cutData_25, wX_cutData_35, wX_cutData_95, ir_2m, nI_1, nI_clamp (show m < 2 ^ 31 by omega), nI_clamp (show 2 * m < 2 ^ 31 by omega), nI_clamp (show 2 * m + 1 < 2 ^ 31 by omega), forall_eq]
  refine br_f (by decide) (br_f (by decide) (br_f (by decide) (And.intro h24 ?_)))
  rcases Classical.em (e_ce e m ≤ e_nw e) with hl | hl
  · rw [if_pos hl] at K
    exact br_t hl (br_f (by decide) (br_f (by decide) (br_f (by decide) (br_f (by decide) (br_t trivial (K))))))
  · rw [if_neg hl] at K
    refine br_f hl (br_f (by decide) (br_f (by decide) (br_f (by decide) (br_f (by decide) (br_f ir_1ne (br_f (by decide) (br_t (by decide) (And.intro hA ?_))))))))
    have h2 : ¬ e_cs e (2 * m) < 0 := Int32.not_lt.mpr (ir_hdcs hE hl)
    refine br_f h2 ⟨hB, fun h1 => ?_, fun h1 => ?_⟩
    · unfold ir_ct2 at K; rw [if_neg (by decide), if_pos h1] at K; exact K
    · unfold ir_ct2 at K; rw [if_neg (by decide), if_neg h1] at K; exact K
theorem yg_cache2 (hE : ir_EI e) (hm : m < e_N e) (K : post (if e_ce e m ≤ e_nw e then (0) else ir_ct2 0 (e_cs e (2 * m + 1)))) : wpY_cacheData post (ir_YS e la lc vc vh vl vz vn ta yo an wn wz tl) (nI m) (nI 2) := by
  have hN := ir_EI_N hE
  have h24 : vp_in (nI m) 24 := vp_in_nI (by omega) (by omega)
  have hA : vp_in (nI (2 * m)) 48 := vp_in_nI (by omega) (by omega)
  have hB : vp_in (nI (2 * m + 1)) 48 := vp_in_nI (by omega) (by omega)
  unfold wpY_cacheData ir_YS
  dsimp only
  refine yr_isName hm hN.2 (br_f ir_1ne (br_f (by decide) (br_t (by decide) ?_)))
  have key : ∀ x3 z0 : Int32, ((x3 = 0 ∧ e_re e m ≤ e_nw e) ∨ (x3 = 1 ∧ ¬ e_re e m ≤ e_nw e)) → ((z0 = 0 ∧ e_ce e m ≤ e_nw e) ∨ (z0 = 1 ∧ ¬ e_ce e m ≤ e_nw e)) → wY_cacheData_57 post (nI m) (nI 2) x3 z0 (nI (e_N e)) (e_rl e) (e_dl e) (e_cl e) (e_nw e) la lc (e_ad e) (e_al e) (e_se e) (e_gl e) (e_mo e) (e_fn e) (e_fa e) (e_rm e) (e_ra e) (e_re e) (e_cs e) (e_ch e) (e_ce e) vc vh vl vz vn ta yo an wn wz tl := by
    intro x3 z0 hx hz
    simp only [wY_cacheData_57, wY_cacheData_194, wY_cacheData_205, wY_cacheData_217, ir_2m, nI_1, nI_clamp (show m < 2 ^ 31 by omega), nI_clamp (show 2 * m < 2 ^ 31 by omega), nI_clamp (show 2 * m + 1 < 2 ^ 31 by omega)]
    rcases hz with ⟨h0, hl⟩ | ⟨h0, hl⟩
    · rw [if_pos hl] at K
      exact br_f (by decide) (br_f (by decide) (br_f (by decide) (br_f (by decide) (br_t (by decide) (br_t h0 (K))))))
    · rw [if_neg hl] at K
      refine br_f (by decide) (br_f (by decide) (br_f (by decide) (br_f (by decide) (br_t (by decide) (br_f (by rw [h0]; exact ir_1ne) (And.intro hB ?_))))))
      unfold ir_ct2 at K
      rw [if_neg (by decide)] at K
      refine ⟨fun h1 => ?_, fun h1 => ?_⟩
      · rw [if_neg (Int32.not_lt.mpr h1)] at K; exact K
      · rw [if_pos (ir_nle.mp h1)] at K; exact K
  simp only [wY_cacheData_38, nI_clamp (show m < 2 ^ 31 by omega)]
  exact ⟨h24, fun hl => ⟨h24, fun hc => key 0 0 (Or.inl ⟨rfl, hl⟩) (Or.inl ⟨rfl, hc⟩), fun hc => key 0 1 (Or.inl ⟨rfl, hl⟩) (Or.inr ⟨rfl, hc⟩)⟩, fun hl => ⟨h24, fun hc => key 1 0 (Or.inr ⟨rfl, hl⟩) (Or.inl ⟨rfl, hc⟩), fun hc => key 1 1 (Or.inr ⟨rfl, hl⟩) (Or.inr ⟨rfl, hc⟩)⟩⟩
theorem xg_cache3 (hE : ir_EI e) (hm : m < e_N e) (K : post (if e_ce e m ≤ e_nw e then (-1) else e_cs e (2 * m))) : wpX_cacheData post (ir_XS e la ll zt vo li be ex ab ha ow ne hi wa lk ma de st qu fl ln lt) (nI m) (nI 3) := by
  have hN := ir_EI_N hE
  have h24 : vp_in (nI m) 24 := vp_in_nI (by omega) (by omega)
  have hA : vp_in (nI (2 * m)) 48 := vp_in_nI (by omega) (by omega)
  have hB : vp_in (nI (2 * m + 1)) 48 := vp_in_nI (by omega) (by omega)
  unfold wpX_cacheData ir_XS
  dsimp only
  refine xr_isName hm hN.2 (br_f ir_1ne (br_f (by decide) (br_t (by decide) ?_)))
  simp only [wX_cacheData_35, wpX_recordData, wpX_cutData, wpX_liveRecord, wpX_liveCut, wX_cutData_22, wX_cutData_25, wX_cutData_35, wX_cutData_95, ir_2m, nI_1, nI_clamp (show m < 2 ^ 31 by omega), nI_clamp (show 2 * m < 2 ^ 31 by omega), nI_clamp (show 2 * m + 1 < 2 ^ 31 by omega), forall_eq]
  refine br_f (by decide) (br_f (by decide) (br_f (by decide) (And.intro h24 ?_)))
  rcases Classical.em (e_ce e m ≤ e_nw e) with hl | hl
  · rw [if_pos hl] at K
    exact br_t hl (br_f (by decide) (br_f (by decide) (br_t (by decide) (br_t trivial (K)))))
  · rw [if_neg hl] at K
    exact br_f hl (br_f (by decide) (br_f (by decide) (br_t (by decide) (br_f ir_1ne (And.intro hA K)))))
theorem yg_cache3 (hE : ir_EI e) (hm : m < e_N e) (K : post (if e_ce e m ≤ e_nw e then (-1) else e_cs e (2 * m))) : wpY_cacheData post (ir_YS e la lc vc vh vl vz vn ta yo an wn wz tl) (nI m) (nI 3) := by
  have hN := ir_EI_N hE
  have h24 : vp_in (nI m) 24 := vp_in_nI (by omega) (by omega)
  have hA : vp_in (nI (2 * m)) 48 := vp_in_nI (by omega) (by omega)
  have hB : vp_in (nI (2 * m + 1)) 48 := vp_in_nI (by omega) (by omega)
  unfold wpY_cacheData ir_YS
  dsimp only
  refine yr_isName hm hN.2 (br_f ir_1ne (br_f (by decide) (br_t (by decide) ?_)))
  have key : ∀ x3 z0 : Int32, ((x3 = 0 ∧ e_re e m ≤ e_nw e) ∨ (x3 = 1 ∧ ¬ e_re e m ≤ e_nw e)) → ((z0 = 0 ∧ e_ce e m ≤ e_nw e) ∨ (z0 = 1 ∧ ¬ e_ce e m ≤ e_nw e)) → wY_cacheData_57 post (nI m) (nI 3) x3 z0 (nI (e_N e)) (e_rl e) (e_dl e) (e_cl e) (e_nw e) la lc (e_ad e) (e_al e) (e_se e) (e_gl e) (e_mo e) (e_fn e) (e_fa e) (e_rm e) (e_ra e) (e_re e) (e_cs e) (e_ch e) (e_ce e) vc vh vl vz vn ta yo an wn wz tl := by
    intro x3 z0 hx hz
    simp only [wY_cacheData_57, wY_cacheData_194, wY_cacheData_205, wY_cacheData_217, ir_2m, nI_1, nI_clamp (show m < 2 ^ 31 by omega), nI_clamp (show 2 * m < 2 ^ 31 by omega), nI_clamp (show 2 * m + 1 < 2 ^ 31 by omega)]
    rcases hz with ⟨h0, hl⟩ | ⟨h0, hl⟩
    · rw [if_pos hl] at K
      exact br_f (by decide) (br_f (by decide) (br_f (by decide) (br_f (by decide) (br_f (by decide) (br_t (by decide) (br_t (by decide) (br_t h0 (K))))))))
    · rw [if_neg hl] at K
      exact br_f (by decide) (br_f (by decide) (br_f (by decide) (br_f (by decide) (br_f (by decide) (br_t (by decide) (br_t (by decide) (br_f (by rw [h0]; exact ir_1ne) (And.intro hA K))))))))
  simp only [wY_cacheData_38, nI_clamp (show m < 2 ^ 31 by omega)]
  exact ⟨h24, fun hl => ⟨h24, fun hc => key 0 0 (Or.inl ⟨rfl, hl⟩) (Or.inl ⟨rfl, hc⟩), fun hc => key 0 1 (Or.inl ⟨rfl, hl⟩) (Or.inr ⟨rfl, hc⟩)⟩, fun hl => ⟨h24, fun hc => key 1 0 (Or.inr ⟨rfl, hl⟩) (Or.inl ⟨rfl, hc⟩), fun hc => key 1 1 (Or.inr ⟨rfl, hl⟩) (Or.inr ⟨rfl, hc⟩)⟩⟩
theorem xg_cache4 (hE : ir_EI e) (hm : m < e_N e) (K : post (if e_ce e m ≤ e_nw e then (0) else e_ch e (2 * m))) : wpX_cacheData post (ir_XS e la ll zt vo li be ex ab ha ow ne hi wa lk ma de st qu fl ln lt) (nI m) (nI 4) := by
  have hN := ir_EI_N hE
  have h24 : vp_in (nI m) 24 := vp_in_nI (by omega) (by omega)
  have hA : vp_in (nI (2 * m)) 48 := vp_in_nI (by omega) (by omega)
  have hB : vp_in (nI (2 * m + 1)) 48 := vp_in_nI (by omega) (by omega)
  unfold wpX_cacheData ir_XS
  dsimp only
  refine xr_isName hm hN.2 (br_f ir_1ne (br_f (by decide) (br_t (by decide) ?_)))
  simp only [wX_cacheData_35, wpX_recordData, wpX_cutData, wpX_liveRecord, wpX_liveCut, wX_cutData_22, wX_cutData_25, wX_cutData_35, wX_cutData_95, ir_2m, nI_1, nI_clamp (show m < 2 ^ 31 by omega), nI_clamp (show 2 * m < 2 ^ 31 by omega), nI_clamp (show 2 * m + 1 < 2 ^ 31 by omega), forall_eq]
  refine br_f (by decide) (br_f (by decide) (br_f (by decide) (And.intro h24 ?_)))
  rcases Classical.em (e_ce e m ≤ e_nw e) with hl | hl
  · rw [if_pos hl] at K
    exact br_t hl (br_f (by decide) (br_f (by decide) (br_f (by decide) (br_f (by decide) (br_t trivial (K))))))
  · rw [if_neg hl] at K
    exact br_f hl (br_f (by decide) (br_f (by decide) (br_f (by decide) (br_f (by decide) (br_f ir_1ne (br_f (by decide) (br_f (by decide) (And.intro hA K))))))))
theorem yg_cache4 (hE : ir_EI e) (hm : m < e_N e) (K : post (if e_ce e m ≤ e_nw e then (0) else e_ch e (2 * m))) : wpY_cacheData post (ir_YS e la lc vc vh vl vz vn ta yo an wn wz tl) (nI m) (nI 4) := by
  have hN := ir_EI_N hE
  have h24 : vp_in (nI m) 24 := vp_in_nI (by omega) (by omega)
  have hA : vp_in (nI (2 * m)) 48 := vp_in_nI (by omega) (by omega)
  have hB : vp_in (nI (2 * m + 1)) 48 := vp_in_nI (by omega) (by omega)
  unfold wpY_cacheData ir_YS
  dsimp only
  refine yr_isName hm hN.2 (br_f ir_1ne (br_f (by decide) (br_t (by decide) ?_)))
  have key : ∀ x3 z0 : Int32, ((x3 = 0 ∧ e_re e m ≤ e_nw e) ∨ (x3 = 1 ∧ ¬ e_re e m ≤ e_nw e)) → ((z0 = 0 ∧ e_ce e m ≤ e_nw e) ∨ (z0 = 1 ∧ ¬ e_ce e m ≤ e_nw e)) → wY_cacheData_57 post (nI m) (nI 4) x3 z0 (nI (e_N e)) (e_rl e) (e_dl e) (e_cl e) (e_nw e) la lc (e_ad e) (e_al e) (e_se e) (e_gl e) (e_mo e) (e_fn e) (e_fa e) (e_rm e) (e_ra e) (e_re e) (e_cs e) (e_ch e) (e_ce e) vc vh vl vz vn ta yo an wn wz tl := by
    intro x3 z0 hx hz
    simp only [wY_cacheData_57, wY_cacheData_194, wY_cacheData_205, wY_cacheData_217, ir_2m, nI_1, nI_clamp (show m < 2 ^ 31 by omega), nI_clamp (show 2 * m < 2 ^ 31 by omega), nI_clamp (show 2 * m + 1 < 2 ^ 31 by omega)]
    rcases hz with ⟨h0, hl⟩ | ⟨h0, hl⟩
    · rw [if_pos hl] at K
      exact br_f (by decide) (br_f (by decide) (br_f (by decide) (br_f (by decide) (br_f (by decide) (br_f (by decide) (br_t (by decide) (br_f (by decide) (br_f (by decide) (br_t h0 (K))))))))))
    · rw [if_neg hl] at K
      exact br_f (by decide) (br_f (by decide) (br_f (by decide) (br_f (by decide) (br_f (by decide) (br_f (by decide) (br_t (by decide) (br_f (by decide) (br_f (by decide) (br_f (by rw [h0]; exact ir_1ne) (And.intro hA K))))))))))
  simp only [wY_cacheData_38, nI_clamp (show m < 2 ^ 31 by omega)]
  exact ⟨h24, fun hl => ⟨h24, fun hc => key 0 0 (Or.inl ⟨rfl, hl⟩) (Or.inl ⟨rfl, hc⟩), fun hc => key 0 1 (Or.inl ⟨rfl, hl⟩) (Or.inr ⟨rfl, hc⟩)⟩, fun hl => ⟨h24, fun hc => key 1 0 (Or.inr ⟨rfl, hl⟩) (Or.inl ⟨rfl, hc⟩), fun hc => key 1 1 (Or.inr ⟨rfl, hl⟩) (Or.inr ⟨rfl, hc⟩)⟩⟩
theorem xg_cache5 (hE : ir_EI e) (hm : m < e_N e) (K : post (if e_ce e m ≤ e_nw e then (-1) else e_cs e (2 * m + 1))) : wpX_cacheData post (ir_XS e la ll zt vo li be ex ab ha ow ne hi wa lk ma de st qu fl ln lt) (nI m) (nI 5) := by
  have hN := ir_EI_N hE
  have h24 : vp_in (nI m) 24 := vp_in_nI (by omega) (by omega)
  have hA : vp_in (nI (2 * m)) 48 := vp_in_nI (by omega) (by omega)
  have hB : vp_in (nI (2 * m + 1)) 48 := vp_in_nI (by omega) (by omega)
  unfold wpX_cacheData ir_XS
  dsimp only
  refine xr_isName hm hN.2 (br_f ir_1ne (br_f (by decide) (br_t (by decide) ?_)))
  simp only [wX_cacheData_35, wpX_recordData, wpX_cutData, wpX_liveRecord, wpX_liveCut, wX_cutData_22, wX_cutData_25, wX_cutData_35, wX_cutData_95, ir_2m, nI_1, nI_clamp (show m < 2 ^ 31 by omega), nI_clamp (show 2 * m < 2 ^ 31 by omega), nI_clamp (show 2 * m + 1 < 2 ^ 31 by omega), forall_eq]
  refine br_f (by decide) (br_f (by decide) (br_f (by decide) (And.intro h24 ?_)))
  rcases Classical.em (e_ce e m ≤ e_nw e) with hl | hl
  · rw [if_pos hl] at K
    exact br_t hl (br_t (by decide) (br_f (by decide) (br_t (by decide) (br_t trivial (K)))))
  · rw [if_neg hl] at K
    exact br_f hl (br_t (by decide) (br_f (by decide) (br_t (by decide) (br_f ir_1ne (And.intro hB K)))))
theorem yg_cache5 (hE : ir_EI e) (hm : m < e_N e) (K : post (if e_ce e m ≤ e_nw e then (-1) else e_cs e (2 * m + 1))) : wpY_cacheData post (ir_YS e la lc vc vh vl vz vn ta yo an wn wz tl) (nI m) (nI 5) := by
  have hN := ir_EI_N hE
  have h24 : vp_in (nI m) 24 := vp_in_nI (by omega) (by omega)
  have hA : vp_in (nI (2 * m)) 48 := vp_in_nI (by omega) (by omega)
  have hB : vp_in (nI (2 * m + 1)) 48 := vp_in_nI (by omega) (by omega)
  unfold wpY_cacheData ir_YS
  dsimp only
  refine yr_isName hm hN.2 (br_f ir_1ne (br_f (by decide) (br_t (by decide) ?_)))
  have key : ∀ x3 z0 : Int32, ((x3 = 0 ∧ e_re e m ≤ e_nw e) ∨ (x3 = 1 ∧ ¬ e_re e m ≤ e_nw e)) → ((z0 = 0 ∧ e_ce e m ≤ e_nw e) ∨ (z0 = 1 ∧ ¬ e_ce e m ≤ e_nw e)) → wY_cacheData_57 post (nI m) (nI 5) x3 z0 (nI (e_N e)) (e_rl e) (e_dl e) (e_cl e) (e_nw e) la lc (e_ad e) (e_al e) (e_se e) (e_gl e) (e_mo e) (e_fn e) (e_fa e) (e_rm e) (e_ra e) (e_re e) (e_cs e) (e_ch e) (e_ce e) vc vh vl vz vn ta yo an wn wz tl := by
    intro x3 z0 hx hz
    simp only [wY_cacheData_57, wY_cacheData_194, wY_cacheData_205, wY_cacheData_217, ir_2m, nI_1, nI_clamp (show m < 2 ^ 31 by omega), nI_clamp (show 2 * m < 2 ^ 31 by omega), nI_clamp (show 2 * m + 1 < 2 ^ 31 by omega)]
    rcases hz with ⟨h0, hl⟩ | ⟨h0, hl⟩
    · rw [if_pos hl] at K
      exact br_f (by decide) (br_f (by decide) (br_f (by decide) (br_f (by decide) (br_f (by decide) (br_f (by decide) (br_f (by decide) (br_f (by decide) (br_t (by decide) (br_t h0 (K))))))))))
    · rw [if_neg hl] at K
      exact br_f (by decide) (br_f (by decide) (br_f (by decide) (br_f (by decide) (br_f (by decide) (br_f (by decide) (br_f (by decide) (br_f (by decide) (br_t (by decide) (br_f (by rw [h0]; exact ir_1ne) (And.intro hB K))))))))))
  simp only [wY_cacheData_38, nI_clamp (show m < 2 ^ 31 by omega)]
  exact ⟨h24, fun hl => ⟨h24, fun hc => key 0 0 (Or.inl ⟨rfl, hl⟩) (Or.inl ⟨rfl, hc⟩), fun hc => key 0 1 (Or.inl ⟨rfl, hl⟩) (Or.inr ⟨rfl, hc⟩)⟩, fun hl => ⟨h24, fun hc => key 1 0 (Or.inr ⟨rfl, hl⟩) (Or.inl ⟨rfl, hc⟩), fun hc => key 1 1 (Or.inr ⟨rfl, hl⟩) (Or.inr ⟨rfl, hc⟩)⟩⟩
theorem xg_cache6 (hE : ir_EI e) (hm : m < e_N e) (K : post (if e_ce e m ≤ e_nw e then (0) else e_ch e (2 * m + 1))) : wpX_cacheData post (ir_XS e la ll zt vo li be ex ab ha ow ne hi wa lk ma de st qu fl ln lt) (nI m) (nI 6) := by
  have hN := ir_EI_N hE
  have h24 : vp_in (nI m) 24 := vp_in_nI (by omega) (by omega)
  have hA : vp_in (nI (2 * m)) 48 := vp_in_nI (by omega) (by omega)
  have hB : vp_in (nI (2 * m + 1)) 48 := vp_in_nI (by omega) (by omega)
  unfold wpX_cacheData ir_XS
  dsimp only
  refine xr_isName hm hN.2 (br_f ir_1ne (br_f (by decide) (br_t (by decide) ?_)))
  simp only [wX_cacheData_35, wpX_recordData, wpX_cutData, wpX_liveRecord, wpX_liveCut, wX_cutData_22, wX_cutData_25, wX_cutData_35, wX_cutData_95, ir_2m, nI_1, nI_clamp (show m < 2 ^ 31 by omega), nI_clamp (show 2 * m < 2 ^ 31 by omega), nI_clamp (show 2 * m + 1 < 2 ^ 31 by omega), forall_eq]
  refine br_f (by decide) (br_f (by decide) (br_f (by decide) (And.intro h24 ?_)))
  rcases Classical.em (e_ce e m ≤ e_nw e) with hl | hl
  · rw [if_pos hl] at K
    exact br_t hl (br_f (by decide) (br_t (by decide) (br_f (by decide) (br_f (by decide) (br_t trivial (K))))))
  · rw [if_neg hl] at K
    exact br_f hl (br_f (by decide) (br_t (by decide) (br_f (by decide) (br_f (by decide) (br_f ir_1ne (br_f (by decide) (br_f (by decide) (And.intro hB K))))))))
theorem yg_cache6 (hE : ir_EI e) (hm : m < e_N e) (K : post (if e_ce e m ≤ e_nw e then (0) else e_ch e (2 * m + 1))) : wpY_cacheData post (ir_YS e la lc vc vh vl vz vn ta yo an wn wz tl) (nI m) (nI 6) := by
  have hN := ir_EI_N hE
  have h24 : vp_in (nI m) 24 := vp_in_nI (by omega) (by omega)
  have hA : vp_in (nI (2 * m)) 48 := vp_in_nI (by omega) (by omega)
  have hB : vp_in (nI (2 * m + 1)) 48 := vp_in_nI (by omega) (by omega)
  unfold wpY_cacheData ir_YS
  dsimp only
  refine yr_isName hm hN.2 (br_f ir_1ne (br_f (by decide) (br_t (by decide) ?_)))
  have key : ∀ x3 z0 : Int32, ((x3 = 0 ∧ e_re e m ≤ e_nw e) ∨ (x3 = 1 ∧ ¬ e_re e m ≤ e_nw e)) → ((z0 = 0 ∧ e_ce e m ≤ e_nw e) ∨ (z0 = 1 ∧ ¬ e_ce e m ≤ e_nw e)) → wY_cacheData_57 post (nI m) (nI 6) x3 z0 (nI (e_N e)) (e_rl e) (e_dl e) (e_cl e) (e_nw e) la lc (e_ad e) (e_al e) (e_se e) (e_gl e) (e_mo e) (e_fn e) (e_fa e) (e_rm e) (e_ra e) (e_re e) (e_cs e) (e_ch e) (e_ce e) vc vh vl vz vn ta yo an wn wz tl := by
    intro x3 z0 hx hz
    simp only [wY_cacheData_57, wY_cacheData_194, wY_cacheData_205, wY_cacheData_217, ir_2m, nI_1, nI_clamp (show m < 2 ^ 31 by omega), nI_clamp (show 2 * m < 2 ^ 31 by omega), nI_clamp (show 2 * m + 1 < 2 ^ 31 by omega)]
    rcases hz with ⟨h0, hl⟩ | ⟨h0, hl⟩
    · rw [if_pos hl] at K
      exact br_f (by decide) (br_f (by decide) (br_f (by decide) (br_f (by decide) (br_f (by decide) (br_f (by decide) (br_f (by decide) (br_f (by decide) (br_f (by decide) (br_t h0 (K))))))))))
    · rw [if_neg hl] at K
      exact br_f (by decide) (br_f (by decide) (br_f (by decide) (br_f (by decide) (br_f (by decide) (br_f (by decide) (br_f (by decide) (br_f (by decide) (br_f (by decide) (br_f (by rw [h0]; exact ir_1ne) (And.intro hB K))))))))))
  simp only [wY_cacheData_38, nI_clamp (show m < 2 ^ 31 by omega)]
  exact ⟨h24, fun hl => ⟨h24, fun hc => key 0 0 (Or.inl ⟨rfl, hl⟩) (Or.inl ⟨rfl, hc⟩), fun hc => key 0 1 (Or.inl ⟨rfl, hl⟩) (Or.inr ⟨rfl, hc⟩)⟩, fun hl => ⟨h24, fun hc => key 1 0 (Or.inr ⟨rfl, hl⟩) (Or.inl ⟨rfl, hc⟩), fun hc => key 1 1 (Or.inr ⟨rfl, hl⟩) (Or.inr ⟨rfl, hc⟩)⟩⟩
theorem xg_cache7 (hE : ir_EI e) (hm : m < e_N e) (K : post (if e_re e m ≤ e_nw e then (0) else e_re e m - e_nw e)) : wpX_cacheData post (ir_XS e la ll zt vo li be ex ab ha ow ne hi wa lk ma de st qu fl ln lt) (nI m) (nI 7) := by
  have hN := ir_EI_N hE
  have h24 : vp_in (nI m) 24 := vp_in_nI (by omega) (by omega)
  have hA : vp_in (nI (2 * m)) 48 := vp_in_nI (by omega) (by omega)
  have hB : vp_in (nI (2 * m + 1)) 48 := vp_in_nI (by omega) (by omega)
  unfold wpX_cacheData ir_XS
  dsimp only
  refine xr_isName hm hN.2 (br_f ir_1ne (br_f (by decide) (br_t (by decide) ?_)))
  simp only [wX_cacheData_35, wpX_recordData, wpX_cutData, wpX_liveRecord, wpX_liveCut, wX_cutData_22, wX_cutData_25, wX_cutData_35, wX_cutData_95, ir_2m, nI_1, nI_clamp (show m < 2 ^ 31 by omega), nI_clamp (show 2 * m < 2 ^ 31 by omega), nI_clamp (show 2 * m + 1 < 2 ^ 31 by omega), forall_eq]
  refine br_f (by decide) (br_f (by decide) (br_t (by decide) (And.intro h24 ?_)))
  rcases Classical.em (e_re e m ≤ e_nw e) with hl | hl
  · rw [if_pos hl] at K
    exact br_t hl (br_f (by decide) (br_t trivial (K)))
  · rw [if_neg hl] at K
    exact br_f hl (br_f (by decide) (br_f ir_1ne (br_f (by decide) (And.intro h24 K))))
theorem yg_cache7 (hE : ir_EI e) (hm : m < e_N e) (K : post (if e_re e m ≤ e_nw e then (0) else e_re e m - e_nw e)) : wpY_cacheData post (ir_YS e la lc vc vh vl vz vn ta yo an wn wz tl) (nI m) (nI 7) := by
  have hN := ir_EI_N hE
  have h24 : vp_in (nI m) 24 := vp_in_nI (by omega) (by omega)
  have hA : vp_in (nI (2 * m)) 48 := vp_in_nI (by omega) (by omega)
  have hB : vp_in (nI (2 * m + 1)) 48 := vp_in_nI (by omega) (by omega)
  unfold wpY_cacheData ir_YS
  dsimp only
  refine yr_isName hm hN.2 (br_f ir_1ne (br_f (by decide) (br_t (by decide) ?_)))
  have key : ∀ x3 z0 : Int32, ((x3 = 0 ∧ e_re e m ≤ e_nw e) ∨ (x3 = 1 ∧ ¬ e_re e m ≤ e_nw e)) → ((z0 = 0 ∧ e_ce e m ≤ e_nw e) ∨ (z0 = 1 ∧ ¬ e_ce e m ≤ e_nw e)) → wY_cacheData_57 post (nI m) (nI 7) x3 z0 (nI (e_N e)) (e_rl e) (e_dl e) (e_cl e) (e_nw e) la lc (e_ad e) (e_al e) (e_se e) (e_gl e) (e_mo e) (e_fn e) (e_fa e) (e_rm e) (e_ra e) (e_re e) (e_cs e) (e_ch e) (e_ce e) vc vh vl vz vn ta yo an wn wz tl := by
    intro x3 z0 hx hz
    simp only [wY_cacheData_57, wY_cacheData_194, wY_cacheData_205, wY_cacheData_217, ir_2m, nI_1, nI_clamp (show m < 2 ^ 31 by omega), nI_clamp (show 2 * m < 2 ^ 31 by omega), nI_clamp (show 2 * m + 1 < 2 ^ 31 by omega)]
    rcases hx with ⟨h0, hl⟩ | ⟨h0, hl⟩
    · rw [if_pos hl] at K
      exact br_t (by decide) (br_t h0 (K))
    · rw [if_neg hl] at K
      exact br_t (by decide) (br_f (by rw [h0]; exact ir_1ne) (And.intro h24 K))
  simp only [wY_cacheData_38, nI_clamp (show m < 2 ^ 31 by omega)]
  exact ⟨h24, fun hl => ⟨h24, fun hc => key 0 0 (Or.inl ⟨rfl, hl⟩) (Or.inl ⟨rfl, hc⟩), fun hc => key 0 1 (Or.inl ⟨rfl, hl⟩) (Or.inr ⟨rfl, hc⟩)⟩, fun hl => ⟨h24, fun hc => key 1 0 (Or.inr ⟨rfl, hl⟩) (Or.inl ⟨rfl, hc⟩), fun hc => key 1 1 (Or.inr ⟨rfl, hl⟩) (Or.inr ⟨rfl, hc⟩)⟩⟩
theorem xg_cache8 (hE : ir_EI e) (hm : m < e_N e) (K : post (if e_ce e m ≤ e_nw e then (0) else e_ce e m - e_nw e)) : wpX_cacheData post (ir_XS e la ll zt vo li be ex ab ha ow ne hi wa lk ma de st qu fl ln lt) (nI m) (nI 8) := by
  have hN := ir_EI_N hE
  have h24 : vp_in (nI m) 24 := vp_in_nI (by omega) (by omega)
  have hA : vp_in (nI (2 * m)) 48 := vp_in_nI (by omega) (by omega)
  have hB : vp_in (nI (2 * m + 1)) 48 := vp_in_nI (by omega) (by omega)
  unfold wpX_cacheData ir_XS
  dsimp only
  refine xr_isName hm hN.2 (br_f ir_1ne (br_f (by decide) (br_t (by decide) ?_)))
  simp only [wX_cacheData_35, wpX_recordData, wpX_cutData, wpX_liveRecord, wpX_liveCut, wX_cutData_22, wX_cutData_25, wX_cutData_35, wX_cutData_95, ir_2m, nI_1, nI_clamp (show m < 2 ^ 31 by omega), nI_clamp (show 2 * m < 2 ^ 31 by omega), nI_clamp (show 2 * m + 1 < 2 ^ 31 by omega), forall_eq]
  refine br_f (by decide) (br_f (by decide) (br_f (by decide) (And.intro h24 ?_)))
  rcases Classical.em (e_ce e m ≤ e_nw e) with hl | hl
  · rw [if_pos hl] at K
    exact br_t hl (br_f (by decide) (br_f (by decide) (br_f (by decide) (br_f (by decide) (br_t trivial (K))))))
  · rw [if_neg hl] at K
    exact br_f hl (br_f (by decide) (br_f (by decide) (br_f (by decide) (br_f (by decide) (br_f ir_1ne (br_t (by decide) (And.intro h24 K)))))))
theorem yg_cache8 (hE : ir_EI e) (hm : m < e_N e) (K : post (if e_ce e m ≤ e_nw e then (0) else e_ce e m - e_nw e)) : wpY_cacheData post (ir_YS e la lc vc vh vl vz vn ta yo an wn wz tl) (nI m) (nI 8) := by
  have hN := ir_EI_N hE
  have h24 : vp_in (nI m) 24 := vp_in_nI (by omega) (by omega)
  have hA : vp_in (nI (2 * m)) 48 := vp_in_nI (by omega) (by omega)
  have hB : vp_in (nI (2 * m + 1)) 48 := vp_in_nI (by omega) (by omega)
  unfold wpY_cacheData ir_YS
  dsimp only
  refine yr_isName hm hN.2 (br_f ir_1ne (br_f (by decide) (br_t (by decide) ?_)))
  have key : ∀ x3 z0 : Int32, ((x3 = 0 ∧ e_re e m ≤ e_nw e) ∨ (x3 = 1 ∧ ¬ e_re e m ≤ e_nw e)) → ((z0 = 0 ∧ e_ce e m ≤ e_nw e) ∨ (z0 = 1 ∧ ¬ e_ce e m ≤ e_nw e)) → wY_cacheData_57 post (nI m) (nI 8) x3 z0 (nI (e_N e)) (e_rl e) (e_dl e) (e_cl e) (e_nw e) la lc (e_ad e) (e_al e) (e_se e) (e_gl e) (e_mo e) (e_fn e) (e_fa e) (e_rm e) (e_ra e) (e_re e) (e_cs e) (e_ch e) (e_ce e) vc vh vl vz vn ta yo an wn wz tl := by
    intro x3 z0 hx hz
    simp only [wY_cacheData_57, wY_cacheData_194, wY_cacheData_205, wY_cacheData_217, ir_2m, nI_1, nI_clamp (show m < 2 ^ 31 by omega), nI_clamp (show 2 * m < 2 ^ 31 by omega), nI_clamp (show 2 * m + 1 < 2 ^ 31 by omega)]
    rcases hz with ⟨h0, hl⟩ | ⟨h0, hl⟩
    · rw [if_pos hl] at K
      exact br_f (by decide) (br_f (by decide) (br_f (by decide) (br_t (by decide) (br_t h0 (K)))))
    · rw [if_neg hl] at K
      exact br_f (by decide) (br_f (by decide) (br_f (by decide) (br_t (by decide) (br_f (by rw [h0]; exact ir_1ne) (And.intro h24 K)))))
  simp only [wY_cacheData_38, nI_clamp (show m < 2 ^ 31 by omega)]
  exact ⟨h24, fun hl => ⟨h24, fun hc => key 0 0 (Or.inl ⟨rfl, hl⟩) (Or.inl ⟨rfl, hc⟩), fun hc => key 0 1 (Or.inl ⟨rfl, hl⟩) (Or.inr ⟨rfl, hc⟩)⟩, fun hl => ⟨h24, fun hc => key 1 0 (Or.inr ⟨rfl, hl⟩) (Or.inl ⟨rfl, hc⟩), fun hc => key 1 1 (Or.inr ⟨rfl, hl⟩) (Or.inr ⟨rfl, hc⟩)⟩⟩
end
end
section
/-! the relation -/
def i_Rel (k : Nat) (u : SX) (v : SY) : Prop := ∃ (e : ir_E) (la ll zt vo li : Int32) (be ex ab ha ow ne hi : ir_A) (lk : Nat) (ma de st qu fl ln lt : ir_A) (vc vh vl vz vn ta yo an wn wz tl : ir_A), u = (ir_XS e la ll zt vo li be ex ab ha ow ne hi 0 lk ma de st qu fl ln lt) ∧ v = (ir_YS e la ll vc vh vl vz vn ta yo an wn wz tl) ∧ ir_EI e ∧ ∀ z, z < e_N e → ma (24 + z) = tl z
theorem ir_mk {k : Nat} {e : ir_E} {la ll zt vo li : Int32} {be ex ab ha ow ne hi : ir_A} {lk : Nat} {ma de st qu fl ln lt : ir_A} {vc vh vl vz vn ta yo an wn wz tl : ir_A} (hE : ir_EI e) (hT : ∀ z, z < e_N e → ma (24 + z) = tl z) : i_Rel k (ir_XS e la ll zt vo li be ex ab ha ow ne hi 0 lk ma de st qu fl ln lt) (ir_YS e la ll vc vh vl vz vn ta yo an wn wz tl) :=
  ⟨e, la, ll, zt, vo, li, be, ex, ab, ha, ow, ne, hi, lk, ma, de, st, qu, fl, ln, lt, vc, vh, vl, vz, vn, ta, yo, an, wn, wz, tl, rfl, rfl, hE, hT⟩
theorem ir_el {P : SX → SY → Prop} {k : Nat} {u : SX} {v : SY} (h : ∀ (e : ir_E) (la ll zt vo li : Int32) (be ex ab ha ow ne hi : ir_A) (lk : Nat) (ma de st qu fl ln lt : ir_A) (vc vh vl vz vn ta yo an wn wz tl : ir_A), ir_EI e → (∀ z, z < e_N e → ma (24 + z) = tl z) → P (ir_XS e la ll zt vo li be ex ab ha ow ne hi 0 lk ma de st qu fl ln lt) (ir_YS e la ll vc vh vl vz vn ta yo an wn wz tl)) (I : i_Rel k u v) : P u v :=
  Exists.elim I fun e I => Exists.elim I fun la I => Exists.elim I fun ll I => Exists.elim I fun zt I => Exists.elim I fun vo I => Exists.elim I fun li I => Exists.elim I fun be I => Exists.elim I fun ex I => Exists.elim I fun ab I => Exists.elim I fun ha I => Exists.elim I fun ow I => Exists.elim I fun ne I => Exists.elim I fun hi I => Exists.elim I fun lk I => Exists.elim I fun ma I => Exists.elim I fun de I => Exists.elim I fun st I => Exists.elim I fun qu I => Exists.elim I fun fl I => Exists.elim I fun ln I => Exists.elim I fun lt I => Exists.elim I fun vc I => Exists.elim I fun vh I => Exists.elim I fun vl I => Exists.elim I fun vz I => Exists.elim I fun vn I => Exists.elim I fun ta I => Exists.elim I fun yo I => Exists.elim I fun an I => Exists.elim I fun wn I => Exists.elim I fun wz I => Exists.elim I fun tl I => by
    obtain ⟨h1, h2, h3, h4⟩ := I
    rw [h1, h2]
    exact h e la ll zt vo li be ex ab ha ow ne hi lk ma de st qu fl ln lt vc vh vl vz vn ta yo an wn wz tl h3 h4
theorem i_up {k : Nat} {u : SX} {v : SY} (h : i_Rel k u v) : i_Rel (k + 4) u v := h
/-! edits of the environment -/
def ir_st (e : ir_E) (nw : Int32) (ad al se gl mo fn fa : ir_A) : ir_E := (e_N e, e_rl e, e_dl e, e_cl e, nw, ad, al, se, gl, mo, fn, fa, e_rm e, e_ra e, e_re e, e_cs e, e_ch e, e_ce e)
theorem ir_EI_st {e : ir_E} {nw : Int32} {ad al se gl mo fn fa : ir_A} (h : ir_EI e) (h1 : ∀ m, ir_id (e_N e) (al m)) (h2 : ∀ j, ir_id (e_N e) (se j)) (h3 : ∀ m, ir_s6 (ad m)) (h4 : ∀ j, ir_id 6 (gl j))
    (h5 : ∀ h, h < 6 → fn h = -1 ∨ ((∃ m, m < e_N e ∧ fn h = nI m) ∧ ∃ a, a < 6 ∧ fa h = nI a)) (h6 : ∃ k : Nat, k ≤ 1000000 ∧ nw = nI k) (h7 : se 0 = -1) (h8 : se 1 = -1) (h9 : ∀ z, se (2 * z) < 0 → se (2 * z + 1) < 0) :
    ir_EI (ir_st e nw ad al se gl mo fn fa) :=
  ⟨h.1, h.2.1, h1, h.2.2.2.1, h2, h.2.2.2.2.2.1, h3, h.2.2.2.2.2.2.2.1, h.2.2.2.2.2.2.2.2.1, h4, h5, h6, h.2.2.2.2.2.2.2.2.2.2.2.2.1, h.2.2.2.2.2.2.2.2.2.2.2.2.2.1, h7, h8, h9⟩
theorem ir_ei {e : ir_E} (h : ir_EI e) : (∀ m, ir_id (e_N e) (e_al e m)) ∧ (∀ j, ir_id (e_N e) (e_se e j)) ∧ (∀ m, ir_s6 (e_ad e m)) ∧ (∀ j, ir_id 6 (e_gl e j)) ∧
    (∀ h, h < 6 → e_fn e h = -1 ∨ ((∃ m, m < e_N e ∧ e_fn e h = nI m) ∧ ∃ a, a < 6 ∧ e_fa e h = nI a)) ∧ (∃ k : Nat, k ≤ 1000000 ∧ e_nw e = nI k) ∧ e_se e 0 = -1 ∧ e_se e 1 = -1 ∧ (∀ z, e_se e (2 * z) < 0 → e_se e (2 * z + 1) < 0) :=
  ⟨h.2.2.1, h.2.2.2.2.1, h.2.2.2.2.2.2.1, h.2.2.2.2.2.2.2.2.2.1, h.2.2.2.2.2.2.2.2.2.2.1, h.2.2.2.2.2.2.2.2.2.2.2.1, h.2.2.2.2.2.2.2.2.2.2.2.2.2.2.1, h.2.2.2.2.2.2.2.2.2.2.2.2.2.2.2.1, h.2.2.2.2.2.2.2.2.2.2.2.2.2.2.2.2⟩
theorem ir_6a {v : Int32} (h : nI 6 ≤ v) : ¬ v < 0 ∧ 5 < v ∧ ¬ v ≤ 5 := by
  have h1 := Int32.le_iff_toInt_le.mp h
  have h6 : (nI 6).toInt = 6 := by decide
  have h5 : (5 : Int32).toInt = 5 := by decide
  have h0 : (0 : Int32).toInt = 0 := by decide
  rw [h6] at h1
  rw [Int32.lt_iff_toInt_lt, Int32.lt_iff_toInt_lt, Int32.le_iff_toInt_le, h5, h0]
  omega
theorem ir_6b : ∀ a, a < 6 → ¬ nI a < 0 ∧ ¬ 5 < nI a ∧ nI a ≤ 5 := by decide +kernel
section
variable {e : ir_E} {la ll zt vo li : Int32} {be ex ab ha ow ne hi : ir_A} {wa lk : Nat} {ma de st qu fl ln lt : ir_A} {lc : Int32} {vc vh vl vz vn ta yo an wn wz tl : ir_A} {post : Int32 → Prop}
theorem xe_nm0 {v : Int32} (h : v < 0 ∨ nI (e_N e) ≤ v) (K : post 0) : wpX_isName post (ir_XS e la ll zt vo li be ex ab ha ow ne hi wa lk ma de st qu fl ln lt) v := by
  unfold wpX_isName ir_XS
  exact ⟨fun _ => K, fun h0 => br_t (h.resolve_left h0) K⟩
theorem ye_nm0 {v : Int32} (h : v < 0 ∨ nI (e_N e) ≤ v) (K : post 0) : wpY_isName post (ir_YS e la lc vc vh vl vz vn ta yo an wn wz tl) v := by
  unfold wpY_isName ir_YS
  exact ⟨fun _ => K, fun h0 => br_t (h.resolve_left h0) K⟩
theorem xe_ma0 {v : Int32} (h : v < 0 ∨ nI 6 ≤ v) (K : post 0) : wpX_isMachine post (ir_XS e la ll zt vo li be ex ab ha ow ne hi wa lk ma de st qu fl ln lt) v := by
  unfold wpX_isMachine ir_XS
  exact ⟨fun _ => K, fun h0 => br_t (ir_6a (h.resolve_left h0)).2.1 K⟩
theorem xe_ma1 {a : Nat} (h : a < 6) (K : post 1) : wpX_isMachine post (ir_XS e la ll zt vo li be ex ab ha ow ne hi wa lk ma de st qu fl ln lt) (nI a) := by
  unfold wpX_isMachine ir_XS
  exact br_f (ir_6b a h).1 (br_f (ir_6b a h).2.1 K)
end
/-- the three cases of a name -/
theorem ir_nm3 (v : Int32) {N : Nat} (hN : N ≤ 24) : (v < 0 ∨ nI N ≤ v) ∨ ∃ m, m < N ∧ v = nI m := by
  rcases pk_ix v (show N < 2 ^ 31 by omega) with h | h | h
  · exact Or.inl (Or.inl h)
  · exact Or.inl (Or.inr h)
  · exact Or.inr h
theorem ir_ma3 (v : Int32) : (v < 0 ∨ nI 6 ≤ v) ∨ ∃ m, m < 6 ∧ v = nI m := ir_nm3 v (by omega)
end
section
/-! the edits -/
theorem i_vc_addAddress {k : Nat} {u : SX} {v : SY} (I : i_Rel k u v) (hk : k + 4 ≤ 2052) (v1 : Int32) (v2 : Int32) : wpX_addAddress (fun r u' => wpY_addAddress (fun r' v' => r' = r ∧ i_Rel (k + 4) u' v') v v1 v2) u v1 v2 := by
  refine ir_el (P := fun u v => wpX_addAddress (fun r u' => wpY_addAddress (fun r' v' => r' = r ∧ i_Rel (k + 4) u' v') v v1 v2) u v1 v2) ?_ I
  intro e la ll zt vo li be ex ab ha ow ne hi lk ma de st qu fl ln lt vc vh vl vz vn ta yo an wn wz tl hE hT
  have same := ir_mk (k := k + 4) (la := la) (ll := ll) (zt := zt) (vo := vo) (li := li) (be := be) (ex := ex) (ab := ab) (ha := ha) (ow := ow) (ne := ne) (hi := hi) (lk := lk) (de := de) (st := st) (qu := qu) (fl := fl) (ln := ln) (lt := lt) (vc := vc) (vh := vh) (vl := vl) (vz := vz) (vn := vn) (ta := ta) (yo := yo) (an := an) (wn := wn) (wz := wz) hE hT
  have hN := ir_EI_N hE
  obtain ⟨f1, f2, f3, f4, f5, f6, f7, f8, f9⟩ := ir_ei hE
  unfold wpX_addAddress ir_XS
  dsimp only
  rcases ir_nm3 v1 hN.2 with h1 | ⟨m, hm, rfl⟩
  · refine xe_nm0 h1 (br_t rfl ?_)
    unfold wpY_addAddress ir_YS
    dsimp only
    exact ye_nm0 h1 (br_t rfl ⟨rfl, same⟩)
  refine xr_isName hm hN.2 (br_f ir_1ne ?_)
  rcases ir_ma3 v2 with h2 | ⟨a, ha', rfl⟩
  · refine xe_ma0 h2 (br_t rfl ?_)
    unfold wpY_addAddress ir_YS
    dsimp only
    exact yr_isName hm hN.2 (br_f ir_1ne ⟨fun _ => ⟨rfl, same⟩, fun h0 => br_f (ir_6a (h2.resolve_left h0)).2.2 ⟨rfl, same⟩⟩)
  refine xe_ma1 ha' (br_f ir_1ne ?_)
  have h24 : vp_in (nI m) 24 := vp_in_nI (by omega) (by omega)
  have Y : ∀ P : Int32 → SY → Prop, (0 ≤ e_al e m → P 0 (ir_YS e la ll vc vh vl vz vn ta yo an wn wz tl)) → (¬ 0 ≤ e_al e m → bt (e_ad e m) a = true → P 0 (ir_YS e la ll vc vh vl vz vn ta yo an wn wz tl)) →
      (¬ 0 ≤ e_al e m → ¬ bt (e_ad e m) a = true → P 1 (ir_YS (ir_st e (e_nw e) (upd (e_ad e) m (e_ad e m ||| ((1 : Int32) <<< (nI a &&& 31)))) (e_al e) (e_se e) (e_gl e) (e_mo e) (e_fn e) (e_fa e)) la ll vc vh vl vz vn ta yo an wn wz tl)) → wpY_addAddress P (ir_YS e la ll vc vh vl vz vn ta yo an wn wz tl) (nI m) (nI a) := by
    intro P k1 k2 k3
    unfold wpY_addAddress ir_YS
    dsimp only
    rw [nI_clamp (show m < 2 ^ 31 by omega)]
    refine yr_isName hm hN.2 (br_f ir_1ne (br_f (ir_6b a ha').1 (br_t (ir_6b a ha').2.2 ⟨h24, fun h3 => k1 h3, fun h3 => ⟨h24, fun h4 => k2 h3 ((ir_shr ha').mp h4), fun h4 => ⟨h24, h24, nm_e (k3 h3 (fun y => h4 ((ir_shr ha').mpr y)))⟩⟩⟩)))
  rw [nI_clamp (show m < 2 ^ 31 by omega)]
  refine ⟨h24, fun h3 => ?_, fun h3 => ⟨h24, fun h4 => ⟨h24, h24, nm_e ?_⟩, fun h4 => ?_⟩⟩
  · exact Y _ (fun _ => ⟨rfl, same⟩) (fun y => absurd h3 y) (fun y => absurd h3 y)
  · have hb := (ir_test ha').mp h4
    refine Y _ (fun y => absurd y h3) (fun _ y => absurd y hb) (fun _ _ => ⟨rfl, (ir_mk (k := k + 4) (e := (ir_st e (e_nw e) (upd (e_ad e) m (e_ad e m ||| ((1 : Int32) <<< (nI a &&& 31)))) (e_al e) (e_se e) (e_gl e) (e_mo e) (e_fn e) (e_fa e))) (la := la) (ll := ll) (zt := zt) (vo := vo) (li := li) (be := be) (ex := ex) (ab := ab) (ha := ha) (ow := ow) (ne := ne) (hi := hi) (lk := lk) (de := de) (st := st) (qu := qu) (fl := fl) (ln := ln) (lt := lt) (vc := vc) (vh := vh) (vl := vl) (vz := vz) (vn := vn) (ta := ta) (yo := yo) (an := an) (wn := wn) (wz := wz) (ir_EI_st hE f1 f2 (ir_uall f3 (fun i hi' => (ir_orb.mp hi').elim (f3 m i) (fun y => by rw [(ir_one ha' i).mp y]; exact ha'))) f4 f5 f6 f7 f8 f9) hT)⟩)
  · have hb : bt (e_ad e m) a = true := Classical.byContradiction (fun y => h4 ((ir_test ha').mpr y))
    exact Y _ (fun y => absurd y h3) (fun _ _ => ⟨rfl, same⟩) (fun _ y => absurd hb y)
theorem i_vc_setAlias {k : Nat} {u : SX} {v : SY} (I : i_Rel k u v) (hk : k + 4 ≤ 2052) (v1 : Int32) (v2 : Int32) : wpX_setAlias (fun r u' => wpY_setAlias (fun r' v' => r' = r ∧ i_Rel (k + 4) u' v') v v1 v2) u v1 v2 := by
  refine ir_el (P := fun u v => wpX_setAlias (fun r u' => wpY_setAlias (fun r' v' => r' = r ∧ i_Rel (k + 4) u' v') v v1 v2) u v1 v2) ?_ I
  intro e la ll zt vo li be ex ab ha ow ne hi lk ma de st qu fl ln lt vc vh vl vz vn ta yo an wn wz tl hE hT
  have same := ir_mk (k := k + 4) (la := la) (ll := ll) (zt := zt) (vo := vo) (li := li) (be := be) (ex := ex) (ab := ab) (ha := ha) (ow := ow) (ne := ne) (hi := hi) (lk := lk) (de := de) (st := st) (qu := qu) (fl := fl) (ln := ln) (lt := lt) (vc := vc) (vh := vh) (vl := vl) (vz := vz) (vn := vn) (ta := ta) (yo := yo) (an := an) (wn := wn) (wz := wz) hE hT
  have hN := ir_EI_N hE
  obtain ⟨f1, f2, f3, f4, f5, f6, f7, f8, f9⟩ := ir_ei hE
  unfold wpX_setAlias ir_XS
  dsimp only
  rcases ir_nm3 v1 hN.2 with h1 | ⟨m, hm, rfl⟩
  · refine xe_nm0 h1 (br_t rfl ?_)
    unfold wpY_setAlias ir_YS
    dsimp only
    exact ye_nm0 h1 (br_t rfl ⟨rfl, same⟩)
  refine xr_isName hm hN.2 (br_f ir_1ne ?_)
  rcases ir_nm3 v2 hN.2 with h2 | ⟨a, ha', rfl⟩
  · refine xe_nm0 h2 (br_t rfl ?_)
    unfold wpY_setAlias ir_YS
    dsimp only
    exact yr_isName hm hN.2 (br_f ir_1ne (ye_nm0 h2 (br_t rfl ⟨rfl, same⟩)))
  refine xr_isName ha' hN.2 (br_f ir_1ne ?_)
  have h24 : vp_in (nI m) 24 := vp_in_nI (by omega) (by omega)
  have Y : ∀ P : Int32 → SY → Prop, ((e_ad e m = 0 → (e_al e m < 0 → P 1 (ir_YS (ir_st e (e_nw e) (e_ad e) (upd (e_al e) m (nI a)) (e_se e) (e_gl e) (e_mo e) (e_fn e) (e_fa e)) la ll vc vh vl vz vn ta yo an wn wz tl)) ∧ (¬ e_al e m < 0 → P 0 (ir_YS e la ll vc vh vl vz vn ta yo an wn wz tl))) ∧ (¬ e_ad e m = 0 → P 0 (ir_YS e la ll vc vh vl vz vn ta yo an wn wz tl))) → wpY_setAlias P (ir_YS e la ll vc vh vl vz vn ta yo an wn wz tl) (nI m) (nI a) := by
    intro P k1
    unfold wpY_setAlias ir_YS
    dsimp only
    rw [nI_clamp (show m < 2 ^ 31 by omega)]
    exact yr_isName hm hN.2 (br_f ir_1ne (yr_isName ha' hN.2 (br_f ir_1ne ⟨h24, fun h3 => ⟨h24, fun h4 => ⟨h24, nm_e ((k1.1 h3).1 h4)⟩, fun h4 => (k1.1 h3).2 h4⟩, fun h3 => k1.2 h3⟩)))
  rw [nI_clamp (show m < 2 ^ 31 by omega)]
  refine ⟨h24, fun h3 => ⟨h24, fun h4 => ⟨h24, nm_e ?_⟩, fun h4 => ?_⟩, fun h3 => ?_⟩
  · exact Y _ (br_t h3 (br_t h4 ⟨rfl, (ir_mk (k := k + 4) (e := (ir_st e (e_nw e) (e_ad e) (upd (e_al e) m (nI a)) (e_se e) (e_gl e) (e_mo e) (e_fn e) (e_fa e))) (la := la) (ll := ll) (zt := zt) (vo := vo) (li := li) (be := be) (ex := ex) (ab := ab) (ha := ha) (ow := ow) (ne := ne) (hi := hi) (lk := lk) (de := de) (st := st) (qu := qu) (fl := fl) (ln := ln) (lt := lt) (vc := vc) (vh := vh) (vl := vl) (vz := vz) (vn := vn) (ta := ta) (yo := yo) (an := an) (wn := wn) (wz := wz) (ir_EI_st hE (ir_uall f1 (Or.inr ⟨a, ha', rfl⟩)) f2 f3 f4 f5 f6 f7 f8 f9) hT)⟩))
  · exact Y _ (br_t h3 (br_f h4 ⟨rfl, same⟩))
  · exact Y _ (br_f h3 ⟨rfl, same⟩)
theorem i_vc_clearRecord {k : Nat} {u : SX} {v : SY} (I : i_Rel k u v) (hk : k + 4 ≤ 2052) (v1 : Int32) : wpX_clearRecord (fun r u' => wpY_clearRecord (fun r' v' => r' = r ∧ i_Rel (k + 4) u' v') v v1) u v1 := by
  refine ir_el (P := fun u v => wpX_clearRecord (fun r u' => wpY_clearRecord (fun r' v' => r' = r ∧ i_Rel (k + 4) u' v') v v1) u v1) ?_ I
  intro e la ll zt vo li be ex ab ha ow ne hi lk ma de st qu fl ln lt vc vh vl vz vn ta yo an wn wz tl hE hT
  have same := ir_mk (k := k + 4) (la := la) (ll := ll) (zt := zt) (vo := vo) (li := li) (be := be) (ex := ex) (ab := ab) (ha := ha) (ow := ow) (ne := ne) (hi := hi) (lk := lk) (de := de) (st := st) (qu := qu) (fl := fl) (ln := ln) (lt := lt) (vc := vc) (vh := vh) (vl := vl) (vz := vz) (vn := vn) (ta := ta) (yo := yo) (an := an) (wn := wn) (wz := wz) hE hT
  have hN := ir_EI_N hE
  obtain ⟨f1, f2, f3, f4, f5, f6, f7, f8, f9⟩ := ir_ei hE
  unfold wpX_clearRecord ir_XS
  dsimp only
  rcases ir_nm3 v1 hN.2 with h1 | ⟨m, hm, rfl⟩
  · refine xe_nm0 h1 (br_t rfl ?_)
    unfold wpY_clearRecord ir_YS
    dsimp only
    exact ye_nm0 h1 (br_t rfl ⟨rfl, same⟩)
  refine xr_isName hm hN.2 (br_f ir_1ne ?_)
  have h24 : vp_in (nI m) 24 := vp_in_nI (by omega) (by omega)
  have Y : ∀ P : Int32 → SY → Prop, ((e_ad e m = 0 → (0 ≤ e_al e m → P 1 (ir_YS (ir_st e (e_nw e) (upd (e_ad e) m 0) (upd (e_al e) m (-1)) (e_se e) (e_gl e) (e_mo e) (e_fn e) (e_fa e)) la ll vc vh vl vz vn ta yo an wn wz tl)) ∧ (¬ 0 ≤ e_al e m → P 0 (ir_YS e la ll vc vh vl vz vn ta yo an wn wz tl))) ∧ (¬ e_ad e m = 0 → P 1 (ir_YS (ir_st e (e_nw e) (upd (e_ad e) m 0) (upd (e_al e) m (-1)) (e_se e) (e_gl e) (e_mo e) (e_fn e) (e_fa e)) la ll vc vh vl vz vn ta yo an wn wz tl))) → wpY_clearRecord P (ir_YS e la ll vc vh vl vz vn ta yo an wn wz tl) (nI m) := by
    intro P k1
    unfold wpY_clearRecord ir_YS
    simp only [wY_clearRecord_30]
    rw [nI_clamp (show m < 2 ^ 31 by omega)]
    exact yr_isName hm hN.2 (br_f ir_1ne ⟨h24, fun h3 => ⟨h24, fun h4 => ⟨h24, nm_e ⟨h24, nm_e ((k1.1 h3).1 h4)⟩⟩, fun h4 => (k1.1 h3).2 h4⟩, fun h3 => ⟨h24, nm_e ⟨h24, nm_e (k1.2 h3)⟩⟩⟩)
  have hnew := (ir_mk (k := k + 4) (e := (ir_st e (e_nw e) (upd (e_ad e) m 0) (upd (e_al e) m (-1)) (e_se e) (e_gl e) (e_mo e) (e_fn e) (e_fa e))) (la := la) (ll := ll) (zt := zt) (vo := vo) (li := li) (be := be) (ex := ex) (ab := ab) (ha := ha) (ow := ow) (ne := ne) (hi := hi) (lk := lk) (de := de) (st := st) (qu := qu) (fl := fl) (ln := ln) (lt := lt) (vc := vc) (vh := vh) (vl := vl) (vz := vz) (vn := vn) (ta := ta) (yo := yo) (an := an) (wn := wn) (wz := wz) (ir_EI_st hE (ir_uall f1 (Or.inl rfl)) f2 (ir_uall f3 (fun i hi' => by rw [b_0] at hi'; exact absurd hi' (by decide))) f4 f5 f6 f7 f8 f9) hT)
  simp only [wX_clearRecord_30]
  rw [nI_clamp (show m < 2 ^ 31 by omega)]
  refine ⟨h24, fun h3 => ⟨h24, fun h4 => ⟨h24, nm_e ⟨h24, nm_e ?_⟩⟩, fun h4 => ?_⟩, fun h3 => ⟨h24, nm_e ⟨h24, nm_e ?_⟩⟩⟩
  · exact Y _ (br_t h3 (br_t h4 ⟨rfl, hnew⟩))
  · exact Y _ (br_t h3 (br_f h4 ⟨rfl, same⟩))
  · exact Y _ (br_f h3 ⟨rfl, hnew⟩)
end
section
theorem ir_gl6 {g : Int32} (h1 : ¬ g < -1) (h2 : g ≤ 5) : ir_id 6 g := by
  rcases Classical.em (g < 0) with h | h
  · refine Or.inl (Int32.toInt_inj.mp ?_)
    have a1 := Int32.lt_iff_toInt_lt.mp h
    have a2 := Int32.le_iff_toInt_le.mp (Int32.not_lt.mp h1)
    have h0 : (0 : Int32).toInt = 0 := by decide
    have h3 : (-1 : Int32).toInt = -1 := by decide
    rw [h0] at a1
    rw [h3] at a2 ⊢
    omega
  · obtain ⟨j, hj, e⟩ := nI_of2 (M := 5) (n := 5) (by decide) h h2
    exact Or.inr ⟨j, by omega, e⟩
/-- the servers of z with one more -/
theorem ir_se_add {N z s j : Nat} {se : ir_A} (hs : s < N) (hN : N ≤ 24) (h0z : 0 < z) (hj : ir_sl z j) (h2 : ∀ j, ir_id N (se j)) (h7 : se 0 = -1) (h8 : se 1 = -1) (h9 : ∀ z, se (2 * z) < 0 → se (2 * z + 1) < 0)
    (hc : j = 2 * z + 1 → ¬ se (2 * z) < 0) : (∀ q, ir_id N (upd se j (nI s) q)) ∧ upd se j (nI s) 0 = -1 ∧ upd se j (nI s) 1 = -1 ∧ (∀ y, upd se j (nI s) (2 * y) < 0 → upd se j (nI s) (2 * y + 1) < 0) := by
  refine ⟨ir_uall h2 (Or.inr ⟨s, hs, rfl⟩), ?_, ?_, fun y hy => ?_⟩
  · rw [pk_un (by rcases hj with w | w <;> omega)]; exact h7
  · rw [pk_un (by rcases hj with w | w <;> omega)]; exact h8
  · rcases Nat.decEq (2 * y) j with w | w
    · rw [pk_un w] at hy
      rcases Nat.decEq (2 * y + 1) j with x | x
      · rw [pk_un x]; exact h9 y hy
      · have : y = z := by rcases hj with q | q <;> omega
        subst this
        exact absurd hy (hc x.symm)
    · subst w
      rw [pk_us] at hy
      exact absurd hy (nI_pos (by omega))
theorem i_vc_addServer {k : Nat} {u : SX} {v : SY} (I : i_Rel k u v) (hk : k + 4 ≤ 2052) (v1 : Int32) (v2 : Int32) (v3 : Int32) : wpX_addServer (fun r u' => wpY_addServer (fun r' v' => r' = r ∧ i_Rel (k + 4) u' v') v v1 v2 v3) u v1 v2 v3 := by
  refine ir_el (P := fun u v => wpX_addServer (fun r u' => wpY_addServer (fun r' v' => r' = r ∧ i_Rel (k + 4) u' v') v v1 v2 v3) u v1 v2 v3) ?_ I
  intro e la ll zt vo li be ex ab ha ow ne hi lk ma de st qu fl ln lt vc vh vl vz vn ta yo an wn wz tl hE hT
  have same := ir_mk (k := k + 4) (la := la) (ll := ll) (zt := zt) (vo := vo) (li := li) (be := be) (ex := ex) (ab := ab) (ha := ha) (ow := ow) (ne := ne) (hi := hi) (lk := lk) (de := de) (st := st) (qu := qu) (fl := fl) (ln := ln) (lt := lt) (vc := vc) (vh := vh) (vl := vl) (vz := vz) (vn := vn) (ta := ta) (yo := yo) (an := an) (wn := wn) (wz := wz) hE hT
  have hN := ir_EI_N hE
  obtain ⟨f1, f2, f3, f4, f5, f6, f7, f8, f9⟩ := ir_ei hE
  unfold wpX_addServer ir_XS
  dsimp only
  rcases ir_nm3 v1 hN.2 with h1 | ⟨z, hz, rfl⟩
  · refine xe_nm0 h1 (br_t rfl ?_)
    unfold wpY_addServer ir_YS
    dsimp only
    exact ⟨fun _ => ⟨rfl, same⟩, fun _ => ye_nm0 h1 (br_t rfl ⟨rfl, same⟩)⟩
  refine xr_isName hz hN.2 (br_f ir_1ne (pk_eq z 0 (fun h0 => ?_) (fun h0 => ?_)))
  · subst h0
    unfold wpY_addServer ir_YS
    exact br_t rfl ⟨rfl, same⟩
  have hz0 : ¬ nI z = 0 := nI_ne0 (by omega) (by omega)
  rcases ir_nm3 v2 hN.2 with h2 | ⟨s, hs, rfl⟩
  · refine xe_nm0 h2 (br_t rfl ?_)
    unfold wpY_addServer ir_YS
    dsimp only
    exact br_f hz0 (yr_isName hz hN.2 (br_f ir_1ne (ye_nm0 h2 (br_t rfl ⟨rfl, same⟩))))
  refine xr_isName hs hN.2 (br_f ir_1ne ⟨fun h3 => ?_, fun h3 => ⟨fun h4 => ?_, fun h4 => ?_⟩⟩)
  · unfold wpY_addServer ir_YS
    dsimp only
    exact br_f hz0 (yr_isName hz hN.2 (br_f ir_1ne (yr_isName hs hN.2 (br_f ir_1ne (br_t h3 ⟨rfl, same⟩)))))
  · have hg := ir_gl6 h3 h4
    have hA : vp_in (nI (2 * z)) 48 := vp_in_nI (by omega) (by omega)
    have hB : vp_in (nI (2 * z + 1)) 48 := vp_in_nI (by omega) (by omega)
    have Y : ∀ P : Int32 → SY → Prop, ((0 ≤ e_se e (2 * z + 1) → P 0 (ir_YS e la ll vc vh vl vz vn ta yo an wn wz tl)) ∧ (¬ 0 ≤ e_se e (2 * z + 1) → ((e_se e (2 * z) = nI s → P 0 (ir_YS e la ll vc vh vl vz vn ta yo an wn wz tl)) ∧ (¬ e_se e (2 * z) = nI s →
        ((¬ e_se e (2 * z) < 0 → P 1 (ir_YS (ir_st e (e_nw e) (e_ad e) (e_al e) (upd (e_se e) (2 * z + 1) (nI s)) (upd (e_gl e) (2 * z + 1) v3) (e_mo e) (e_fn e) (e_fa e)) la ll vc vh vl vz vn ta yo an wn wz tl)) ∧ (e_se e (2 * z) < 0 → P 1 (ir_YS (ir_st e (e_nw e) (e_ad e) (e_al e) (upd (e_se e) (2 * z) (nI s)) (upd (e_gl e) (2 * z) v3) (e_mo e) (e_fn e) (e_fa e)) la ll vc vh vl vz vn ta yo an wn wz tl))))))) → wpY_addServer P (ir_YS e la ll vc vh vl vz vn ta yo an wn wz tl) (nI z) (nI s) v3 := by
      intro P k1
      unfold wpY_addServer ir_YS
      simp only [wY_addServer_81, ir_2m, nI_1]
      rw [nI_clamp (show 2 * z < 2 ^ 31 by omega), nI_clamp (show 2 * z + 1 < 2 ^ 31 by omega)]
      exact br_f hz0 (yr_isName hz hN.2 (br_f ir_1ne (yr_isName hs hN.2 (br_f ir_1ne (br_f h3 (br_t h4 ⟨hB, fun h5 => k1.1 h5, fun h5 => ⟨hA, fun h6 => (k1.2 h5).1 h6, fun h6 => ⟨hA, fun h7 => ⟨hB, nm_e ⟨hB, nm_e (((k1.2 h5).2 h6).1 (Int32.not_lt.mpr h7))⟩⟩, fun h7 => ⟨hA, nm_e ⟨hA, nm_e (((k1.2 h5).2 h6).2 (ir_nle.mp h7))⟩⟩⟩⟩⟩))))))
    simp only [wX_addServer_77, ir_2m, nI_1]
    refine nm_e ?_
    simp only [nI_1]
    rw [nI_clamp (show 2 * z < 2 ^ 31 by omega), nI_clamp (show 2 * z + 1 < 2 ^ 31 by omega)]
    refine ⟨hB, fun h5 => Y _ (br_t h5 ⟨rfl, same⟩), fun h5 => ⟨hA, fun h6 => Y _ (br_f h5 (br_t h6 ⟨rfl, same⟩)), fun h6 => ⟨hA, fun h7 => ⟨hA, nm_e ⟨hA, nm_e ?_⟩⟩, fun h7 => nm_e ?_⟩⟩⟩
    · obtain ⟨g1, g2, g3, g4⟩ := ir_se_add (j := 2 * z) hs hN.2 (by omega) (Or.inl rfl) f2 f7 f8 f9 (fun y => by omega)
      exact Y _ (br_f h5 (br_f h6 ⟨fun y => absurd h7 y, fun _ => ⟨rfl, (ir_mk (k := k + 4) (e := (ir_st e (e_nw e) (e_ad e) (e_al e) (upd (e_se e) (2 * z) (nI s)) (upd (e_gl e) (2 * z) v3) (e_mo e) (e_fn e) (e_fa e))) (la := la) (ll := ll) (zt := zt) (vo := vo) (li := li) (be := be) (ex := ex) (ab := ab) (ha := ha) (ow := ow) (ne := ne) (hi := hi) (lk := lk) (de := de) (st := st) (qu := qu) (fl := fl) (ln := ln) (lt := lt) (vc := vc) (vh := vh) (vl := vl) (vz := vz) (vn := vn) (ta := ta) (yo := yo) (an := an) (wn := wn) (wz := wz) (ir_EI_st hE f1 g1 f3 (ir_uall f4 hg) f5 f6 g2 g3 g4) hT)⟩⟩))
    · rw [nI_clamp (show 2 * z + 1 < 2 ^ 31 by omega)]
      obtain ⟨g1, g2, g3, g4⟩ := ir_se_add (j := 2 * z + 1) hs hN.2 (by omega) (Or.inr rfl) f2 f7 f8 f9 (fun _ => h7)
      exact ⟨hB, nm_e ⟨hB, nm_e (Y _ (br_f h5 (br_f h6 ⟨fun _ => ⟨rfl, (ir_mk (k := k + 4) (e := (ir_st e (e_nw e) (e_ad e) (e_al e) (upd (e_se e) (2 * z + 1) (nI s)) (upd (e_gl e) (2 * z + 1) v3) (e_mo e) (e_fn e) (e_fa e))) (la := la) (ll := ll) (zt := zt) (vo := vo) (li := li) (be := be) (ex := ex) (ab := ab) (ha := ha) (ow := ow) (ne := ne) (hi := hi) (lk := lk) (de := de) (st := st) (qu := qu) (fl := fl) (ln := ln) (lt := lt) (vc := vc) (vh := vh) (vl := vl) (vz := vz) (vn := vn) (ta := ta) (yo := yo) (an := an) (wn := wn) (wz := wz) (ir_EI_st hE f1 g1 f3 (ir_uall f4 hg) f5 f6 g2 g3 g4) hT)⟩, fun y => absurd y h7⟩)))⟩⟩
  · unfold wpY_addServer ir_YS
    dsimp only
    exact br_f hz0 (yr_isName hz hN.2 (br_f ir_1ne (yr_isName hs hN.2 (br_f ir_1ne (br_f h3 (br_f h4 ⟨rfl, same⟩))))))
theorem i_vc_dropCut {k : Nat} {u : SX} {v : SY} (I : i_Rel k u v) (hk : k + 4 ≤ 2052) (v1 : Int32) : wpX_dropCut (fun r u' => wpY_dropCut (fun r' v' => r' = r ∧ i_Rel (k + 4) u' v') v v1) u v1 := by
  refine ir_el (P := fun u v => wpX_dropCut (fun r u' => wpY_dropCut (fun r' v' => r' = r ∧ i_Rel (k + 4) u' v') v v1) u v1) ?_ I
  intro e la ll zt vo li be ex ab ha ow ne hi lk ma de st qu fl ln lt vc vh vl vz vn ta yo an wn wz tl hE hT
  have same := ir_mk (k := k + 4) (la := la) (ll := ll) (zt := zt) (vo := vo) (li := li) (be := be) (ex := ex) (ab := ab) (ha := ha) (ow := ow) (ne := ne) (hi := hi) (lk := lk) (de := de) (st := st) (qu := qu) (fl := fl) (ln := ln) (lt := lt) (vc := vc) (vh := vh) (vl := vl) (vz := vz) (vn := vn) (ta := ta) (yo := yo) (an := an) (wn := wn) (wz := wz) hE hT
  have hN := ir_EI_N hE
  obtain ⟨f1, f2, f3, f4, f5, f6, f7, f8, f9⟩ := ir_ei hE
  unfold wpX_dropCut ir_XS
  dsimp only
  rcases ir_nm3 v1 hN.2 with h1 | ⟨z, hz, rfl⟩
  · refine xe_nm0 h1 (br_t rfl ?_)
    unfold wpY_dropCut ir_YS
    dsimp only
    exact ⟨fun _ => ⟨rfl, same⟩, fun _ => ye_nm0 h1 (br_t rfl ⟨rfl, same⟩)⟩
  refine xr_isName hz hN.2 (br_f ir_1ne (pk_eq z 0 (fun h0 => ?_) (fun h0 => ?_)))
  · subst h0
    unfold wpY_dropCut ir_YS
    exact br_t rfl ⟨rfl, same⟩
  have hz0 : ¬ nI z = 0 := nI_ne0 (by omega) (by omega)
  have hA : vp_in (nI (2 * z)) 48 := vp_in_nI (by omega) (by omega)
  have hB : vp_in (nI (2 * z + 1)) 48 := vp_in_nI (by omega) (by omega)
  have n2 : nI (2 * z) + 2 = nI (2 * z + 2) := nI_add (2 * z) 2
  have Y : ∀ P : Int32 → SY → Prop, ((0 ≤ e_se e (2 * z) → P 1 (ir_YS (ir_st e (e_nw e) (e_ad e) (e_al e) (upd (upd (e_se e) (2 * z) (-1)) (2 * z + 1) (-1)) (upd (upd (e_gl e) (2 * z) (-1)) (2 * z + 1) (-1)) (e_mo e) (e_fn e) (e_fa e)) la ll vc vh vl vz vn ta yo an wn wz tl)) ∧ (¬ 0 ≤ e_se e (2 * z) → P 0 (ir_YS e la ll vc vh vl vz vn ta yo an wn wz tl))) → wpY_dropCut P (ir_YS e la ll vc vh vl vz vn ta yo an wn wz tl) (nI z) := by
    intro P k1
    unfold wpY_dropCut ir_YS
    dsimp only
    rw [ir_2m, nI_clamp (show 2 * z < 2 ^ 31 by omega)]
    refine br_f hz0 (yr_isName hz hN.2 (br_f ir_1ne ⟨hA, fun h1 => nm_e (Exists.intro (0 + 1 + 1 + 1) ?_), fun h1 => k1.2 h1⟩))
    simp only [wY_dropCut_31]
    rw [ir_2m, n2, nI_1, nI_clamp (show 2 * z < 2 ^ 31 by omega)]
    refine br_f (nI_ge (by omega) (by omega)) ⟨hA, nm_e ⟨hA, nm_e (nm_e ?_)⟩⟩
    rw [nI_1, nI_clamp (show 2 * z + 1 < 2 ^ 31 by omega)]
    refine br_f (nI_ge (by omega) (by omega)) ⟨hB, nm_e ⟨hB, nm_e (nm_e ?_)⟩⟩
    exact br_t (nI_le (by omega) (by omega)) (k1.1 h1)
  rw [ir_2m, nI_clamp (show 2 * z < 2 ^ 31 by omega)]
  refine ⟨hA, fun h1 => nm_e (Exists.intro (0 + 1 + 1 + 1) ?_), fun h1 => Y _ (br_f h1 ⟨rfl, same⟩)⟩
  simp only [wX_dropCut_31]
  rw [ir_2m, nI_1, nI_clamp (show 2 * z < 2 ^ 31 by omega)]
  refine br_f (nI_nlt (by omega) (by omega)) ⟨hA, nm_e ⟨hA, nm_e (nm_e ?_)⟩⟩
  rw [nI_1, nI_clamp (show 2 * z + 1 < 2 ^ 31 by omega)]
  refine br_f (nI_nlt (by omega) (by omega)) ⟨hB, nm_e ⟨hB, nm_e (nm_e ?_)⟩⟩
  refine br_t (nI_lt (by omega) (by omega)) (Y _ (br_t h1 ⟨rfl, ?_⟩))
  refine (ir_mk (k := k + 4) (e := (ir_st e (e_nw e) (e_ad e) (e_al e) (upd (upd (e_se e) (2 * z) (-1)) (2 * z + 1) (-1)) (upd (upd (e_gl e) (2 * z) (-1)) (2 * z + 1) (-1)) (e_mo e) (e_fn e) (e_fa e))) (la := la) (ll := ll) (zt := zt) (vo := vo) (li := li) (be := be) (ex := ex) (ab := ab) (ha := ha) (ow := ow) (ne := ne) (hi := hi) (lk := lk) (de := de) (st := st) (qu := qu) (fl := fl) (ln := ln) (lt := lt) (vc := vc) (vh := vh) (vl := vl) (vz := vz) (vn := vn) (ta := ta) (yo := yo) (an := an) (wn := wn) (wz := wz) (ir_EI_st hE f1 (ir_uall (ir_uall f2 (Or.inl rfl)) (Or.inl rfl)) f3 (ir_uall (ir_uall f4 (Or.inl rfl)) (Or.inl rfl)) f5 f6 ?_ ?_ ?_) hT)
  · rw [pk_un (by omega), pk_un (by omega)]; exact f7
  · rw [pk_un (by omega), pk_un (by omega)]; exact f8
  · intro y hy
    rcases Nat.decEq y z with w | w
    · rw [pk_un (by omega), pk_un (by omega)] at hy ⊢
      exact f9 y hy
    · subst w
      rw [pk_us]; decide
theorem i_vc_setMachine {k : Nat} {u : SX} {v : SY} (I : i_Rel k u v) (hk : k + 4 ≤ 2052) (v1 : Int32) (v2 : Int32) : wpX_setMachine (fun r u' => wpY_setMachine (fun r' v' => r' = r ∧ i_Rel (k + 4) u' v') v v1 v2) u v1 v2 := by
  refine ir_el (P := fun u v => wpX_setMachine (fun r u' => wpY_setMachine (fun r' v' => r' = r ∧ i_Rel (k + 4) u' v') v v1 v2) u v1 v2) ?_ I
  intro e la ll zt vo li be ex ab ha ow ne hi lk ma de st qu fl ln lt vc vh vl vz vn ta yo an wn wz tl hE hT
  have same := ir_mk (k := k + 4) (la := la) (ll := ll) (zt := zt) (vo := vo) (li := li) (be := be) (ex := ex) (ab := ab) (ha := ha) (ow := ow) (ne := ne) (hi := hi) (lk := lk) (de := de) (st := st) (qu := qu) (fl := fl) (ln := ln) (lt := lt) (vc := vc) (vh := vh) (vl := vl) (vz := vz) (vn := vn) (ta := ta) (yo := yo) (an := an) (wn := wn) (wz := wz) hE hT
  have hN := ir_EI_N hE
  obtain ⟨f1, f2, f3, f4, f5, f6, f7, f8, f9⟩ := ir_ei hE
  unfold wpX_setMachine ir_XS
  dsimp only
  rcases ir_ma3 v1 with h1 | ⟨a, ha', rfl⟩
  · refine xe_ma0 h1 (br_t rfl ?_)
    unfold wpY_setMachine ir_YS
    dsimp only
    exact ⟨fun _ => ⟨rfl, same⟩, fun h0 => br_t (ir_6a (h1.resolve_left h0)).2.1 ⟨rfl, same⟩⟩
  have h6 : vp_in (nI a) 6 := vp_in_nI ha' (by omega)
  have Y : ∀ P : Int32 → SY → Prop, ((v2 < 0 → P (-1) (ir_YS e la ll vc vh vl vz vn ta yo an wn wz tl)) ∧ (¬ v2 < 0 → ((v2 ≤ 2 → ((e_mo e a = v2 → P 0 (ir_YS e la ll vc vh vl vz vn ta yo an wn wz tl)) ∧ (¬ e_mo e a = v2 → P 1 (ir_YS (ir_st e (e_nw e) (e_ad e) (e_al e) (e_se e) (e_gl e) (upd (e_mo e) a v2) (e_fn e) (e_fa e)) la ll vc vh vl vz vn ta yo an wn wz tl)))) ∧ (¬ v2 ≤ 2 → P (-1) (ir_YS e la ll vc vh vl vz vn ta yo an wn wz tl))))) → wpY_setMachine P (ir_YS e la ll vc vh vl vz vn ta yo an wn wz tl) (nI a) v2 := by
    intro P k1
    unfold wpY_setMachine ir_YS
    dsimp only
    rw [nI_clamp (show a < 2 ^ 31 by omega)]
    exact br_f (ir_6b a ha').1 (br_f (ir_6b a ha').2.1 ⟨fun h => k1.1 h, fun h => ⟨fun h' => ⟨h6, fun q => ((k1.2 h).1 h').1 q, fun q => ⟨h6, nm_e (((k1.2 h).1 h').2 q)⟩⟩, fun h' => (k1.2 h).2 h'⟩⟩)
  rw [nI_clamp (show a < 2 ^ 31 by omega)]
  refine xe_ma1 ha' (br_f ir_1ne ⟨fun h => Y _ (br_t h ⟨rfl, same⟩), fun h => ⟨fun h' => ⟨h6, fun q => Y _ (br_f h (br_t h' (br_t q ⟨rfl, same⟩))), fun q => ⟨h6, nm_e (Y _ (br_f h (br_t h' (br_f q ⟨rfl, (ir_mk (k := k + 4) (e := (ir_st e (e_nw e) (e_ad e) (e_al e) (e_se e) (e_gl e) (upd (e_mo e) a v2) (e_fn e) (e_fa e))) (la := la) (ll := ll) (zt := zt) (vo := vo) (li := li) (be := be) (ex := ex) (ab := ab) (ha := ha) (ow := ow) (ne := ne) (hi := hi) (lk := lk) (de := de) (st := st) (qu := qu) (fl := fl) (ln := ln) (lt := lt) (vc := vc) (vh := vh) (vl := vl) (vz := vz) (vn := vn) (ta := ta) (yo := yo) (an := an) (wn := wn) (wz := wz) (ir_EI_st hE f1 f2 f3 f4 f5 f6 f7 f8 f9) hT)⟩))))⟩⟩, fun h' => Y _ (br_f h (br_f h' ⟨rfl, same⟩))⟩⟩)
theorem i_vc_setForgery {k : Nat} {u : SX} {v : SY} (I : i_Rel k u v) (hk : k + 4 ≤ 2052) (v1 : Int32) (v2 : Int32) (v3 : Int32) : wpX_setForgery (fun r u' => wpY_setForgery (fun r' v' => r' = r ∧ i_Rel (k + 4) u' v') v v1 v2 v3) u v1 v2 v3 := by
  refine ir_el (P := fun u v => wpX_setForgery (fun r u' => wpY_setForgery (fun r' v' => r' = r ∧ i_Rel (k + 4) u' v') v v1 v2 v3) u v1 v2 v3) ?_ I
  intro e la ll zt vo li be ex ab ha ow ne hi lk ma de st qu fl ln lt vc vh vl vz vn ta yo an wn wz tl hE hT
  have same := ir_mk (k := k + 4) (la := la) (ll := ll) (zt := zt) (vo := vo) (li := li) (be := be) (ex := ex) (ab := ab) (ha := ha) (ow := ow) (ne := ne) (hi := hi) (lk := lk) (de := de) (st := st) (qu := qu) (fl := fl) (ln := ln) (lt := lt) (vc := vc) (vh := vh) (vl := vl) (vz := vz) (vn := vn) (ta := ta) (yo := yo) (an := an) (wn := wn) (wz := wz) hE hT
  have hN := ir_EI_N hE
  obtain ⟨f1, f2, f3, f4, f5, f6, f7, f8, f9⟩ := ir_ei hE
  unfold wpX_setForgery ir_XS
  dsimp only
  rcases ir_ma3 v1 with h1 | ⟨a, ha', rfl⟩
  · refine xe_ma0 h1 (br_t rfl ?_)
    unfold wpY_setForgery ir_YS
    dsimp only
    exact ⟨fun _ => ⟨rfl, same⟩, fun h0 => br_t (ir_6a (h1.resolve_left h0)).2.1 ⟨rfl, same⟩⟩
  refine xe_ma1 ha' (br_f ir_1ne ?_)
  rcases ir_nm3 v2 hN.2 with h2 | ⟨m, hm, rfl⟩
  · refine xe_nm0 h2 (br_t rfl ?_)
    unfold wpY_setForgery ir_YS
    dsimp only
    exact br_f (ir_6b a ha').1 (br_f (ir_6b a ha').2.1 (ye_nm0 h2 (br_t rfl ⟨rfl, same⟩)))
  refine xr_isName hm hN.2 (br_f ir_1ne ?_)
  rcases ir_ma3 v3 with h3 | ⟨c, hc, rfl⟩
  · refine xe_ma0 h3 (br_t rfl ?_)
    unfold wpY_setForgery ir_YS
    dsimp only
    exact br_f (ir_6b a ha').1 (br_f (ir_6b a ha').2.1 (yr_isName hm hN.2 (br_f ir_1ne ⟨fun _ => ⟨rfl, same⟩, fun h0 => br_f (ir_6a (h3.resolve_left h0)).2.2 ⟨rfl, same⟩⟩)))
  have h6 : vp_in (nI a) 6 := vp_in_nI ha' (by omega)
  rw [nI_clamp (show a < 2 ^ 31 by omega)]
  refine xe_ma1 hc (br_f ir_1ne ⟨h6, nm_e ⟨h6, nm_e ?_⟩⟩)
  unfold wpY_setForgery ir_YS
  dsimp only
  rw [nI_clamp (show a < 2 ^ 31 by omega)]
  refine br_f (ir_6b a ha').1 (br_f (ir_6b a ha').2.1 (yr_isName hm hN.2 (br_f ir_1ne (br_f (ir_6b c hc).1 (br_t (ir_6b c hc).2.2 ⟨h6, nm_e ⟨h6, nm_e ⟨rfl, ?_⟩⟩⟩)))))
  refine (ir_mk (k := k + 4) (e := (ir_st e (e_nw e) (e_ad e) (e_al e) (e_se e) (e_gl e) (e_mo e) (upd (e_fn e) a (nI m)) (upd (e_fa e) a (nI c)))) (la := la) (ll := ll) (zt := zt) (vo := vo) (li := li) (be := be) (ex := ex) (ab := ab) (ha := ha) (ow := ow) (ne := ne) (hi := hi) (lk := lk) (de := de) (st := st) (qu := qu) (fl := fl) (ln := ln) (lt := lt) (vc := vc) (vh := vh) (vl := vl) (vz := vz) (vn := vn) (ta := ta) (yo := yo) (an := an) (wn := wn) (wz := wz) (ir_EI_st hE f1 f2 f3 f4 ?_ f6 f7 f8 f9) hT)
  intro h hh
  rcases Nat.decEq h a with w | w
  · rw [pk_un w, pk_un w]; exact f5 h hh
  · subst w
    rw [pk_us, pk_us]
    exact Or.inr ⟨⟨m, hm, rfl⟩, c, hc, rfl⟩
theorem i_vc_advance {k : Nat} {u : SX} {v : SY} (I : i_Rel k u v) (hk : k + 4 ≤ 2052) (v1 : Int32) : wpX_advance (fun r u' => wpY_advance (fun r' v' => r' = r ∧ i_Rel (k + 4) u' v') v v1) u v1 := by
  refine ir_el (P := fun u v => wpX_advance (fun r u' => wpY_advance (fun r' v' => r' = r ∧ i_Rel (k + 4) u' v') v v1) u v1) ?_ I
  intro e la ll zt vo li be ex ab ha ow ne hi lk ma de st qu fl ln lt vc vh vl vz vn ta yo an wn wz tl hE hT
  have same := ir_mk (k := k + 4) (la := la) (ll := ll) (zt := zt) (vo := vo) (li := li) (be := be) (ex := ex) (ab := ab) (ha := ha) (ow := ow) (ne := ne) (hi := hi) (lk := lk) (de := de) (st := st) (qu := qu) (fl := fl) (ln := ln) (lt := lt) (vc := vc) (vh := vh) (vl := vl) (vz := vz) (vn := vn) (ta := ta) (yo := yo) (an := an) (wn := wn) (wz := wz) hE hT
  have hN := ir_EI_N hE
  obtain ⟨f1, f2, f3, f4, f5, ⟨q, hq, hnw⟩, f7, f8, f9⟩ := ir_ei hE
  have Y : ∀ P : Int32 → SY → Prop, ((v1 < 1 → P (-1) (ir_YS e la ll vc vh vl vz vn ta yo an wn wz tl)) ∧ (¬ v1 < 1 → ((v1 ≤ 100 → ((e_nw e + v1 ≤ 1000000 → P 1 (ir_YS (ir_st e (e_nw e + v1) (e_ad e) (e_al e) (e_se e) (e_gl e) (e_mo e) (e_fn e) (e_fa e)) la ll vc vh vl vz vn ta yo an wn wz tl)) ∧ (¬ e_nw e + v1 ≤ 1000000 → P 0 (ir_YS e la ll vc vh vl vz vn ta yo an wn wz tl)))) ∧ (¬ v1 ≤ 100 → P (-1) (ir_YS e la ll vc vh vl vz vn ta yo an wn wz tl))))) → wpY_advance P (ir_YS e la ll vc vh vl vz vn ta yo an wn wz tl) v1 := by
    intro P k1
    unfold wpY_advance ir_YS
    exact ⟨fun h => k1.1 h, fun h => ⟨fun h' => ⟨fun y => nm_e (((k1.2 h).1 h').1 y), fun y => ((k1.2 h).1 h').2 y⟩, fun h' => (k1.2 h).2 h'⟩⟩
  unfold wpX_advance ir_XS
  dsimp only
  refine ⟨fun h => Y _ (br_t h ⟨rfl, same⟩), fun h => ⟨fun h' => ⟨fun y => nm_e (Y _ (br_f h (br_t h' (br_t y ⟨rfl, ?_⟩)))), fun y => Y _ (br_f h (br_t h' (br_f y ⟨rfl, same⟩)))⟩, fun h' => Y _ (br_f h (br_f h' ⟨rfl, same⟩))⟩⟩
  have h0 : ¬ v1 < 0 := fun y => h (Int32.lt_trans y (by decide))
  obtain ⟨j, hj, e1⟩ := nI_of2 (M := 100) (n := 100) (by decide) h0 h'
  have e2 : e_nw e + v1 = nI (q + j) := by rw [hnw, e1, nI_add]
  have hle : q + j ≤ 1000000 := by
    rw [e2] at y
    exact (nI_leI (b := 1000000) (by omega) (by omega)).mp y
  exact (ir_mk (k := k + 4) (e := (ir_st e (e_nw e + v1) (e_ad e) (e_al e) (e_se e) (e_gl e) (e_mo e) (e_fn e) (e_fa e))) (la := la) (ll := ll) (zt := zt) (vo := vo) (li := li) (be := be) (ex := ex) (ab := ab) (ha := ha) (ow := ow) (ne := ne) (hi := hi) (lk := lk) (de := de) (st := st) (qu := qu) (fl := fl) (ln := ln) (lt := lt) (vc := vc) (vh := vh) (vl := vl) (vz := vz) (vn := vn) (ta := ta) (yo := yo) (an := an) (wn := wn) (wz := wz) (ir_EI_st hE f1 f2 f3 f4 f5 ⟨q + j, hle, e2⟩ f7 f8 f9) hT)
end
section
/-! what is learned keeps the environment well -/
theorem ir_zn_cut (e : ir_E) : ∀ k m, m < k → ir_zn e m = 0 ∨ ¬ (e_ce e (ir_zn e m) ≤ e_nw e ∧ e_se e (2 * ir_zn e m) < 0) := by
  intro k
  induction k with
  | zero => intro m h; omega
  | succ k ih =>
    intro m h
    cases m with
    | zero => exact Or.inl (ir_zn_0 e)
    | succ m =>
      rcases Classical.em (e_ce e (m + 1) ≤ e_nw e ∧ e_se e (2 * (m + 1)) < 0) with z | z
      · rw [ir_zn_s z]
        exact ih (m / 2) (by omega)
      · rw [ir_zn_c z]
        exact Or.inr z
theorem ir_D_cut {e : ir_E} {n : Nat} (hE : ir_EI e) (hn : n < e_N e) {z : Nat} (h0 : 0 < z) (hd : ¬ ir_hd e z) (h : ir_D e n (24 + z)) : 0 ≤ e_se e (2 * z) := by
  have hN := ir_EI_N hE
  have key := h (fun t => ∀ y, t = 24 + y → y = 0 ∨ ¬ (e_ce e y ≤ e_nw e ∧ e_se e (2 * y) < 0)) (fun y hy => by omega) (fun t s _ d y hy => by
    rcases d with ⟨_, _, hs⟩ | ⟨_, _, h0, hs⟩ | ⟨_, _, _, hs⟩ | ⟨_, _, _, j, _, h0, hs⟩
    · have : y = ir_zn e t := by omega
      rw [this]; exact ir_zn_cut e (t + 1) t (Nat.lt_succ_self _)
    · have := (ir_va_lt hE h0).1
      omega
    · have : y = ir_zn e ((t - 24 - 1) / 2) := by
        have : ir_up e (t - 24) = ir_zn e ((t - 24 - 1) / 2) := rfl
        omega
      rw [this]; exact ir_zn_cut e _ _ (Nat.lt_succ_self _)
    · have := (ir_vs_lt hE h0).1
      omega) z rfl
  rcases key with k | k
  · omega
  · exact Int32.not_lt.mp (fun y => k ⟨Classical.byContradiction hd, y⟩)
theorem ir_lr_all {P : Nat → Prop} {Q : Int32 → Prop} {g f : ir_A} (hf : ∀ j, Q (f j)) (hg : ∀ j, P j → Q (g j)) : ∀ j, Q (ir_lr P g f j) := by
  intro j
  rcases Classical.em (P j) with p | p
  · rw [ir_lr_t p]; exact hg j p
  · rw [ir_lr_f p]; exact hf j
theorem ir_EI_ln {e : ir_E} {n : Nat} {ow ne hi : ir_A} (hE : ir_EI e) (hn : n < e_N e) (hO : ir_OK e n ow ne hi) : ir_EI (ir_ln e n ow ne hi) := by
  obtain ⟨h1, h2, h3, h4, h5, h6, h7, h8, h9, h10, h11, h12, h13, h14, h15, h16, h17⟩ := hE
  have hE : ir_EI e := ⟨h1, h2, h3, h4, h5, h6, h7, h8, h9, h10, h11, h12, h13, h14, h15, h16, h17⟩
  unfold ir_ln ir_EI
  rw [le_N, le_nw, le_ad, le_al, le_se, le_gl, le_fn, le_fa, le_rm, le_ra, le_cs, le_ch, le_ce]
  refine ⟨h1, h2, h3, ir_lr_all h4 (fun j p => ?_), h5, ir_lr_all h6 (fun j _ => h5 j), h7, ir_lr_all h8 (fun j p i hi' => ?_), ir_lr_all h9 (fun j p i hi' => ?_), h10, h11, h12, ?_, fun z => ?_, h15, h16, h17⟩
  · rw [(hO.1 j p.1 p.2).1]; exact ir_EI_va hE j
  · exact (((hO.1 j p.1 p.2).2 i).mp hi').1
  · exact ((hO.2 (j / 2) p.1 p.2 j (by unfold ir_sl; omega) i).mp hi').1
  · rw [ir_lr_f (fun y => by have := y.2.1; omega)]; exact h13
  · have hz : 2 * z / 2 = z := by omega
    rcases Classical.em (z < e_N e ∧ ir_C e n z) with p | p
    · right
      rw [ir_lr_t (by rw [hz]; exact p)]
      exact ir_D_cut hE hn p.2.1 p.2.2.2.2 p.2.2.1
    · rw [ir_lr_f p, ir_lr_f (by rw [hz]; exact p)]
      exact h14 z
/-! the constructors -/
def ir_fill (k : Nat) : ir_A := fun j => if j < k then -1 else 0
theorem ir_fill_0 : ir_fill 0 = fun _ => 0 := by
  funext j
  exact if_neg (by omega)
theorem ir_fill_s (k : Nat) : upd (ir_fill k) k (-1) = ir_fill (k + 1) := by
  funext j
  unfold ir_fill
  rcases Nat.decEq j k with y | y
  · rw [pk_un y]
    rcases Nat.lt_or_ge j k with w | w
    · rw [if_pos w, if_pos (by omega)]
    · rw [if_neg (by omega), if_neg (by omega)]
  · subst y
    rw [pk_us, if_pos (by omega)]
def ir_clm (p a b : Int32) : Int32 := if a ≤ p then (if p ≤ b then p else b) else a
theorem xi_clamp {post : Int32 → Prop} {u : SX} {p a b : Int32} (K : post (ir_clm p a b)) : wpX_clamp post u p a b := by
  unfold ir_clm at K
  unfold wpX_clamp
  refine ⟨fun h => ⟨fun h' => ?_, fun h' => ?_⟩, fun h => ?_⟩
  · rw [if_pos h, if_pos h'] at K; exact K
  · rw [if_pos h, if_neg h'] at K; exact K
  · rw [if_neg h] at K; exact K
theorem yi_clamp {post : Int32 → Prop} {u : SY} {p a b : Int32} (K : post (ir_clm p a b)) : wpY_clamp post u p a b := by
  unfold ir_clm at K
  unfold wpY_clamp
  refine ⟨fun h => ⟨fun h' => ?_, fun h' => ?_⟩, fun h => ?_⟩
  · rw [if_pos h, if_pos h'] at K; exact K
  · rw [if_pos h, if_neg h'] at K; exact K
  · rw [if_neg h] at K; exact K
theorem ir_clm_N (p : Int32) : ∃ N, 8 ≤ N ∧ N ≤ 24 ∧ ir_clm p 8 24 = nI N := by
  unfold ir_clm
  rcases Classical.em (8 ≤ p) with h | h
  · rw [if_pos h]
    rcases Classical.em (p ≤ 24) with h' | h'
    · rw [if_pos h']
      have h0 : ¬ p < 0 := Int32.not_lt.mpr (Int32.le_trans (by decide) h)
      obtain ⟨j, hj, e1⟩ := nI_of2 (M := 24) (n := 24) (by decide) h0 h'
      refine ⟨j, ?_, hj, e1⟩
      rw [e1] at h
      exact (nI_leI (a := 8) (by omega) (by omega)).mp h
    · rw [if_neg h']; exact ⟨24, by omega, by omega, rfl⟩
  · rw [if_neg h]; exact ⟨8, by omega, by omega, rfl⟩
theorem xi_353 {post : SX → Prop} {nm rl dl cl nw la ll zt vo li wa lk : Int32} {ad al se gl mo rm ra re cs ch ce ma de be ex ab ha ow ne hi st qu fl ln lt : ir_A} (K : post (nm, rl, dl, cl, nw, la, ll, zt, vo, li, wa, lk, ad, al, se, gl, mo, ir_fill 6, ir_fill 6, rm, ra, re, cs, ch, ce, ma, de, be, ex, ab, ha, ow, ne, hi, st, qu, fl, ln, lt)) : ∀ (d i f : Nat), i + d = 6 → d < f → wX_init_353 post nm rl dl cl nw la ll zt vo li wa lk f (nI i) ad al se gl mo (ir_fill i) (ir_fill i) rm ra re cs ch ce ma de be ex ab ha ow ne hi st qu fl ln lt := by
  intro d
  induction d with
  | zero =>
    intro i f hi' hf
    obtain ⟨f, rfl⟩ : ∃ k, f = k + 1 := ⟨f - 1, by omega⟩
    have : i = 6 := by omega
    subst this
    simp only [wX_init_353]
    exact br_t (by decide) K
  | succ d ih =>
    intro i f hi' hf
    obtain ⟨f, rfl⟩ : ∃ k, f = k + 1 := ⟨f - 1, by omega⟩
    have hin : vp_in (nI i) 6 := vp_in_nI (by omega) (by omega)
    simp only [wX_init_353]
    rw [nI_clamp (show i < 2 ^ 31 by omega), nI_1, ir_fill_s]
    exact br_f (nI_ge (b := 6) (by omega) (by omega)) ⟨hin, nm_e ⟨hin, nm_e (nm_e (ih (i + 1) f (by omega) (by omega)))⟩⟩
theorem xi_313 {post : SX → Prop} {nm rl dl cl nw la ll zt vo li wa lk : Int32} {ad al mo fn fa rm ra re ch ce ma de be ex ab ha ow ne hi st qu fl ln lt : ir_A} (K : ∃ n, wX_init_353 post nm rl dl cl nw la ll zt vo li wa lk n 0 ad al (ir_fill 48) (ir_fill 48) mo fn fa rm ra re (ir_fill 48) ch ce ma de be ex ab ha ow ne hi st qu fl ln lt) : ∀ (d i f : Nat), i + d = 48 → d < f → wX_init_313 post nm rl dl cl nw la ll zt vo li wa lk f (nI i) ad al (ir_fill i) (ir_fill i) mo fn fa rm ra re (ir_fill i) ch ce ma de be ex ab ha ow ne hi st qu fl ln lt := by
  intro d
  induction d with
  | zero =>
    intro i f hi' hf
    obtain ⟨f, rfl⟩ : ∃ k, f = k + 1 := ⟨f - 1, by omega⟩
    have : i = 48 := by omega
    subst this
    simp only [wX_init_313]
    exact br_t (by decide) K
  | succ d ih =>
    intro i f hi' hf
    obtain ⟨f, rfl⟩ : ∃ k, f = k + 1 := ⟨f - 1, by omega⟩
    have hin : vp_in (nI i) 48 := vp_in_nI (by omega) (by omega)
    simp only [wX_init_313]
    rw [nI_clamp (show i < 2 ^ 31 by omega), nI_1, ir_fill_s]
    exact br_f (nI_ge (b := 48) (by omega) (by omega)) ⟨hin, nm_e ⟨hin, nm_e ⟨hin, nm_e (nm_e (ih (i + 1) f (by omega) (by omega)))⟩⟩⟩
theorem xi_281 {post : SX → Prop} {nm rl dl cl nw la ll zt vo li wa lk : Int32} {ad se gl mo fn fa rm re cs ch ce ma de be ex ab ha ow ne hi st qu fl ln lt : ir_A} (K : ∃ n, wX_init_313 post nm rl dl cl nw la ll zt vo li wa lk n 0 ad (ir_fill 24) se gl mo fn fa rm (ir_fill 24) re cs ch ce ma de be ex ab ha ow ne hi st qu fl ln lt) : ∀ (d i f : Nat), i + d = 24 → d < f → wX_init_281 post nm rl dl cl nw la ll zt vo li wa lk f (nI i) ad (ir_fill i) se gl mo fn fa rm (ir_fill i) re cs ch ce ma de be ex ab ha ow ne hi st qu fl ln lt := by
  intro d
  induction d with
  | zero =>
    intro i f hi' hf
    obtain ⟨f, rfl⟩ : ∃ k, f = k + 1 := ⟨f - 1, by omega⟩
    have : i = 24 := by omega
    subst this
    simp only [wX_init_281]
    exact br_t (by decide) K
  | succ d ih =>
    intro i f hi' hf
    obtain ⟨f, rfl⟩ : ∃ k, f = k + 1 := ⟨f - 1, by omega⟩
    have hin : vp_in (nI i) 24 := vp_in_nI (by omega) (by omega)
    simp only [wX_init_281]
    rw [nI_clamp (show i < 2 ^ 31 by omega), nI_1, ir_fill_s]
    exact br_f (nI_ge (b := 24) (by omega) (by omega)) ⟨hin, nm_e ⟨hin, nm_e (nm_e (ih (i + 1) f (by omega) (by omega)))⟩⟩
theorem yi_321 {post : SY → Prop} {nm rl dl cl nw la lc : Int32} {ad al se gl mo rm ra re cs ch ce vc vh vl vz vn ta yo an wn wz tl : ir_A} (K : post (nm, rl, dl, cl, nw, la, lc, ad, al, se, gl, mo, ir_fill 6, ir_fill 6, rm, ra, re, cs, ch, ce, vc, vh, vl, vz, vn, ta, yo, an, wn, wz, tl)) : ∀ (d i f : Nat), i + d = 6 → d < f → wY_init_321 post nm rl dl cl nw la lc f (nI i) ad al se gl mo (ir_fill i) (ir_fill i) rm ra re cs ch ce vc vh vl vz vn ta yo an wn wz tl := by
  intro d
  induction d with
  | zero =>
    intro i f hi' hf
    obtain ⟨f, rfl⟩ : ∃ k, f = k + 1 := ⟨f - 1, by omega⟩
    have : i = 6 := by omega
    subst this
    simp only [wY_init_321]
    exact br_t (by decide) K
  | succ d ih =>
    intro i f hi' hf
    obtain ⟨f, rfl⟩ : ∃ k, f = k + 1 := ⟨f - 1, by omega⟩
    have hin : vp_in (nI i) 6 := vp_in_nI (by omega) (by omega)
    simp only [wY_init_321]
    rw [nI_clamp (show i < 2 ^ 31 by omega), nI_1, ir_fill_s]
    exact br_f (nI_ge (b := 6) (by omega) (by omega)) ⟨hin, nm_e ⟨hin, nm_e (nm_e (ih (i + 1) f (by omega) (by omega)))⟩⟩
theorem yi_281 {post : SY → Prop} {nm rl dl cl nw la lc : Int32} {ad al mo fn fa rm ra re ch ce vc vh vl vz vn ta yo an wn wz tl : ir_A} (K : ∃ n, wY_init_321 post nm rl dl cl nw la lc n 0 ad al (ir_fill 48) (ir_fill 48) mo fn fa rm ra re (ir_fill 48) ch ce vc vh vl vz vn ta yo an wn wz tl) : ∀ (d i f : Nat), i + d = 48 → d < f → wY_init_281 post nm rl dl cl nw la lc f (nI i) ad al (ir_fill i) (ir_fill i) mo fn fa rm ra re (ir_fill i) ch ce vc vh vl vz vn ta yo an wn wz tl := by
  intro d
  induction d with
  | zero =>
    intro i f hi' hf
    obtain ⟨f, rfl⟩ : ∃ k, f = k + 1 := ⟨f - 1, by omega⟩
    have : i = 48 := by omega
    subst this
    simp only [wY_init_281]
    exact br_t (by decide) K
  | succ d ih =>
    intro i f hi' hf
    obtain ⟨f, rfl⟩ : ∃ k, f = k + 1 := ⟨f - 1, by omega⟩
    have hin : vp_in (nI i) 48 := vp_in_nI (by omega) (by omega)
    simp only [wY_init_281]
    rw [nI_clamp (show i < 2 ^ 31 by omega), nI_1, ir_fill_s]
    exact br_f (nI_ge (b := 48) (by omega) (by omega)) ⟨hin, nm_e ⟨hin, nm_e ⟨hin, nm_e (nm_e (ih (i + 1) f (by omega) (by omega)))⟩⟩⟩
theorem yi_249 {post : SY → Prop} {nm rl dl cl nw la lc : Int32} {ad se gl mo fn fa rm re cs ch ce vc vh vl vz vn ta yo an wn wz tl : ir_A} (K : ∃ n, wY_init_281 post nm rl dl cl nw la lc n 0 ad (ir_fill 24) se gl mo fn fa rm (ir_fill 24) re cs ch ce vc vh vl vz vn ta yo an wn wz tl) : ∀ (d i f : Nat), i + d = 24 → d < f → wY_init_249 post nm rl dl cl nw la lc f (nI i) ad (ir_fill i) se gl mo fn fa rm (ir_fill i) re cs ch ce vc vh vl vz vn ta yo an wn wz tl := by
  intro d
  induction d with
  | zero =>
    intro i f hi' hf
    obtain ⟨f, rfl⟩ : ∃ k, f = k + 1 := ⟨f - 1, by omega⟩
    have : i = 24 := by omega
    subst this
    simp only [wY_init_249]
    exact br_t (by decide) K
  | succ d ih =>
    intro i f hi' hf
    obtain ⟨f, rfl⟩ : ∃ k, f = k + 1 := ⟨f - 1, by omega⟩
    have hin : vp_in (nI i) 24 := vp_in_nI (by omega) (by omega)
    simp only [wY_init_249]
    rw [nI_clamp (show i < 2 ^ 31 by omega), nI_1, ir_fill_s]
    exact br_f (nI_ge (b := 24) (by omega) (by omega)) ⟨hin, nm_e ⟨hin, nm_e (nm_e (ih (i + 1) f (by omega) (by omega)))⟩⟩
end
section
/-- the environment of a new object -/
def ir_e0 (N : Nat) (rl dl cl : Int32) : ir_E := (N, rl, dl, cl, 0, fun _ => 0, ir_fill 24, ir_fill 48, ir_fill 48, fun _ => 0, ir_fill 6, ir_fill 6, fun _ => 0, ir_fill 24, fun _ => 0, ir_fill 48, fun _ => 0, fun _ => 0)
theorem ir_fill_id {N k : Nat} (hN : 0 < N) (j : Nat) : ir_id N (ir_fill k j) := by
  unfold ir_fill
  split
  · exact Or.inl rfl
  · exact Or.inr ⟨0, hN, rfl⟩
theorem ir_s60 : ir_s6 0 := fun i h => by rw [b_0] at h; exact absurd h (by decide)
theorem ir_EI_0 {N : Nat} {rl dl cl : Int32} (h1 : 8 ≤ N) (h2 : N ≤ 24) : ir_EI (ir_e0 N rl dl cl) :=
  ⟨h1, h2, ir_fill_id (show 0 < N by omega), ir_fill_id (show 0 < N by omega), ir_fill_id (show 0 < N by omega), ir_fill_id (show 0 < N by omega), fun _ => ir_s60, fun _ => ir_s60, fun _ => ir_s60, ir_fill_id (by omega),
   fun h hh => Or.inl (if_pos hh), ⟨0, by omega, rfl⟩, rfl, fun _ => Or.inl rfl, rfl, rfl, fun z hz => by
    show ir_fill 48 (2 * z + 1) < 0
    have hz' : ir_fill 48 (2 * z) < 0 := hz
    unfold ir_fill at hz' ⊢
    rcases Nat.lt_or_ge (2 * z) 48 with w | w
    · rw [if_pos (by omega)]; decide
    · rw [if_neg (by omega)] at hz'; exact absurd hz' (by decide)⟩
theorem i_vc0 (k0 : Int32) (k1 : Int32) (k2 : Int32) (k3 : Int32) : wpX_init (fun u => wpY_init (fun v => i_Rel 4 u v) k0 k1 k2 k3) k0 k1 k2 k3 := by
  obtain ⟨N, h1, h2, hc⟩ := ir_clm_N k0
  unfold wpX_init
  refine xi_clamp (xi_clamp (xi_clamp (xi_clamp (Exists.intro 25 ?_))))
  rw [hc, ← ir_fill_0]
  refine xi_281 (Exists.intro 49 ?_) 24 0 25 rfl (by omega)
  refine xi_313 (Exists.intro 7 ?_) 48 0 49 rfl (by omega)
  refine xi_353 ?_ 6 0 7 rfl (by omega)
  unfold wpY_init
  refine yi_clamp (yi_clamp (yi_clamp (yi_clamp (Exists.intro 25 ?_))))
  rw [hc, ← ir_fill_0]
  refine yi_249 (Exists.intro 49 ?_) 24 0 25 rfl (by omega)
  refine yi_281 (Exists.intro 7 ?_) 48 0 49 rfl (by omega)
  refine yi_321 ?_ 6 0 7 rfl (by omega)
  rw [ir_fill_0]
  exact ir_mk (k := 4) (e := ir_e0 N (ir_clm k1 1 100) (ir_clm k2 1 100) (ir_clm k3 1 100)) (lk := 0) (ir_EI_0 h1 h2) (fun z _ => rfl)
theorem i_vc_answer {k : Nat} {u : SX} {v : SY} (I : i_Rel k u v) (hk : k + 4 ≤ 2052) : wpX_answer (fun r => wpY_answer (fun r' => r' = r ∧ i_Rel (k + 4) u v) v) u := by
  refine ir_el (P := fun u v => wpX_answer (fun r => wpY_answer (fun r' => r' = r ∧ i_Rel (k + 4) u v) v) u) ?_ I
  intro e la ll zt vo li be ex ab ha ow ne hi lk ma de st qu fl ln lt vc vh vl vz vn ta yo an wn wz tl hE hT
  have same := ir_mk (k := k + 4) (la := la) (ll := ll) (zt := zt) (vo := vo) (li := li) (be := be) (ex := ex) (ab := ab) (ha := ha) (ow := ow) (ne := ne) (hi := hi) (lk := lk) (de := de) (st := st) (qu := qu) (fl := fl) (ln := ln) (lt := lt) (vc := vc) (vh := vh) (vl := vl) (vz := vz) (vn := vn) (ta := ta) (yo := yo) (an := an) (wn := wn) (wz := wz) hE hT
  have hN := ir_EI_N hE
  unfold wpX_answer wpY_answer ir_XS ir_YS
  exact ⟨rfl, same⟩
theorem i_vc_learned {k : Nat} {u : SX} {v : SY} (I : i_Rel k u v) (hk : k + 4 ≤ 2052) : wpX_learned (fun r => wpY_learned (fun r' => r' = r ∧ i_Rel (k + 4) u v) v) u := by
  refine ir_el (P := fun u v => wpX_learned (fun r => wpY_learned (fun r' => r' = r ∧ i_Rel (k + 4) u v) v) u) ?_ I
  intro e la ll zt vo li be ex ab ha ow ne hi lk ma de st qu fl ln lt vc vh vl vz vn ta yo an wn wz tl hE hT
  have same := ir_mk (k := k + 4) (la := la) (ll := ll) (zt := zt) (vo := vo) (li := li) (be := be) (ex := ex) (ab := ab) (ha := ha) (ow := ow) (ne := ne) (hi := hi) (lk := lk) (de := de) (st := st) (qu := qu) (fl := fl) (ln := ln) (lt := lt) (vc := vc) (vh := vh) (vl := vl) (vz := vz) (vn := vn) (ta := ta) (yo := yo) (an := an) (wn := wn) (wz := wz) hE hT
  have hN := ir_EI_N hE
  unfold wpX_learned wpY_learned ir_XS ir_YS
  exact ⟨rfl, same⟩
theorem i_vc_clock {k : Nat} {u : SX} {v : SY} (I : i_Rel k u v) (hk : k + 4 ≤ 2052) : wpX_clock (fun r => wpY_clock (fun r' => r' = r ∧ i_Rel (k + 4) u v) v) u := by
  refine ir_el (P := fun u v => wpX_clock (fun r => wpY_clock (fun r' => r' = r ∧ i_Rel (k + 4) u v) v) u) ?_ I
  intro e la ll zt vo li be ex ab ha ow ne hi lk ma de st qu fl ln lt vc vh vl vz vn ta yo an wn wz tl hE hT
  have same := ir_mk (k := k + 4) (la := la) (ll := ll) (zt := zt) (vo := vo) (li := li) (be := be) (ex := ex) (ab := ab) (ha := ha) (ow := ow) (ne := ne) (hi := hi) (lk := lk) (de := de) (st := st) (qu := qu) (fl := fl) (ln := ln) (lt := lt) (vc := vc) (vh := vh) (vl := vl) (vz := vz) (vn := vn) (ta := ta) (yo := yo) (an := an) (wn := wn) (wz := wz) hE hT
  have hN := ir_EI_N hE
  unfold wpX_clock wpY_clock ir_XS ir_YS
  exact ⟨rfl, same⟩
theorem i_vc_talkers {k : Nat} {u : SX} {v : SY} (I : i_Rel k u v) (hk : k + 4 ≤ 2052) (v1 : Int32) : wpX_talkers (fun r => wpY_talkers (fun r' => r' = r ∧ i_Rel (k + 4) u v) v v1) u v1 := by
  refine ir_el (P := fun u v => wpX_talkers (fun r => wpY_talkers (fun r' => r' = r ∧ i_Rel (k + 4) u v) v v1) u v1) ?_ I
  intro e la ll zt vo li be ex ab ha ow ne hi lk ma de st qu fl ln lt vc vh vl vz vn ta yo an wn wz tl hE hT
  have same := ir_mk (k := k + 4) (la := la) (ll := ll) (zt := zt) (vo := vo) (li := li) (be := be) (ex := ex) (ab := ab) (ha := ha) (ow := ow) (ne := ne) (hi := hi) (lk := lk) (de := de) (st := st) (qu := qu) (fl := fl) (ln := ln) (lt := lt) (vc := vc) (vh := vh) (vl := vl) (vz := vz) (vn := vn) (ta := ta) (yo := yo) (an := an) (wn := wn) (wz := wz) hE hT
  have hN := ir_EI_N hE
  unfold wpX_talkers ir_XS
  dsimp only
  rcases ir_nm3 v1 hN.2 with h1 | ⟨m, hm, rfl⟩
  · refine xe_nm0 h1 (br_t rfl ?_)
    unfold wpY_talkers ir_YS
    exact ye_nm0 h1 (br_t rfl ⟨rfl, same⟩)
  rw [ir_24, nI_clamp (show 24 + m < 2 ^ 31 by omega)]
  refine xr_isName hm hN.2 (br_f ir_1ne ⟨vp_in_nI (by omega) (by omega), ?_⟩)
  unfold wpY_talkers ir_YS
  dsimp only
  rw [nI_clamp (show m < 2 ^ 31 by omega)]
  exact yr_isName hm hN.2 (br_f ir_1ne ⟨vp_in_nI (by omega) (by omega), (hT m hm).symm, same⟩)
theorem i_vc_zoneData {k : Nat} {u : SX} {v : SY} (I : i_Rel k u v) (hk : k + 4 ≤ 2052) (v1 : Int32) (v2 : Int32) : wpX_zoneData (fun r => wpY_zoneData (fun r' => r' = r ∧ i_Rel (k + 4) u v) v v1 v2) u v1 v2 := by
  refine ir_el (P := fun u v => wpX_zoneData (fun r => wpY_zoneData (fun r' => r' = r ∧ i_Rel (k + 4) u v) v v1 v2) u v1 v2) ?_ I
  intro e la ll zt vo li be ex ab ha ow ne hi lk ma de st qu fl ln lt vc vh vl vz vn ta yo an wn wz tl hE hT
  have same := ir_mk (k := k + 4) (la := la) (ll := ll) (zt := zt) (vo := vo) (li := li) (be := be) (ex := ex) (ab := ab) (ha := ha) (ow := ow) (ne := ne) (hi := hi) (lk := lk) (de := de) (st := st) (qu := qu) (fl := fl) (ln := ln) (lt := lt) (vc := vc) (vh := vh) (vl := vl) (vz := vz) (vn := vn) (ta := ta) (yo := yo) (an := an) (wn := wn) (wz := wz) hE hT
  have hN := ir_EI_N hE
  rcases ir_nm3 v1 hN.2 with h1 | ⟨m, hm, rfl⟩
  · unfold wpX_zoneData ir_XS
    refine xe_nm0 h1 (br_t rfl ?_)
    unfold wpY_zoneData ir_YS
    exact ye_nm0 h1 (br_t rfl ⟨rfl, same⟩)
  rcases Classical.em (v2 < 0) with h2 | h2
  · unfold wpX_zoneData ir_XS
    refine xr_isName hm hN.2 (br_f ir_1ne (br_t h2 ?_))
    unfold wpY_zoneData ir_YS
    exact yr_isName hm hN.2 (br_f ir_1ne (br_t h2 ⟨rfl, same⟩))
  rcases Classical.em (v2 ≤ 6) with h3 | h3
  · obtain ⟨j, hj, rfl⟩ := nI_of2 (M := 6) (n := 6) (by decide) h2 h3
    match j, hj with
    | 0, _ => exact xg_zone0 hE hm (yg_zone0 hE hm ⟨rfl, same⟩)
    | 1, _ => exact xg_zone1 hE hm (yg_zone1 hE hm ⟨rfl, same⟩)
    | 2, _ => exact xg_zone2 hE hm (yg_zone2 hE hm ⟨rfl, same⟩)
    | 3, _ => exact xg_zone3 hE hm (yg_zone3 hE hm ⟨rfl, same⟩)
    | 4, _ => exact xg_zone4 hE hm (yg_zone4 hE hm ⟨rfl, same⟩)
    | 5, _ => exact xg_zone5 hE hm (yg_zone5 hE hm ⟨rfl, same⟩)
    | 6, _ => exact xg_zone6 hE hm (yg_zone6 hE hm ⟨rfl, same⟩)
    | j + 7, h => omega
  · unfold wpX_zoneData ir_XS
    refine xr_isName hm hN.2 (br_f ir_1ne (br_f h2 (br_f h3 ?_)))
    unfold wpY_zoneData ir_YS
    exact yr_isName hm hN.2 (br_f ir_1ne (br_f h2 (br_f h3 ⟨rfl, same⟩)))
theorem i_vc_cacheData {k : Nat} {u : SX} {v : SY} (I : i_Rel k u v) (hk : k + 4 ≤ 2052) (v1 : Int32) (v2 : Int32) : wpX_cacheData (fun r => wpY_cacheData (fun r' => r' = r ∧ i_Rel (k + 4) u v) v v1 v2) u v1 v2 := by
  refine ir_el (P := fun u v => wpX_cacheData (fun r => wpY_cacheData (fun r' => r' = r ∧ i_Rel (k + 4) u v) v v1 v2) u v1 v2) ?_ I
  intro e la ll zt vo li be ex ab ha ow ne hi lk ma de st qu fl ln lt vc vh vl vz vn ta yo an wn wz tl hE hT
  have same := ir_mk (k := k + 4) (la := la) (ll := ll) (zt := zt) (vo := vo) (li := li) (be := be) (ex := ex) (ab := ab) (ha := ha) (ow := ow) (ne := ne) (hi := hi) (lk := lk) (de := de) (st := st) (qu := qu) (fl := fl) (ln := ln) (lt := lt) (vc := vc) (vh := vh) (vl := vl) (vz := vz) (vn := vn) (ta := ta) (yo := yo) (an := an) (wn := wn) (wz := wz) hE hT
  have hN := ir_EI_N hE
  rcases ir_nm3 v1 hN.2 with h1 | ⟨m, hm, rfl⟩
  · unfold wpX_cacheData ir_XS
    refine xe_nm0 h1 (br_t rfl ?_)
    unfold wpY_cacheData ir_YS
    exact ye_nm0 h1 (br_t rfl ⟨rfl, same⟩)
  rcases Classical.em (v2 < 0) with h2 | h2
  · unfold wpX_cacheData ir_XS
    refine xr_isName hm hN.2 (br_f ir_1ne (br_t h2 ?_))
    unfold wpY_cacheData ir_YS
    exact yr_isName hm hN.2 (br_f ir_1ne (br_t h2 ⟨rfl, same⟩))
  rcases Classical.em (v2 ≤ 8) with h3 | h3
  · obtain ⟨j, hj, rfl⟩ := nI_of2 (M := 8) (n := 8) (by decide) h2 h3
    match j, hj with
    | 0, _ => exact xg_cache0 hE hm (yg_cache0 hE hm ⟨rfl, same⟩)
    | 1, _ => exact xg_cache1 hE hm (yg_cache1 hE hm ⟨rfl, same⟩)
    | 2, _ => exact xg_cache2 hE hm (yg_cache2 hE hm ⟨rfl, same⟩)
    | 3, _ => exact xg_cache3 hE hm (yg_cache3 hE hm ⟨rfl, same⟩)
    | 4, _ => exact xg_cache4 hE hm (yg_cache4 hE hm ⟨rfl, same⟩)
    | 5, _ => exact xg_cache5 hE hm (yg_cache5 hE hm ⟨rfl, same⟩)
    | 6, _ => exact xg_cache6 hE hm (yg_cache6 hE hm ⟨rfl, same⟩)
    | 7, _ => exact xg_cache7 hE hm (yg_cache7 hE hm ⟨rfl, same⟩)
    | 8, _ => exact xg_cache8 hE hm (yg_cache8 hE hm ⟨rfl, same⟩)
    | j + 9, h => omega
  · unfold wpX_cacheData ir_XS
    refine xr_isName hm hN.2 (br_f ir_1ne (br_f h2 (br_f h3 ?_)))
    unfold wpY_cacheData ir_YS
    exact yr_isName hm hN.2 (br_f ir_1ne (br_f h2 (br_f h3 ⟨rfl, same⟩)))
theorem i_vc_machineData {k : Nat} {u : SX} {v : SY} (I : i_Rel k u v) (hk : k + 4 ≤ 2052) (v1 : Int32) (v2 : Int32) : wpX_machineData (fun r => wpY_machineData (fun r' => r' = r ∧ i_Rel (k + 4) u v) v v1 v2) u v1 v2 := by
  refine ir_el (P := fun u v => wpX_machineData (fun r => wpY_machineData (fun r' => r' = r ∧ i_Rel (k + 4) u v) v v1 v2) u v1 v2) ?_ I
  intro e la ll zt vo li be ex ab ha ow ne hi lk ma de st qu fl ln lt vc vh vl vz vn ta yo an wn wz tl hE hT
  have same := ir_mk (k := k + 4) (la := la) (ll := ll) (zt := zt) (vo := vo) (li := li) (be := be) (ex := ex) (ab := ab) (ha := ha) (ow := ow) (ne := ne) (hi := hi) (lk := lk) (de := de) (st := st) (qu := qu) (fl := fl) (ln := ln) (lt := lt) (vc := vc) (vh := vh) (vl := vl) (vz := vz) (vn := vn) (ta := ta) (yo := yo) (an := an) (wn := wn) (wz := wz) hE hT
  have hN := ir_EI_N hE
  unfold wpX_machineData ir_XS
  dsimp only
  rcases ir_ma3 v1 with h1 | ⟨a, ha', rfl⟩
  · refine xe_ma0 h1 (br_t rfl ?_)
    unfold wpY_machineData ir_YS
    exact ⟨fun _ => ⟨rfl, same⟩, fun h0 => br_t (ir_6a (h1.resolve_left h0)).2.1 ⟨rfl, same⟩⟩
  have h6 : vp_in (nI a) 6 := vp_in_nI ha' (by omega)
  have Y : ∀ P : Int32 → Prop, ((v2 < 0 → P (-1)) ∧ (¬ v2 < 0 → ((v2 ≤ 2 → ((v2 = 0 → P (e_mo e a)) ∧ (¬ v2 = 0 → ((v2 = 1 → P (e_fn e a)) ∧ (¬ v2 = 1 → P (e_fa e a)))))) ∧ (¬ v2 ≤ 2 → P (-1))))) → wpY_machineData P (ir_YS e la ll vc vh vl vz vn ta yo an wn wz tl) (nI a) v2 := by
    intro P k1
    unfold wpY_machineData ir_YS
    dsimp only
    rw [nI_clamp (show a < 2 ^ 31 by omega)]
    exact br_f (ir_6b a ha').1 (br_f (ir_6b a ha').2.1 ⟨fun h => k1.1 h, fun h => ⟨fun h' => ⟨fun q => ⟨h6, ((k1.2 h).1 h').1 q⟩, fun q => ⟨fun w => ⟨h6, (((k1.2 h).1 h').2 q).1 w⟩, fun w => ⟨h6, (((k1.2 h).1 h').2 q).2 w⟩⟩⟩, fun h' => (k1.2 h).2 h'⟩⟩)
  rw [nI_clamp (show a < 2 ^ 31 by omega)]
  exact xe_ma1 ha' (br_f ir_1ne ⟨fun h => Y _ (br_t h ⟨rfl, same⟩), fun h => ⟨fun h' => ⟨fun q => ⟨h6, Y _ (br_f h (br_t h' (br_t q ⟨rfl, same⟩)))⟩, fun q => ⟨fun w => ⟨h6, Y _ (br_f h (br_t h' (br_f q (br_t w ⟨rfl, same⟩))))⟩, fun w => ⟨h6, Y _ (br_f h (br_t h' (br_f q (br_f w ⟨rfl, same⟩))))⟩⟩⟩, fun h' => Y _ (br_f h (br_f h' ⟨rfl, same⟩))⟩⟩)
theorem i_vc_query {k : Nat} {u : SX} {v : SY} (I : i_Rel k u v) (hk : k + 4 ≤ 2052) (v1 : Int32) : wpX_query (fun r u' => wpY_query (fun r' v' => r' = r ∧ i_Rel (k + 4) u' v') v v1) u v1 := by
  refine ir_el (P := fun u v => wpX_query (fun r u' => wpY_query (fun r' v' => r' = r ∧ i_Rel (k + 4) u' v') v v1) u v1) ?_ I
  intro e la ll zt vo li be ex ab ha ow ne hi lk ma de st qu fl ln lt vc vh vl vz vn ta yo an wn wz tl hE hT
  have same := ir_mk (k := k + 4) (la := la) (ll := ll) (zt := zt) (vo := vo) (li := li) (be := be) (ex := ex) (ab := ab) (ha := ha) (ow := ow) (ne := ne) (hi := hi) (lk := lk) (de := de) (st := st) (qu := qu) (fl := fl) (ln := ln) (lt := lt) (vc := vc) (vh := vh) (vl := vl) (vz := vz) (vn := vn) (ta := ta) (yo := yo) (an := an) (wn := wn) (wz := wz) hE hT
  have hN := ir_EI_N hE
  rcases ir_nm3 v1 hN.2 with h1 | ⟨n, hn, rfl⟩
  · unfold wpX_query ir_XS
    refine xe_nm0 h1 (br_t rfl ?_)
    unfold wpY_query ir_YS
    exact ye_nm0 h1 (br_t rfl ⟨rfl, same⟩)
  refine xq_query hE hn (fun vo' li' be' ex' ab' ha' ow' ne' hi' lk' ma' de' st' qu' fl' ln' lt' hO hA hTk => ?_)
  refine yq_query hE hn hO (fun vc' vh' vl' vz' vn' ta' yo' an' wn' wz' tl' la' hA' hTk' => ?_)
  have e1 : la' = ma' n := ir_bext (fun i _ => (hA' i).trans (hA i).symm)
  rw [e1]
  exact ⟨rfl, ir_mk (k := k + 4) (e := ir_ln e n ow' ne' hi') (ir_EI_ln hE hn hO) (fun z hz => ir_bext (fun i _ => (hTk z hz i).trans (hTk' z hz i).symm))⟩
end
