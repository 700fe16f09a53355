section
/-! pasted out of the kit's laws: COUNTS (counts, sums), BITS (bt), NUMBERS (order, literals, and/or, branch on a boolean) -/
/-! ===== how many places have a property ===== -/
def fb_ct (p : Nat → Bool) : Nat → Nat
  | 0 => 0
  | n + 1 => fb_ct p n + (if p n then 1 else 0)
theorem fb_ct_succ (p : Nat → Bool) (n : Nat) : fb_ct p (n + 1) = fb_ct p n + (if p n then 1 else 0) := rfl
theorem fb_ct_le (p : Nat → Bool) : ∀ n, fb_ct p n ≤ n
  | 0 => Nat.le_refl _
  | n + 1 => by
    have h := fb_ct_le p n
    rw [fb_ct_succ]
    split <;> omega
theorem fb_ct_step (p : Nat → Bool) (m : Nat) : ∀ n, fb_ct p m ≤ fb_ct p (m + n)
  | 0 => Nat.le_refl _
  | n + 1 => by
    have h := fb_ct_step p m n
    show fb_ct p m ≤ fb_ct p (m + n + 1)
    rw [fb_ct_succ]
    omega
theorem fb_ct_mono (p : Nat → Bool) {m n : Nat} (h : m ≤ n) : fb_ct p m ≤ fb_ct p n := by
  have := fb_ct_step p m (n - m)
  rwa [Nat.add_sub_cancel' h] at this
theorem fb_ct_cong {p q : Nat → Bool} : ∀ {n : Nat}, (∀ k, k < n → p k = q k) → fb_ct p n = fb_ct q n
  | 0, _ => rfl
  | n + 1, h => by
    rw [fb_ct_succ, fb_ct_succ, fb_ct_cong (fun k hk => h k (by omega)), h n (by omega)]
/-- one place changed -/
theorem fb_ct_out (p : Nat → Bool) (b : Bool) {i n : Nat} (h : n ≤ i) : fb_ct (fun k => if k = i then b else p k) n = fb_ct p n :=
  fb_ct_cong fun k hk => if_neg (by omega)
theorem fb_ct_upd (p : Nat → Bool) (b : Bool) {i : Nat} : ∀ {n : Nat}, i < n → fb_ct (fun k => if k = i then b else p k) n + (if p i then 1 else 0) = fb_ct p n + (if b then 1 else 0)
  | 0, h => absurd h (Nat.not_lt_zero i)
  | n + 1, h => by
    rw [fb_ct_succ, fb_ct_succ]
    rcases Nat.lt_or_ge i n with q | q
    · have := fb_ct_upd p b q
      have e : (if n = i then b else p n) = p n := if_neg (by omega)
      rw [e]
      omega
    · have e : i = n := by omega
      subst e
      rw [fb_ct_out p b (Nat.le_refl _)]
      simp only [if_true]
      omega
theorem fb_ct_sub {p q : Nat → Bool} : ∀ {n : Nat}, (∀ k, k < n → p k = true → q k = true) → fb_ct p n ≤ fb_ct q n
  | 0, _ => Nat.le_refl _
  | n + 1, h => by
    have h1 := fb_ct_sub (n := n) (p := p) (q := q) (fun k hk => h k (by omega))
    have h2 := h n (by omega)
    rw [fb_ct_succ, fb_ct_succ]
    cases hp : p n <;> cases hq : q n <;> simp_all <;> omega
theorem fb_ct_or {p q : Nat → Bool} : ∀ {n : Nat}, (∀ k, k < n → ¬ (p k = true ∧ q k = true)) → fb_ct (fun k => p k || q k) n = fb_ct p n + fb_ct q n
  | 0, _ => rfl
  | n + 1, h => by
    have h1 := fb_ct_or (n := n) (p := p) (q := q) (fun k hk => h k (by omega))
    have h2 := h n (by omega)
    rw [fb_ct_succ, fb_ct_succ, fb_ct_succ, h1]
    cases hp : p n <;> cases hq : q n <;> simp_all <;> omega
theorem fb_ct_not (p : Nat → Bool) : ∀ n, fb_ct p n + fb_ct (fun k => !p k) n = n
  | 0 => rfl
  | n + 1 => by
    have h := fb_ct_not p n
    rw [fb_ct_succ, fb_ct_succ]
    cases p n <;> simp <;> omega
theorem fb_ct_split (p : Nat → Bool) (m : Nat) : ∀ n, fb_ct p (m + n) = fb_ct p m + fb_ct (fun k => p (m + k)) n
  | 0 => rfl
  | n + 1 => by
    have h := fb_ct_split p m n
    show fb_ct p (m + n + 1) = _
    rw [fb_ct_succ, fb_ct_succ, h, Nat.add_assoc]
theorem fb_ct_zero {p : Nat → Bool} : ∀ {n : Nat}, fb_ct p n = 0 ↔ ∀ k, k < n → p k = false
  | 0 => ⟨fun _ k hk => absurd hk (Nat.not_lt_zero k), fun _ => rfl⟩
  | n + 1 => by
    have h := fb_ct_zero (p := p) (n := n)
    rw [fb_ct_succ]
    constructor
    · intro e k hk
      have e1 : fb_ct p n = 0 := by omega
      rcases Nat.lt_or_ge k n with q | q
      · exact h.mp e1 k q
      · have ek : k = n := by omega
        subst ek
        cases hp : p k
        · rfl
        · simp [hp] at e
    · intro a
      rw [h.mpr (fun k hk => a k (by omega)), a n (by omega)]
      rfl
theorem fb_ct_pos {p : Nat → Bool} {n : Nat} : 0 < fb_ct p n ↔ ∃ k, k < n ∧ p k = true := by
  constructor
  · intro h
    refine Classical.byContradiction fun hx => ?_
    have := fb_ct_zero.mpr (fun k hk => by
      cases hp : p k
      · rfl
      · exact absurd ⟨k, hk, hp⟩ hx : ∀ k, k < n → p k = false)
    omega
  · rintro ⟨k, hk, hp⟩
    rcases Nat.eq_zero_or_pos (fb_ct p n) with e | e
    · have := fb_ct_zero.mp e k hk
      rw [this] at hp
      cases hp
    · exact e
theorem fb_ct_all {p : Nat → Bool} {n : Nat} : fb_ct p n = n ↔ ∀ k, k < n → p k = true := by
  have h := fb_ct_not p n
  constructor
  · intro e k hk
    have z : fb_ct (fun k => !p k) n = 0 := by omega
    have := fb_ct_zero.mp z k hk
    cases hp : p k
    · simp [hp] at this
    · rfl
  · intro a
    have z : fb_ct (fun k => !p k) n = 0 := fb_ct_zero.mpr (fun k hk => by simp [a k hk])
    omega
/-- the k-th place with the property -/
theorem fb_ct_kth {p : Nat → Bool} {k : Nat} : ∀ {n : Nat}, k < fb_ct p n → ∃ i, i < n ∧ p i = true ∧ fb_ct p i = k
  | 0, h => absurd h (Nat.not_lt_zero k)
  | n + 1, h => by
    rcases Nat.lt_or_ge k (fb_ct p n) with q | q
    · obtain ⟨i, h1, h2⟩ := fb_ct_kth q
      exact ⟨i, by omega, h2⟩
    · rw [fb_ct_succ] at h
      cases hp : p n
      · simp [hp] at h; omega
      · simp [hp] at h
        exact ⟨n, by omega, hp, by omega⟩
theorem fb_ct_kth_one {p : Nat → Bool} {i j : Nat} (hi : p i = true) (hj : p j = true) (e : fb_ct p i = fb_ct p j) : i = j := by
  have key : ∀ a b : Nat, a < b → p a = true → fb_ct p a < fb_ct p b := by
    intro a b hab ha
    have h := fb_ct_mono p (show a + 1 ≤ b from hab)
    rw [fb_ct_succ, ha] at h
    simp at h
    omega
  rcases Nat.lt_trichotomy i j with q | q | q
  · have := key i j q hi; omega
  · exact q
  · have := key j i q hj; omega
/-! ===== sums over a range: one place changed, parts, bounds ===== -/
def fb_sm (f : Nat → Nat) : Nat → Nat
  | 0 => 0
  | n + 1 => fb_sm f n + f n
theorem fb_sm_succ (f : Nat → Nat) (n : Nat) : fb_sm f (n + 1) = fb_sm f n + f n := rfl
theorem fb_sm_cong {f g : Nat → Nat} : ∀ {n : Nat}, (∀ k, k < n → f k = g k) → fb_sm f n = fb_sm g n
  | 0, _ => rfl
  | n + 1, h => by rw [fb_sm_succ, fb_sm_succ, fb_sm_cong (fun k hk => h k (by omega)), h n (by omega)]
theorem fb_sm_out (f : Nat → Nat) (v : Nat) {i n : Nat} (h : n ≤ i) : fb_sm (fun k => if k = i then v else f k) n = fb_sm f n :=
  fb_sm_cong fun k hk => if_neg (by omega)
theorem fb_sm_upd (f : Nat → Nat) (v : Nat) {i : Nat} : ∀ {n : Nat}, i < n → fb_sm (fun k => if k = i then v else f k) n + f i = fb_sm f n + v
  | 0, h => absurd h (Nat.not_lt_zero i)
  | n + 1, h => by
    rw [fb_sm_succ, fb_sm_succ]
    rcases Nat.lt_or_ge i n with q | q
    · have := fb_sm_upd f v q
      have e : (if n = i then v else f n) = f n := if_neg (by omega)
      rw [e]
      omega
    · have e : i = n := by omega
      subst e
      rw [fb_sm_out f v (Nat.le_refl _)]
      simp only [if_true]
      omega
theorem fb_sm_add (f g : Nat → Nat) : ∀ n, fb_sm (fun k => f k + g k) n = fb_sm f n + fb_sm g n
  | 0 => rfl
  | n + 1 => by
    have h := fb_sm_add f g n
    rw [fb_sm_succ, fb_sm_succ, fb_sm_succ, h]
    omega
theorem fb_sm_le {f g : Nat → Nat} : ∀ {n : Nat}, (∀ k, k < n → f k ≤ g k) → fb_sm f n ≤ fb_sm g n
  | 0, _ => Nat.le_refl _
  | n + 1, h => by
    have h1 := fb_sm_le (n := n) (f := f) (g := g) (fun k hk => h k (by omega))
    have h2 := h n (by omega)
    rw [fb_sm_succ, fb_sm_succ]
    omega
theorem fb_sm_const (c : Nat) : ∀ n, fb_sm (fun _ => c) n = n * c
  | 0 => by rw [Nat.zero_mul]; rfl
  | n + 1 => by rw [fb_sm_succ, fb_sm_const c n, Nat.succ_mul]
theorem fb_sm_bound {f : Nat → Nat} {c n : Nat} (h : ∀ k, k < n → f k ≤ c) : fb_sm f n ≤ n * c := by
  rw [← fb_sm_const c n]
  exact fb_sm_le h
theorem fb_sm_mono (f : Nat → Nat) (m : Nat) : ∀ n, fb_sm f m ≤ fb_sm f (m + n)
  | 0 => Nat.le_refl _
  | n + 1 => by
    have h := fb_sm_mono f m n
    show fb_sm f m ≤ fb_sm f (m + n + 1)
    rw [fb_sm_succ]
    omega
theorem fb_sm_part (f : Nat → Nat) {i n : Nat} (h : i < n) : fb_sm f i + f i ≤ fb_sm f n := by
  have := fb_sm_mono f (i + 1) (n - (i + 1))
  rw [fb_sm_succ, show i + 1 + (n - (i + 1)) = n by omega] at this
  exact this
theorem fb_sm_split (f : Nat → Nat) (m : Nat) : ∀ n, fb_sm f (m + n) = fb_sm f m + fb_sm (fun k => f (m + k)) n
  | 0 => rfl
  | n + 1 => by
    have h := fb_sm_split f m n
    show fb_sm f (m + n + 1) = _
    rw [fb_sm_succ, fb_sm_succ, h, Nat.add_assoc]
theorem fb_sm_zero {f : Nat → Nat} {n : Nat} (h : fb_sm f n = 0) : ∀ k, k < n → f k = 0 := fun k hk => by
  have := fb_sm_part f hk
  omega
/-! ===== Int32 by its bits: bt x i ===== -/
def bt (x : Int32) (i : Nat) : Bool := x.toBitVec.getLsbD i
theorem b_ext {x y : Int32} (h : ∀ i, i < 32 → bt x i = bt y i) : x = y := Int32.toBitVec_inj.mp (BitVec.eq_of_getLsbD_eq (fun i hi => h i hi))
theorem b_or (x y : Int32) (i : Nat) : bt (x ||| y) i = (bt x i || bt y i) := by unfold bt; rw [Int32.toBitVec_or, BitVec.getLsbD_or]
theorem b_and (x y : Int32) (i : Nat) : bt (x &&& y) i = (bt x i && bt y i) := by unfold bt; rw [Int32.toBitVec_and, BitVec.getLsbD_and]
theorem b_xor (x y : Int32) (i : Nat) : bt (x ^^^ y) i = (bt x i ^^ bt y i) := by unfold bt; rw [Int32.toBitVec_xor, BitVec.getLsbD_xor]
theorem b_big {x : Int32} {i : Nat} (h : 32 ≤ i) : bt x i = false := BitVec.getLsbD_of_ge _ _ h
theorem b_255 (i : Nat) : bt 255 i = decide (i < 8) := by
  rcases Nat.lt_or_ge i 32 with h | h
  · exact (by decide +kernel : ∀ i, i < 32 → bt 255 i = decide (i < 8)) i h
  · rw [b_big h, decide_eq_false (by omega)]
theorem b_65535 (i : Nat) : bt 65535 i = decide (i < 16) := by
  rcases Nat.lt_or_ge i 32 with h | h
  · exact (by decide +kernel : ∀ i, i < 32 → bt 65535 i = decide (i < 16)) i h
  · rw [b_big h, decide_eq_false (by omega)]
theorem b_m1 : ∀ i, i < 32 → bt (-1) i = true := by decide +kernel
theorem b_0 (i : Nat) : bt 0 i = false := BitVec.getLsbD_zero
theorem s_l : ∀ n, n < 32 → ((nI n &&& 31).toBitVec.smod 32).toNat = n := by decide +kernel
theorem s_u : ∀ n, n < 32 → (((nI n).toUInt32 &&& Int32.toUInt32 31).toBitVec % 32).toNat = n := by decide +kernel
theorem b_shl (n : Nat) (hn : n < 32) (x : Int32) {i : Nat} (hi : i < 32) : bt (x <<< (nI n &&& 31)) i = (decide (n ≤ i) && bt x (i - n)) := by
  unfold bt
  rw [Int32.toBitVec_shiftLeft]
  show (x.toBitVec <<< ((nI n &&& 31).toBitVec.smod 32).toNat).getLsbD i = _
  rw [s_l n hn, BitVec.getLsbD_shiftLeft]
  rcases Nat.lt_or_ge i n with h | h
  · simp [h, Nat.not_le.mpr h]
  · simp [hi, h, Nat.not_lt.mpr h]
theorem b_ushr (n : Nat) (hn : n < 32) (x : Int32) (i : Nat) : bt ((x.toUInt32 >>> ((nI n).toUInt32 &&& Int32.toUInt32 31)).toInt32) i = bt x (n + i) := by
  show (x.toUInt32 >>> ((nI n).toUInt32 &&& Int32.toUInt32 31)).toBitVec.getLsbD i = x.toUInt32.toBitVec.getLsbD (n + i)
  rw [UInt32.toBitVec_shiftRight]
  show (x.toUInt32.toBitVec >>> (((nI n).toUInt32 &&& Int32.toUInt32 31).toBitVec % 32).toNat).getLsbD i = _
  rw [s_u n hn, BitVec.getLsbD_ushiftRight]
theorem b_sshr (n : Nat) (hn : n < 32) (x : Int32) {i : Nat} (hi : i < 32) : bt (x >>> (nI n &&& 31)) i = if n + i < 32 then bt x (n + i) else bt x 31 := by
  unfold bt
  rw [Int32.toBitVec_shiftRight]
  show (x.toBitVec.sshiftRight ((nI n &&& 31).toBitVec.smod 32).toNat).getLsbD i = _
  rw [s_l n hn, BitVec.getLsbD_sshiftRight, BitVec.msb_eq_getLsbD_last]
  simp [hi]
theorem b_shl8 (x : Int32) {i : Nat} (hi : i < 32) : bt (x <<< ((8 : Int32) &&& 31)) i = (decide (8 ≤ i) && bt x (i - 8)) := b_shl 8 (by omega) x hi
theorem b_shl16 (x : Int32) {i : Nat} (hi : i < 32) : bt (x <<< ((16 : Int32) &&& 31)) i = (decide (16 ≤ i) && bt x (i - 16)) := b_shl 16 (by omega) x hi
theorem b_shl24 (x : Int32) {i : Nat} (hi : i < 32) : bt (x <<< ((24 : Int32) &&& 31)) i = (decide (24 ≤ i) && bt x (i - 24)) := b_shl 24 (by omega) x hi
theorem b_sshr8 (x : Int32) {i : Nat} (hi : i < 32) : bt (x >>> ((8 : Int32) &&& 31)) i = if 8 + i < 32 then bt x (8 + i) else bt x 31 := b_sshr 8 (by omega) x hi
/-! ===== order of ints, in all its forms, and through longs ===== -/
theorem fa_lt (a b : Int32) : a < b ↔ a.toInt < b.toInt := Int32.lt_iff_toInt_lt
theorem fa_le (a b : Int32) : a ≤ b ↔ a.toInt ≤ b.toInt := Int32.le_iff_toInt_le
theorem fa_eq (a b : Int32) : a = b ↔ a.toInt = b.toInt := Int32.toInt_inj.symm
theorem fa_lt64 (a b : Int64) : a < b ↔ a.toInt < b.toInt := Int64.lt_iff_toInt_lt
theorem fa_le64 (a b : Int64) : a ≤ b ↔ a.toInt ≤ b.toInt := Int64.le_iff_toInt_le
theorem fa_eq64 (a b : Int64) : a = b ↔ a.toInt = b.toInt := Int64.toInt_inj.symm
/-- a comparison of two ints taken as longs -/
theorem fa_wide_lt (a b : Int32) : a.toInt64 < b.toInt64 ↔ a < b := by rw [fa_lt64, fa_lt, Int32.toInt_toInt64, Int32.toInt_toInt64]
theorem fa_wide_le (a b : Int32) : a.toInt64 ≤ b.toInt64 ↔ a ≤ b := by rw [fa_le64, fa_le, Int32.toInt_toInt64, Int32.toInt_toInt64]
theorem fa_wide_eq (a b : Int32) : a.toInt64 = b.toInt64 ↔ a = b := by rw [fa_eq64, fa_eq, Int32.toInt_toInt64, Int32.toInt_toInt64]
/-- one strict comparison gives all the others -/
theorem fa_of_lt {a b : Int32} (h : a < b) : a ≤ b ∧ ¬ b ≤ a ∧ ¬ b < a ∧ a ≠ b ∧ b ≠ a := by
  rw [fa_lt] at h
  refine ⟨?_, ?_, ?_, ?_, ?_⟩
  · rw [fa_le]; omega
  · rw [fa_le]; omega
  · rw [fa_lt]; omega
  · intro e; rw [fa_eq] at e; omega
  · intro e; rw [fa_eq] at e; omega
theorem fa_of_nlt {a b : Int32} (h : ¬ a < b) : b ≤ a := by
  rw [fa_lt] at h
  rw [fa_le]
  omega
theorem fa_of_nle {a b : Int32} (h : ¬ a ≤ b) : b < a := by
  rw [fa_le] at h
  rw [fa_lt]
  omega
theorem fa_le_ne {a b : Int32} (h : a ≤ b) (h2 : a ≠ b) : a < b := by
  rw [fa_le] at h
  rw [fa_lt]
  have h3 : a.toInt ≠ b.toInt := fun e => h2 ((fa_eq a b).mpr e)
  omega
theorem fa_three (a b : Int32) : a < b ∨ a = b ∨ b < a := by
  rw [fa_lt, fa_lt, fa_eq]
  omega
theorem fa_trans {a b c : Int32} (h : a < b) (h2 : b ≤ c) : a < c := by
  rw [fa_lt] at *
  rw [fa_le] at h2
  omega
/-! ===== small literals as numbers ===== -/
theorem fa_lit (n : Nat) : (OfNat.ofNat n : Int32) = nI n := rfl
theorem fa_litL (n : Nat) : (OfNat.ofNat n : Int64) = lN n := rfl
/-! ===== bits of a number: 'or', masks, one bit ===== -/
theorem fa_and (a b : Nat) : nI a &&& nI b = nI (a &&& b) := by
  apply Int32.toBitVec_inj.1
  show BitVec.ofNat 32 a &&& BitVec.ofNat 32 b = BitVec.ofNat 32 (a &&& b)
  apply BitVec.eq_of_getLsbD_eq
  intro i hi
  simp [hi]
theorem fa_or (a b : Nat) : nI a ||| nI b = nI (a ||| b) := by
  apply Int32.toBitVec_inj.1
  show BitVec.ofNat 32 a ||| BitVec.ofNat 32 b = BitVec.ofNat 32 (a ||| b)
  apply BitVec.eq_of_getLsbD_eq
  intro i hi
  simp [hi]
/-- a remainder by a power of two, as a mask -/
theorem fa_mask (n k : Nat) : nI n &&& nI (2 ^ k - 1) = nI (n % 2 ^ k) := by rw [fa_and, Nat.and_two_pow_sub_one_eq_mod]
/-- 'or' of a high part and a low one that don't meet is their sum -/
theorem fa_or_sum {a k : Nat} (b : Nat) (h : a < 2 ^ k) : nI (2 ^ k * b) ||| nI a = nI (2 ^ k * b + a) := by rw [fa_or, Nat.two_pow_add_eq_or_of_lt h]
/-! ===== an answer carried into a post; a branch on a boolean answer ===== -/
theorem fa_post {α : Type} {P : α → Prop} {x y : α} (h : x = y) (hp : P y) : P x := h ▸ hp
theorem fa_post2 {α β : Type} {P : α → β → Prop} {x y : α} {u v : β} (h : x = y) (h2 : u = v) (hp : P y v) : P x u := h ▸ h2 ▸ hp
theorem fa_bool {r : Int32} {b : Bool} (h : r = if b then 1 else 0) : (r = 0 ↔ b = false) ∧ (¬ r = 0 ↔ b = true) := by
  subst h
  cases b
  · exact ⟨⟨fun _ => rfl, fun _ => rfl⟩, ⟨fun h => absurd rfl h, fun h => absurd h (by decide)⟩⟩
  · exact ⟨⟨fun h => absurd h (by decide), fun h => absurd h (by decide)⟩, ⟨fun _ => rfl, fun _ => by decide⟩⟩
/-- a boolean's narrowing changes nothing -/
theorem fa_bool_and {r : Int32} (h : r = 0 ∨ r = 1) : r &&& 1 = r := by
  rcases h with rfl | rfl
  · decide
  · decide
theorem fa_bool_prop {c : Prop} [Decidable c] {r : Int32} (h : r = if c then 1 else 0) : (r = 0 ↔ ¬ c) ∧ (¬ r = 0 ↔ c) := by
  subst h
  by_cases hc : c
  · rw [if_pos hc]
    exact ⟨⟨fun h => absurd h (by decide), fun h => absurd hc h⟩, ⟨fun _ => hc, fun _ => by decide⟩⟩
  · rw [if_neg hc]
    exact ⟨⟨fun _ => hc, fun _ => rfl⟩, ⟨fun h => absurd rfl h, fun h => absurd h hc⟩⟩
end
section
/-! PURE: lines with room between 11 points, at 11 * from + to; cuts; a push along a line; a flow sent along a shortest way -/
def cl_up (R : Nat → Nat) (k v : Nat) : Nat → Nat := fun j => if j = k then v else R j
theorem cl_up_s (R : Nat → Nat) (k v : Nat) : cl_up R k v k = v := if_pos rfl
theorem cl_up_n (R : Nat → Nat) {k j : Nat} (v : Nat) (h : j ≠ k) : cl_up R k v j = R j := if_neg h
/-- the line k goes out of the set S -/
def cl_in (S : Nat → Bool) (k : Nat) : Bool := S (k / 11) && !S (k % 11)
def cl_cut (R : Nat → Nat) (S : Nat → Bool) : Nat := fb_sm (fun k => if cl_in S k then R k else 0) 121
theorem cl_in_ix (S : Nat → Bool) {a b : Nat} (hb : b < 11) : cl_in S (11 * a + b) = (S a && !S b) := by
  unfold cl_in
  rw [show (11 * a + b) / 11 = a by omega, show (11 * a + b) % 11 = b by omega]
theorem cl_cut_up (R : Nat → Nat) (S : Nat → Bool) {k : Nat} (v : Nat) (hk : k < 121) :
    cl_cut (cl_up R k v) S + (if cl_in S k then R k else 0) = cl_cut R S + (if cl_in S k then v else 0) := by
  have h := fb_sm_upd (fun j => if cl_in S j then R j else 0) (if cl_in S k then v else 0) (i := k) (n := 121) hk
  have e : (fun j => if cl_in S j then cl_up R k v j else 0) = (fun j => if j = k then (if cl_in S k then v else 0) else (fun j => if cl_in S j then R j else 0) j) := by
    funext j
    by_cases hj : j = k
    · subst hj
      rw [cl_up_s, if_pos rfl]
    · rw [cl_up_n R v hj, if_neg hj]
  unfold cl_cut
  rw [e]
  exact h
theorem cl_cut_cong (R : Nat → Nat) {S S' : Nat → Bool} (h : ∀ p, p < 11 → S p = S' p) : cl_cut R S = cl_cut R S' := by
  unfold cl_cut
  refine fb_sm_cong fun k hk => ?_
  unfold cl_in
  rw [h (k / 11) (by omega), h (k % 11) (by omega)]
theorem cl_cut_congR {R R' : Nat → Nat} (S : Nat → Bool) (h : ∀ k, k < 121 → R k = R' k) : cl_cut R S = cl_cut R' S := by
  unfold cl_cut
  refine fb_sm_cong fun k hk => ?_
  rw [h k hk]
/-- a cut is empty just if no line with room goes out of it -/
theorem cl_cut_zero {R : Nat → Nat} {S : Nat → Bool} : cl_cut R S = 0 ↔ ∀ a b, a < 11 → b < 11 → S a = true → 0 < R (11 * a + b) → S b = true := by
  constructor
  · intro h a b ha hb hS hR
    have h1 := fb_sm_zero h (11 * a + b) (by omega)
    have h2 : (if cl_in S (11 * a + b) then R (11 * a + b) else 0) = 0 := h1
    rw [cl_in_ix S hb, hS] at h2
    cases hb2 : S b with
    | true => rfl
    | false =>
      rw [hb2] at h2
      simp at h2
      omega
  · intro h
    unfold cl_cut
    have : fb_sm (fun k => if cl_in S k then R k else 0) 121 ≤ 121 * 0 := fb_sm_bound (fun k hk => by
      have hk2 : k = 11 * (k / 11) + k % 11 := by omega
      show (if cl_in S k then R k else 0) ≤ 0
      cases hin : cl_in S k with
      | false => simp
      | true =>
        unfold cl_in at hin
        rw [Bool.and_eq_true] at hin
        have h3 := h (k / 11) (k % 11) (by omega) (by omega) hin.1
        rw [← hk2] at h3
        rcases Nat.eq_zero_or_pos (R k) with h4 | h4
        · rw [h4]; simp
        · have h5 := h3 h4
          rw [h5] at hin
          simp at hin)
    omega
/-- F pushed along the line from f to t -/
def cl_push (R : Nat → Nat) (F f t : Nat) : Nat → Nat := cl_up (cl_up R (11 * f + t) (R (11 * f + t) - F)) (11 * t + f) (cl_up R (11 * f + t) (R (11 * f + t) - F) (11 * t + f) + F)
theorem cl_push_eq (R : Nat → Nat) (F : Nat) {f t a b : Nat} (hf : f < 11) (ht : t < 11) (hne : f ≠ t) (ha : a < 11) (hb : b < 11) :
    cl_push R F f t (11 * a + b) = if a = f ∧ b = t then R (11 * a + b) - F else if a = t ∧ b = f then R (11 * a + b) + F else R (11 * a + b) := by
  unfold cl_push
  by_cases h1 : a = f ∧ b = t
  · obtain ⟨rfl, rfl⟩ := h1
    rw [if_pos ⟨rfl, rfl⟩, cl_up_n _ _ (by omega), cl_up_s]
  · rw [if_neg h1]
    by_cases h2 : a = t ∧ b = f
    · obtain ⟨rfl, rfl⟩ := h2
      rw [if_pos ⟨rfl, rfl⟩, cl_up_s, cl_up_n _ _ (by omega)]
    · rw [if_neg h2, cl_up_n _ _ (by omega), cl_up_n _ _ (by omega)]
theorem cl_push_cut (R : Nat → Nat) (S : Nat → Bool) {F f t : Nat} (hf : f < 11) (ht : t < 11) (hne : f ≠ t) (hF : F ≤ R (11 * f + t)) :
    cl_cut (cl_push R F f t) S + (if S f && !S t then F else 0) = cl_cut R S + (if S t && !S f then F else 0) := by
  have h1 := cl_cut_up R S (R (11 * f + t) - F) (k := 11 * f + t) (by omega)
  have h2 := cl_cut_up (cl_up R (11 * f + t) (R (11 * f + t) - F)) S (cl_up R (11 * f + t) (R (11 * f + t) - F) (11 * t + f) + F) (k := 11 * t + f) (by omega)
  rw [cl_in_ix S ht] at h1
  rw [cl_in_ix S hf] at h2
  unfold cl_push
  cases hsf : S f <;> cases hst : S t <;> simp [hsf, hst] at h1 h2 ⊢ <;> omega
/-- the way back from the far end 10, point by point -/
def cl_it (P : Nat → Nat) : Nat → Nat
  | 0 => 10
  | j + 1 => P (cl_it P j)
/-- what a search from st leaves: D distances (12: not reached), P from where -/
def cl_TreeS (st : Nat) (R D P : Nat → Nat) : Prop := D st = 0 ∧ (∀ a b, a < 11 → b < 11 → 0 < R (11 * a + b) → D b ≤ D a + 1) ∧
  (∀ p, p < 11 → D p = 12 ∨ (D p ≤ 10 ∧ P p < 11 ∧ (p ≠ st → 0 < R (11 * P p + p) ∧ D p = D (P p) + 1)))
abbrev cl_Tree (R D P : Nat → Nat) : Prop := cl_TreeS 9 R D P
theorem cl_it_ok {R D P : Nat → Nat} (h : cl_Tree R D P) (h10 : D 10 ≤ 10) : ∀ j, j ≤ D 10 → cl_it P j < 11 ∧ D (cl_it P j) + j = D 10
  | 0, _ => ⟨by show 10 < 11; decide, rfl⟩
  | j + 1, hj => by
    obtain ⟨h1, h2⟩ := cl_it_ok h h10 j (by omega)
    have hne : cl_it P j ≠ 9 := fun e => by
      have := h.1
      rw [e] at h2
      omega
    rcases h.2.2 _ h1 with h3 | ⟨h3, h4, h5⟩
    · omega
    · have h6 := (h5 hne).2
      refine ⟨h4, ?_⟩
      show D (P (cl_it P j)) + (j + 1) = D 10
      omega
/-- a step of the way: the line from P(at) to at -/
theorem cl_it_st {R D P : Nat → Nat} (h : cl_Tree R D P) (h10 : D 10 ≤ 10) {j : Nat} (hj : j < D 10) :
    cl_it P j < 11 ∧ cl_it P j ≠ 9 ∧ P (cl_it P j) < 11 ∧ P (cl_it P j) ≠ cl_it P j ∧ 0 < R (11 * P (cl_it P j) + cl_it P j) ∧ D (cl_it P j) = D (P (cl_it P j)) + 1 ∧ D (cl_it P j) + j = D 10 := by
  obtain ⟨h1, h2⟩ := cl_it_ok h h10 j (by omega)
  have hne : cl_it P j ≠ 9 := fun e => by
    have := h.1
    rw [e] at h2
    omega
  rcases h.2.2 _ h1 with h3 | ⟨h3, h4, h5⟩
  · omega
  · obtain ⟨h6, h7⟩ := h5 hne
    exact ⟨h1, hne, h4, fun e => by rw [e] at h7; omega, h6, h7, h2⟩
theorem cl_it_end {R D P : Nat → Nat} (h : cl_Tree R D P) (h10 : D 10 ≤ 10) : cl_it P (D 10) = 9 := by
  obtain ⟨h1, h2⟩ := cl_it_ok h h10 (D 10) (Nat.le_refl _)
  by_cases hne : cl_it P (D 10) = 9
  · exact hne
  · rcases h.2.2 _ h1 with h3 | ⟨h3, h4, h5⟩
    · omega
    · have := (h5 hne).2
      omega
/-- d: a height that no line with room climbs by more than one -/
def cl_Pot (R d : Nat → Nat) : Prop := d 9 = 0 ∧ ∀ a b, a < 11 → b < 11 → 0 < R (11 * a + b) → d b ≤ d a + 1
theorem cl_tree_pot {R D P : Nat → Nat} (h : cl_Tree R D P) : cl_Pot R D := ⟨h.1, h.2.1⟩
theorem cl_pot_le {R D P d : Nat → Nat} (h : cl_Tree R D P) (hd : cl_Pot R d) : ∀ n p, p < 11 → D p = n → n ≤ 10 → d p ≤ n
  | 0, p, hp, hn, _ => by
    by_cases h9 : p = 9
    · rw [h9, hd.1]; exact Nat.le_refl _
    · rcases h.2.2 p hp with h3 | ⟨h3, h4, h5⟩
      · omega
      · have := (h5 h9).2
        omega
  | n + 1, p, hp, hn, hle => by
    by_cases h9 : p = 9
    · rw [h9, hd.1]; exact Nat.zero_le _
    · rcases h.2.2 p hp with h3 | ⟨h3, h4, h5⟩
      · omega
      · obtain ⟨h6, h7⟩ := h5 h9
        have h8 := cl_pot_le h hd n (P p) h4 (by omega) (by omega)
        have h10 := hd.2 (P p) p h4 hp h6
        omega
theorem cl_pot_ge {R D P d : Nat → Nat} (h : cl_Tree R D P) (h10 : D 10 ≤ 10) (hd : cl_Pot R d) : ∀ j, j ≤ D 10 → d 10 ≤ d (cl_it P j) + j
  | 0, _ => Nat.le_refl _
  | j + 1, hj => by
    have h1 := cl_pot_ge h h10 hd j (by omega)
    obtain ⟨h2, -, h4, -, h6, -, -⟩ := cl_it_st h h10 (j := j) (by omega)
    have h7 := hd.2 _ _ h4 h2 h6
    show d 10 ≤ d (P (cl_it P j)) + (j + 1)
    omega
theorem cl_pot_eq {R D P d : Nat → Nat} (h : cl_Tree R D P) (h10 : D 10 ≤ 10) (hd : cl_Pot R d) (he : d 10 = D 10) {j : Nat} (hj : j ≤ D 10) : d (cl_it P j) = D (cl_it P j) := by
  obtain ⟨h1, h2⟩ := cl_it_ok h h10 j hj
  have h3 := cl_pot_le h hd _ _ h1 rfl (by omega)
  have h4 := cl_pot_ge h h10 hd j hj
  omega
/-- the room while a flow F is sent along the way back: j lines are done -/
def cl_Aug (R0 D P d : Nat → Nat) (F y j : Nat) (R : Nat → Nat) : Prop :=
  (∀ a b, a < 11 → b < 11 → (D a < D (cl_it P j) ∨ D b < D (cl_it P j)) → R (11 * a + b) = R0 (11 * a + b)) ∧
  (∀ a b, a < 11 → b < 11 → R (11 * a + b) + R (11 * b + a) = R0 (11 * a + b) + R0 (11 * b + a)) ∧
  (∀ a b, a < 11 → b < 11 → 0 < R (11 * a + b) → 0 < R0 (11 * a + b) ∨ d a = d b + 1) ∧
  (D (cl_it P j) < D (cl_it P y) → R (11 * P (cl_it P y) + cl_it P y) = 0) ∧
  (∀ S : Nat → Bool, S 10 = false → cl_cut R S + (if S (cl_it P j) then F else 0) = cl_cut R0 S)
theorem cl_aug_0 {R0 D P d : Nat → Nat} {F y : Nat} (h : cl_Tree R0 D P) (h10 : D 10 ≤ 10) (hy : y < D 10) : cl_Aug R0 D P d F y 0 R0 := by
  refine ⟨fun _ _ _ _ _ => rfl, fun _ _ _ _ => rfl, fun _ _ _ _ h => Or.inl h, fun h1 => ?_, fun S hS => ?_⟩
  · obtain ⟨h2, h3⟩ := cl_it_ok h h10 y (by omega)
    have : D (cl_it P 0) = D 10 := rfl
    omega
  · show cl_cut R0 S + (if S 10 then F else 0) = _
    rw [hS]
    simp
theorem cl_aug_1 {R0 D P d R : Nat → Nat} {F y j : Nat} (h : cl_Tree R0 D P) (h10 : D 10 ≤ 10) (hd : cl_Pot R0 d) (he : d 10 = D 10)
    (hF : ∀ i, i < D 10 → F ≤ R0 (11 * P (cl_it P i) + cl_it P i)) (hy : y < D 10) (hyF : R0 (11 * P (cl_it P y) + cl_it P y) = F) (hj : j < D 10)
    (A : cl_Aug R0 D P d F y j R) : cl_Aug R0 D P d F y (j + 1) (cl_push R F (P (cl_it P j)) (cl_it P j)) ∧ F ≤ R (11 * P (cl_it P j) + cl_it P j) := by
  obtain ⟨t1, -, f1, hne, -, hDt, hDj⟩ := cl_it_st h h10 hj
  obtain ⟨y1, -, yP, -, -, hDy, hDyj⟩ := cl_it_st h h10 hy
  have hdt := cl_pot_eq h h10 hd he (j := j) (by omega)
  have hdf := cl_pot_eq h h10 hd he (j := j + 1) (by omega)
  have hFj := hF j hj
  have hit : cl_it P (j + 1) = P (cl_it P j) := rfl
  rw [hit] at hdf
  have hty : D (cl_it P j) = D (cl_it P y) → cl_it P y = cl_it P j := fun e => by
    have : y = j := by omega
    rw [this]
  obtain ⟨A1, A2, A3, A4, A5⟩ := A
  unfold cl_Aug
  rw [hit]
  generalize cl_it P j = t at *
  generalize hPt : P t = f at *
  generalize hyy : cl_it P y = z at *
  have hun : R (11 * f + t) = R0 (11 * f + t) := A1 f t f1 t1 (Or.inl (by omega))
  refine ⟨⟨fun a b ha hb hab => ?_, fun a b ha hb => ?_, fun a b ha hb hab => ?_, fun hz => ?_, fun S hS => ?_⟩, by omega⟩
  · have q := A1 a b ha hb (by omega)
    rw [cl_push_eq R F f1 t1 hne ha hb, if_neg (fun e => by rw [e.1, e.2] at hab; omega), if_neg (fun e => by rw [e.1, e.2] at hab; omega)]
    exact q
  · have q := A2 a b ha hb
    rw [cl_push_eq R F f1 t1 hne ha hb, cl_push_eq R F f1 t1 hne hb ha]
    by_cases c1 : a = f ∧ b = t
    · obtain ⟨rfl, rfl⟩ := c1
      rw [if_pos ⟨rfl, rfl⟩, if_neg (fun e => hne e.2), if_pos ⟨rfl, rfl⟩]
      omega
    · by_cases c2 : a = t ∧ b = f
      · obtain ⟨rfl, rfl⟩ := c2
        rw [if_neg c1, if_pos ⟨rfl, rfl⟩, if_pos ⟨rfl, rfl⟩]
        omega
      · rw [if_neg c1, if_neg c2, if_neg (fun e => c2 ⟨e.2, e.1⟩), if_neg (fun e => c1 ⟨e.2, e.1⟩)]
        exact q
  · rw [cl_push_eq R F f1 t1 hne ha hb] at hab
    by_cases c1 : a = f ∧ b = t
    · rw [if_pos c1] at hab
      exact A3 a b ha hb (by omega)
    · rw [if_neg c1] at hab
      by_cases c2 : a = t ∧ b = f
      · rw [c2.1, c2.2]
        exact Or.inr (by omega)
      · rw [if_neg c2] at hab
        exact A3 a b ha hb hab
  · rw [cl_push_eq R F f1 t1 hne yP y1]
    by_cases c : D t < D z
    · have q := A4 c
      rw [if_neg (fun e => by rw [e.2] at c; omega), if_neg (fun e => by rw [e.2] at c; omega)]
      exact q
    · have e := hty (by omega)
      subst e
      rw [hPt] at hyF ⊢
      rw [if_pos ⟨rfl, rfl⟩]
      omega
  · have q := cl_push_cut R S (F := F) f1 t1 hne (by omega)
    have q5 := A5 S hS
    cases hf : S f <;> cases ht : S t <;> simp [hf, ht] at q q5 ⊢ <;> omega
/-- tight lines with room -/
def cl_T (R d : Nat → Nat) : Nat := fb_ct (fun k => decide (0 < R k) && decide (d (k % 11) = d (k / 11) + 1)) 121
theorem cl_T_le {R d : Nat → Nat} (hd : d 9 = 0) : cl_T R d ≤ 100 := by
  have h : fb_ct (fun k => decide (k / 11 ≠ k % 11) && decide (k % 11 ≠ 9)) 121 = 100 := by decide +kernel
  rw [← h]
  refine fb_ct_sub fun k hk hp => ?_
  simp only [Bool.and_eq_true, decide_eq_true_eq] at hp ⊢
  refine ⟨fun e => ?_, fun e => ?_⟩
  · rw [e] at hp; omega
  · rw [e, hd] at hp; omega
theorem cl_T_pos {R d : Nat → Nat} {a b : Nat} (ha : a < 11) (hb : b < 11) (h : 0 < R (11 * a + b)) (hd : d b = d a + 1) : 0 < cl_T R d := by
  refine fb_ct_pos.mpr ⟨11 * a + b, by omega, ?_⟩
  simp only [Bool.and_eq_true, decide_eq_true_eq]
  rw [show (11 * a + b) / 11 = a by omega, show (11 * a + b) % 11 = b by omega]
  exact ⟨h, hd⟩
theorem cl_T_lt {R R' d : Nat → Nat} {a b : Nat} (ha : a < 11) (hb : b < 11) (h : 0 < R (11 * a + b)) (hd : d b = d a + 1) (h0 : R' (11 * a + b) = 0)
    (hs : ∀ a b, a < 11 → b < 11 → 0 < R' (11 * a + b) → 0 < R (11 * a + b) ∨ d a = d b + 1) : cl_T R' d + 1 ≤ cl_T R d := by
  have e1 : (11 * a + b) / 11 = a := by omega
  have e2 : (11 * a + b) % 11 = b := by omega
  have h1 := fb_ct_upd (fun k => decide (0 < R k) && decide (d (k % 11) = d (k / 11) + 1)) false (i := 11 * a + b) (n := 121) (by omega)
  have h2 : fb_ct (fun k => decide (0 < R' k) && decide (d (k % 11) = d (k / 11) + 1)) 121 ≤ fb_ct (fun k => if k = 11 * a + b then false else (decide (0 < R k) && decide (d (k % 11) = d (k / 11) + 1))) 121 := by
    refine fb_ct_sub fun k hk hp => ?_
    simp only [Bool.and_eq_true, decide_eq_true_eq] at hp
    by_cases c : k = 11 * a + b
    · rw [c, h0] at hp
      omega
    · rw [if_neg c]
      simp only [Bool.and_eq_true, decide_eq_true_eq]
      have q := hs (k / 11) (k % 11) (by omega) (by omega)
      rw [show 11 * (k / 11) + k % 11 = k by omega] at q
      rcases q hp.1 with q | q
      · exact ⟨q, hp.2⟩
      · omega
  have h3 : (decide (0 < R (11 * a + b)) && decide (d ((11 * a + b) % 11) = d ((11 * a + b) / 11) + 1)) = true := by
    rw [e1, e2]
    simp only [Bool.and_eq_true, decide_eq_true_eq]
    exact ⟨h, hd⟩
  rw [if_pos h3, if_neg Bool.false_ne_true] at h1
  unfold cl_T
  omega
/-- the flow's invariant: w ways are done, tot has been sent over the start room C -/
def cl_Fill (C : Nat → Nat) (w tot : Nat) (R : Nat → Nat) : Prop :=
  (∀ a b, a < 11 → b < 11 → R (11 * a + b) + R (11 * b + a) ≤ 2000000) ∧ (∀ b, b < 11 → R (11 * 9 + b) + R (11 * b + 9) ≤ 1000000) ∧
  (∀ S : Nat → Bool, S 9 = true → S 10 = false → cl_cut R S + tot = cl_cut C S) ∧
  ∃ d, cl_Pot R d ∧ w + cl_T R d ≤ 100 * d 10
def cl_Cap (C : Nat → Nat) : Prop := (∀ k, k < 121 → C k ≤ 1000000) ∧ ∀ a, a < 11 → C (11 * a + 9) = 0
theorem cl_fill_0 {C : Nat → Nat} (h : cl_Cap C) : cl_Fill C 0 0 C := by
  refine ⟨fun a b ha hb => ?_, fun b hb => ?_, fun S _ _ => Nat.add_zero _, fun _ => 0, ⟨rfl, fun _ _ _ _ _ => Nat.zero_le _⟩, ?_⟩
  · have h1 := h.1 (11 * a + b) (by omega)
    have h2 := h.1 (11 * b + a) (by omega)
    omega
  · have h1 := h.1 (11 * 9 + b) (by omega)
    have h2 := h.2 b hb
    omega
  · have : cl_T C (fun _ => 0) = 0 := fb_ct_zero.mpr fun k hk => by simp
    omega
theorem cl_Fill.le {C R : Nat → Nat} {w tot : Nat} (h : cl_Fill C w tot R) {k : Nat} (hk : k < 121) : R k ≤ 2000000 := by
  have := h.1 (k / 11) (k % 11) (by omega) (by omega)
  rw [show 11 * (k / 11) + k % 11 = k by omega] at this
  omega
/-- before a way: a height that fits the search -/
theorem cl_fill_pre {C R D P : Nat → Nat} {w tot : Nat} (h : cl_Fill C w tot R) (ht : cl_Tree R D P) (h10 : D 10 ≤ 10) : ∃ d, cl_Pot R d ∧ d 10 = D 10 ∧ w + cl_T R d ≤ 100 * d 10 ∧ w < 1000 := by
  obtain ⟨-, -, -, d, hd, hw⟩ := h
  have h9 : D 10 ≠ 0 := fun e => by
    rcases ht.2.2 10 (by decide) with q | ⟨-, q, q2⟩
    · omega
    · have := (q2 (by decide)).2
      omega
  have hst := cl_it_st ht h10 (j := 0) (by omega)
  have key : ∀ d', cl_Pot R d' → d' 10 = D 10 → w + cl_T R d' ≤ 100 * d' 10 → w < 1000 := by
    intro d' hp he hw'
    have e0 := cl_pot_eq ht h10 hp he (j := 0) (by omega)
    have e1 := cl_pot_eq ht h10 hp he (j := 1) (by omega)
    have e1 : d' (P (cl_it P 0)) = D (P (cl_it P 0)) := e1
    have := cl_T_pos (R := R) (d := d') hst.2.2.1 hst.1 hst.2.2.2.2.1 (by rw [e0, e1]; exact hst.2.2.2.2.2.1)
    omega
  have hle : d 10 ≤ D 10 := cl_pot_le ht hd _ 10 (by decide) rfl h10
  rcases Nat.lt_or_ge (d 10) (D 10) with q | q
  · have hT := cl_T_le (R := R) ht.1
    have hw' : w + cl_T R D ≤ 100 * D 10 := by omega
    exact ⟨D, (cl_tree_pot ht), rfl, hw', key D (cl_tree_pot ht) rfl hw'⟩
  · have he : d 10 = D 10 := by omega
    exact ⟨d, hd, he, hw, key d hd he hw⟩
/-- what narrowest finds: the least room on the way -/
def cl_Nar (R D P : Nat → Nat) (j F : Nat) : Prop := F ≤ 1000000 ∧ 0 < F ∧ (∀ i, i < j → F ≤ R (11 * P (cl_it P i) + cl_it P i)) ∧ (F = 1000000 ∨ ∃ i, i < j ∧ F = R (11 * P (cl_it P i) + cl_it P i))
theorem cl_nar_0 (R D P : Nat → Nat) : cl_Nar R D P 0 1000000 := ⟨Nat.le_refl _, by decide, fun _ h => absurd h (Nat.not_lt_zero _), Or.inl rfl⟩
theorem cl_nar_1 {R D P : Nat → Nat} {j F : Nat} (h : cl_Tree R D P) (h10 : D 10 ≤ 10) (hj : j < D 10) (n : cl_Nar R D P j F) :
    cl_Nar R D P (j + 1) (if R (11 * P (cl_it P j) + cl_it P j) < F then R (11 * P (cl_it P j) + cl_it P j) else F) := by
  obtain ⟨n1, n2, n3, n4⟩ := n
  have hst := (cl_it_st h h10 hj).2.2.2.2.1
  by_cases c : R (11 * P (cl_it P j) + cl_it P j) < F
  · rw [if_pos c]
    refine ⟨by omega, hst, fun i hi => ?_, Or.inr ⟨j, by omega, rfl⟩⟩
    rcases Nat.lt_or_ge i j with q | q
    · have := n3 i q
      omega
    · have : i = j := by omega
      rw [this]
      exact Nat.le_refl _
  · rw [if_neg c]
    refine ⟨n1, n2, fun i hi => ?_, ?_⟩
    · rcases Nat.lt_or_ge i j with q | q
      · exact n3 i q
      · have : i = j := by omega
        rw [this]
        omega
    · rcases n4 with q | ⟨i, q1, q2⟩
      · exact Or.inl q
      · exact Or.inr ⟨i, by omega, q2⟩
theorem cl_nar_sat {C R D P : Nat → Nat} {w tot F : Nat} (hf : cl_Fill C w tot R) (h : cl_Tree R D P) (h10 : D 10 ≤ 10) (n : cl_Nar R D P (D 10) F) : ∃ y, y < D 10 ∧ R (11 * P (cl_it P y) + cl_it P y) = F := by
  obtain ⟨n1, n2, n3, n4⟩ := n
  rcases n4 with q | ⟨i, q1, q2⟩
  · have h0 : D 10 ≠ 0 := fun e => by
      rcases h.2.2 10 (by decide) with q | ⟨-, q, q2⟩
      · omega
      · have := (q2 (by decide)).2
        omega
    have he := cl_it_end h h10
    obtain ⟨n, hn⟩ : ∃ n, D 10 = n + 1 := ⟨D 10 - 1, by omega⟩
    have hst := cl_it_st h h10 (j := n) (by omega)
    rw [hn] at he
    have he : P (cl_it P n) = 9 := he
    refine ⟨n, by omega, ?_⟩
    have h3 := n3 n (by omega)
    have h4 := hf.2.1 (cl_it P n) hst.1
    rw [he] at h3 ⊢
    omega
  · exact ⟨i, q1, q2.symm⟩
/-- behind a way -/
theorem cl_fill_1 {C R R' D P d : Nat → Nat} {w tot F y : Nat} (hf : cl_Fill C w tot R) (h : cl_Tree R D P) (h10 : D 10 ≤ 10) (hd : cl_Pot R d) (he : d 10 = D 10) (hw : w + cl_T R d ≤ 100 * d 10)
    (n : cl_Nar R D P (D 10) F) (hy : y < D 10) (hyF : R (11 * P (cl_it P y) + cl_it P y) = F) (A : cl_Aug R D P d F y (D 10) R') : cl_Fill C (w + 1) (tot + F) R' := by
  obtain ⟨f1, f2, f3, -⟩ := hf
  have hend := cl_it_end h h10
  obtain ⟨y1, -, yP, -, yR, hDy, hDyj⟩ := cl_it_st h h10 hy
  obtain ⟨A1, A2, A3, A4, A5⟩ := A
  rw [hend] at A4 A5
  refine ⟨fun a b ha hb => ?_, fun b hb => ?_, fun S h9 hS => ?_, d, ⟨hd.1, fun a b ha hb hab => ?_⟩, ?_⟩
  · have := A2 a b ha hb
    have := f1 a b ha hb
    omega
  · have := A2 9 b (by decide) hb
    have := f2 b hb
    omega
  · have := A5 S hS
    have := f3 S h9 hS
    rw [h9] at *
    simp at *
    omega
  · rcases A3 a b ha hb hab with q | q
    · exact hd.2 a b ha hb q
    · omega
  · have hdy := cl_pot_eq h h10 hd he (j := y) (by omega)
    have hdp := cl_pot_eq h h10 hd he (j := y + 1) (by omega)
    have hdp : d (P (cl_it P y)) = D (P (cl_it P y)) := hdp
    have h9 := h.1
    have := cl_T_lt (R := R) (R' := R') (d := d) yP y1 yR (by rw [hdy, hdp]; exact hDy) (A4 (by omega)) A3
    omega
end
section
/-! PURE: a search by a queue: what it leaves -/
def cl_e (room : Nat → Int32) (a b : Nat) : Prop := 0 < room (11 * a + b)
def cl_Bfs (room : Nat → Int32) (st k p : Nat) (rf : Nat → Int32) (qe : Nat) (qu : Nat → Int32) : Prop := ∃ D P Q : Nat → Nat,
  (st < 11 ∧ D st = 0 ∧ 1 ≤ qe ∧ qe ≤ 11 ∧ k ≤ qe ∧ fb_ct (fun x => decide (D x ≤ 10)) 11 = qe) ∧
  (∀ i, i < qe → qu i = nI (Q i) ∧ Q i < 11 ∧ D (Q i) ≤ i) ∧
  (∀ x, x < 11 → (D x = 12 ∧ rf x = -1) ∨ (D x ≤ 10 ∧ rf x = nI (P x) ∧ P x < 11 ∧ (x ≠ st → cl_e room (P x) x ∧ D x = D (P x) + 1) ∧ ∃ i, i < qe ∧ Q i = x)) ∧
  (∀ i j, i ≤ j → j < qe → D (Q i) ≤ D (Q j)) ∧
  (k < qe → ∀ j, j < qe → D (Q j) ≤ D (Q k) + 1) ∧
  (∀ i b, i < qe → b < 11 → (i < k ∨ (i = k ∧ b < p)) → cl_e room (Q i) b → D b ≤ D (Q i) + 1)
theorem cl_m1 (a : Nat) (h : a < 11) : nI a ≠ -1 := fun e => nI_pos (n := a) (by omega) (by rw [e]; decide)
theorem cl_ct1 : ∀ st, st < 11 → fb_ct (fun x => decide ((if x = st then 0 else 12) ≤ 10)) 11 = 1 := by decide +kernel
theorem cl_bfs_0 {room rf qu : Nat → Int32} {st : Nat} (hs : st < 11) (h1 : ∀ x, x < 11 → x ≠ st → rf x = -1) (h2 : rf st = nI st) (h3 : qu 0 = nI st) : cl_Bfs room st 0 0 rf 1 qu := by
  refine ⟨fun x => if x = st then 0 else 12, fun _ => st, fun _ => st, ⟨hs, if_pos rfl, Nat.le_refl _, by decide, by decide, cl_ct1 st hs⟩, fun i hi => ?_, fun x hx => ?_, fun i j _ _ => Nat.le_refl _, fun _ j _ => Nat.le_add_right _ _, fun i b hi hb h => ?_⟩
  · have : i = 0 := by omega
    subst this
    exact ⟨h3, hs, by show (if st = st then 0 else 12) ≤ 0; rw [if_pos rfl]; exact Nat.le_refl _⟩
  · by_cases hx2 : x = st
    · subst hx2
      exact Or.inr ⟨by show (if x = x then 0 else 12) ≤ 10; rw [if_pos rfl]; decide, h2, hs, fun h => absurd rfl h, 0, by decide, rfl⟩
    · exact Or.inl ⟨if_neg hx2, h1 x hx hx2⟩
  · omega
theorem cl_bfs_q {room rf qu : Nat → Int32} {st k p qe : Nat} (h : cl_Bfs room st k p rf qe qu) (hk : k < qe) : ∃ a, a < 11 ∧ qu k = nI a := by
  obtain ⟨D, P, Q, -, hQ, -⟩ := h
  exact ⟨Q k, (hQ k hk).2.1, (hQ k hk).1⟩
theorem cl_bfs_rf {room rf qu : Nat → Int32} {st k p qe : Nat} (h : cl_Bfs room st k p rf qe qu) {x : Nat} (hx : x < 11) : rf x = -1 ∨ ∃ a, a < 11 ∧ rf x = nI a := by
  obtain ⟨D, P, Q, -, -, hX, -⟩ := h
  rcases hX x hx with q | ⟨-, q1, q2, -⟩
  · exact Or.inl q.2
  · exact Or.inr ⟨P x, q2, q1⟩
theorem cl_bfs_le {room rf qu : Nat → Int32} {st k p qe : Nat} (h : cl_Bfs room st k p rf qe qu) : k ≤ qe ∧ qe ≤ 11 := by
  obtain ⟨D, P, Q, ⟨-, -, -, h1, h2, -⟩, -⟩ := h
  exact ⟨h2, h1⟩
theorem cl_bfs_add {room rf qu : Nat → Int32} {st k p qe a : Nat} (h : cl_Bfs room st k p rf qe qu) (hk : k < qe) (hp : p < 11) (ha : a < 11) (hqa : qu k = nI a) (hr : rf p = -1) (hro : 0 < room (11 * a + p)) :
    qe < 11 ∧ cl_Bfs room st k (p + 1) (upd rf p (nI a)) (qe + 1) (upd qu qe (nI p)) := by
  obtain ⟨D, P, Q, ⟨hst, hD0, hq1, hq11, hkq, hct⟩, hQ, hX, hso, hn, hpr⟩ := h
  have ea : Q k = a := (nI_eq (by have := (hQ k hk).2.1; omega) (by omega)).mp ((hQ k hk).1.symm.trans hqa)
  have hp12 : D p = 12 := by
    rcases hX p hp with q | ⟨-, q, q1, -⟩
    · exact q.1
    · exact absurd (q.symm.trans hr) (cl_m1 _ q1)
  have hne : ∀ i, i < qe → Q i ≠ p := fun i hi e => by
    have := (hQ i hi).2.2
    rw [e] at this
    omega
  have hc := fb_ct_upd (fun x => decide (D x ≤ 10)) true (i := p) (n := 11) hp
  have hcl := fb_ct_le (fun k => if k = p then true else decide (D k ≤ 10)) 11
  have hd0 : (if decide (D p ≤ 10) = true then 1 else 0) = 0 := by
    rw [hp12]
    decide
  rw [hd0, hct] at hc
  simp only [if_true] at hc
  have hqe : qe < 11 := by omega
  have hkk := (hQ k hk).2.2
  have ect : (fun x => decide (cl_up D p (D a + 1) x ≤ 10)) = (fun x => if x = p then true else decide (D x ≤ 10)) := by
    funext x
    by_cases hx : x = p
    · subst hx
      rw [cl_up_s, if_pos rfl, decide_eq_true_eq, ← ea]
      omega
    · rw [cl_up_n D _ hx, if_neg hx]
  have dQ : ∀ i, i < qe → cl_up Q qe p i = Q i := fun i hi => cl_up_n Q p (by omega)
  have dD : ∀ i, i < qe → cl_up D p (D a + 1) (Q i) = D (Q i) := fun i hi => cl_up_n D _ (hne i hi)
  have dq : cl_up Q qe p qe = p := cl_up_s Q qe p
  have dp : cl_up D p (D a + 1) p = D a + 1 := cl_up_s D p _
  rw [ea] at hkk
  refine ⟨hqe, cl_up D p (D a + 1), cl_up P p a, cl_up Q qe p, ⟨hst, ?_, by omega, by omega, by omega, by rw [ect]; omega⟩, fun i hi => ?_, fun x hx => ?_, fun i j hij hj => ?_, fun hkq2 j hj => ?_, fun i b hi hb hib he => ?_⟩
  · rw [cl_up_n D _ (fun e => by rw [← e, hD0] at hp12; omega)]
    exact hD0
  · rcases Nat.lt_or_ge i qe with q | q
    · rw [dQ i q, dD i q, pk_un (by omega)]
      exact hQ i q
    · have : i = qe := by omega
      subst this
      rw [dq, dp, pk_us]
      exact ⟨rfl, hp, by omega⟩
  · by_cases hx2 : x = p
    · subst hx2
      refine Or.inr ⟨by rw [dp]; omega, by rw [pk_us, cl_up_s], by rw [cl_up_s]; exact ha, fun _ => ?_, qe, by omega, dq⟩
      rw [cl_up_s, dp, cl_up_n D _ (by rw [← ea]; exact hne k hk)]
      exact ⟨hro, rfl⟩
    · rw [cl_up_n D _ hx2, pk_un hx2, cl_up_n P _ hx2]
      rcases hX x hx with q | ⟨q1, q2, q3, q4, i, q5, q6⟩
      · exact Or.inl q
      · refine Or.inr ⟨q1, q2, q3, fun hxs => ?_, i, by omega, by rw [dQ i q5]; exact q6⟩
        obtain ⟨q7, q8⟩ := q4 hxs
        rw [cl_up_n D _ (fun e => by rw [e, hp12] at q8; omega)]
        exact ⟨q7, q8⟩
  · rcases Nat.lt_or_ge j qe with q | q
    · rw [dQ i (by omega), dQ j q, dD i (by omega), dD j q]
      exact hso i j hij q
    · have : j = qe := by omega
      subst this
      rw [dq, dp]
      rcases Nat.lt_or_ge i j with q2 | q2
      · rw [dQ i q2, dD i q2, ← ea]
        exact hn hk i q2
      · have : i = j := by omega
        subst this
        rw [dq, dp]
        exact Nat.le_refl _
  · rw [dQ k hk, dD k hk]
    rcases Nat.lt_or_ge j qe with q | q
    · rw [dQ j q, dD j q]
      exact hn hk j q
    · have : j = qe := by omega
      subst this
      rw [dq, dp, ea]
      exact Nat.le_refl _
  · have hi2 : i < qe := by omega
    rw [dQ i hi2] at he ⊢
    rw [dD i hi2]
    by_cases hbp : b = p
    · subst hbp
      rw [dp]
      rcases hib with q | ⟨q, -⟩
      · have := hpr i b hi2 hb (Or.inl q) he
        have := (hQ i hi2).2.2
        omega
      · rw [q, ea]
        exact Nat.le_refl _
    · rw [cl_up_n D _ hbp]
      exact hpr i b hi2 hb (by omega) he
theorem cl_bfs_skip {room rf qu : Nat → Int32} {st k p qe a : Nat} (h : cl_Bfs room st k p rf qe qu) (hk : k < qe) (hp : p < 11) (ha : a < 11) (hqa : qu k = nI a) (hs : rf p ≠ -1 ∨ ¬ 0 < room (11 * a + p)) :
    cl_Bfs room st k (p + 1) rf qe qu := by
  obtain ⟨D, P, Q, h0, hQ, hX, hso, hn, hpr⟩ := h
  have ea : Q k = a := (nI_eq (by have := (hQ k hk).2.1; omega) (by omega)).mp ((hQ k hk).1.symm.trans hqa)
  refine ⟨D, P, Q, h0, hQ, hX, hso, hn, fun i b hi hb hib he => ?_⟩
  by_cases hbp : i = k ∧ b = p
  · obtain ⟨rfl, rfl⟩ := hbp
    rcases hs with q | q
    · rcases hX b hb with q2 | ⟨-, -, -, -, j, q5, q6⟩
      · exact absurd q2.2 q
      · rw [← q6]
        exact hn hi j q5
    · rw [ea] at he
      exact absurd he q
  · exact hpr i b hi hb (by omega) he
theorem cl_bfs_next {room rf qu : Nat → Int32} {st k qe : Nat} (h : cl_Bfs room st k 11 rf qe qu) (hk : k < qe) : cl_Bfs room st (k + 1) 0 rf qe qu := by
  obtain ⟨D, P, Q, ⟨h1, h2, h3, h4, h5, h6⟩, hQ, hX, hso, hn, hpr⟩ := h
  refine ⟨D, P, Q, ⟨h1, h2, h3, h4, by omega, h6⟩, hQ, hX, hso, fun hk2 j hj => ?_, fun i b hi hb hib he => hpr i b hi hb (by omega) he⟩
  have q1 := hn hk j hj
  have q2 := hso k (k + 1) (by omega) hk2
  omega
/-- what a search leaves -/
def cl_Sea (room : Nat → Int32) (st : Nat) (rf : Nat → Int32) : Prop := ∃ D P : Nat → Nat, D st = 0 ∧ (∀ a b, a < 11 → b < 11 → cl_e room a b → D b ≤ D a + 1) ∧
  (∀ p, p < 11 → (D p = 12 ∧ rf p = -1) ∨ (D p ≤ 10 ∧ rf p = nI (P p) ∧ P p < 11 ∧ (p ≠ st → cl_e room (P p) p ∧ D p = D (P p) + 1)))
theorem cl_bfs_end {room rf qu : Nat → Int32} {st k qe : Nat} (h : cl_Bfs room st k 0 rf qe qu) (hk : qe ≤ k ∨ 11 ≤ k) : cl_Sea room st rf := by
  obtain ⟨D, P, Q, ⟨h1, h2, h3, h4, h5, h6⟩, hQ, hX, hso, hn, hpr⟩ := h
  refine ⟨D, P, h2, fun a b ha hb he => ?_, fun p hp => ?_⟩
  · rcases hX a ha with q | ⟨q1, -, -, -, i, q5, q6⟩
    · rcases hX b hb with q2 | ⟨q2, -⟩ <;> omega
    · rw [← q6] at he ⊢
      exact hpr i b q5 hb (Or.inl (by omega)) he
  · rcases hX p hp with q | ⟨q1, q2, q3, q4, -⟩
    · exact Or.inl q
    · exact Or.inr ⟨q1, q2, q3, q4⟩
/-- .. over a room of plain numbers -/
theorem cl_pos {n : Nat} (h : n ≤ 2000000) : (0 : Int32) < nI n ↔ 0 < n := by
  rw [← nI_0]
  exact nI_ltI (by decide) (by omega)
theorem cl_sea_tree {room rf : Nat → Int32} {R : Nat → Nat} {st : Nat} (h : cl_Sea room st rf) (hR : ∀ k, k < 121 → room k = nI (R k)) (hb : ∀ k, k < 121 → R k ≤ 2000000) :
    ∃ D P, cl_TreeS st R D P ∧ ∀ p, p < 11 → (D p = 12 ∧ rf p = -1) ∨ (D p ≤ 10 ∧ rf p = nI (P p) ∧ P p < 11) := by
  obtain ⟨D, P, h1, h2, h3⟩ := h
  have key : ∀ a b, a < 11 → b < 11 → (cl_e room a b ↔ 0 < R (11 * a + b)) := fun a b ha hb2 => by
    unfold cl_e
    rw [hR (11 * a + b) (by omega)]
    exact cl_pos (hb _ (by omega))
  refine ⟨D, P, ⟨h1, fun a b ha hb2 he => h2 a b ha hb2 ((key a b ha hb2).mpr he), fun p hp => ?_⟩, fun p hp => ?_⟩
  · rcases h3 p hp with q | ⟨q1, q2, q3, q4⟩
    · exact Or.inl q.1
    · exact Or.inr ⟨q1, q3, fun hne => ⟨(key _ _ q3 hp).mp (q4 hne).1, (q4 hne).2⟩⟩
  · rcases h3 p hp with q | ⟨q1, q2, q3, q4⟩
    · exact Or.inl q
    · exact Or.inr ⟨q1, q2, q3⟩
/-- a set that no line with room leaves holds all that is reached from a point of it -/
theorem cl_reach {R D P : Nat → Nat} {st : Nat} {S : Nat → Bool} (h : cl_TreeS st R D P) (hc : ∀ a b, a < 11 → b < 11 → S a = true → 0 < R (11 * a + b) → S b = true) (hS : S st = true) : ∀ n x, x < 11 → D x = n → n ≤ 10 → S x = true
  | 0, x, hx, hn, _ => by
    by_cases h9 : x = st
    · rw [h9]; exact hS
    · rcases h.2.2 x hx with h3 | ⟨h3, h4, h5⟩
      · omega
      · have := (h5 h9).2
        omega
  | n + 1, x, hx, hn, hle => by
    by_cases h9 : x = st
    · rw [h9]; exact hS
    · rcases h.2.2 x hx with h3 | ⟨h3, h4, h5⟩
      · omega
      · obtain ⟨h6, h7⟩ := h5 h9
        exact hc _ _ h4 hx (cl_reach h hc hS n (P x) h4 (by omega) (by omega)) h6
/-- what is reached is such a set -/
theorem cl_reach_closed {R D P : Nat → Nat} {st : Nat} (h : cl_TreeS st R D P) : ∀ a b, a < 11 → b < 11 → decide (D a ≤ 10) = true → 0 < R (11 * a + b) → decide (D b ≤ 10) = true := by
  intro a b ha hb h1 h2
  rw [decide_eq_true_eq] at h1 ⊢
  have h3 := h.2.1 a b ha hb h2
  rcases h.2.2 b hb with q | ⟨q, -⟩ <;> omega
end
section
/-! PURE: the state g (g 0, g 1: costs of label 0 and 1; g 2: there; g 3, g 4: ends of a tie; g 5, g 6: its prices), the energy of a labelling b, the network, minima -/
def cl_EP (g : Nat → Nat → Nat) (b : Nat → Bool) (n : Nat) : Nat := fb_sm (fun p => if b p then g 1 p else g 0 p) n
def cl_et (g : Nat → Nat → Nat) (b : Nat → Bool) (t : Nat) : Nat := (if g 2 t = 1 ∧ (b (g 3 t) = false ∧ b (g 4 t) = true) then g 5 t else 0) + (if g 2 t = 1 ∧ (b (g 3 t) = true ∧ b (g 4 t) = false) then g 6 t else 0)
def cl_ET (g : Nat → Nat → Nat) (b : Nat → Bool) (n : Nat) : Nat := fb_sm (cl_et g b) n
def cl_E (g : Nat → Nat → Nat) (b : Nat → Bool) : Nat := cl_EP g b 9 + cl_ET g b 16
def cl_Ok (g : Nat → Nat → Nat) : Prop := (∀ p, g 0 p ≤ 100) ∧ (∀ p, g 1 p ≤ 100) ∧ (∀ t, g 2 t ≤ 1) ∧ ∀ t, g 3 t < 9 ∧ g 4 t < 9 ∧ g 5 t ≤ 100 ∧ g 6 t ≤ 100 ∧ (g 2 t = 1 → g 3 t ≠ g 4 t)
theorem cl_E_cong {g : Nat → Nat → Nat} (hg : cl_Ok g) {b b' : Nat → Bool} (h : ∀ p, p < 9 → b p = b' p) : cl_E g b = cl_E g b' := by
  unfold cl_E cl_EP cl_ET
  rw [fb_sm_cong (f := fun p => if b p then g 1 p else g 0 p) (g := fun p => if b' p then g 1 p else g 0 p) (fun p hp => by show (if b p then g 1 p else g 0 p) = _; rw [h p hp]),
    fb_sm_cong (f := cl_et g b) (g := cl_et g b') (fun t _ => by
      unfold cl_et
      rw [h _ (hg.2.2.2 t).1, h _ (hg.2.2.2 t).2.1])]
theorem cl_E_le {g : Nat → Nat → Nat} (hg : cl_Ok g) (b : Nat → Bool) : cl_E g b ≤ 4100 := by
  have h1 : cl_EP g b 9 ≤ 9 * 100 := fb_sm_bound fun p _ => by
    show (if b p then g 1 p else g 0 p) ≤ 100
    have := hg.1 p
    have := hg.2.1 p
    split <;> omega
  have h2 : cl_ET g b 16 ≤ 16 * 200 := fb_sm_bound fun t _ => by
    have := hg.2.2.2 t
    unfold cl_et
    split <;> split <;> omega
  unfold cl_E
  omega
theorem cl_EP_le {g : Nat → Nat → Nat} (hg : cl_Ok g) (b : Nat → Bool) {n : Nat} : cl_EP g b n ≤ n * 100 := fb_sm_bound fun p _ => by
  show (if b p then g 1 p else g 0 p) ≤ 100
  have := hg.1 p
  have := hg.2.1 p
  split <;> omega
/-- the network: first the places, then the ties -/
def cl_bP (g : Nat → Nat → Nat) : Nat → Nat → Nat
  | 0 => fun _ => 0
  | n + 1 => cl_up (cl_up (cl_bP g n) (99 + n) (g 1 n)) (11 * n + 10) (g 0 n)
def cl_add (R : Nat → Nat) (k v : Nat) : Nat → Nat := cl_up R k (R k + v)
def cl_bT (g : Nat → Nat → Nat) : Nat → Nat → Nat
  | 0 => cl_bP g 9
  | n + 1 => if g 2 n = 1 then cl_add (cl_add (cl_bT g n) (11 * g 3 n + g 4 n) (g 5 n)) (11 * g 4 n + g 3 n) (g 6 n) else cl_bT g n
abbrev cl_build (g : Nat → Nat → Nat) : Nat → Nat := cl_bT g 16
theorem cl_bP_0 (g : Nat → Nat → Nat) : ∀ n k, (∀ m, m < n → k ≠ 99 + m ∧ k ≠ 11 * m + 10) → cl_bP g n k = 0
  | 0, _, _ => rfl
  | n + 1, k, h => by
    have h1 := h n (by omega)
    show cl_up (cl_up (cl_bP g n) (99 + n) (g 1 n)) (11 * n + 10) (g 0 n) k = 0
    rw [cl_up_n _ _ h1.2, cl_up_n _ _ h1.1]
    exact cl_bP_0 g n k (fun m hm => h m (by omega))
theorem cl_bP_le {g : Nat → Nat → Nat} (hg : cl_Ok g) : ∀ n k, cl_bP g n k ≤ 100
  | 0, _ => Nat.zero_le _
  | n + 1, k => by
    have h1 := cl_bP_le hg n k
    have h2 := hg.1 n
    have h3 := hg.2.1 n
    show cl_up (cl_up (cl_bP g n) (99 + n) (g 1 n)) (11 * n + 10) (g 0 n) k ≤ 100
    unfold cl_up
    split
    · omega
    · split <;> omega
theorem cl_bP_cut (g : Nat → Nat → Nat) {S : Nat → Bool} (h9 : S 9 = true) (h10 : S 10 = false) : ∀ n, n ≤ 9 → cl_cut (cl_bP g n) S = cl_EP g (fun p => !S p) n
  | 0, _ => by
    have : cl_cut (cl_bP g 0) S ≤ 121 * 0 := fb_sm_bound fun k _ => by
      show (if cl_in S k then 0 else 0) ≤ 0
      split <;> exact Nat.le_refl _
    show cl_cut (cl_bP g 0) S = 0
    omega
  | n + 1, hn => by
    have ih := cl_bP_cut g h9 h10 n (by omega)
    have h1 := cl_cut_up (cl_bP g n) S (g 1 n) (k := 11 * 9 + n) (by omega)
    have h2 := cl_cut_up (cl_up (cl_bP g n) (11 * 9 + n) (g 1 n)) S (g 0 n) (k := 11 * n + 10) (by omega)
    rw [cl_up_n _ _ (by omega), cl_bP_0 g n (11 * n + 10) (fun m hm => by omega)] at h2
    rw [cl_bP_0 g n (11 * 9 + n) (fun m hm => by omega)] at h1
    rw [cl_in_ix S (by omega), h9] at h1
    rw [cl_in_ix S (by omega), h10] at h2
    have e : cl_EP g (fun p => !S p) (n + 1) = cl_EP g (fun p => !S p) n + (if (!S n) = true then g 1 n else g 0 n) := rfl
    rw [e]
    show cl_cut (cl_up (cl_up (cl_bP g n) (11 * 9 + n) (g 1 n)) (11 * n + 10) (g 0 n)) S = _
    cases hs : S n <;> simp [hs] at h1 h2 ⊢ <;> omega
theorem cl_add_cut (R : Nat → Nat) (S : Nat → Bool) {k : Nat} (v : Nat) (hk : k < 121) : cl_cut (cl_add R k v) S = cl_cut R S + (if cl_in S k then v else 0) := by
  have h := cl_cut_up R S (R k + v) hk
  unfold cl_add
  cases hs : cl_in S k <;> simp [hs] at h ⊢ <;> omega
theorem cl_bT_cut {g : Nat → Nat → Nat} (hg : cl_Ok g) {S : Nat → Bool} (h9 : S 9 = true) (h10 : S 10 = false) : ∀ n, cl_cut (cl_bT g n) S = cl_EP g (fun p => !S p) 9 + cl_ET g (fun p => !S p) n
  | 0 => cl_bP_cut g h9 h10 9 (by omega)
  | n + 1 => by
    have ih := cl_bT_cut hg h9 h10 n
    have hv := hg.2.2.2 n
    have e : cl_ET g (fun p => !S p) (n + 1) = cl_ET g (fun p => !S p) n + cl_et g (fun p => !S p) n := rfl
    rw [e]
    unfold cl_et
    by_cases c : g 2 n = 1
    · have e2 : cl_bT g (n + 1) = cl_add (cl_add (cl_bT g n) (11 * g 3 n + g 4 n) (g 5 n)) (11 * g 4 n + g 3 n) (g 6 n) := if_pos c
      rw [e2, cl_add_cut _ S _ (by omega), cl_add_cut _ S _ (by omega), cl_in_ix S (by omega), cl_in_ix S (by omega), ih]
      cases h3 : S (g 3 n) <;> cases h4 : S (g 4 n) <;> simp [c, h3, h4] <;> omega
    · have e2 : cl_bT g (n + 1) = cl_bT g n := if_neg c
      rw [e2, ih]
      simp [c]
theorem cl_build_cut {g : Nat → Nat → Nat} (hg : cl_Ok g) {S : Nat → Bool} (h9 : S 9 = true) (h10 : S 10 = false) : cl_cut (cl_build g) S = cl_E g (fun p => !S p) := cl_bT_cut hg h9 h10 16
theorem cl_bT_le {g : Nat → Nat → Nat} (hg : cl_Ok g) : ∀ n k, cl_bT g n k ≤ 100 + 200 * n
  | 0, k => cl_bP_le hg 9 k
  | n + 1, k => by
    have h1 := cl_bT_le hg n
    have hv := hg.2.2.2 n
    show (if g 2 n = 1 then cl_add (cl_add (cl_bT g n) (11 * g 3 n + g 4 n) (g 5 n)) (11 * g 4 n + g 3 n) (g 6 n) else cl_bT g n) k ≤ _
    split
    · have q0 := h1 k
      have q1 := h1 (11 * g 3 n + g 4 n)
      have q2 := h1 (11 * g 4 n + g 3 n)
      unfold cl_add cl_up
      split <;> split <;> omega
    · have := h1 k
      omega
theorem cl_bT_9 {g : Nat → Nat → Nat} (hg : cl_Ok g) {a : Nat} (ha : a < 11) : ∀ n, cl_bT g n (11 * a + 9) = 0
  | 0 => cl_bP_0 g 9 (11 * a + 9) (fun m hm => by omega)
  | n + 1 => by
    have ih := cl_bT_9 hg ha n
    have hv := hg.2.2.2 n
    show (if g 2 n = 1 then cl_add (cl_add (cl_bT g n) (11 * g 3 n + g 4 n) (g 5 n)) (11 * g 4 n + g 3 n) (g 6 n) else cl_bT g n) (11 * a + 9) = 0
    split
    · unfold cl_add
      rw [cl_up_n _ _ (by omega), cl_up_n _ _ (by omega)]
      exact ih
    · exact ih
theorem cl_build_cap {g : Nat → Nat → Nat} (hg : cl_Ok g) : cl_Cap (cl_build g) := ⟨fun k _ => Nat.le_trans (cl_bT_le hg 16 k) (by decide), fun a ha => cl_bT_9 hg ha 16⟩
/-- a place forced to a label -/
def cl_force (C : Nat → Nat) (p lab : Nat) : Nat → Nat := if lab = 0 then cl_up C (99 + p) 1000000 else cl_up C (11 * p + 10) 1000000
theorem cl_force_cap {C : Nat → Nat} {p lab : Nat} (h : cl_Cap C) (hp : p < 9) : cl_Cap (cl_force C p lab) := by
  unfold cl_force
  split
  · refine ⟨fun k hk => ?_, fun a ha => ?_⟩
    · have := h.1 k hk
      unfold cl_up
      split <;> omega
    · rw [cl_up_n _ _ (by omega)]
      exact h.2 a ha
  · refine ⟨fun k hk => ?_, fun a ha => ?_⟩
    · have := h.1 k hk
      unfold cl_up
      split <;> omega
    · rw [cl_up_n _ _ (by omega)]
      exact h.2 a ha
theorem cl_cut_ge (R : Nat → Nat) (S : Nat → Bool) {k v : Nat} (hk : k < 121) (hin : cl_in S k = true) : v ≤ cl_cut (cl_up R k v) S := by
  have h := cl_cut_up (cl_up R k v) S 0 hk
  rw [hin, cl_up_s] at h
  simp at h
  omega
theorem cl_cut_eq (R : Nat → Nat) (S : Nat → Bool) {k v : Nat} (hk : k < 121) (hin : cl_in S k = false) : cl_cut (cl_up R k v) S = cl_cut R S := by
  have h := cl_cut_up R S v hk
  rw [hin] at h
  simpa using h
/-- a forced place with the label that it is forced to: the cut is as it was; with the other: it is dear -/
theorem cl_force_cut {C : Nat → Nat} {p lab : Nat} (hp : p < 9) {S : Nat → Bool} (h9 : S 9 = true) (h10 : S 10 = false) : (S p = decide (lab = 0) → cl_cut (cl_force C p lab) S = cl_cut C S) ∧ (S p ≠ decide (lab = 0) → 1000000 ≤ cl_cut (cl_force C p lab) S) := by
  have e1 : cl_in S (99 + p) = (S 9 && !S p) := cl_in_ix S (a := 9) (b := p) (by omega)
  have e2 : cl_in S (11 * p + 10) = (S p && !S 10) := cl_in_ix S (a := p) (b := 10) (by omega)
  unfold cl_force
  by_cases c : lab = 0
  · rw [if_pos c, decide_eq_true c]
    refine ⟨fun h => cl_cut_eq C S (by omega) (by rw [e1, h9, h]; rfl), fun h => cl_cut_ge C S (by omega) (by rw [e1, h9]; cases hs : S p <;> simp_all)⟩
  · rw [if_neg c, decide_eq_false c]
    refine ⟨fun h => cl_cut_eq C S (by omega) (by rw [e2, h10, h]; rfl), fun h => cl_cut_ge C S (by omega) (by rw [e2, h10]; cases hs : S p <;> simp_all)⟩
/-- what a full flow leaves -/
def cl_Done (C : Nat → Nat) (tot : Nat) (R : Nat → Nat) : Prop := (∀ k, k < 121 → R k ≤ 2000000) ∧ (∀ S : Nat → Bool, S 9 = true → S 10 = false → cl_cut R S + tot = cl_cut C S) ∧ ∃ S : Nat → Bool, S 9 = true ∧ S 10 = false ∧ cl_cut R S = 0
theorem cl_done {C R D P : Nat → Nat} {w tot : Nat} (h : cl_Fill C w tot R) (ht : cl_Tree R D P) (h10 : D 10 = 12) : cl_Done C tot R := by
  refine ⟨fun k hk => h.le hk, h.2.2.1, fun p => decide (D p ≤ 10), ?_, ?_, cl_cut_zero.mpr (cl_reach_closed ht)⟩
  · rw [decide_eq_true_eq, ht.1]; decide
  · rw [decide_eq_false_iff_not, h10]; decide
/-- the set of a labelling l -/
def cl_sl (l : Nat) : Nat → Bool := fun p => decide (p = 9) || (decide (p < 9) && !l.testBit p)
theorem cl_sl_9 (l : Nat) : cl_sl l 9 = true := by unfold cl_sl; simp
theorem cl_sl_10 (l : Nat) : cl_sl l 10 = false := by unfold cl_sl; simp
theorem cl_sl_p (l : Nat) {p : Nat} (hp : p < 9) : cl_sl l p = !l.testBit p := by
  unfold cl_sl
  rw [decide_eq_false (by omega : ¬ p = 9), decide_eq_true hp]
  rfl
theorem cl_bits (b : Nat → Bool) : ∀ n, ∃ l, l < 2 ^ n ∧ ∀ p, p < n → l.testBit p = b p
  | 0 => ⟨0, by decide, fun p hp => absurd hp (Nat.not_lt_zero p)⟩
  | n + 1 => by
    obtain ⟨l, h1, h2⟩ := cl_bits b n
    cases hb : b n with
    | false =>
      refine ⟨l, by rw [Nat.pow_succ]; omega, fun p hp => ?_⟩
      rcases Nat.lt_or_ge p n with q | q
      · exact h2 p q
      · have : p = n := by omega
        subst this
        rw [hb]
        exact Nat.testBit_lt_two_pow h1
    | true =>
      refine ⟨2 ^ n + l, by rw [Nat.pow_succ]; omega, fun p hp => ?_⟩
      rcases Nat.lt_or_ge p n with q | q
      · rw [Nat.testBit_two_pow_add_gt q]
        exact h2 p q
      · have : p = n := by omega
        subst this
        rw [hb, Nat.testBit_two_pow_add_eq, Nat.testBit_lt_two_pow h1]
        rfl
theorem cl_of_S (S : Nat → Bool) (h9 : S 9 = true) (h10 : S 10 = false) : ∃ l, l < 512 ∧ ∀ p, p < 11 → cl_sl l p = S p := by
  obtain ⟨l, h1, h2⟩ := cl_bits (fun p => !S p) 9
  refine ⟨l, h1, fun p hp => ?_⟩
  rcases Nat.lt_or_ge p 9 with q | q
  · rw [cl_sl_p l q, h2 p q]
    simp
  · rcases (by omega : p = 9 ∨ p = 10) with rfl | rfl
    · rw [cl_sl_9, h9]
    · rw [cl_sl_10, h10]
/-- the energy of the labelling l -/
abbrev cl_El (g : Nat → Nat → Nat) (l : Nat) : Nat := cl_E g (fun p => l.testBit p)
theorem cl_sl_cut {g : Nat → Nat → Nat} (hg : cl_Ok g) (l : Nat) : cl_cut (cl_build g) (cl_sl l) = cl_El g l := by
  rw [cl_build_cut hg (cl_sl_9 l) (cl_sl_10 l)]
  refine cl_E_cong hg fun p hp => ?_
  show (!cl_sl l p) = l.testBit p
  rw [cl_sl_p l hp]
  simp
/-- m is the least of f over the labellings with P -/
def cl_Min (P : Nat → Prop) (f : Nat → Nat) (m : Nat) : Prop := (∃ l, l < 512 ∧ P l ∧ f l = m) ∧ ∀ l, l < 512 → P l → m ≤ f l
theorem cl_min_one {P : Nat → Prop} {f : Nat → Nat} {m n : Nat} (h : cl_Min P f m) (h' : cl_Min P f n) : m = n := by
  obtain ⟨⟨l, a1, a2, a3⟩, a4⟩ := h
  obtain ⟨⟨k, b1, b2, b3⟩, b4⟩ := h'
  have := a4 k b1 b2
  have := b4 l a1 a2
  omega
theorem cl_done_min {C R f : Nat → Nat} {tot : Nat} {P : Nat → Prop} (h : cl_Done C tot R) (h1 : ∀ l, l < 512 → P l → cl_cut C (cl_sl l) = f l) (h2 : ∀ l, l < 512 → ¬ P l → 1000000 ≤ cl_cut C (cl_sl l)) (h3 : ∃ l, l < 512 ∧ P l) (h4 : ∀ l, f l < 1000000) : cl_Min P f tot := by
  obtain ⟨-, hc, S, s9, s10, sz⟩ := h
  obtain ⟨l0, hl0, hs⟩ := cl_of_S S s9 s10
  have e0 : cl_cut C (cl_sl l0) = tot := by
    rw [cl_cut_cong C hs]
    have := hc S s9 s10
    omega
  have hle : ∀ l, l < 512 → P l → tot ≤ f l := fun l hl hp => by
    have := hc (cl_sl l) (cl_sl_9 l) (cl_sl_10 l)
    have := h1 l hl hp
    omega
  obtain ⟨l1, hl1, hp1⟩ := h3
  have hp0 : P l0 := Classical.byContradiction fun hn => by
    have a1 := h2 l0 hl0 hn
    have a2 := hle l1 hl1 hp1
    have a3 := h4 l1
    omega
  exact ⟨⟨l0, hl0, hp0, by rw [← h1 l0 hl0 hp0]; exact e0⟩, hle⟩
theorem cl_E_lt {g : Nat → Nat → Nat} (hg : cl_Ok g) (b : Nat → Bool) : cl_E g b < 1000000 := by
  have := cl_E_le hg b
  omega
theorem cl_least {g : Nat → Nat → Nat} (hg : cl_Ok g) {tot : Nat} {R : Nat → Nat} (h : cl_Done (cl_build g) tot R) : cl_Min (fun _ => True) (cl_El g) tot :=
  cl_done_min h (fun l _ _ => cl_sl_cut hg l) (fun _ _ q => absurd trivial q) ⟨0, by decide, trivial⟩ (fun l => cl_E_lt hg _)
theorem cl_lab_ex (p : Nat) (hp : p < 9) (c : Bool) : ∃ l, l < 512 ∧ l.testBit p = c := by
  obtain ⟨l, h1, h2⟩ := cl_bits (fun _ => c) 9
  exact ⟨l, h1, h2 p hp⟩
theorem cl_with {g : Nat → Nat → Nat} (hg : cl_Ok g) {tot p lab : Nat} {R : Nat → Nat} (hp : p < 9) (h : cl_Done (cl_force (cl_build g) p lab) tot R) : cl_Min (fun l => l.testBit p = !decide (lab = 0)) (cl_El g) tot := by
  refine cl_done_min h (fun l _ q => ?_) (fun l _ q => ?_) (cl_lab_ex p hp _) (fun l => cl_E_lt hg _)
  · rw [← cl_sl_cut hg l]
    exact (cl_force_cut hp (cl_sl_9 l) (cl_sl_10 l)).1 (by rw [cl_sl_p l hp, q]; simp)
  · refine (cl_force_cut hp (cl_sl_9 l) (cl_sl_10 l)).2 (fun e => q ?_)
    rw [cl_sl_p l hp] at e
    rw [← e]
    simp
theorem cl_lab_ex2 {i j : Nat} (hi : i < 9) (hj : j < 9) (hne : i ≠ j) (c d : Bool) : ∃ l, l < 512 ∧ l.testBit i = c ∧ l.testBit j = d := by
  obtain ⟨l, h1, h2⟩ := cl_bits (fun k => if k = i then c else d) 9
  refine ⟨l, h1, ?_, ?_⟩
  · rw [h2 i hi]; exact if_pos rfl
  · rw [h2 j hj]; exact if_neg (Ne.symm hne)
theorem cl_with2 {g : Nat → Nat → Nat} (hg : cl_Ok g) {tot i j a b : Nat} {R : Nat → Nat} (hi : i < 9) (hj : j < 9) (hne : i ≠ j) (h : cl_Done (cl_force (cl_force (cl_build g) i a) j b) tot R) : cl_Min (fun l => l.testBit i = (!decide (a = 0)) ∧ l.testBit j = !decide (b = 0)) (cl_El g) tot := by
  refine cl_done_min h (fun l _ q => ?_) (fun l _ q => ?_) (cl_lab_ex2 hi hj hne _ _) (fun l => cl_E_lt hg _)
  · rw [← cl_sl_cut hg l]
    rw [(cl_force_cut hj (cl_sl_9 l) (cl_sl_10 l)).1 (by rw [cl_sl_p l hj, q.2]; simp)]
    exact (cl_force_cut hi (cl_sl_9 l) (cl_sl_10 l)).1 (by rw [cl_sl_p l hi, q.1]; simp)
  · by_cases q2 : cl_sl l j = decide (b = 0)
    · rw [(cl_force_cut hj (cl_sl_9 l) (cl_sl_10 l)).1 q2]
      refine (cl_force_cut hi (cl_sl_9 l) (cl_sl_10 l)).2 (fun e => q ?_)
      rw [cl_sl_p l hi] at e
      rw [cl_sl_p l hj] at q2
      rw [← e, ← q2]
      simp
    · exact (cl_force_cut hj (cl_sl_9 l) (cl_sl_10 l)).2 q2
theorem cl_apart {g : Nat → Nat → Nat} (hg : cl_Ok g) {x y i j : Nat} {R R' : Nat → Nat} (hi : i < 9) (hj : j < 9) (hne : i ≠ j) (h : cl_Done (cl_force (cl_force (cl_build g) i 0) j 1) x R) (h' : cl_Done (cl_force (cl_force (cl_build g) i 1) j 0) y R') :
    cl_Min (fun l => l.testBit i ≠ l.testBit j) (cl_El g) (if x < y then x else y) := by
  obtain ⟨⟨l, a1, a2, a3⟩, a4⟩ := cl_with2 hg hi hj hne h
  obtain ⟨⟨k, b1, b2, b3⟩, b4⟩ := cl_with2 hg hi hj hne h'
  refine ⟨?_, fun n hn hp => ?_⟩
  · by_cases c : x < y
    · rw [if_pos c]
      exact ⟨l, a1, by show l.testBit i ≠ l.testBit j; rw [a2.1, a2.2]; decide, a3⟩
    · rw [if_neg c]
      exact ⟨k, b1, by show k.testBit i ≠ k.testBit j; rw [b2.1, b2.2]; decide, b3⟩
  · have hp : n.testBit i ≠ n.testBit j := hp
    have q1 := a4 n hn
    have q2 := b4 n hn
    cases hi2 : n.testBit i <;> cases hj2 : n.testBit j
    · rw [hi2, hj2] at hp; exact absurd rfl hp
    · have := q1 ⟨hi2, hj2⟩
      split <;> omega
    · have := q2 ⟨hi2, hj2⟩
      split <;> omega
    · rw [hi2, hj2] at hp; exact absurd rfl hp
theorem cl_done_lt {g : Nat → Nat → Nat} {P : Nat → Prop} {m : Nat} (hg : cl_Ok g) (h : cl_Min P (cl_El g) m) : m ≤ 4100 := by
  obtain ⟨⟨l, -, -, h3⟩, -⟩ := h
  rw [← h3]
  exact cl_E_le hg _
/-- the lowest and the highest labelling among the best -/
def cl_Low (f : Nat → Nat) (o : Nat) : Prop := ∃ m, cl_Min (fun _ => True) f m ∧ ∀ p, o.testBit p = true ↔ (p < 9 ∧ ∀ l, l < 512 → f l = m → l.testBit p = true)
def cl_Upp (f : Nat → Nat) (o : Nat) : Prop := ∃ m, cl_Min (fun _ => True) f m ∧ ∀ p, o.testBit p = true ↔ (p < 9 ∧ ∃ l, l < 512 ∧ f l = m ∧ l.testBit p = true)
theorem cl_low_one {f : Nat → Nat} {o o' : Nat} (h : cl_Low f o) (h' : cl_Low f o') : o = o' := by
  obtain ⟨m, h1, h2⟩ := h
  obtain ⟨m', h1', h2'⟩ := h'
  have := cl_min_one h1 h1'
  subst this
  refine Nat.eq_of_testBit_eq fun p => ?_
  have := (h2 p).trans (h2' p).symm
  cases q : o.testBit p <;> cases q' : o'.testBit p <;> simp_all
theorem cl_upp_one {f : Nat → Nat} {o o' : Nat} (h : cl_Upp f o) (h' : cl_Upp f o') : o = o' := by
  obtain ⟨m, h1, h2⟩ := h
  obtain ⟨m', h1', h2'⟩ := h'
  have := cl_min_one h1 h1'
  subst this
  refine Nat.eq_of_testBit_eq fun p => ?_
  have := (h2 p).trans (h2' p).symm
  cases q : o.testBit p <;> cases q' : o'.testBit p <;> simp_all
theorem cl_best {g : Nat → Nat → Nat} (hg : cl_Ok g) {tot : Nat} {R : Nat → Nat} (h : cl_Done (cl_build g) tot R) (l : Nat) : cl_El g l = tot ↔ cl_cut R (cl_sl l) = 0 := by
  have h1 := h.2.1 (cl_sl l) (cl_sl_9 l) (cl_sl_10 l)
  rw [cl_sl_cut hg l] at h1
  omega
/-- a place from which the one end is reached has label 1 in every best labelling, and no other has -/
theorem cl_low_p {g : Nat → Nat → Nat} (hg : cl_Ok g) {tot p : Nat} {R D P : Nat → Nat} (h : cl_Done (cl_build g) tot R) (hp : p < 9) (ht : cl_TreeS p R D P) : D 10 ≤ 10 ↔ ∀ l, l < 512 → cl_El g l = tot → l.testBit p = true := by
  constructor
  · intro h10 l hl he
    have hc := cl_cut_zero.mp ((cl_best hg h l).mp he)
    cases hb : l.testBit p with
    | true => rfl
    | false =>
      have q := cl_reach ht hc (by rw [cl_sl_p l hp, hb]; rfl) (D 10) 10 (by decide) rfl h10
      rw [cl_sl_10] at q
      cases q
  · intro hall
    obtain ⟨-, -, S, s9, s10, sz⟩ := id h
    have hc := cl_cut_zero.mp sz
    rcases ht.2.2 10 (by decide) with q | ⟨q, -⟩
    · obtain ⟨l, hl, hs⟩ := cl_of_S (fun x => S x || decide (D x ≤ 10)) (by show (S 9 || _) = true; rw [s9]; rfl) (by show (S 10 || _) = false; rw [s10, q]; rfl)
      have hz : cl_cut R (cl_sl l) = 0 := by
        rw [cl_cut_cong R hs]
        refine cl_cut_zero.mpr fun a b ha hb h1 h2 => ?_
        have h1 : (S a || decide (D a ≤ 10)) = true := h1
        show (S b || decide (D b ≤ 10)) = true
        rw [Bool.or_eq_true] at h1 ⊢
        rcases h1 with h1 | h1
        · exact Or.inl (hc a b ha hb h1 h2)
        · exact Or.inr (cl_reach_closed ht a b ha hb h1 h2)
      have h1 := hall l hl ((cl_best hg h l).mpr hz)
      have h2 := hs p (by omega)
      rw [cl_sl_p l hp, h1, ht.1] at h2
      simp at h2
    · exact q
/-- a place that the zero end doesn't reach has label 1 in some best labelling, and no other has -/
theorem cl_upp_p {g : Nat → Nat → Nat} (hg : cl_Ok g) {tot p : Nat} {R D P : Nat → Nat} (h : cl_Done (cl_build g) tot R) (hp : p < 9) (ht : cl_TreeS 9 R D P) : D p = 12 ↔ ∃ l, l < 512 ∧ cl_El g l = tot ∧ l.testBit p = true := by
  constructor
  · intro h12
    obtain ⟨-, -, S, s9, s10, sz⟩ := id h
    have hc := cl_cut_zero.mp sz
    have h10 : D 10 = 12 := by
      rcases ht.2.2 10 (by decide) with q | ⟨q, -⟩
      · exact q
      · have := cl_reach ht hc s9 (D 10) 10 (by decide) rfl q
        rw [s10] at this
        cases this
    obtain ⟨l, hl, hs⟩ := cl_of_S (fun x => decide (D x ≤ 10)) (by show decide (D 9 ≤ 10) = true; rw [ht.1]; rfl) (by show decide (D 10 ≤ 10) = false; rw [h10]; rfl)
    have hz : cl_cut R (cl_sl l) = 0 := by
      rw [cl_cut_cong R hs]
      exact cl_cut_zero.mpr (cl_reach_closed ht)
    refine ⟨l, hl, (cl_best hg h l).mpr hz, ?_⟩
    have h2 := hs p (by omega)
    rw [cl_sl_p l hp, h12] at h2
    simpa using h2
  · intro ⟨l, hl, he, hb⟩
    have hc := cl_cut_zero.mp ((cl_best hg h l).mp he)
    rcases ht.2.2 p (by omega) with q | ⟨q, -⟩
    · exact q
    · have q := cl_reach ht hc (cl_sl_9 l) (D p) p (by omega) rfl q
      rw [cl_sl_p l hp, hb] at q
      cases q
end
section
-- ===== PART A: goes FIRST, ahead of the names: the tables' words, and 'selects' of the private methods out of them =====
/-- a private method of a class that the tables say can be made, by its rows of tables_1 -/
def lw_okq (q : MethodName × Nat) : Prop := (q.1.cls ≠ "java/lang/invoke/MethodHandle" ∧ q.1.cls ≠ "java/lang/invoke/VarHandle") ∧ Cond.instantiable q.1.cls q.2 ∈ tables_1 ∧ Cond.privateMethod q.1 ∈ tables_1 ∧ Cond.instanceMethod q.1 ∈ tables_1
set_option maxRecDepth 100000
theorem lw_p0 : lw_okq (⟨"CutLabels", "build", "()V"⟩, 11) := ⟨⟨by decide +kernel, by decide +kernel⟩, List.mem_of_getElem? (i := 4) rfl, List.mem_of_getElem? (i := 70) rfl, List.mem_of_getElem? (i := 71) rfl⟩
theorem lw_p1 : lw_okq (⟨"CutLabels", "fill", "()I"⟩, 11) := ⟨⟨by decide +kernel, by decide +kernel⟩, List.mem_of_getElem? (i := 4) rfl, List.mem_of_getElem? (i := 74) rfl, List.mem_of_getElem? (i := 75) rfl⟩
theorem lw_p2 : lw_okq (⟨"CutLabels", "search", "(I)V"⟩, 11) := ⟨⟨by decide +kernel, by decide +kernel⟩, List.mem_of_getElem? (i := 4) rfl, List.mem_of_getElem? (i := 78) rfl, List.mem_of_getElem? (i := 79) rfl⟩
theorem lw_p3 : lw_okq (⟨"CutLabels", "narrowest", "()I"⟩, 11) := ⟨⟨by decide +kernel, by decide +kernel⟩, List.mem_of_getElem? (i := 4) rfl, List.mem_of_getElem? (i := 82) rfl, List.mem_of_getElem? (i := 83) rfl⟩
theorem lw_p4 : lw_okq (⟨"CutLabels", "force", "(II)V"⟩, 11) := ⟨⟨by decide +kernel, by decide +kernel⟩, List.mem_of_getElem? (i := 4) rfl, List.mem_of_getElem? (i := 99) rfl, List.mem_of_getElem? (i := 100) rfl⟩
def lw_privs_1 : List (MethodName × Nat) := [(⟨"CutLabels", "build", "()V"⟩, 11), (⟨"CutLabels", "fill", "()I"⟩, 11), (⟨"CutLabels", "search", "(I)V"⟩, 11), (⟨"CutLabels", "narrowest", "()I"⟩, 11), (⟨"CutLabels", "force", "(II)V"⟩, 11)]
theorem lw_r1 : ∀ q ∈ lw_privs_1, lw_okq q := List.forall_mem_cons.mpr ⟨lw_p0, List.forall_mem_cons.mpr ⟨lw_p1, List.forall_mem_cons.mpr ⟨lw_p2, List.forall_mem_cons.mpr ⟨lw_p3, List.forall_mem_cons.mpr ⟨lw_p4, fun _ h => absurd h List.not_mem_nil⟩⟩⟩⟩⟩
def lw_privs : List (MethodName × Nat) := lw_privs_1
def lw_tbl : List Cond := k2_sels lw_privs ++ tables_1
theorem lw_privs_ok : ∀ q ∈ lw_privs, lw_okq q := lw_r1
-- ===== ONE list of words for every method: the tables' words that hold all through a run =====
def lw_all : List Cond := lw_tbl.filter goodWord
/-- a word of the tables by its place: claim/WORDS.tsv -/
theorem lw_w {w : Cond} (i : Nat) (h : lw_tbl[i]? = some w) (g : goodWord w = true) : w ∈ lw_all := List.mem_filter.mpr ⟨List.mem_of_getElem? h, g⟩
theorem lw_all_tbl {w : Cond} (h : w ∈ lw_all) : w ∈ lw_tbl := (List.mem_filter.mp h).1
theorem lw_self : GoodIn lw_all lw_all := fun w h => ⟨h, good_of_word (List.mem_filter.mp h).2⟩
/-- a class's field words, by their places -/
theorem lw_in (ws : List Cond) (ps : List Nat) (hp : ws = ps.filterMap (fun i => lw_tbl[i]?)) (hg : ws.all goodWord = true) : ∀ w ∈ ws, w ∈ lw_all := by
  intro w h
  have h1 := List.all_eq_true.mp hg w h
  rw [hp] at h
  obtain ⟨i, -, hi⟩ := List.mem_filterMap.mp h
  exact lw_w i hi h1
/-- the words of a contract for the method y with code b, L locals, answer r -/
abbrev ws_ (y : MethodName) (b : ByteArray) (L : Nat) (r : Option FieldType) : List Cond := Cond.code y b L r :: lw_all
theorem lw_meth {y : MethodName} {b : ByteArray} {L : Nat} {r : Option FieldType} (h : Cond.code y b L r ∈ lw_all) : GoodIn lw_all (ws_ y b L r) := by
  intro w hw
  rcases List.mem_cons.mp hw with e | e
  · rw [e]
    exact lw_self _ h
  · exact lw_self _ e
theorem lw_app {a c : List Cond} (ha : ∀ w ∈ a, w ∈ lw_all) (hc : GoodIn lw_all c) : GoodIn lw_all (a ++ c) := by
  intro w hw
  rcases List.mem_append.mp hw with e | e
  · exact lw_self w (ha w e)
  · exact hc w e
/-- what a call through an object asks: cwV n hts (lw_V ..) -/
theorem lw_V {own : String} {idx : Nat} {C : String} {y : MethodName} {b : ByteArray} {L : Nat} {r : Option FieldType} (h1 : Cond.methodLink own idx y ∈ lw_all) (h2 : Cond.instanceMethod y ∈ lw_all) (h3 : Cond.selects C y y ∈ lw_all) (h4 : Cond.initialized C ∈ lw_all) (h5 : Cond.code y b L r ∈ lw_all) : GoodIn lw_all (wsV own idx C y (ws_ y b L r)) := by
  refine lw_app ?_ (lw_meth h5)
  intro w hw
  simp only [List.mem_cons, List.not_mem_nil, or_false] at hw
  rcases hw with e | e | e | e
  · rw [e]; exact h1
  · rw [e]; exact h2
  · rw [e]; exact h3
  · rw [e]; exact h4
/-- what a static call asks: va_cwS n hts (lw_S ..) -/
theorem lw_S {own : String} {idx : Nat} {y : MethodName} {b : ByteArray} {L : Nat} {r : Option FieldType} (h1 : Cond.methodLink own idx y ∈ lw_all) (h2 : Cond.static y ∈ lw_all) (h3 : Cond.initialized y.cls ∈ lw_all) (h4 : Cond.code y b L r ∈ lw_all) : GoodIn lw_all (va_wsS own idx y (ws_ y b L r)) := by
  refine lw_app ?_ (lw_meth h4)
  intro w hw
  simp only [List.mem_cons, List.not_mem_nil, or_false] at hw
  rcases hw with e | e | e
  · rw [e]; exact h1
  · rw [e]; exact h2
  · rw [e]; exact h3
/-- the words of a contract for a method WITH HANDLERS (hh: its table) -/
abbrev wsW_ (y : MethodName) (b : ByteArray) (L : Nat) (r : Option FieldType) (hh : List (Nat × Nat × Nat × Nat)) : List Cond := Cond.codeWith y b L r hh :: lw_all
theorem lw_methW {y : MethodName} {b : ByteArray} {L : Nat} {r : Option FieldType} {hh : List (Nat × Nat × Nat × Nat)} (h : Cond.codeWith y b L r hh ∈ lw_all) : GoodIn lw_all (wsW_ y b L r hh) := by
  intro w hw
  rcases List.mem_cons.mp hw with e | e
  · rw [e]
    exact lw_self _ h
  · exact lw_self _ e
/-- any list of words by their places (lw_in), good -/
theorem lw_good {ws : List Cond} (h : ∀ w ∈ ws, w ∈ lw_all) : GoodIn lw_all ws := fun w hw => lw_self w (h w hw)
/-- what a call of a method with handlers asks: vx_cwVW n hts (lw_VW ..), vx_cwSW n hts (lw_SW ..) -/
theorem lw_VW {own : String} {idx : Nat} {C : String} {y : MethodName} {b : ByteArray} {L : Nat} {r : Option FieldType} {hh : List (Nat × Nat × Nat × Nat)} (h1 : Cond.methodLink own idx y ∈ lw_all) (h2 : Cond.instanceMethod y ∈ lw_all) (h3 : Cond.selects C y y ∈ lw_all) (h4 : Cond.initialized C ∈ lw_all) (h5 : Cond.codeWith y b L r hh ∈ lw_all) : GoodIn lw_all (wsV own idx C y (wsW_ y b L r hh)) := by
  refine lw_app ?_ (lw_methW h5)
  intro w hw
  simp only [List.mem_cons, List.not_mem_nil, or_false] at hw
  rcases hw with e | e | e | e
  · rw [e]; exact h1
  · rw [e]; exact h2
  · rw [e]; exact h3
  · rw [e]; exact h4
theorem lw_SW {own : String} {idx : Nat} {y : MethodName} {b : ByteArray} {L : Nat} {r : Option FieldType} {hh : List (Nat × Nat × Nat × Nat)} (h1 : Cond.methodLink own idx y ∈ lw_all) (h2 : Cond.static y ∈ lw_all) (h3 : Cond.initialized y.cls ∈ lw_all) (h4 : Cond.codeWith y b L r hh ∈ lw_all) : GoodIn lw_all (va_wsS own idx y (wsW_ y b L r hh)) := by
  refine lw_app ?_ (lw_methW h4)
  intro w hw
  simp only [List.mem_cons, List.not_mem_nil, or_false] at hw
  rcases hw with e | e | e
  · rw [e]; exact h1
  · rw [e]; exact h2
  · rw [e]; exact h3
/-- a word by its place in its run of the tables -/
theorem lw_at {r : List Cond} (hr : ∀ w ∈ r, w ∈ lw_tbl) {w : Cond} (i : Nat) (h : r[i]? = some w) : w ∈ lw_tbl := hr w (List.mem_of_getElem? h)
theorem lw_g {w : Cond} (h : w ∈ lw_tbl) (g : goodWord w = true) : w ∈ lw_all := List.mem_filter.mpr ⟨h, g⟩
theorem lw_ms : ∀ w ∈ k2_sels lw_privs, w ∈ lw_tbl := fun w h => show w ∈ k2_sels lw_privs ++ tables_1 from List.mem_append_left _ h
theorem lw_m0 : ∀ w ∈ tables_1, w ∈ lw_tbl := fun w h => show w ∈ k2_sels lw_privs ++ tables_1 from List.mem_append_right (k2_sels lw_privs) h
theorem qs0 : (Cond.selects "CutLabels" ⟨"CutLabels", "build", "()V"⟩ ⟨"CutLabels", "build", "()V"⟩) ∈ lw_all := lw_g (lw_at lw_ms 0 rfl) rfl
theorem qs1 : (Cond.selects "CutLabels" ⟨"CutLabels", "fill", "()I"⟩ ⟨"CutLabels", "fill", "()I"⟩) ∈ lw_all := lw_g (lw_at lw_ms 1 rfl) rfl
theorem qs2 : (Cond.selects "CutLabels" ⟨"CutLabels", "search", "(I)V"⟩ ⟨"CutLabels", "search", "(I)V"⟩) ∈ lw_all := lw_g (lw_at lw_ms 2 rfl) rfl
theorem qs3 : (Cond.selects "CutLabels" ⟨"CutLabels", "narrowest", "()I"⟩ ⟨"CutLabels", "narrowest", "()I"⟩) ∈ lw_all := lw_g (lw_at lw_ms 3 rfl) rfl
theorem qs4 : (Cond.selects "CutLabels" ⟨"CutLabels", "force", "(II)V"⟩ ⟨"CutLabels", "force", "(II)V"⟩) ∈ lw_all := lw_g (lw_at lw_ms 4 rfl) rfl
end
section
/-! CutLabels -/
set_option maxRecDepth 100000
def RX0 : String := "CutLabels"
def TX0 : u_T := fun k => match k with
  | 0 => ("CutLabels", "costZero", "[I", true)
  | 1 => ("CutLabels", "costOne", "[I", true)
  | 2 => ("CutLabels", "there", "[Z", true)
  | 3 => ("CutLabels", "tieI", "[I", true)
  | 4 => ("CutLabels", "tieJ", "[I", true)
  | 5 => ("CutLabels", "tieU", "[I", true)
  | 6 => ("CutLabels", "tieV", "[I", true)
  | 7 => ("CutLabels", "room", "[I", true)
  | 8 => ("CutLabels", "reachedFrom", "[I", true)
  | 9 => ("CutLabels", "queueEnd", "I", false)
  | _ => ("CutLabels", "queue", "[I", true)
def tyX0 : Nat → FieldType := fun k => match k with
  | 0 => .array .int
  | 1 => .array .int
  | 2 => .array .boolean
  | 3 => .array .int
  | 4 => .array .int
  | 5 => .array .int
  | 6 => .array .int
  | 7 => .array .int
  | 8 => .array .int
  | 9 => .int
  | _ => .array .int
abbrev wsX00 : List Cond := u_ws RX0 TX0 11
theorem nmX0 : ∀ a, a < 11 → ∀ b, b < 11 → a ≠ b → (TX0 a).2.1 ≠ (TX0 b).2.1 := by decide +kernel
theorem tyX0_ok : ∀ k, k < 11 → parseFieldDescriptor (TX0 k).2.2.1 = some (tyX0 k) := by decide +kernel
abbrev cX0_init : ByteArray := prog_1_method_1_code
def yX0_init : MethodName := ⟨RX0, "<init>", "()V"⟩
theorem dX0_init_0 : decode cX0_init 0 = .ok (.aload_n 0, 1) := by decide +kernel
theorem dX0_init_1 : decode cX0_init 1 = .ok (.invokespecial 1, 3) := by decide +kernel
theorem dX0_init_4 : decode cX0_init 4 = .ok (.aload_n 0, 1) := by decide +kernel
theorem dX0_init_5 : decode cX0_init 5 = .ok (.bipush 9, 2) := by decide +kernel
theorem dX0_init_7 : decode cX0_init 7 = .ok (.newarray .int, 2) := by decide +kernel
theorem dX0_init_9 : decode cX0_init 9 = .ok (.putfield 7, 3) := by decide +kernel
theorem dX0_init_12 : decode cX0_init 12 = .ok (.aload_n 0, 1) := by decide +kernel
theorem dX0_init_13 : decode cX0_init 13 = .ok (.bipush 9, 2) := by decide +kernel
theorem dX0_init_15 : decode cX0_init 15 = .ok (.newarray .int, 2) := by decide +kernel
theorem dX0_init_17 : decode cX0_init 17 = .ok (.putfield 13, 3) := by decide +kernel
theorem dX0_init_20 : decode cX0_init 20 = .ok (.aload_n 0, 1) := by decide +kernel
theorem dX0_init_21 : decode cX0_init 21 = .ok (.bipush 16, 2) := by decide +kernel
theorem dX0_init_23 : decode cX0_init 23 = .ok (.newarray .boolean, 2) := by decide +kernel
theorem dX0_init_25 : decode cX0_init 25 = .ok (.putfield 16, 3) := by decide +kernel
theorem dX0_init_28 : decode cX0_init 28 = .ok (.aload_n 0, 1) := by decide +kernel
theorem dX0_init_29 : decode cX0_init 29 = .ok (.bipush 16, 2) := by decide +kernel
theorem dX0_init_31 : decode cX0_init 31 = .ok (.newarray .int, 2) := by decide +kernel
theorem dX0_init_33 : decode cX0_init 33 = .ok (.putfield 20, 3) := by decide +kernel
theorem dX0_init_36 : decode cX0_init 36 = .ok (.aload_n 0, 1) := by decide +kernel
theorem dX0_init_37 : decode cX0_init 37 = .ok (.bipush 16, 2) := by decide +kernel
theorem dX0_init_39 : decode cX0_init 39 = .ok (.newarray .int, 2) := by decide +kernel
theorem dX0_init_41 : decode cX0_init 41 = .ok (.putfield 23, 3) := by decide +kernel
theorem dX0_init_44 : decode cX0_init 44 = .ok (.aload_n 0, 1) := by decide +kernel
theorem dX0_init_45 : decode cX0_init 45 = .ok (.bipush 16, 2) := by decide +kernel
theorem dX0_init_47 : decode cX0_init 47 = .ok (.newarray .int, 2) := by decide +kernel
theorem dX0_init_49 : decode cX0_init 49 = .ok (.putfield 26, 3) := by decide +kernel
theorem dX0_init_52 : decode cX0_init 52 = .ok (.aload_n 0, 1) := by decide +kernel
theorem dX0_init_53 : decode cX0_init 53 = .ok (.bipush 16, 2) := by decide +kernel
theorem dX0_init_55 : decode cX0_init 55 = .ok (.newarray .int, 2) := by decide +kernel
theorem dX0_init_57 : decode cX0_init 57 = .ok (.putfield 29, 3) := by decide +kernel
theorem dX0_init_60 : decode cX0_init 60 = .ok (.aload_n 0, 1) := by decide +kernel
theorem dX0_init_61 : decode cX0_init 61 = .ok (.bipush 121, 2) := by decide +kernel
theorem dX0_init_63 : decode cX0_init 63 = .ok (.newarray .int, 2) := by decide +kernel
theorem dX0_init_65 : decode cX0_init 65 = .ok (.putfield 32, 3) := by decide +kernel
theorem dX0_init_68 : decode cX0_init 68 = .ok (.aload_n 0, 1) := by decide +kernel
theorem dX0_init_69 : decode cX0_init 69 = .ok (.bipush 11, 2) := by decide +kernel
theorem dX0_init_71 : decode cX0_init 71 = .ok (.newarray .int, 2) := by decide +kernel
theorem dX0_init_73 : decode cX0_init 73 = .ok (.putfield 35, 3) := by decide +kernel
theorem dX0_init_76 : decode cX0_init 76 = .ok (.aload_n 0, 1) := by decide +kernel
theorem dX0_init_77 : decode cX0_init 77 = .ok (.bipush 11, 2) := by decide +kernel
theorem dX0_init_79 : decode cX0_init 79 = .ok (.newarray .int, 2) := by decide +kernel
theorem dX0_init_81 : decode cX0_init 81 = .ok (.putfield 38, 3) := by decide +kernel
theorem dX0_init_84 : decode cX0_init 84 = .ok (.return_, 1) := by decide +kernel
abbrev cX0_cost : ByteArray := prog_1_method_2_code
def yX0_cost : MethodName := ⟨RX0, "cost", "(III)I"⟩
theorem dX0_cost_0 : decode cX0_cost 0 = .ok (.iload_n 1, 1) := by decide +kernel
theorem dX0_cost_1 : decode cX0_cost 1 = .ok (.invokestatic 41, 3) := by decide +kernel
theorem dX0_cost_4 : decode cX0_cost 4 = .ok (.ifCond .eq 17, 3) := by decide +kernel
theorem dX0_cost_7 : decode cX0_cost 7 = .ok (.iload_n 2, 1) := by decide +kernel
theorem dX0_cost_8 : decode cX0_cost 8 = .ok (.invokestatic 45, 3) := by decide +kernel
theorem dX0_cost_11 : decode cX0_cost 11 = .ok (.ifCond .eq 10, 3) := by decide +kernel
theorem dX0_cost_14 : decode cX0_cost 14 = .ok (.iload_n 3, 1) := by decide +kernel
theorem dX0_cost_15 : decode cX0_cost 15 = .ok (.invokestatic 45, 3) := by decide +kernel
theorem dX0_cost_18 : decode cX0_cost 18 = .ok (.ifCond .ne 5, 3) := by decide +kernel
theorem dX0_cost_21 : decode cX0_cost 21 = .ok (.iconst (-1), 1) := by decide +kernel
theorem dX0_cost_22 : decode cX0_cost 22 = .ok (.ireturn, 1) := by decide +kernel
theorem dX0_cost_23 : decode cX0_cost 23 = .ok (.aload_n 0, 1) := by decide +kernel
theorem dX0_cost_24 : decode cX0_cost 24 = .ok (.getfield 7, 3) := by decide +kernel
theorem dX0_cost_27 : decode cX0_cost 27 = .ok (.iload_n 1, 1) := by decide +kernel
theorem dX0_cost_28 : decode cX0_cost 28 = .ok (.iload_n 2, 1) := by decide +kernel
theorem dX0_cost_29 : decode cX0_cost 29 = .ok (.iastore, 1) := by decide +kernel
theorem dX0_cost_30 : decode cX0_cost 30 = .ok (.aload_n 0, 1) := by decide +kernel
theorem dX0_cost_31 : decode cX0_cost 31 = .ok (.getfield 13, 3) := by decide +kernel
theorem dX0_cost_34 : decode cX0_cost 34 = .ok (.iload_n 1, 1) := by decide +kernel
theorem dX0_cost_35 : decode cX0_cost 35 = .ok (.iload_n 3, 1) := by decide +kernel
theorem dX0_cost_36 : decode cX0_cost 36 = .ok (.iastore, 1) := by decide +kernel
theorem dX0_cost_37 : decode cX0_cost 37 = .ok (.iconst 0, 1) := by decide +kernel
theorem dX0_cost_38 : decode cX0_cost 38 = .ok (.ireturn, 1) := by decide +kernel
abbrev cX0_isPlace : ByteArray := prog_1_method_11_code
def yX0_isPlace : MethodName := ⟨RX0, "isPlace", "(I)Z"⟩
theorem dX0_isPlace_0 : decode cX0_isPlace 0 = .ok (.iload_n 0, 1) := by decide +kernel
theorem dX0_isPlace_1 : decode cX0_isPlace 1 = .ok (.ifCond .lt 13, 3) := by decide +kernel
theorem dX0_isPlace_4 : decode cX0_isPlace 4 = .ok (.iload_n 0, 1) := by decide +kernel
theorem dX0_isPlace_5 : decode cX0_isPlace 5 = .ok (.bipush 8, 2) := by decide +kernel
theorem dX0_isPlace_7 : decode cX0_isPlace 7 = .ok (.if_icmp .gt 7, 3) := by decide +kernel
theorem dX0_isPlace_10 : decode cX0_isPlace 10 = .ok (.iconst 1, 1) := by decide +kernel
theorem dX0_isPlace_11 : decode cX0_isPlace 11 = .ok (.goto 4, 3) := by decide +kernel
theorem dX0_isPlace_14 : decode cX0_isPlace 14 = .ok (.iconst 0, 1) := by decide +kernel
theorem dX0_isPlace_15 : decode cX0_isPlace 15 = .ok (.ireturn, 1) := by decide +kernel
abbrev cX0_isCost : ByteArray := prog_1_method_12_code
def yX0_isCost : MethodName := ⟨RX0, "isCost", "(I)Z"⟩
theorem dX0_isCost_0 : decode cX0_isCost 0 = .ok (.iload_n 0, 1) := by decide +kernel
theorem dX0_isCost_1 : decode cX0_isCost 1 = .ok (.ifCond .lt 13, 3) := by decide +kernel
theorem dX0_isCost_4 : decode cX0_isCost 4 = .ok (.iload_n 0, 1) := by decide +kernel
theorem dX0_isCost_5 : decode cX0_isCost 5 = .ok (.bipush 100, 2) := by decide +kernel
theorem dX0_isCost_7 : decode cX0_isCost 7 = .ok (.if_icmp .gt 7, 3) := by decide +kernel
theorem dX0_isCost_10 : decode cX0_isCost 10 = .ok (.iconst 1, 1) := by decide +kernel
theorem dX0_isCost_11 : decode cX0_isCost 11 = .ok (.goto 4, 3) := by decide +kernel
theorem dX0_isCost_14 : decode cX0_isCost 14 = .ok (.iconst 0, 1) := by decide +kernel
theorem dX0_isCost_15 : decode cX0_isCost 15 = .ok (.ireturn, 1) := by decide +kernel
abbrev cX0_tie : ByteArray := prog_1_method_3_code
def yX0_tie : MethodName := ⟨RX0, "tie", "(IIIII)I"⟩
theorem dX0_tie_0 : decode cX0_tie 0 = .ok (.iload_n 1, 1) := by decide +kernel
theorem dX0_tie_1 : decode cX0_tie 1 = .ok (.ifCond .lt 44, 3) := by decide +kernel
theorem dX0_tie_4 : decode cX0_tie 4 = .ok (.iload_n 1, 1) := by decide +kernel
theorem dX0_tie_5 : decode cX0_tie 5 = .ok (.bipush 15, 2) := by decide +kernel
theorem dX0_tie_7 : decode cX0_tie 7 = .ok (.if_icmp .gt 38, 3) := by decide +kernel
theorem dX0_tie_10 : decode cX0_tie 10 = .ok (.iload_n 2, 1) := by decide +kernel
theorem dX0_tie_11 : decode cX0_tie 11 = .ok (.invokestatic 41, 3) := by decide +kernel
theorem dX0_tie_14 : decode cX0_tie 14 = .ok (.ifCond .eq 31, 3) := by decide +kernel
theorem dX0_tie_17 : decode cX0_tie 17 = .ok (.iload_n 3, 1) := by decide +kernel
theorem dX0_tie_18 : decode cX0_tie 18 = .ok (.invokestatic 41, 3) := by decide +kernel
theorem dX0_tie_21 : decode cX0_tie 21 = .ok (.ifCond .eq 24, 3) := by decide +kernel
theorem dX0_tie_24 : decode cX0_tie 24 = .ok (.iload_n 2, 1) := by decide +kernel
theorem dX0_tie_25 : decode cX0_tie 25 = .ok (.iload_n 3, 1) := by decide +kernel
theorem dX0_tie_26 : decode cX0_tie 26 = .ok (.if_icmp .eq 19, 3) := by decide +kernel
theorem dX0_tie_29 : decode cX0_tie 29 = .ok (.iload 4, 2) := by decide +kernel
theorem dX0_tie_31 : decode cX0_tie 31 = .ok (.invokestatic 45, 3) := by decide +kernel
theorem dX0_tie_34 : decode cX0_tie 34 = .ok (.ifCond .eq 11, 3) := by decide +kernel
theorem dX0_tie_37 : decode cX0_tie 37 = .ok (.iload 5, 2) := by decide +kernel
theorem dX0_tie_39 : decode cX0_tie 39 = .ok (.invokestatic 45, 3) := by decide +kernel
theorem dX0_tie_42 : decode cX0_tie 42 = .ok (.ifCond .ne 5, 3) := by decide +kernel
theorem dX0_tie_45 : decode cX0_tie 45 = .ok (.iconst (-1), 1) := by decide +kernel
theorem dX0_tie_46 : decode cX0_tie 46 = .ok (.ireturn, 1) := by decide +kernel
theorem dX0_tie_47 : decode cX0_tie 47 = .ok (.aload_n 0, 1) := by decide +kernel
theorem dX0_tie_48 : decode cX0_tie 48 = .ok (.getfield 16, 3) := by decide +kernel
theorem dX0_tie_51 : decode cX0_tie 51 = .ok (.iload_n 1, 1) := by decide +kernel
theorem dX0_tie_52 : decode cX0_tie 52 = .ok (.iconst 1, 1) := by decide +kernel
theorem dX0_tie_53 : decode cX0_tie 53 = .ok (.bastore, 1) := by decide +kernel
theorem dX0_tie_54 : decode cX0_tie 54 = .ok (.aload_n 0, 1) := by decide +kernel
theorem dX0_tie_55 : decode cX0_tie 55 = .ok (.getfield 20, 3) := by decide +kernel
theorem dX0_tie_58 : decode cX0_tie 58 = .ok (.iload_n 1, 1) := by decide +kernel
theorem dX0_tie_59 : decode cX0_tie 59 = .ok (.iload_n 2, 1) := by decide +kernel
theorem dX0_tie_60 : decode cX0_tie 60 = .ok (.iastore, 1) := by decide +kernel
theorem dX0_tie_61 : decode cX0_tie 61 = .ok (.aload_n 0, 1) := by decide +kernel
theorem dX0_tie_62 : decode cX0_tie 62 = .ok (.getfield 23, 3) := by decide +kernel
theorem dX0_tie_65 : decode cX0_tie 65 = .ok (.iload_n 1, 1) := by decide +kernel
theorem dX0_tie_66 : decode cX0_tie 66 = .ok (.iload_n 3, 1) := by decide +kernel
theorem dX0_tie_67 : decode cX0_tie 67 = .ok (.iastore, 1) := by decide +kernel
theorem dX0_tie_68 : decode cX0_tie 68 = .ok (.aload_n 0, 1) := by decide +kernel
theorem dX0_tie_69 : decode cX0_tie 69 = .ok (.getfield 26, 3) := by decide +kernel
theorem dX0_tie_72 : decode cX0_tie 72 = .ok (.iload_n 1, 1) := by decide +kernel
theorem dX0_tie_73 : decode cX0_tie 73 = .ok (.iload 4, 2) := by decide +kernel
theorem dX0_tie_75 : decode cX0_tie 75 = .ok (.iastore, 1) := by decide +kernel
theorem dX0_tie_76 : decode cX0_tie 76 = .ok (.aload_n 0, 1) := by decide +kernel
theorem dX0_tie_77 : decode cX0_tie 77 = .ok (.getfield 29, 3) := by decide +kernel
theorem dX0_tie_80 : decode cX0_tie 80 = .ok (.iload_n 1, 1) := by decide +kernel
theorem dX0_tie_81 : decode cX0_tie 81 = .ok (.iload 5, 2) := by decide +kernel
theorem dX0_tie_83 : decode cX0_tie 83 = .ok (.iastore, 1) := by decide +kernel
theorem dX0_tie_84 : decode cX0_tie 84 = .ok (.iconst 0, 1) := by decide +kernel
theorem dX0_tie_85 : decode cX0_tie 85 = .ok (.ireturn, 1) := by decide +kernel
abbrev cX0_cut : ByteArray := prog_1_method_4_code
def yX0_cut : MethodName := ⟨RX0, "cut", "(I)I"⟩
theorem dX0_cut_0 : decode cX0_cut 0 = .ok (.iload_n 1, 1) := by decide +kernel
theorem dX0_cut_1 : decode cX0_cut 1 = .ok (.ifCond .lt 9, 3) := by decide +kernel
theorem dX0_cut_4 : decode cX0_cut 4 = .ok (.iload_n 1, 1) := by decide +kernel
theorem dX0_cut_5 : decode cX0_cut 5 = .ok (.bipush 15, 2) := by decide +kernel
theorem dX0_cut_7 : decode cX0_cut 7 = .ok (.if_icmp .le 5, 3) := by decide +kernel
theorem dX0_cut_10 : decode cX0_cut 10 = .ok (.iconst (-1), 1) := by decide +kernel
theorem dX0_cut_11 : decode cX0_cut 11 = .ok (.ireturn, 1) := by decide +kernel
theorem dX0_cut_12 : decode cX0_cut 12 = .ok (.aload_n 0, 1) := by decide +kernel
theorem dX0_cut_13 : decode cX0_cut 13 = .ok (.getfield 16, 3) := by decide +kernel
theorem dX0_cut_16 : decode cX0_cut 16 = .ok (.iload_n 1, 1) := by decide +kernel
theorem dX0_cut_17 : decode cX0_cut 17 = .ok (.baload, 1) := by decide +kernel
theorem dX0_cut_18 : decode cX0_cut 18 = .ok (.ifCond .eq 7, 3) := by decide +kernel
theorem dX0_cut_21 : decode cX0_cut 21 = .ok (.iconst 1, 1) := by decide +kernel
theorem dX0_cut_22 : decode cX0_cut 22 = .ok (.goto 4, 3) := by decide +kernel
theorem dX0_cut_25 : decode cX0_cut 25 = .ok (.iconst 0, 1) := by decide +kernel
theorem dX0_cut_26 : decode cX0_cut 26 = .ok (.istore_n 2, 1) := by decide +kernel
theorem dX0_cut_27 : decode cX0_cut 27 = .ok (.aload_n 0, 1) := by decide +kernel
theorem dX0_cut_28 : decode cX0_cut 28 = .ok (.getfield 16, 3) := by decide +kernel
theorem dX0_cut_31 : decode cX0_cut 31 = .ok (.iload_n 1, 1) := by decide +kernel
theorem dX0_cut_32 : decode cX0_cut 32 = .ok (.iconst 0, 1) := by decide +kernel
theorem dX0_cut_33 : decode cX0_cut 33 = .ok (.bastore, 1) := by decide +kernel
theorem dX0_cut_34 : decode cX0_cut 34 = .ok (.iload_n 2, 1) := by decide +kernel
theorem dX0_cut_35 : decode cX0_cut 35 = .ok (.ireturn, 1) := by decide +kernel
abbrev cX0_least : ByteArray := prog_1_method_5_code
def yX0_least : MethodName := ⟨RX0, "least", "()I"⟩
theorem dX0_least_0 : decode cX0_least 0 = .ok (.aload_n 0, 1) := by decide +kernel
theorem dX0_least_1 : decode cX0_least 1 = .ok (.invokevirtual 48, 3) := by decide +kernel
theorem dX0_least_4 : decode cX0_least 4 = .ok (.aload_n 0, 1) := by decide +kernel
theorem dX0_least_5 : decode cX0_least 5 = .ok (.invokevirtual 51, 3) := by decide +kernel
theorem dX0_least_8 : decode cX0_least 8 = .ok (.ireturn, 1) := by decide +kernel
abbrev cX0_build : ByteArray := prog_1_method_13_code
def yX0_build : MethodName := ⟨RX0, "build", "()V"⟩
theorem dX0_build_0 : decode cX0_build 0 = .ok (.iconst 0, 1) := by decide +kernel
theorem dX0_build_1 : decode cX0_build 1 = .ok (.istore_n 1, 1) := by decide +kernel
theorem dX0_build_2 : decode cX0_build 2 = .ok (.iload_n 1, 1) := by decide +kernel
theorem dX0_build_3 : decode cX0_build 3 = .ok (.bipush 121, 2) := by decide +kernel
theorem dX0_build_5 : decode cX0_build 5 = .ok (.if_icmp .ge 16, 3) := by decide +kernel
theorem dX0_build_8 : decode cX0_build 8 = .ok (.aload_n 0, 1) := by decide +kernel
theorem dX0_build_9 : decode cX0_build 9 = .ok (.getfield 32, 3) := by decide +kernel
theorem dX0_build_12 : decode cX0_build 12 = .ok (.iload_n 1, 1) := by decide +kernel
theorem dX0_build_13 : decode cX0_build 13 = .ok (.iconst 0, 1) := by decide +kernel
theorem dX0_build_14 : decode cX0_build 14 = .ok (.iastore, 1) := by decide +kernel
theorem dX0_build_15 : decode cX0_build 15 = .ok (.iinc 1 1, 3) := by decide +kernel
theorem dX0_build_18 : decode cX0_build 18 = .ok (.goto (-16), 3) := by decide +kernel
theorem dX0_build_21 : decode cX0_build 21 = .ok (.iconst 0, 1) := by decide +kernel
theorem dX0_build_22 : decode cX0_build 22 = .ok (.istore_n 1, 1) := by decide +kernel
theorem dX0_build_23 : decode cX0_build 23 = .ok (.iload_n 1, 1) := by decide +kernel
theorem dX0_build_24 : decode cX0_build 24 = .ok (.bipush 9, 2) := by decide +kernel
theorem dX0_build_26 : decode cX0_build 26 = .ok (.if_icmp .ge 42, 3) := by decide +kernel
theorem dX0_build_29 : decode cX0_build 29 = .ok (.aload_n 0, 1) := by decide +kernel
theorem dX0_build_30 : decode cX0_build 30 = .ok (.getfield 32, 3) := by decide +kernel
theorem dX0_build_33 : decode cX0_build 33 = .ok (.bipush 99, 2) := by decide +kernel
theorem dX0_build_35 : decode cX0_build 35 = .ok (.iload_n 1, 1) := by decide +kernel
theorem dX0_build_36 : decode cX0_build 36 = .ok (.iadd, 1) := by decide +kernel
theorem dX0_build_37 : decode cX0_build 37 = .ok (.aload_n 0, 1) := by decide +kernel
theorem dX0_build_38 : decode cX0_build 38 = .ok (.getfield 13, 3) := by decide +kernel
theorem dX0_build_41 : decode cX0_build 41 = .ok (.iload_n 1, 1) := by decide +kernel
theorem dX0_build_42 : decode cX0_build 42 = .ok (.iaload, 1) := by decide +kernel
theorem dX0_build_43 : decode cX0_build 43 = .ok (.iastore, 1) := by decide +kernel
theorem dX0_build_44 : decode cX0_build 44 = .ok (.aload_n 0, 1) := by decide +kernel
theorem dX0_build_45 : decode cX0_build 45 = .ok (.getfield 32, 3) := by decide +kernel
theorem dX0_build_48 : decode cX0_build 48 = .ok (.bipush 11, 2) := by decide +kernel
theorem dX0_build_50 : decode cX0_build 50 = .ok (.iload_n 1, 1) := by decide +kernel
theorem dX0_build_51 : decode cX0_build 51 = .ok (.imul, 1) := by decide +kernel
theorem dX0_build_52 : decode cX0_build 52 = .ok (.bipush 10, 2) := by decide +kernel
theorem dX0_build_54 : decode cX0_build 54 = .ok (.iadd, 1) := by decide +kernel
theorem dX0_build_55 : decode cX0_build 55 = .ok (.aload_n 0, 1) := by decide +kernel
theorem dX0_build_56 : decode cX0_build 56 = .ok (.getfield 7, 3) := by decide +kernel
theorem dX0_build_59 : decode cX0_build 59 = .ok (.iload_n 1, 1) := by decide +kernel
theorem dX0_build_60 : decode cX0_build 60 = .ok (.iaload, 1) := by decide +kernel
theorem dX0_build_61 : decode cX0_build 61 = .ok (.iastore, 1) := by decide +kernel
theorem dX0_build_62 : decode cX0_build 62 = .ok (.iinc 1 1, 3) := by decide +kernel
theorem dX0_build_65 : decode cX0_build 65 = .ok (.goto (-42), 3) := by decide +kernel
theorem dX0_build_68 : decode cX0_build 68 = .ok (.iconst 0, 1) := by decide +kernel
theorem dX0_build_69 : decode cX0_build 69 = .ok (.istore_n 1, 1) := by decide +kernel
theorem dX0_build_70 : decode cX0_build 70 = .ok (.iload_n 1, 1) := by decide +kernel
theorem dX0_build_71 : decode cX0_build 71 = .ok (.bipush 16, 2) := by decide +kernel
theorem dX0_build_73 : decode cX0_build 73 = .ok (.if_icmp .ge 78, 3) := by decide +kernel
theorem dX0_build_76 : decode cX0_build 76 = .ok (.aload_n 0, 1) := by decide +kernel
theorem dX0_build_77 : decode cX0_build 77 = .ok (.getfield 16, 3) := by decide +kernel
theorem dX0_build_80 : decode cX0_build 80 = .ok (.iload_n 1, 1) := by decide +kernel
theorem dX0_build_81 : decode cX0_build 81 = .ok (.baload, 1) := by decide +kernel
theorem dX0_build_82 : decode cX0_build 82 = .ok (.ifCond .eq 63, 3) := by decide +kernel
theorem dX0_build_85 : decode cX0_build 85 = .ok (.aload_n 0, 1) := by decide +kernel
theorem dX0_build_86 : decode cX0_build 86 = .ok (.getfield 32, 3) := by decide +kernel
theorem dX0_build_89 : decode cX0_build 89 = .ok (.bipush 11, 2) := by decide +kernel
theorem dX0_build_91 : decode cX0_build 91 = .ok (.aload_n 0, 1) := by decide +kernel
theorem dX0_build_92 : decode cX0_build 92 = .ok (.getfield 20, 3) := by decide +kernel
theorem dX0_build_95 : decode cX0_build 95 = .ok (.iload_n 1, 1) := by decide +kernel
theorem dX0_build_96 : decode cX0_build 96 = .ok (.iaload, 1) := by decide +kernel
theorem dX0_build_97 : decode cX0_build 97 = .ok (.imul, 1) := by decide +kernel
theorem dX0_build_98 : decode cX0_build 98 = .ok (.aload_n 0, 1) := by decide +kernel
theorem dX0_build_99 : decode cX0_build 99 = .ok (.getfield 23, 3) := by decide +kernel
theorem dX0_build_102 : decode cX0_build 102 = .ok (.iload_n 1, 1) := by decide +kernel
theorem dX0_build_103 : decode cX0_build 103 = .ok (.iaload, 1) := by decide +kernel
theorem dX0_build_104 : decode cX0_build 104 = .ok (.iadd, 1) := by decide +kernel
theorem dX0_build_105 : decode cX0_build 105 = .ok (.dup2, 1) := by decide +kernel
theorem dX0_build_106 : decode cX0_build 106 = .ok (.iaload, 1) := by decide +kernel
theorem dX0_build_107 : decode cX0_build 107 = .ok (.aload_n 0, 1) := by decide +kernel
theorem dX0_build_108 : decode cX0_build 108 = .ok (.getfield 26, 3) := by decide +kernel
theorem dX0_build_111 : decode cX0_build 111 = .ok (.iload_n 1, 1) := by decide +kernel
theorem dX0_build_112 : decode cX0_build 112 = .ok (.iaload, 1) := by decide +kernel
theorem dX0_build_113 : decode cX0_build 113 = .ok (.iadd, 1) := by decide +kernel
theorem dX0_build_114 : decode cX0_build 114 = .ok (.iastore, 1) := by decide +kernel
theorem dX0_build_115 : decode cX0_build 115 = .ok (.aload_n 0, 1) := by decide +kernel
theorem dX0_build_116 : decode cX0_build 116 = .ok (.getfield 32, 3) := by decide +kernel
theorem dX0_build_119 : decode cX0_build 119 = .ok (.bipush 11, 2) := by decide +kernel
theorem dX0_build_121 : decode cX0_build 121 = .ok (.aload_n 0, 1) := by decide +kernel
theorem dX0_build_122 : decode cX0_build 122 = .ok (.getfield 23, 3) := by decide +kernel
theorem dX0_build_125 : decode cX0_build 125 = .ok (.iload_n 1, 1) := by decide +kernel
theorem dX0_build_126 : decode cX0_build 126 = .ok (.iaload, 1) := by decide +kernel
theorem dX0_build_127 : decode cX0_build 127 = .ok (.imul, 1) := by decide +kernel
theorem dX0_build_128 : decode cX0_build 128 = .ok (.aload_n 0, 1) := by decide +kernel
theorem dX0_build_129 : decode cX0_build 129 = .ok (.getfield 20, 3) := by decide +kernel
theorem dX0_build_132 : decode cX0_build 132 = .ok (.iload_n 1, 1) := by decide +kernel
theorem dX0_build_133 : decode cX0_build 133 = .ok (.iaload, 1) := by decide +kernel
theorem dX0_build_134 : decode cX0_build 134 = .ok (.iadd, 1) := by decide +kernel
theorem dX0_build_135 : decode cX0_build 135 = .ok (.dup2, 1) := by decide +kernel
theorem dX0_build_136 : decode cX0_build 136 = .ok (.iaload, 1) := by decide +kernel
theorem dX0_build_137 : decode cX0_build 137 = .ok (.aload_n 0, 1) := by decide +kernel
theorem dX0_build_138 : decode cX0_build 138 = .ok (.getfield 29, 3) := by decide +kernel
theorem dX0_build_141 : decode cX0_build 141 = .ok (.iload_n 1, 1) := by decide +kernel
theorem dX0_build_142 : decode cX0_build 142 = .ok (.iaload, 1) := by decide +kernel
theorem dX0_build_143 : decode cX0_build 143 = .ok (.iadd, 1) := by decide +kernel
theorem dX0_build_144 : decode cX0_build 144 = .ok (.iastore, 1) := by decide +kernel
theorem dX0_build_145 : decode cX0_build 145 = .ok (.iinc 1 1, 3) := by decide +kernel
theorem dX0_build_148 : decode cX0_build 148 = .ok (.goto (-78), 3) := by decide +kernel
theorem dX0_build_151 : decode cX0_build 151 = .ok (.return_, 1) := by decide +kernel
abbrev cX0_fill : ByteArray := prog_1_method_15_code
def yX0_fill : MethodName := ⟨RX0, "fill", "()I"⟩
theorem dX0_fill_0 : decode cX0_fill 0 = .ok (.iconst 0, 1) := by decide +kernel
theorem dX0_fill_1 : decode cX0_fill 1 = .ok (.istore_n 1, 1) := by decide +kernel
theorem dX0_fill_2 : decode cX0_fill 2 = .ok (.aload_n 0, 1) := by decide +kernel
theorem dX0_fill_3 : decode cX0_fill 3 = .ok (.bipush 9, 2) := by decide +kernel
theorem dX0_fill_5 : decode cX0_fill 5 = .ok (.invokevirtual 55, 3) := by decide +kernel
theorem dX0_fill_8 : decode cX0_fill 8 = .ok (.iconst 0, 1) := by decide +kernel
theorem dX0_fill_9 : decode cX0_fill 9 = .ok (.istore_n 2, 1) := by decide +kernel
theorem dX0_fill_10 : decode cX0_fill 10 = .ok (.iload_n 2, 1) := by decide +kernel
theorem dX0_fill_11 : decode cX0_fill 11 = .ok (.sipush 1000, 3) := by decide +kernel
theorem dX0_fill_14 : decode cX0_fill 14 = .ok (.if_icmp .ge 108, 3) := by decide +kernel
theorem dX0_fill_17 : decode cX0_fill 17 = .ok (.aload_n 0, 1) := by decide +kernel
theorem dX0_fill_18 : decode cX0_fill 18 = .ok (.getfield 35, 3) := by decide +kernel
theorem dX0_fill_21 : decode cX0_fill 21 = .ok (.bipush 10, 2) := by decide +kernel
theorem dX0_fill_23 : decode cX0_fill 23 = .ok (.iaload, 1) := by decide +kernel
theorem dX0_fill_24 : decode cX0_fill 24 = .ok (.ifCond .lt 98, 3) := by decide +kernel
theorem dX0_fill_27 : decode cX0_fill 27 = .ok (.aload_n 0, 1) := by decide +kernel
theorem dX0_fill_28 : decode cX0_fill 28 = .ok (.invokevirtual 64, 3) := by decide +kernel
theorem dX0_fill_31 : decode cX0_fill 31 = .ok (.istore_n 3, 1) := by decide +kernel
theorem dX0_fill_32 : decode cX0_fill 32 = .ok (.bipush 10, 2) := by decide +kernel
theorem dX0_fill_34 : decode cX0_fill 34 = .ok (.istore 4, 2) := by decide +kernel
theorem dX0_fill_36 : decode cX0_fill 36 = .ok (.iconst 0, 1) := by decide +kernel
theorem dX0_fill_37 : decode cX0_fill 37 = .ok (.istore 5, 2) := by decide +kernel
theorem dX0_fill_39 : decode cX0_fill 39 = .ok (.iload 5, 2) := by decide +kernel
theorem dX0_fill_41 : decode cX0_fill 41 = .ok (.bipush 11, 2) := by decide +kernel
theorem dX0_fill_43 : decode cX0_fill 43 = .ok (.if_icmp .ge 63, 3) := by decide +kernel
theorem dX0_fill_46 : decode cX0_fill 46 = .ok (.iload 4, 2) := by decide +kernel
theorem dX0_fill_48 : decode cX0_fill 48 = .ok (.bipush 9, 2) := by decide +kernel
theorem dX0_fill_50 : decode cX0_fill 50 = .ok (.if_icmp .eq 56, 3) := by decide +kernel
theorem dX0_fill_53 : decode cX0_fill 53 = .ok (.aload_n 0, 1) := by decide +kernel
theorem dX0_fill_54 : decode cX0_fill 54 = .ok (.getfield 35, 3) := by decide +kernel
theorem dX0_fill_57 : decode cX0_fill 57 = .ok (.iload 4, 2) := by decide +kernel
theorem dX0_fill_59 : decode cX0_fill 59 = .ok (.iaload, 1) := by decide +kernel
theorem dX0_fill_60 : decode cX0_fill 60 = .ok (.istore 6, 2) := by decide +kernel
theorem dX0_fill_62 : decode cX0_fill 62 = .ok (.aload_n 0, 1) := by decide +kernel
theorem dX0_fill_63 : decode cX0_fill 63 = .ok (.getfield 32, 3) := by decide +kernel
theorem dX0_fill_66 : decode cX0_fill 66 = .ok (.bipush 11, 2) := by decide +kernel
theorem dX0_fill_68 : decode cX0_fill 68 = .ok (.iload 6, 2) := by decide +kernel
theorem dX0_fill_70 : decode cX0_fill 70 = .ok (.imul, 1) := by decide +kernel
theorem dX0_fill_71 : decode cX0_fill 71 = .ok (.iload 4, 2) := by decide +kernel
theorem dX0_fill_73 : decode cX0_fill 73 = .ok (.iadd, 1) := by decide +kernel
theorem dX0_fill_74 : decode cX0_fill 74 = .ok (.dup2, 1) := by decide +kernel
theorem dX0_fill_75 : decode cX0_fill 75 = .ok (.iaload, 1) := by decide +kernel
theorem dX0_fill_76 : decode cX0_fill 76 = .ok (.iload_n 3, 1) := by decide +kernel
theorem dX0_fill_77 : decode cX0_fill 77 = .ok (.isub, 1) := by decide +kernel
theorem dX0_fill_78 : decode cX0_fill 78 = .ok (.iastore, 1) := by decide +kernel
theorem dX0_fill_79 : decode cX0_fill 79 = .ok (.aload_n 0, 1) := by decide +kernel
theorem dX0_fill_80 : decode cX0_fill 80 = .ok (.getfield 32, 3) := by decide +kernel
theorem dX0_fill_83 : decode cX0_fill 83 = .ok (.bipush 11, 2) := by decide +kernel
theorem dX0_fill_85 : decode cX0_fill 85 = .ok (.iload 4, 2) := by decide +kernel
theorem dX0_fill_87 : decode cX0_fill 87 = .ok (.imul, 1) := by decide +kernel
theorem dX0_fill_88 : decode cX0_fill 88 = .ok (.iload 6, 2) := by decide +kernel
theorem dX0_fill_90 : decode cX0_fill 90 = .ok (.iadd, 1) := by decide +kernel
theorem dX0_fill_91 : decode cX0_fill 91 = .ok (.dup2, 1) := by decide +kernel
theorem dX0_fill_92 : decode cX0_fill 92 = .ok (.iaload, 1) := by decide +kernel
theorem dX0_fill_93 : decode cX0_fill 93 = .ok (.iload_n 3, 1) := by decide +kernel
theorem dX0_fill_94 : decode cX0_fill 94 = .ok (.iadd, 1) := by decide +kernel
theorem dX0_fill_95 : decode cX0_fill 95 = .ok (.iastore, 1) := by decide +kernel
theorem dX0_fill_96 : decode cX0_fill 96 = .ok (.iload 6, 2) := by decide +kernel
theorem dX0_fill_98 : decode cX0_fill 98 = .ok (.istore 4, 2) := by decide +kernel
theorem dX0_fill_100 : decode cX0_fill 100 = .ok (.iinc 5 1, 3) := by decide +kernel
theorem dX0_fill_103 : decode cX0_fill 103 = .ok (.goto (-64), 3) := by decide +kernel
theorem dX0_fill_106 : decode cX0_fill 106 = .ok (.iload_n 1, 1) := by decide +kernel
theorem dX0_fill_107 : decode cX0_fill 107 = .ok (.iload_n 3, 1) := by decide +kernel
theorem dX0_fill_108 : decode cX0_fill 108 = .ok (.iadd, 1) := by decide +kernel
theorem dX0_fill_109 : decode cX0_fill 109 = .ok (.istore_n 1, 1) := by decide +kernel
theorem dX0_fill_110 : decode cX0_fill 110 = .ok (.aload_n 0, 1) := by decide +kernel
theorem dX0_fill_111 : decode cX0_fill 111 = .ok (.bipush 9, 2) := by decide +kernel
theorem dX0_fill_113 : decode cX0_fill 113 = .ok (.invokevirtual 55, 3) := by decide +kernel
theorem dX0_fill_116 : decode cX0_fill 116 = .ok (.iinc 2 1, 3) := by decide +kernel
theorem dX0_fill_119 : decode cX0_fill 119 = .ok (.goto (-109), 3) := by decide +kernel
theorem dX0_fill_122 : decode cX0_fill 122 = .ok (.iload_n 1, 1) := by decide +kernel
theorem dX0_fill_123 : decode cX0_fill 123 = .ok (.ireturn, 1) := by decide +kernel
end
section
set_option maxRecDepth 100000
abbrev cX0_search : ByteArray := prog_1_method_17_code
def yX0_search : MethodName := ⟨RX0, "search", "(I)V"⟩
theorem dX0_search_0 : decode cX0_search 0 = .ok (.iconst 0, 1) := by decide +kernel
theorem dX0_search_1 : decode cX0_search 1 = .ok (.istore_n 2, 1) := by decide +kernel
theorem dX0_search_2 : decode cX0_search 2 = .ok (.iload_n 2, 1) := by decide +kernel
theorem dX0_search_3 : decode cX0_search 3 = .ok (.bipush 11, 2) := by decide +kernel
theorem dX0_search_5 : decode cX0_search 5 = .ok (.if_icmp .ge 16, 3) := by decide +kernel
theorem dX0_search_8 : decode cX0_search 8 = .ok (.aload_n 0, 1) := by decide +kernel
theorem dX0_search_9 : decode cX0_search 9 = .ok (.getfield 35, 3) := by decide +kernel
theorem dX0_search_12 : decode cX0_search 12 = .ok (.iload_n 2, 1) := by decide +kernel
theorem dX0_search_13 : decode cX0_search 13 = .ok (.iconst (-1), 1) := by decide +kernel
theorem dX0_search_14 : decode cX0_search 14 = .ok (.iastore, 1) := by decide +kernel
theorem dX0_search_15 : decode cX0_search 15 = .ok (.iinc 2 1, 3) := by decide +kernel
theorem dX0_search_18 : decode cX0_search 18 = .ok (.goto (-16), 3) := by decide +kernel
theorem dX0_search_21 : decode cX0_search 21 = .ok (.aload_n 0, 1) := by decide +kernel
theorem dX0_search_22 : decode cX0_search 22 = .ok (.getfield 35, 3) := by decide +kernel
theorem dX0_search_25 : decode cX0_search 25 = .ok (.iload_n 1, 1) := by decide +kernel
theorem dX0_search_26 : decode cX0_search 26 = .ok (.iload_n 1, 1) := by decide +kernel
theorem dX0_search_27 : decode cX0_search 27 = .ok (.iastore, 1) := by decide +kernel
theorem dX0_search_28 : decode cX0_search 28 = .ok (.aload_n 0, 1) := by decide +kernel
theorem dX0_search_29 : decode cX0_search 29 = .ok (.getfield 38, 3) := by decide +kernel
theorem dX0_search_32 : decode cX0_search 32 = .ok (.iconst 0, 1) := by decide +kernel
theorem dX0_search_33 : decode cX0_search 33 = .ok (.iload_n 1, 1) := by decide +kernel
theorem dX0_search_34 : decode cX0_search 34 = .ok (.iastore, 1) := by decide +kernel
theorem dX0_search_35 : decode cX0_search 35 = .ok (.aload_n 0, 1) := by decide +kernel
theorem dX0_search_36 : decode cX0_search 36 = .ok (.iconst 1, 1) := by decide +kernel
theorem dX0_search_37 : decode cX0_search 37 = .ok (.putfield 67, 3) := by decide +kernel
theorem dX0_search_40 : decode cX0_search 40 = .ok (.iconst 0, 1) := by decide +kernel
theorem dX0_search_41 : decode cX0_search 41 = .ok (.istore_n 2, 1) := by decide +kernel
theorem dX0_search_42 : decode cX0_search 42 = .ok (.iload_n 2, 1) := by decide +kernel
theorem dX0_search_43 : decode cX0_search 43 = .ok (.aload_n 0, 1) := by decide +kernel
theorem dX0_search_44 : decode cX0_search 44 = .ok (.getfield 67, 3) := by decide +kernel
theorem dX0_search_47 : decode cX0_search 47 = .ok (.if_icmp .ge 89, 3) := by decide +kernel
theorem dX0_search_50 : decode cX0_search 50 = .ok (.iload_n 2, 1) := by decide +kernel
theorem dX0_search_51 : decode cX0_search 51 = .ok (.bipush 11, 2) := by decide +kernel
theorem dX0_search_53 : decode cX0_search 53 = .ok (.if_icmp .ge 83, 3) := by decide +kernel
theorem dX0_search_56 : decode cX0_search 56 = .ok (.iconst 0, 1) := by decide +kernel
theorem dX0_search_57 : decode cX0_search 57 = .ok (.istore_n 3, 1) := by decide +kernel
theorem dX0_search_58 : decode cX0_search 58 = .ok (.iload_n 3, 1) := by decide +kernel
theorem dX0_search_59 : decode cX0_search 59 = .ok (.bipush 11, 2) := by decide +kernel
theorem dX0_search_61 : decode cX0_search 61 = .ok (.if_icmp .ge 69, 3) := by decide +kernel
theorem dX0_search_64 : decode cX0_search 64 = .ok (.aload_n 0, 1) := by decide +kernel
theorem dX0_search_65 : decode cX0_search 65 = .ok (.getfield 35, 3) := by decide +kernel
theorem dX0_search_68 : decode cX0_search 68 = .ok (.iload_n 3, 1) := by decide +kernel
theorem dX0_search_69 : decode cX0_search 69 = .ok (.iaload, 1) := by decide +kernel
theorem dX0_search_70 : decode cX0_search 70 = .ok (.ifCond .ge 54, 3) := by decide +kernel
theorem dX0_search_73 : decode cX0_search 73 = .ok (.aload_n 0, 1) := by decide +kernel
theorem dX0_search_74 : decode cX0_search 74 = .ok (.getfield 32, 3) := by decide +kernel
theorem dX0_search_77 : decode cX0_search 77 = .ok (.bipush 11, 2) := by decide +kernel
theorem dX0_search_79 : decode cX0_search 79 = .ok (.aload_n 0, 1) := by decide +kernel
theorem dX0_search_80 : decode cX0_search 80 = .ok (.getfield 38, 3) := by decide +kernel
theorem dX0_search_83 : decode cX0_search 83 = .ok (.iload_n 2, 1) := by decide +kernel
theorem dX0_search_84 : decode cX0_search 84 = .ok (.iaload, 1) := by decide +kernel
theorem dX0_search_85 : decode cX0_search 85 = .ok (.imul, 1) := by decide +kernel
theorem dX0_search_86 : decode cX0_search 86 = .ok (.iload_n 3, 1) := by decide +kernel
theorem dX0_search_87 : decode cX0_search 87 = .ok (.iadd, 1) := by decide +kernel
theorem dX0_search_88 : decode cX0_search 88 = .ok (.iaload, 1) := by decide +kernel
theorem dX0_search_89 : decode cX0_search 89 = .ok (.ifCond .le 35, 3) := by decide +kernel
theorem dX0_search_92 : decode cX0_search 92 = .ok (.aload_n 0, 1) := by decide +kernel
theorem dX0_search_93 : decode cX0_search 93 = .ok (.getfield 35, 3) := by decide +kernel
theorem dX0_search_96 : decode cX0_search 96 = .ok (.iload_n 3, 1) := by decide +kernel
theorem dX0_search_97 : decode cX0_search 97 = .ok (.aload_n 0, 1) := by decide +kernel
theorem dX0_search_98 : decode cX0_search 98 = .ok (.getfield 38, 3) := by decide +kernel
theorem dX0_search_101 : decode cX0_search 101 = .ok (.iload_n 2, 1) := by decide +kernel
theorem dX0_search_102 : decode cX0_search 102 = .ok (.iaload, 1) := by decide +kernel
theorem dX0_search_103 : decode cX0_search 103 = .ok (.iastore, 1) := by decide +kernel
theorem dX0_search_104 : decode cX0_search 104 = .ok (.aload_n 0, 1) := by decide +kernel
theorem dX0_search_105 : decode cX0_search 105 = .ok (.getfield 38, 3) := by decide +kernel
theorem dX0_search_108 : decode cX0_search 108 = .ok (.aload_n 0, 1) := by decide +kernel
theorem dX0_search_109 : decode cX0_search 109 = .ok (.getfield 67, 3) := by decide +kernel
theorem dX0_search_112 : decode cX0_search 112 = .ok (.iload_n 3, 1) := by decide +kernel
theorem dX0_search_113 : decode cX0_search 113 = .ok (.iastore, 1) := by decide +kernel
theorem dX0_search_114 : decode cX0_search 114 = .ok (.aload_n 0, 1) := by decide +kernel
theorem dX0_search_115 : decode cX0_search 115 = .ok (.dup, 1) := by decide +kernel
theorem dX0_search_116 : decode cX0_search 116 = .ok (.getfield 67, 3) := by decide +kernel
theorem dX0_search_119 : decode cX0_search 119 = .ok (.iconst 1, 1) := by decide +kernel
theorem dX0_search_120 : decode cX0_search 120 = .ok (.iadd, 1) := by decide +kernel
theorem dX0_search_121 : decode cX0_search 121 = .ok (.putfield 67, 3) := by decide +kernel
theorem dX0_search_124 : decode cX0_search 124 = .ok (.iinc 3 1, 3) := by decide +kernel
theorem dX0_search_127 : decode cX0_search 127 = .ok (.goto (-69), 3) := by decide +kernel
theorem dX0_search_130 : decode cX0_search 130 = .ok (.iinc 2 1, 3) := by decide +kernel
theorem dX0_search_133 : decode cX0_search 133 = .ok (.goto (-91), 3) := by decide +kernel
theorem dX0_search_136 : decode cX0_search 136 = .ok (.return_, 1) := by decide +kernel
abbrev cX0_narrowest : ByteArray := prog_1_method_16_code
def yX0_narrowest : MethodName := ⟨RX0, "narrowest", "()I"⟩
theorem dX0_narrowest_0 : decode cX0_narrowest 0 = .ok (.ldc 63, 2) := by decide +kernel
theorem dX0_narrowest_2 : decode cX0_narrowest 2 = .ok (.istore_n 1, 1) := by decide +kernel
theorem dX0_narrowest_3 : decode cX0_narrowest 3 = .ok (.bipush 10, 2) := by decide +kernel
theorem dX0_narrowest_5 : decode cX0_narrowest 5 = .ok (.istore_n 2, 1) := by decide +kernel
theorem dX0_narrowest_6 : decode cX0_narrowest 6 = .ok (.iconst 0, 1) := by decide +kernel
theorem dX0_narrowest_7 : decode cX0_narrowest 7 = .ok (.istore_n 3, 1) := by decide +kernel
theorem dX0_narrowest_8 : decode cX0_narrowest 8 = .ok (.iload_n 3, 1) := by decide +kernel
theorem dX0_narrowest_9 : decode cX0_narrowest 9 = .ok (.bipush 11, 2) := by decide +kernel
theorem dX0_narrowest_11 : decode cX0_narrowest 11 = .ok (.if_icmp .ge 53, 3) := by decide +kernel
theorem dX0_narrowest_14 : decode cX0_narrowest 14 = .ok (.iload_n 2, 1) := by decide +kernel
theorem dX0_narrowest_15 : decode cX0_narrowest 15 = .ok (.bipush 9, 2) := by decide +kernel
theorem dX0_narrowest_17 : decode cX0_narrowest 17 = .ok (.if_icmp .eq 47, 3) := by decide +kernel
theorem dX0_narrowest_20 : decode cX0_narrowest 20 = .ok (.aload_n 0, 1) := by decide +kernel
theorem dX0_narrowest_21 : decode cX0_narrowest 21 = .ok (.getfield 32, 3) := by decide +kernel
theorem dX0_narrowest_24 : decode cX0_narrowest 24 = .ok (.bipush 11, 2) := by decide +kernel
theorem dX0_narrowest_26 : decode cX0_narrowest 26 = .ok (.aload_n 0, 1) := by decide +kernel
theorem dX0_narrowest_27 : decode cX0_narrowest 27 = .ok (.getfield 35, 3) := by decide +kernel
theorem dX0_narrowest_30 : decode cX0_narrowest 30 = .ok (.iload_n 2, 1) := by decide +kernel
theorem dX0_narrowest_31 : decode cX0_narrowest 31 = .ok (.iaload, 1) := by decide +kernel
theorem dX0_narrowest_32 : decode cX0_narrowest 32 = .ok (.imul, 1) := by decide +kernel
theorem dX0_narrowest_33 : decode cX0_narrowest 33 = .ok (.iload_n 2, 1) := by decide +kernel
theorem dX0_narrowest_34 : decode cX0_narrowest 34 = .ok (.iadd, 1) := by decide +kernel
theorem dX0_narrowest_35 : decode cX0_narrowest 35 = .ok (.iaload, 1) := by decide +kernel
theorem dX0_narrowest_36 : decode cX0_narrowest 36 = .ok (.istore 4, 2) := by decide +kernel
theorem dX0_narrowest_38 : decode cX0_narrowest 38 = .ok (.iload 4, 2) := by decide +kernel
theorem dX0_narrowest_40 : decode cX0_narrowest 40 = .ok (.iload_n 1, 1) := by decide +kernel
theorem dX0_narrowest_41 : decode cX0_narrowest 41 = .ok (.if_icmp .ge 8, 3) := by decide +kernel
theorem dX0_narrowest_44 : decode cX0_narrowest 44 = .ok (.iload 4, 2) := by decide +kernel
theorem dX0_narrowest_46 : decode cX0_narrowest 46 = .ok (.goto 4, 3) := by decide +kernel
theorem dX0_narrowest_49 : decode cX0_narrowest 49 = .ok (.iload_n 1, 1) := by decide +kernel
theorem dX0_narrowest_50 : decode cX0_narrowest 50 = .ok (.istore_n 1, 1) := by decide +kernel
theorem dX0_narrowest_51 : decode cX0_narrowest 51 = .ok (.aload_n 0, 1) := by decide +kernel
theorem dX0_narrowest_52 : decode cX0_narrowest 52 = .ok (.getfield 35, 3) := by decide +kernel
theorem dX0_narrowest_55 : decode cX0_narrowest 55 = .ok (.iload_n 2, 1) := by decide +kernel
theorem dX0_narrowest_56 : decode cX0_narrowest 56 = .ok (.iaload, 1) := by decide +kernel
theorem dX0_narrowest_57 : decode cX0_narrowest 57 = .ok (.istore_n 2, 1) := by decide +kernel
theorem dX0_narrowest_58 : decode cX0_narrowest 58 = .ok (.iinc 3 1, 3) := by decide +kernel
theorem dX0_narrowest_61 : decode cX0_narrowest 61 = .ok (.goto (-53), 3) := by decide +kernel
theorem dX0_narrowest_64 : decode cX0_narrowest 64 = .ok (.iload_n 1, 1) := by decide +kernel
theorem dX0_narrowest_65 : decode cX0_narrowest 65 = .ok (.ireturn, 1) := by decide +kernel
abbrev cX0_lower : ByteArray := prog_1_method_6_code
def yX0_lower : MethodName := ⟨RX0, "lower", "()I"⟩
theorem dX0_lower_0 : decode cX0_lower 0 = .ok (.aload_n 0, 1) := by decide +kernel
theorem dX0_lower_1 : decode cX0_lower 1 = .ok (.invokevirtual 48, 3) := by decide +kernel
theorem dX0_lower_4 : decode cX0_lower 4 = .ok (.aload_n 0, 1) := by decide +kernel
theorem dX0_lower_5 : decode cX0_lower 5 = .ok (.invokevirtual 51, 3) := by decide +kernel
theorem dX0_lower_8 : decode cX0_lower 8 = .ok (.pop, 1) := by decide +kernel
theorem dX0_lower_9 : decode cX0_lower 9 = .ok (.iconst 0, 1) := by decide +kernel
theorem dX0_lower_10 : decode cX0_lower 10 = .ok (.istore_n 1, 1) := by decide +kernel
theorem dX0_lower_11 : decode cX0_lower 11 = .ok (.iconst 0, 1) := by decide +kernel
theorem dX0_lower_12 : decode cX0_lower 12 = .ok (.istore_n 2, 1) := by decide +kernel
theorem dX0_lower_13 : decode cX0_lower 13 = .ok (.iload_n 2, 1) := by decide +kernel
theorem dX0_lower_14 : decode cX0_lower 14 = .ok (.bipush 9, 2) := by decide +kernel
theorem dX0_lower_16 : decode cX0_lower 16 = .ok (.if_icmp .ge 34, 3) := by decide +kernel
theorem dX0_lower_19 : decode cX0_lower 19 = .ok (.aload_n 0, 1) := by decide +kernel
theorem dX0_lower_20 : decode cX0_lower 20 = .ok (.iload_n 2, 1) := by decide +kernel
theorem dX0_lower_21 : decode cX0_lower 21 = .ok (.invokevirtual 55, 3) := by decide +kernel
theorem dX0_lower_24 : decode cX0_lower 24 = .ok (.iload_n 1, 1) := by decide +kernel
theorem dX0_lower_25 : decode cX0_lower 25 = .ok (.aload_n 0, 1) := by decide +kernel
theorem dX0_lower_26 : decode cX0_lower 26 = .ok (.getfield 35, 3) := by decide +kernel
theorem dX0_lower_29 : decode cX0_lower 29 = .ok (.bipush 10, 2) := by decide +kernel
theorem dX0_lower_31 : decode cX0_lower 31 = .ok (.iaload, 1) := by decide +kernel
theorem dX0_lower_32 : decode cX0_lower 32 = .ok (.ifCond .lt 9, 3) := by decide +kernel
theorem dX0_lower_35 : decode cX0_lower 35 = .ok (.iconst 1, 1) := by decide +kernel
theorem dX0_lower_36 : decode cX0_lower 36 = .ok (.iload_n 2, 1) := by decide +kernel
theorem dX0_lower_37 : decode cX0_lower 37 = .ok (.ishl, 1) := by decide +kernel
theorem dX0_lower_38 : decode cX0_lower 38 = .ok (.goto 4, 3) := by decide +kernel
theorem dX0_lower_41 : decode cX0_lower 41 = .ok (.iconst 0, 1) := by decide +kernel
theorem dX0_lower_42 : decode cX0_lower 42 = .ok (.ior, 1) := by decide +kernel
theorem dX0_lower_43 : decode cX0_lower 43 = .ok (.istore_n 1, 1) := by decide +kernel
theorem dX0_lower_44 : decode cX0_lower 44 = .ok (.iinc 2 1, 3) := by decide +kernel
theorem dX0_lower_47 : decode cX0_lower 47 = .ok (.goto (-34), 3) := by decide +kernel
theorem dX0_lower_50 : decode cX0_lower 50 = .ok (.iload_n 1, 1) := by decide +kernel
theorem dX0_lower_51 : decode cX0_lower 51 = .ok (.ireturn, 1) := by decide +kernel
abbrev cX0_upper : ByteArray := prog_1_method_7_code
def yX0_upper : MethodName := ⟨RX0, "upper", "()I"⟩
theorem dX0_upper_0 : decode cX0_upper 0 = .ok (.aload_n 0, 1) := by decide +kernel
theorem dX0_upper_1 : decode cX0_upper 1 = .ok (.invokevirtual 48, 3) := by decide +kernel
theorem dX0_upper_4 : decode cX0_upper 4 = .ok (.aload_n 0, 1) := by decide +kernel
theorem dX0_upper_5 : decode cX0_upper 5 = .ok (.invokevirtual 51, 3) := by decide +kernel
theorem dX0_upper_8 : decode cX0_upper 8 = .ok (.pop, 1) := by decide +kernel
theorem dX0_upper_9 : decode cX0_upper 9 = .ok (.aload_n 0, 1) := by decide +kernel
theorem dX0_upper_10 : decode cX0_upper 10 = .ok (.bipush 9, 2) := by decide +kernel
theorem dX0_upper_12 : decode cX0_upper 12 = .ok (.invokevirtual 55, 3) := by decide +kernel
theorem dX0_upper_15 : decode cX0_upper 15 = .ok (.iconst 0, 1) := by decide +kernel
theorem dX0_upper_16 : decode cX0_upper 16 = .ok (.istore_n 1, 1) := by decide +kernel
theorem dX0_upper_17 : decode cX0_upper 17 = .ok (.iconst 0, 1) := by decide +kernel
theorem dX0_upper_18 : decode cX0_upper 18 = .ok (.istore_n 2, 1) := by decide +kernel
theorem dX0_upper_19 : decode cX0_upper 19 = .ok (.iload_n 2, 1) := by decide +kernel
theorem dX0_upper_20 : decode cX0_upper 20 = .ok (.bipush 9, 2) := by decide +kernel
theorem dX0_upper_22 : decode cX0_upper 22 = .ok (.if_icmp .ge 28, 3) := by decide +kernel
theorem dX0_upper_25 : decode cX0_upper 25 = .ok (.iload_n 1, 1) := by decide +kernel
theorem dX0_upper_26 : decode cX0_upper 26 = .ok (.aload_n 0, 1) := by decide +kernel
theorem dX0_upper_27 : decode cX0_upper 27 = .ok (.getfield 35, 3) := by decide +kernel
theorem dX0_upper_30 : decode cX0_upper 30 = .ok (.iload_n 2, 1) := by decide +kernel
theorem dX0_upper_31 : decode cX0_upper 31 = .ok (.iaload, 1) := by decide +kernel
theorem dX0_upper_32 : decode cX0_upper 32 = .ok (.ifCond .ge 9, 3) := by decide +kernel
theorem dX0_upper_35 : decode cX0_upper 35 = .ok (.iconst 1, 1) := by decide +kernel
theorem dX0_upper_36 : decode cX0_upper 36 = .ok (.iload_n 2, 1) := by decide +kernel
theorem dX0_upper_37 : decode cX0_upper 37 = .ok (.ishl, 1) := by decide +kernel
theorem dX0_upper_38 : decode cX0_upper 38 = .ok (.goto 4, 3) := by decide +kernel
theorem dX0_upper_41 : decode cX0_upper 41 = .ok (.iconst 0, 1) := by decide +kernel
theorem dX0_upper_42 : decode cX0_upper 42 = .ok (.ior, 1) := by decide +kernel
theorem dX0_upper_43 : decode cX0_upper 43 = .ok (.istore_n 1, 1) := by decide +kernel
theorem dX0_upper_44 : decode cX0_upper 44 = .ok (.iinc 2 1, 3) := by decide +kernel
theorem dX0_upper_47 : decode cX0_upper 47 = .ok (.goto (-28), 3) := by decide +kernel
theorem dX0_upper_50 : decode cX0_upper 50 = .ok (.iload_n 1, 1) := by decide +kernel
theorem dX0_upper_51 : decode cX0_upper 51 = .ok (.ireturn, 1) := by decide +kernel
abbrev cX0_with : ByteArray := prog_1_method_8_code
def yX0_with : MethodName := ⟨RX0, "with", "(II)I"⟩
theorem dX0_with_0 : decode cX0_with 0 = .ok (.iload_n 1, 1) := by decide +kernel
theorem dX0_with_1 : decode cX0_with 1 = .ok (.invokestatic 41, 3) := by decide +kernel
theorem dX0_with_4 : decode cX0_with 4 = .ok (.ifCond .ne 5, 3) := by decide +kernel
theorem dX0_with_7 : decode cX0_with 7 = .ok (.iconst (-1), 1) := by decide +kernel
theorem dX0_with_8 : decode cX0_with 8 = .ok (.ireturn, 1) := by decide +kernel
theorem dX0_with_9 : decode cX0_with 9 = .ok (.aload_n 0, 1) := by decide +kernel
theorem dX0_with_10 : decode cX0_with 10 = .ok (.invokevirtual 48, 3) := by decide +kernel
theorem dX0_with_13 : decode cX0_with 13 = .ok (.aload_n 0, 1) := by decide +kernel
theorem dX0_with_14 : decode cX0_with 14 = .ok (.iload_n 1, 1) := by decide +kernel
theorem dX0_with_15 : decode cX0_with 15 = .ok (.iload_n 2, 1) := by decide +kernel
theorem dX0_with_16 : decode cX0_with 16 = .ok (.iconst 1, 1) := by decide +kernel
theorem dX0_with_17 : decode cX0_with 17 = .ok (.iand, 1) := by decide +kernel
theorem dX0_with_18 : decode cX0_with 18 = .ok (.invokevirtual 59, 3) := by decide +kernel
theorem dX0_with_21 : decode cX0_with 21 = .ok (.aload_n 0, 1) := by decide +kernel
theorem dX0_with_22 : decode cX0_with 22 = .ok (.invokevirtual 51, 3) := by decide +kernel
theorem dX0_with_25 : decode cX0_with 25 = .ok (.ireturn, 1) := by decide +kernel
abbrev cX0_force : ByteArray := prog_1_method_14_code
def yX0_force : MethodName := ⟨RX0, "force", "(II)V"⟩
theorem dX0_force_0 : decode cX0_force 0 = .ok (.iload_n 2, 1) := by decide +kernel
theorem dX0_force_1 : decode cX0_force 1 = .ok (.ifCond .ne 17, 3) := by decide +kernel
theorem dX0_force_4 : decode cX0_force 4 = .ok (.aload_n 0, 1) := by decide +kernel
theorem dX0_force_5 : decode cX0_force 5 = .ok (.getfield 32, 3) := by decide +kernel
theorem dX0_force_8 : decode cX0_force 8 = .ok (.bipush 99, 2) := by decide +kernel
theorem dX0_force_10 : decode cX0_force 10 = .ok (.iload_n 1, 1) := by decide +kernel
theorem dX0_force_11 : decode cX0_force 11 = .ok (.iadd, 1) := by decide +kernel
theorem dX0_force_12 : decode cX0_force 12 = .ok (.ldc 63, 2) := by decide +kernel
theorem dX0_force_14 : decode cX0_force 14 = .ok (.iastore, 1) := by decide +kernel
theorem dX0_force_15 : decode cX0_force 15 = .ok (.goto 17, 3) := by decide +kernel
theorem dX0_force_18 : decode cX0_force 18 = .ok (.aload_n 0, 1) := by decide +kernel
theorem dX0_force_19 : decode cX0_force 19 = .ok (.getfield 32, 3) := by decide +kernel
theorem dX0_force_22 : decode cX0_force 22 = .ok (.bipush 11, 2) := by decide +kernel
theorem dX0_force_24 : decode cX0_force 24 = .ok (.iload_n 1, 1) := by decide +kernel
theorem dX0_force_25 : decode cX0_force 25 = .ok (.imul, 1) := by decide +kernel
theorem dX0_force_26 : decode cX0_force 26 = .ok (.bipush 10, 2) := by decide +kernel
theorem dX0_force_28 : decode cX0_force 28 = .ok (.iadd, 1) := by decide +kernel
theorem dX0_force_29 : decode cX0_force 29 = .ok (.ldc 63, 2) := by decide +kernel
theorem dX0_force_31 : decode cX0_force 31 = .ok (.iastore, 1) := by decide +kernel
theorem dX0_force_32 : decode cX0_force 32 = .ok (.return_, 1) := by decide +kernel
abbrev cX0_apart : ByteArray := prog_1_method_9_code
def yX0_apart : MethodName := ⟨RX0, "apart", "(II)I"⟩
theorem dX0_apart_0 : decode cX0_apart 0 = .ok (.iload_n 1, 1) := by decide +kernel
theorem dX0_apart_1 : decode cX0_apart 1 = .ok (.invokestatic 41, 3) := by decide +kernel
theorem dX0_apart_4 : decode cX0_apart 4 = .ok (.ifCond .eq 15, 3) := by decide +kernel
theorem dX0_apart_7 : decode cX0_apart 7 = .ok (.iload_n 2, 1) := by decide +kernel
theorem dX0_apart_8 : decode cX0_apart 8 = .ok (.invokestatic 41, 3) := by decide +kernel
theorem dX0_apart_11 : decode cX0_apart 11 = .ok (.ifCond .eq 8, 3) := by decide +kernel
theorem dX0_apart_14 : decode cX0_apart 14 = .ok (.iload_n 1, 1) := by decide +kernel
theorem dX0_apart_15 : decode cX0_apart 15 = .ok (.iload_n 2, 1) := by decide +kernel
theorem dX0_apart_16 : decode cX0_apart 16 = .ok (.if_icmp .ne 5, 3) := by decide +kernel
theorem dX0_apart_19 : decode cX0_apart 19 = .ok (.iconst (-1), 1) := by decide +kernel
theorem dX0_apart_20 : decode cX0_apart 20 = .ok (.ireturn, 1) := by decide +kernel
theorem dX0_apart_21 : decode cX0_apart 21 = .ok (.aload_n 0, 1) := by decide +kernel
theorem dX0_apart_22 : decode cX0_apart 22 = .ok (.invokevirtual 48, 3) := by decide +kernel
theorem dX0_apart_25 : decode cX0_apart 25 = .ok (.aload_n 0, 1) := by decide +kernel
theorem dX0_apart_26 : decode cX0_apart 26 = .ok (.iload_n 1, 1) := by decide +kernel
theorem dX0_apart_27 : decode cX0_apart 27 = .ok (.iconst 0, 1) := by decide +kernel
theorem dX0_apart_28 : decode cX0_apart 28 = .ok (.invokevirtual 59, 3) := by decide +kernel
theorem dX0_apart_31 : decode cX0_apart 31 = .ok (.aload_n 0, 1) := by decide +kernel
theorem dX0_apart_32 : decode cX0_apart 32 = .ok (.iload_n 2, 1) := by decide +kernel
theorem dX0_apart_33 : decode cX0_apart 33 = .ok (.iconst 1, 1) := by decide +kernel
theorem dX0_apart_34 : decode cX0_apart 34 = .ok (.invokevirtual 59, 3) := by decide +kernel
theorem dX0_apart_37 : decode cX0_apart 37 = .ok (.aload_n 0, 1) := by decide +kernel
theorem dX0_apart_38 : decode cX0_apart 38 = .ok (.invokevirtual 51, 3) := by decide +kernel
theorem dX0_apart_41 : decode cX0_apart 41 = .ok (.istore_n 3, 1) := by decide +kernel
theorem dX0_apart_42 : decode cX0_apart 42 = .ok (.aload_n 0, 1) := by decide +kernel
theorem dX0_apart_43 : decode cX0_apart 43 = .ok (.invokevirtual 48, 3) := by decide +kernel
theorem dX0_apart_46 : decode cX0_apart 46 = .ok (.aload_n 0, 1) := by decide +kernel
theorem dX0_apart_47 : decode cX0_apart 47 = .ok (.iload_n 1, 1) := by decide +kernel
theorem dX0_apart_48 : decode cX0_apart 48 = .ok (.iconst 1, 1) := by decide +kernel
theorem dX0_apart_49 : decode cX0_apart 49 = .ok (.invokevirtual 59, 3) := by decide +kernel
theorem dX0_apart_52 : decode cX0_apart 52 = .ok (.aload_n 0, 1) := by decide +kernel
theorem dX0_apart_53 : decode cX0_apart 53 = .ok (.iload_n 2, 1) := by decide +kernel
theorem dX0_apart_54 : decode cX0_apart 54 = .ok (.iconst 0, 1) := by decide +kernel
theorem dX0_apart_55 : decode cX0_apart 55 = .ok (.invokevirtual 59, 3) := by decide +kernel
theorem dX0_apart_58 : decode cX0_apart 58 = .ok (.aload_n 0, 1) := by decide +kernel
theorem dX0_apart_59 : decode cX0_apart 59 = .ok (.invokevirtual 51, 3) := by decide +kernel
theorem dX0_apart_62 : decode cX0_apart 62 = .ok (.istore 4, 2) := by decide +kernel
theorem dX0_apart_64 : decode cX0_apart 64 = .ok (.iload_n 3, 1) := by decide +kernel
theorem dX0_apart_65 : decode cX0_apart 65 = .ok (.iload 4, 2) := by decide +kernel
theorem dX0_apart_67 : decode cX0_apart 67 = .ok (.if_icmp .ge 7, 3) := by decide +kernel
theorem dX0_apart_70 : decode cX0_apart 70 = .ok (.iload_n 3, 1) := by decide +kernel
theorem dX0_apart_71 : decode cX0_apart 71 = .ok (.goto 5, 3) := by decide +kernel
theorem dX0_apart_74 : decode cX0_apart 74 = .ok (.iload 4, 2) := by decide +kernel
theorem dX0_apart_76 : decode cX0_apart 76 = .ok (.ireturn, 1) := by decide +kernel
abbrev cX0_energy : ByteArray := prog_1_method_10_code
def yX0_energy : MethodName := ⟨RX0, "energy", "(I)I"⟩
theorem dX0_energy_0 : decode cX0_energy 0 = .ok (.iconst 0, 1) := by decide +kernel
theorem dX0_energy_1 : decode cX0_energy 1 = .ok (.istore_n 2, 1) := by decide +kernel
theorem dX0_energy_2 : decode cX0_energy 2 = .ok (.iconst 0, 1) := by decide +kernel
theorem dX0_energy_3 : decode cX0_energy 3 = .ok (.istore_n 3, 1) := by decide +kernel
theorem dX0_energy_4 : decode cX0_energy 4 = .ok (.iload_n 3, 1) := by decide +kernel
theorem dX0_energy_5 : decode cX0_energy 5 = .ok (.bipush 9, 2) := by decide +kernel
theorem dX0_energy_7 : decode cX0_energy 7 = .ok (.if_icmp .ge 35, 3) := by decide +kernel
theorem dX0_energy_10 : decode cX0_energy 10 = .ok (.iload_n 2, 1) := by decide +kernel
theorem dX0_energy_11 : decode cX0_energy 11 = .ok (.iload_n 1, 1) := by decide +kernel
theorem dX0_energy_12 : decode cX0_energy 12 = .ok (.iload_n 3, 1) := by decide +kernel
theorem dX0_energy_13 : decode cX0_energy 13 = .ok (.iushr, 1) := by decide +kernel
theorem dX0_energy_14 : decode cX0_energy 14 = .ok (.iconst 1, 1) := by decide +kernel
theorem dX0_energy_15 : decode cX0_energy 15 = .ok (.iand, 1) := by decide +kernel
theorem dX0_energy_16 : decode cX0_energy 16 = .ok (.ifCond .eq 12, 3) := by decide +kernel
theorem dX0_energy_19 : decode cX0_energy 19 = .ok (.aload_n 0, 1) := by decide +kernel
theorem dX0_energy_20 : decode cX0_energy 20 = .ok (.getfield 13, 3) := by decide +kernel
theorem dX0_energy_23 : decode cX0_energy 23 = .ok (.iload_n 3, 1) := by decide +kernel
theorem dX0_energy_24 : decode cX0_energy 24 = .ok (.iaload, 1) := by decide +kernel
theorem dX0_energy_25 : decode cX0_energy 25 = .ok (.goto 9, 3) := by decide +kernel
theorem dX0_energy_28 : decode cX0_energy 28 = .ok (.aload_n 0, 1) := by decide +kernel
theorem dX0_energy_29 : decode cX0_energy 29 = .ok (.getfield 7, 3) := by decide +kernel
theorem dX0_energy_32 : decode cX0_energy 32 = .ok (.iload_n 3, 1) := by decide +kernel
theorem dX0_energy_33 : decode cX0_energy 33 = .ok (.iaload, 1) := by decide +kernel
theorem dX0_energy_34 : decode cX0_energy 34 = .ok (.iadd, 1) := by decide +kernel
theorem dX0_energy_35 : decode cX0_energy 35 = .ok (.istore_n 2, 1) := by decide +kernel
theorem dX0_energy_36 : decode cX0_energy 36 = .ok (.iinc 3 1, 3) := by decide +kernel
theorem dX0_energy_39 : decode cX0_energy 39 = .ok (.goto (-35), 3) := by decide +kernel
theorem dX0_energy_42 : decode cX0_energy 42 = .ok (.iconst 0, 1) := by decide +kernel
theorem dX0_energy_43 : decode cX0_energy 43 = .ok (.istore_n 3, 1) := by decide +kernel
theorem dX0_energy_44 : decode cX0_energy 44 = .ok (.iload_n 3, 1) := by decide +kernel
theorem dX0_energy_45 : decode cX0_energy 45 = .ok (.bipush 16, 2) := by decide +kernel
theorem dX0_energy_47 : decode cX0_energy 47 = .ok (.if_icmp .ge 91, 3) := by decide +kernel
theorem dX0_energy_50 : decode cX0_energy 50 = .ok (.iload_n 1, 1) := by decide +kernel
theorem dX0_energy_51 : decode cX0_energy 51 = .ok (.aload_n 0, 1) := by decide +kernel
theorem dX0_energy_52 : decode cX0_energy 52 = .ok (.getfield 20, 3) := by decide +kernel
theorem dX0_energy_55 : decode cX0_energy 55 = .ok (.iload_n 3, 1) := by decide +kernel
theorem dX0_energy_56 : decode cX0_energy 56 = .ok (.iaload, 1) := by decide +kernel
theorem dX0_energy_57 : decode cX0_energy 57 = .ok (.iushr, 1) := by decide +kernel
theorem dX0_energy_58 : decode cX0_energy 58 = .ok (.iconst 1, 1) := by decide +kernel
theorem dX0_energy_59 : decode cX0_energy 59 = .ok (.iand, 1) := by decide +kernel
theorem dX0_energy_60 : decode cX0_energy 60 = .ok (.istore 4, 2) := by decide +kernel
theorem dX0_energy_62 : decode cX0_energy 62 = .ok (.iload_n 1, 1) := by decide +kernel
theorem dX0_energy_63 : decode cX0_energy 63 = .ok (.aload_n 0, 1) := by decide +kernel
theorem dX0_energy_64 : decode cX0_energy 64 = .ok (.getfield 23, 3) := by decide +kernel
theorem dX0_energy_67 : decode cX0_energy 67 = .ok (.iload_n 3, 1) := by decide +kernel
theorem dX0_energy_68 : decode cX0_energy 68 = .ok (.iaload, 1) := by decide +kernel
theorem dX0_energy_69 : decode cX0_energy 69 = .ok (.iushr, 1) := by decide +kernel
theorem dX0_energy_70 : decode cX0_energy 70 = .ok (.iconst 1, 1) := by decide +kernel
theorem dX0_energy_71 : decode cX0_energy 71 = .ok (.iand, 1) := by decide +kernel
theorem dX0_energy_72 : decode cX0_energy 72 = .ok (.istore 5, 2) := by decide +kernel
theorem dX0_energy_74 : decode cX0_energy 74 = .ok (.iload_n 2, 1) := by decide +kernel
theorem dX0_energy_75 : decode cX0_energy 75 = .ok (.aload_n 0, 1) := by decide +kernel
theorem dX0_energy_76 : decode cX0_energy 76 = .ok (.getfield 16, 3) := by decide +kernel
theorem dX0_energy_79 : decode cX0_energy 79 = .ok (.iload_n 3, 1) := by decide +kernel
theorem dX0_energy_80 : decode cX0_energy 80 = .ok (.baload, 1) := by decide +kernel
theorem dX0_energy_81 : decode cX0_energy 81 = .ok (.ifCond .eq 19, 3) := by decide +kernel
theorem dX0_energy_84 : decode cX0_energy 84 = .ok (.iload 4, 2) := by decide +kernel
theorem dX0_energy_86 : decode cX0_energy 86 = .ok (.iload 5, 2) := by decide +kernel
theorem dX0_energy_88 : decode cX0_energy 88 = .ok (.if_icmp .ge 12, 3) := by decide +kernel
theorem dX0_energy_91 : decode cX0_energy 91 = .ok (.aload_n 0, 1) := by decide +kernel
theorem dX0_energy_92 : decode cX0_energy 92 = .ok (.getfield 26, 3) := by decide +kernel
theorem dX0_energy_95 : decode cX0_energy 95 = .ok (.iload_n 3, 1) := by decide +kernel
theorem dX0_energy_96 : decode cX0_energy 96 = .ok (.iaload, 1) := by decide +kernel
theorem dX0_energy_97 : decode cX0_energy 97 = .ok (.goto 4, 3) := by decide +kernel
theorem dX0_energy_100 : decode cX0_energy 100 = .ok (.iconst 0, 1) := by decide +kernel
theorem dX0_energy_101 : decode cX0_energy 101 = .ok (.iadd, 1) := by decide +kernel
theorem dX0_energy_102 : decode cX0_energy 102 = .ok (.istore_n 2, 1) := by decide +kernel
theorem dX0_energy_103 : decode cX0_energy 103 = .ok (.iload_n 2, 1) := by decide +kernel
theorem dX0_energy_104 : decode cX0_energy 104 = .ok (.aload_n 0, 1) := by decide +kernel
theorem dX0_energy_105 : decode cX0_energy 105 = .ok (.getfield 16, 3) := by decide +kernel
theorem dX0_energy_108 : decode cX0_energy 108 = .ok (.iload_n 3, 1) := by decide +kernel
theorem dX0_energy_109 : decode cX0_energy 109 = .ok (.baload, 1) := by decide +kernel
theorem dX0_energy_110 : decode cX0_energy 110 = .ok (.ifCond .eq 19, 3) := by decide +kernel
theorem dX0_energy_113 : decode cX0_energy 113 = .ok (.iload 4, 2) := by decide +kernel
theorem dX0_energy_115 : decode cX0_energy 115 = .ok (.iload 5, 2) := by decide +kernel
theorem dX0_energy_117 : decode cX0_energy 117 = .ok (.if_icmp .le 12, 3) := by decide +kernel
theorem dX0_energy_120 : decode cX0_energy 120 = .ok (.aload_n 0, 1) := by decide +kernel
theorem dX0_energy_121 : decode cX0_energy 121 = .ok (.getfield 29, 3) := by decide +kernel
theorem dX0_energy_124 : decode cX0_energy 124 = .ok (.iload_n 3, 1) := by decide +kernel
theorem dX0_energy_125 : decode cX0_energy 125 = .ok (.iaload, 1) := by decide +kernel
theorem dX0_energy_126 : decode cX0_energy 126 = .ok (.goto 4, 3) := by decide +kernel
theorem dX0_energy_129 : decode cX0_energy 129 = .ok (.iconst 0, 1) := by decide +kernel
theorem dX0_energy_130 : decode cX0_energy 130 = .ok (.iadd, 1) := by decide +kernel
theorem dX0_energy_131 : decode cX0_energy 131 = .ok (.istore_n 2, 1) := by decide +kernel
theorem dX0_energy_132 : decode cX0_energy 132 = .ok (.iinc 3 1, 3) := by decide +kernel
theorem dX0_energy_135 : decode cX0_energy 135 = .ok (.goto (-91), 3) := by decide +kernel
theorem dX0_energy_138 : decode cX0_energy 138 = .ok (.iload_n 2, 1) := by decide +kernel
theorem dX0_energy_139 : decode cX0_energy 139 = .ok (.ireturn, 1) := by decide +kernel
theorem q6 : (Jvm.Cond.initialized "CutLabels") ∈ lw_all := lw_g (lw_at lw_m0 1 rfl) rfl
theorem q9 : (Jvm.Cond.instantiable "CutLabels" (11 : Nat)) ∈ lw_all := lw_g (lw_at lw_m0 4 rfl) rfl
theorem q11 : (Jvm.Cond.instanceMethod ({ cls := "CutLabels", name := "<init>", desc := "()V" } : Jvm.MethodName)) ∈ lw_all := lw_g (lw_at lw_m0 6 rfl) rfl
theorem q12 : (Jvm.Cond.code ({ cls := "CutLabels", name := "<init>", desc := "()V" } : Jvm.MethodName) prog_1_method_1_code (1 : Nat) (Option.none : Option Jvm.ClassFile.FieldType)) ∈ lw_all := lw_g (lw_at lw_m0 7 rfl) rfl
theorem q13 : (Jvm.Cond.methodLink "CutLabels" (1 : Nat) ({ cls := "java/lang/Object", name := "<init>", desc := "()V" } : Jvm.MethodName)) ∈ lw_all := lw_g (lw_at lw_m0 8 rfl) rfl
theorem q16 : (Jvm.Cond.fieldLink "CutLabels" (7 : Nat) "CutLabels" "costZero" "[I") ∈ lw_all := lw_g (lw_at lw_m0 11 rfl) rfl
theorem q17 : (Jvm.Cond.fieldLink "CutLabels" (13 : Nat) "CutLabels" "costOne" "[I") ∈ lw_all := lw_g (lw_at lw_m0 12 rfl) rfl
theorem q18 : (Jvm.Cond.fieldLink "CutLabels" (16 : Nat) "CutLabels" "there" "[Z") ∈ lw_all := lw_g (lw_at lw_m0 13 rfl) rfl
theorem q19 : (Jvm.Cond.fieldLink "CutLabels" (20 : Nat) "CutLabels" "tieI" "[I") ∈ lw_all := lw_g (lw_at lw_m0 14 rfl) rfl
theorem q20 : (Jvm.Cond.fieldLink "CutLabels" (23 : Nat) "CutLabels" "tieJ" "[I") ∈ lw_all := lw_g (lw_at lw_m0 15 rfl) rfl
theorem q21 : (Jvm.Cond.fieldLink "CutLabels" (26 : Nat) "CutLabels" "tieU" "[I") ∈ lw_all := lw_g (lw_at lw_m0 16 rfl) rfl
theorem q22 : (Jvm.Cond.fieldLink "CutLabels" (29 : Nat) "CutLabels" "tieV" "[I") ∈ lw_all := lw_g (lw_at lw_m0 17 rfl) rfl
theorem q23 : (Jvm.Cond.fieldLink "CutLabels" (32 : Nat) "CutLabels" "room" "[I") ∈ lw_all := lw_g (lw_at lw_m0 18 rfl) rfl
theorem q24 : (Jvm.Cond.fieldLink "CutLabels" (35 : Nat) "CutLabels" "reachedFrom" "[I") ∈ lw_all := lw_g (lw_at lw_m0 19 rfl) rfl
theorem q25 : (Jvm.Cond.fieldLink "CutLabels" (67 : Nat) "CutLabels" "queueEnd" "I") ∈ lw_all := lw_g (lw_at lw_m0 20 rfl) rfl
theorem q26 : (Jvm.Cond.fieldLink "CutLabels" (38 : Nat) "CutLabels" "queue" "[I") ∈ lw_all := lw_g (lw_at lw_m0 21 rfl) rfl
theorem q27 : (Jvm.Cond.laysFinal "CutLabels" "CutLabels" "costZero" "[I") ∈ lw_all := lw_g (lw_at lw_m0 22 rfl) rfl
theorem q28 : (Jvm.Cond.soleField "CutLabels" "costZero") ∈ lw_all := lw_g (lw_at lw_m0 23 rfl) rfl
theorem q29 : (Jvm.Cond.laysFinal "CutLabels" "CutLabels" "costOne" "[I") ∈ lw_all := lw_g (lw_at lw_m0 24 rfl) rfl
theorem q30 : (Jvm.Cond.soleField "CutLabels" "costOne") ∈ lw_all := lw_g (lw_at lw_m0 25 rfl) rfl
theorem q31 : (Jvm.Cond.laysFinal "CutLabels" "CutLabels" "there" "[Z") ∈ lw_all := lw_g (lw_at lw_m0 26 rfl) rfl
theorem q32 : (Jvm.Cond.soleField "CutLabels" "there") ∈ lw_all := lw_g (lw_at lw_m0 27 rfl) rfl
theorem q33 : (Jvm.Cond.laysFinal "CutLabels" "CutLabels" "tieI" "[I") ∈ lw_all := lw_g (lw_at lw_m0 28 rfl) rfl
theorem q34 : (Jvm.Cond.soleField "CutLabels" "tieI") ∈ lw_all := lw_g (lw_at lw_m0 29 rfl) rfl
theorem q35 : (Jvm.Cond.laysFinal "CutLabels" "CutLabels" "tieJ" "[I") ∈ lw_all := lw_g (lw_at lw_m0 30 rfl) rfl
theorem q36 : (Jvm.Cond.soleField "CutLabels" "tieJ") ∈ lw_all := lw_g (lw_at lw_m0 31 rfl) rfl
theorem q37 : (Jvm.Cond.laysFinal "CutLabels" "CutLabels" "tieU" "[I") ∈ lw_all := lw_g (lw_at lw_m0 32 rfl) rfl
theorem q38 : (Jvm.Cond.soleField "CutLabels" "tieU") ∈ lw_all := lw_g (lw_at lw_m0 33 rfl) rfl
theorem q39 : (Jvm.Cond.laysFinal "CutLabels" "CutLabels" "tieV" "[I") ∈ lw_all := lw_g (lw_at lw_m0 34 rfl) rfl
theorem q40 : (Jvm.Cond.soleField "CutLabels" "tieV") ∈ lw_all := lw_g (lw_at lw_m0 35 rfl) rfl
theorem q41 : (Jvm.Cond.laysFinal "CutLabels" "CutLabels" "room" "[I") ∈ lw_all := lw_g (lw_at lw_m0 36 rfl) rfl
theorem q42 : (Jvm.Cond.soleField "CutLabels" "room") ∈ lw_all := lw_g (lw_at lw_m0 37 rfl) rfl
theorem q43 : (Jvm.Cond.laysFinal "CutLabels" "CutLabels" "reachedFrom" "[I") ∈ lw_all := lw_g (lw_at lw_m0 38 rfl) rfl
theorem q44 : (Jvm.Cond.soleField "CutLabels" "reachedFrom") ∈ lw_all := lw_g (lw_at lw_m0 39 rfl) rfl
theorem q45 : (Jvm.Cond.lays "CutLabels" "CutLabels" "queueEnd" "I") ∈ lw_all := lw_g (lw_at lw_m0 40 rfl) rfl
theorem q46 : (Jvm.Cond.soleField "CutLabels" "queueEnd") ∈ lw_all := lw_g (lw_at lw_m0 41 rfl) rfl
theorem q47 : (Jvm.Cond.laysFinal "CutLabels" "CutLabels" "queue" "[I") ∈ lw_all := lw_g (lw_at lw_m0 42 rfl) rfl
theorem q48 : (Jvm.Cond.soleField "CutLabels" "queue") ∈ lw_all := lw_g (lw_at lw_m0 43 rfl) rfl
theorem q49 : (Jvm.Cond.superclass "CutLabels" "java/lang/Object") ∈ lw_all := lw_g (lw_at lw_m0 44 rfl) rfl
theorem q53 : (Jvm.Cond.instanceMethod ({ cls := "CutLabels", name := "cost", desc := "(III)I" } : Jvm.MethodName)) ∈ lw_all := lw_g (lw_at lw_m0 48 rfl) rfl
theorem q54 : (Jvm.Cond.selects "CutLabels" ({ cls := "CutLabels", name := "cost", desc := "(III)I" } : Jvm.MethodName) ({ cls := "CutLabels", name := "cost", desc := "(III)I" } : Jvm.MethodName)) ∈ lw_all := lw_g (lw_at lw_m0 49 rfl) rfl
theorem q55 : (Jvm.Cond.code ({ cls := "CutLabels", name := "cost", desc := "(III)I" } : Jvm.MethodName) prog_1_method_2_code (4 : Nat) (Option.some Jvm.ClassFile.FieldType.int)) ∈ lw_all := lw_g (lw_at lw_m0 50 rfl) rfl
theorem q56 : (Jvm.Cond.methodLink "CutLabels" (41 : Nat) ({ cls := "CutLabels", name := "isPlace", desc := "(I)Z" } : Jvm.MethodName)) ∈ lw_all := lw_g (lw_at lw_m0 51 rfl) rfl
theorem q57 : (Jvm.Cond.static ({ cls := "CutLabels", name := "isPlace", desc := "(I)Z" } : Jvm.MethodName)) ∈ lw_all := lw_g (lw_at lw_m0 52 rfl) rfl
theorem q58 : (Jvm.Cond.code ({ cls := "CutLabels", name := "isPlace", desc := "(I)Z" } : Jvm.MethodName) prog_1_method_11_code (1 : Nat) (Option.some Jvm.ClassFile.FieldType.boolean)) ∈ lw_all := lw_g (lw_at lw_m0 53 rfl) rfl
theorem q59 : (Jvm.Cond.methodLink "CutLabels" (45 : Nat) ({ cls := "CutLabels", name := "isCost", desc := "(I)Z" } : Jvm.MethodName)) ∈ lw_all := lw_g (lw_at lw_m0 54 rfl) rfl
theorem q60 : (Jvm.Cond.static ({ cls := "CutLabels", name := "isCost", desc := "(I)Z" } : Jvm.MethodName)) ∈ lw_all := lw_g (lw_at lw_m0 55 rfl) rfl
theorem q61 : (Jvm.Cond.code ({ cls := "CutLabels", name := "isCost", desc := "(I)Z" } : Jvm.MethodName) prog_1_method_12_code (1 : Nat) (Option.some Jvm.ClassFile.FieldType.boolean)) ∈ lw_all := lw_g (lw_at lw_m0 56 rfl) rfl
theorem q63 : (Jvm.Cond.instanceMethod ({ cls := "CutLabels", name := "tie", desc := "(IIIII)I" } : Jvm.MethodName)) ∈ lw_all := lw_g (lw_at lw_m0 58 rfl) rfl
theorem q64 : (Jvm.Cond.selects "CutLabels" ({ cls := "CutLabels", name := "tie", desc := "(IIIII)I" } : Jvm.MethodName) ({ cls := "CutLabels", name := "tie", desc := "(IIIII)I" } : Jvm.MethodName)) ∈ lw_all := lw_g (lw_at lw_m0 59 rfl) rfl
theorem q65 : (Jvm.Cond.code ({ cls := "CutLabels", name := "tie", desc := "(IIIII)I" } : Jvm.MethodName) prog_1_method_3_code (6 : Nat) (Option.some Jvm.ClassFile.FieldType.int)) ∈ lw_all := lw_g (lw_at lw_m0 60 rfl) rfl
theorem q67 : (Jvm.Cond.instanceMethod ({ cls := "CutLabels", name := "cut", desc := "(I)I" } : Jvm.MethodName)) ∈ lw_all := lw_g (lw_at lw_m0 62 rfl) rfl
theorem q68 : (Jvm.Cond.selects "CutLabels" ({ cls := "CutLabels", name := "cut", desc := "(I)I" } : Jvm.MethodName) ({ cls := "CutLabels", name := "cut", desc := "(I)I" } : Jvm.MethodName)) ∈ lw_all := lw_g (lw_at lw_m0 63 rfl) rfl
theorem q69 : (Jvm.Cond.code ({ cls := "CutLabels", name := "cut", desc := "(I)I" } : Jvm.MethodName) prog_1_method_4_code (3 : Nat) (Option.some Jvm.ClassFile.FieldType.int)) ∈ lw_all := lw_g (lw_at lw_m0 64 rfl) rfl
theorem q71 : (Jvm.Cond.instanceMethod ({ cls := "CutLabels", name := "least", desc := "()I" } : Jvm.MethodName)) ∈ lw_all := lw_g (lw_at lw_m0 66 rfl) rfl
theorem q72 : (Jvm.Cond.selects "CutLabels" ({ cls := "CutLabels", name := "least", desc := "()I" } : Jvm.MethodName) ({ cls := "CutLabels", name := "least", desc := "()I" } : Jvm.MethodName)) ∈ lw_all := lw_g (lw_at lw_m0 67 rfl) rfl
theorem q73 : (Jvm.Cond.code ({ cls := "CutLabels", name := "least", desc := "()I" } : Jvm.MethodName) prog_1_method_5_code (1 : Nat) (Option.some Jvm.ClassFile.FieldType.int)) ∈ lw_all := lw_g (lw_at lw_m0 68 rfl) rfl
theorem q74 : (Jvm.Cond.methodLink "CutLabels" (48 : Nat) ({ cls := "CutLabels", name := "build", desc := "()V" } : Jvm.MethodName)) ∈ lw_all := lw_g (lw_at lw_m0 69 rfl) rfl
theorem q75 : (Jvm.Cond.privateMethod ({ cls := "CutLabels", name := "build", desc := "()V" } : Jvm.MethodName)) ∈ lw_tbl := lw_at lw_m0 70 rfl
theorem q76 : (Jvm.Cond.instanceMethod ({ cls := "CutLabels", name := "build", desc := "()V" } : Jvm.MethodName)) ∈ lw_all := lw_g (lw_at lw_m0 71 rfl) rfl
theorem q77 : (Jvm.Cond.code ({ cls := "CutLabels", name := "build", desc := "()V" } : Jvm.MethodName) prog_1_method_13_code (2 : Nat) (Option.none : Option Jvm.ClassFile.FieldType)) ∈ lw_all := lw_g (lw_at lw_m0 72 rfl) rfl
theorem q78 : (Jvm.Cond.methodLink "CutLabels" (51 : Nat) ({ cls := "CutLabels", name := "fill", desc := "()I" } : Jvm.MethodName)) ∈ lw_all := lw_g (lw_at lw_m0 73 rfl) rfl
theorem q79 : (Jvm.Cond.privateMethod ({ cls := "CutLabels", name := "fill", desc := "()I" } : Jvm.MethodName)) ∈ lw_tbl := lw_at lw_m0 74 rfl
theorem q80 : (Jvm.Cond.instanceMethod ({ cls := "CutLabels", name := "fill", desc := "()I" } : Jvm.MethodName)) ∈ lw_all := lw_g (lw_at lw_m0 75 rfl) rfl
theorem q81 : (Jvm.Cond.code ({ cls := "CutLabels", name := "fill", desc := "()I" } : Jvm.MethodName) prog_1_method_15_code (7 : Nat) (Option.some Jvm.ClassFile.FieldType.int)) ∈ lw_all := lw_g (lw_at lw_m0 76 rfl) rfl
theorem q82 : (Jvm.Cond.methodLink "CutLabels" (55 : Nat) ({ cls := "CutLabels", name := "search", desc := "(I)V" } : Jvm.MethodName)) ∈ lw_all := lw_g (lw_at lw_m0 77 rfl) rfl
theorem q83 : (Jvm.Cond.privateMethod ({ cls := "CutLabels", name := "search", desc := "(I)V" } : Jvm.MethodName)) ∈ lw_tbl := lw_at lw_m0 78 rfl
theorem q84 : (Jvm.Cond.instanceMethod ({ cls := "CutLabels", name := "search", desc := "(I)V" } : Jvm.MethodName)) ∈ lw_all := lw_g (lw_at lw_m0 79 rfl) rfl
theorem q85 : (Jvm.Cond.code ({ cls := "CutLabels", name := "search", desc := "(I)V" } : Jvm.MethodName) prog_1_method_17_code (4 : Nat) (Option.none : Option Jvm.ClassFile.FieldType)) ∈ lw_all := lw_g (lw_at lw_m0 80 rfl) rfl
theorem q86 : (Jvm.Cond.methodLink "CutLabels" (64 : Nat) ({ cls := "CutLabels", name := "narrowest", desc := "()I" } : Jvm.MethodName)) ∈ lw_all := lw_g (lw_at lw_m0 81 rfl) rfl
theorem q87 : (Jvm.Cond.privateMethod ({ cls := "CutLabels", name := "narrowest", desc := "()I" } : Jvm.MethodName)) ∈ lw_tbl := lw_at lw_m0 82 rfl
theorem q88 : (Jvm.Cond.instanceMethod ({ cls := "CutLabels", name := "narrowest", desc := "()I" } : Jvm.MethodName)) ∈ lw_all := lw_g (lw_at lw_m0 83 rfl) rfl
theorem q89 : (Jvm.Cond.code ({ cls := "CutLabels", name := "narrowest", desc := "()I" } : Jvm.MethodName) prog_1_method_16_code (5 : Nat) (Option.some Jvm.ClassFile.FieldType.int)) ∈ lw_all := lw_g (lw_at lw_m0 84 rfl) rfl
theorem q90 : (Jvm.Cond.constant "CutLabels" (63 : Nat) (1000000 : Int32)) ∈ lw_all := lw_g (lw_at lw_m0 85 rfl) rfl
theorem q92 : (Jvm.Cond.instanceMethod ({ cls := "CutLabels", name := "lower", desc := "()I" } : Jvm.MethodName)) ∈ lw_all := lw_g (lw_at lw_m0 87 rfl) rfl
theorem q93 : (Jvm.Cond.selects "CutLabels" ({ cls := "CutLabels", name := "lower", desc := "()I" } : Jvm.MethodName) ({ cls := "CutLabels", name := "lower", desc := "()I" } : Jvm.MethodName)) ∈ lw_all := lw_g (lw_at lw_m0 88 rfl) rfl
theorem q94 : (Jvm.Cond.code ({ cls := "CutLabels", name := "lower", desc := "()I" } : Jvm.MethodName) prog_1_method_6_code (3 : Nat) (Option.some Jvm.ClassFile.FieldType.int)) ∈ lw_all := lw_g (lw_at lw_m0 89 rfl) rfl
theorem q96 : (Jvm.Cond.instanceMethod ({ cls := "CutLabels", name := "upper", desc := "()I" } : Jvm.MethodName)) ∈ lw_all := lw_g (lw_at lw_m0 91 rfl) rfl
theorem q97 : (Jvm.Cond.selects "CutLabels" ({ cls := "CutLabels", name := "upper", desc := "()I" } : Jvm.MethodName) ({ cls := "CutLabels", name := "upper", desc := "()I" } : Jvm.MethodName)) ∈ lw_all := lw_g (lw_at lw_m0 92 rfl) rfl
theorem q98 : (Jvm.Cond.code ({ cls := "CutLabels", name := "upper", desc := "()I" } : Jvm.MethodName) prog_1_method_7_code (3 : Nat) (Option.some Jvm.ClassFile.FieldType.int)) ∈ lw_all := lw_g (lw_at lw_m0 93 rfl) rfl
theorem q100 : (Jvm.Cond.instanceMethod ({ cls := "CutLabels", name := "with", desc := "(II)I" } : Jvm.MethodName)) ∈ lw_all := lw_g (lw_at lw_m0 95 rfl) rfl
theorem q101 : (Jvm.Cond.selects "CutLabels" ({ cls := "CutLabels", name := "with", desc := "(II)I" } : Jvm.MethodName) ({ cls := "CutLabels", name := "with", desc := "(II)I" } : Jvm.MethodName)) ∈ lw_all := lw_g (lw_at lw_m0 96 rfl) rfl
theorem q102 : (Jvm.Cond.code ({ cls := "CutLabels", name := "with", desc := "(II)I" } : Jvm.MethodName) prog_1_method_8_code (3 : Nat) (Option.some Jvm.ClassFile.FieldType.int)) ∈ lw_all := lw_g (lw_at lw_m0 97 rfl) rfl
theorem q103 : (Jvm.Cond.methodLink "CutLabels" (59 : Nat) ({ cls := "CutLabels", name := "force", desc := "(II)V" } : Jvm.MethodName)) ∈ lw_all := lw_g (lw_at lw_m0 98 rfl) rfl
theorem q104 : (Jvm.Cond.privateMethod ({ cls := "CutLabels", name := "force", desc := "(II)V" } : Jvm.MethodName)) ∈ lw_tbl := lw_at lw_m0 99 rfl
theorem q105 : (Jvm.Cond.instanceMethod ({ cls := "CutLabels", name := "force", desc := "(II)V" } : Jvm.MethodName)) ∈ lw_all := lw_g (lw_at lw_m0 100 rfl) rfl
theorem q106 : (Jvm.Cond.code ({ cls := "CutLabels", name := "force", desc := "(II)V" } : Jvm.MethodName) prog_1_method_14_code (3 : Nat) (Option.none : Option Jvm.ClassFile.FieldType)) ∈ lw_all := lw_g (lw_at lw_m0 101 rfl) rfl
theorem q108 : (Jvm.Cond.instanceMethod ({ cls := "CutLabels", name := "apart", desc := "(II)I" } : Jvm.MethodName)) ∈ lw_all := lw_g (lw_at lw_m0 103 rfl) rfl
theorem q109 : (Jvm.Cond.selects "CutLabels" ({ cls := "CutLabels", name := "apart", desc := "(II)I" } : Jvm.MethodName) ({ cls := "CutLabels", name := "apart", desc := "(II)I" } : Jvm.MethodName)) ∈ lw_all := lw_g (lw_at lw_m0 104 rfl) rfl
theorem q110 : (Jvm.Cond.code ({ cls := "CutLabels", name := "apart", desc := "(II)I" } : Jvm.MethodName) prog_1_method_9_code (5 : Nat) (Option.some Jvm.ClassFile.FieldType.int)) ∈ lw_all := lw_g (lw_at lw_m0 105 rfl) rfl
theorem q112 : (Jvm.Cond.instanceMethod ({ cls := "CutLabels", name := "energy", desc := "(I)I" } : Jvm.MethodName)) ∈ lw_all := lw_g (lw_at lw_m0 107 rfl) rfl
theorem q113 : (Jvm.Cond.selects "CutLabels" ({ cls := "CutLabels", name := "energy", desc := "(I)I" } : Jvm.MethodName) ({ cls := "CutLabels", name := "energy", desc := "(I)I" } : Jvm.MethodName)) ∈ lw_all := lw_g (lw_at lw_m0 108 rfl) rfl
theorem q114 : (Jvm.Cond.code ({ cls := "CutLabels", name := "energy", desc := "(I)I" } : Jvm.MethodName) prog_1_method_10_code (6 : Nat) (Option.some Jvm.ClassFile.FieldType.int)) ∈ lw_all := lw_g (lw_at lw_m0 109 rfl) rfl
theorem in_X0 : ∀ w ∈ wsX00, w ∈ lw_all := lw_in wsX00 [27, 29, 31, 33, 35, 37, 39, 41, 43, 45, 47] (by decide +kernel) (by decide +kernel)
end
section
/-! CutLabelsModel -/
set_option maxRecDepth 100000
def RX1 : String := "CutLabelsModel"
def TX1 : u_T := fun k => match k with
  | 0 => ("CutLabelsModel", "costs", "[I", true)
  | 1 => ("CutLabelsModel", "tied", "[Z", true)
  | 2 => ("CutLabelsModel", "one", "[I", true)
  | 3 => ("CutLabelsModel", "other", "[I", true)
  | 4 => ("CutLabelsModel", "up", "[I", true)
  | _ => ("CutLabelsModel", "down", "[I", true)
def tyX1 : Nat → FieldType := fun k => match k with
  | 0 => .array .int
  | 1 => .array .boolean
  | 2 => .array .int
  | 3 => .array .int
  | 4 => .array .int
  | _ => .array .int
abbrev wsX10 : List Cond := u_ws RX1 TX1 6
theorem nmX1 : ∀ a, a < 6 → ∀ b, b < 6 → a ≠ b → (TX1 a).2.1 ≠ (TX1 b).2.1 := by decide +kernel
theorem tyX1_ok : ∀ k, k < 6 → parseFieldDescriptor (TX1 k).2.2.1 = some (tyX1 k) := by decide +kernel
abbrev cX1_init : ByteArray := prog_3_method_1_code
def yX1_init : MethodName := ⟨RX1, "<init>", "()V"⟩
theorem dX1_init_0 : decode cX1_init 0 = .ok (.aload_n 0, 1) := by decide +kernel
theorem dX1_init_1 : decode cX1_init 1 = .ok (.invokespecial 1, 3) := by decide +kernel
theorem dX1_init_4 : decode cX1_init 4 = .ok (.aload_n 0, 1) := by decide +kernel
theorem dX1_init_5 : decode cX1_init 5 = .ok (.bipush 18, 2) := by decide +kernel
theorem dX1_init_7 : decode cX1_init 7 = .ok (.newarray .int, 2) := by decide +kernel
theorem dX1_init_9 : decode cX1_init 9 = .ok (.putfield 7, 3) := by decide +kernel
theorem dX1_init_12 : decode cX1_init 12 = .ok (.aload_n 0, 1) := by decide +kernel
theorem dX1_init_13 : decode cX1_init 13 = .ok (.bipush 16, 2) := by decide +kernel
theorem dX1_init_15 : decode cX1_init 15 = .ok (.newarray .boolean, 2) := by decide +kernel
theorem dX1_init_17 : decode cX1_init 17 = .ok (.putfield 13, 3) := by decide +kernel
theorem dX1_init_20 : decode cX1_init 20 = .ok (.aload_n 0, 1) := by decide +kernel
theorem dX1_init_21 : decode cX1_init 21 = .ok (.bipush 16, 2) := by decide +kernel
theorem dX1_init_23 : decode cX1_init 23 = .ok (.newarray .int, 2) := by decide +kernel
theorem dX1_init_25 : decode cX1_init 25 = .ok (.putfield 17, 3) := by decide +kernel
theorem dX1_init_28 : decode cX1_init 28 = .ok (.aload_n 0, 1) := by decide +kernel
theorem dX1_init_29 : decode cX1_init 29 = .ok (.bipush 16, 2) := by decide +kernel
theorem dX1_init_31 : decode cX1_init 31 = .ok (.newarray .int, 2) := by decide +kernel
theorem dX1_init_33 : decode cX1_init 33 = .ok (.putfield 20, 3) := by decide +kernel
theorem dX1_init_36 : decode cX1_init 36 = .ok (.aload_n 0, 1) := by decide +kernel
theorem dX1_init_37 : decode cX1_init 37 = .ok (.bipush 16, 2) := by decide +kernel
theorem dX1_init_39 : decode cX1_init 39 = .ok (.newarray .int, 2) := by decide +kernel
theorem dX1_init_41 : decode cX1_init 41 = .ok (.putfield 23, 3) := by decide +kernel
theorem dX1_init_44 : decode cX1_init 44 = .ok (.aload_n 0, 1) := by decide +kernel
theorem dX1_init_45 : decode cX1_init 45 = .ok (.bipush 16, 2) := by decide +kernel
theorem dX1_init_47 : decode cX1_init 47 = .ok (.newarray .int, 2) := by decide +kernel
theorem dX1_init_49 : decode cX1_init 49 = .ok (.putfield 26, 3) := by decide +kernel
theorem dX1_init_52 : decode cX1_init 52 = .ok (.return_, 1) := by decide +kernel
abbrev cX1_cost : ByteArray := prog_3_method_4_code
def yX1_cost : MethodName := ⟨RX1, "cost", "(III)I"⟩
theorem dX1_cost_0 : decode cX1_cost 0 = .ok (.iload_n 1, 1) := by decide +kernel
theorem dX1_cost_1 : decode cX1_cost 1 = .ok (.invokestatic 29, 3) := by decide +kernel
theorem dX1_cost_4 : decode cX1_cost 4 = .ok (.ifCond .ne 17, 3) := by decide +kernel
theorem dX1_cost_7 : decode cX1_cost 7 = .ok (.iload_n 2, 1) := by decide +kernel
theorem dX1_cost_8 : decode cX1_cost 8 = .ok (.invokestatic 33, 3) := by decide +kernel
theorem dX1_cost_11 : decode cX1_cost 11 = .ok (.ifCond .ne 10, 3) := by decide +kernel
theorem dX1_cost_14 : decode cX1_cost 14 = .ok (.iload_n 3, 1) := by decide +kernel
theorem dX1_cost_15 : decode cX1_cost 15 = .ok (.invokestatic 33, 3) := by decide +kernel
theorem dX1_cost_18 : decode cX1_cost 18 = .ok (.ifCond .eq 5, 3) := by decide +kernel
theorem dX1_cost_21 : decode cX1_cost 21 = .ok (.iconst (-1), 1) := by decide +kernel
theorem dX1_cost_22 : decode cX1_cost 22 = .ok (.ireturn, 1) := by decide +kernel
theorem dX1_cost_23 : decode cX1_cost 23 = .ok (.aload_n 0, 1) := by decide +kernel
theorem dX1_cost_24 : decode cX1_cost 24 = .ok (.getfield 7, 3) := by decide +kernel
theorem dX1_cost_27 : decode cX1_cost 27 = .ok (.iconst 2, 1) := by decide +kernel
theorem dX1_cost_28 : decode cX1_cost 28 = .ok (.iload_n 1, 1) := by decide +kernel
theorem dX1_cost_29 : decode cX1_cost 29 = .ok (.imul, 1) := by decide +kernel
theorem dX1_cost_30 : decode cX1_cost 30 = .ok (.iload_n 2, 1) := by decide +kernel
theorem dX1_cost_31 : decode cX1_cost 31 = .ok (.iastore, 1) := by decide +kernel
theorem dX1_cost_32 : decode cX1_cost 32 = .ok (.aload_n 0, 1) := by decide +kernel
theorem dX1_cost_33 : decode cX1_cost 33 = .ok (.getfield 7, 3) := by decide +kernel
theorem dX1_cost_36 : decode cX1_cost 36 = .ok (.iconst 2, 1) := by decide +kernel
theorem dX1_cost_37 : decode cX1_cost 37 = .ok (.iload_n 1, 1) := by decide +kernel
theorem dX1_cost_38 : decode cX1_cost 38 = .ok (.imul, 1) := by decide +kernel
theorem dX1_cost_39 : decode cX1_cost 39 = .ok (.iconst 1, 1) := by decide +kernel
theorem dX1_cost_40 : decode cX1_cost 40 = .ok (.iadd, 1) := by decide +kernel
theorem dX1_cost_41 : decode cX1_cost 41 = .ok (.iload_n 3, 1) := by decide +kernel
theorem dX1_cost_42 : decode cX1_cost 42 = .ok (.iastore, 1) := by decide +kernel
theorem dX1_cost_43 : decode cX1_cost 43 = .ok (.iconst 0, 1) := by decide +kernel
theorem dX1_cost_44 : decode cX1_cost 44 = .ok (.ireturn, 1) := by decide +kernel
abbrev cX1_bad : ByteArray := prog_3_method_2_code
def yX1_bad : MethodName := ⟨RX1, "bad", "(I)Z"⟩
theorem dX1_bad_0 : decode cX1_bad 0 = .ok (.iload_n 0, 1) := by decide +kernel
theorem dX1_bad_1 : decode cX1_bad 1 = .ok (.ifCond .lt 9, 3) := by decide +kernel
theorem dX1_bad_4 : decode cX1_bad 4 = .ok (.iload_n 0, 1) := by decide +kernel
theorem dX1_bad_5 : decode cX1_bad 5 = .ok (.bipush 8, 2) := by decide +kernel
theorem dX1_bad_7 : decode cX1_bad 7 = .ok (.if_icmp .le 7, 3) := by decide +kernel
theorem dX1_bad_10 : decode cX1_bad 10 = .ok (.iconst 1, 1) := by decide +kernel
theorem dX1_bad_11 : decode cX1_bad 11 = .ok (.goto 4, 3) := by decide +kernel
theorem dX1_bad_14 : decode cX1_bad 14 = .ok (.iconst 0, 1) := by decide +kernel
theorem dX1_bad_15 : decode cX1_bad 15 = .ok (.ireturn, 1) := by decide +kernel
abbrev cX1_badCost : ByteArray := prog_3_method_3_code
def yX1_badCost : MethodName := ⟨RX1, "badCost", "(I)Z"⟩
theorem dX1_badCost_0 : decode cX1_badCost 0 = .ok (.iload_n 0, 1) := by decide +kernel
theorem dX1_badCost_1 : decode cX1_badCost 1 = .ok (.ifCond .lt 9, 3) := by decide +kernel
theorem dX1_badCost_4 : decode cX1_badCost 4 = .ok (.iload_n 0, 1) := by decide +kernel
theorem dX1_badCost_5 : decode cX1_badCost 5 = .ok (.bipush 100, 2) := by decide +kernel
theorem dX1_badCost_7 : decode cX1_badCost 7 = .ok (.if_icmp .le 7, 3) := by decide +kernel
theorem dX1_badCost_10 : decode cX1_badCost 10 = .ok (.iconst 1, 1) := by decide +kernel
theorem dX1_badCost_11 : decode cX1_badCost 11 = .ok (.goto 4, 3) := by decide +kernel
theorem dX1_badCost_14 : decode cX1_badCost 14 = .ok (.iconst 0, 1) := by decide +kernel
theorem dX1_badCost_15 : decode cX1_badCost 15 = .ok (.ireturn, 1) := by decide +kernel
abbrev cX1_tie : ByteArray := prog_3_method_5_code
def yX1_tie : MethodName := ⟨RX1, "tie", "(IIIII)I"⟩
theorem dX1_tie_0 : decode cX1_tie 0 = .ok (.iload_n 1, 1) := by decide +kernel
theorem dX1_tie_1 : decode cX1_tie 1 = .ok (.ifCond .lt 44, 3) := by decide +kernel
theorem dX1_tie_4 : decode cX1_tie 4 = .ok (.iload_n 1, 1) := by decide +kernel
theorem dX1_tie_5 : decode cX1_tie 5 = .ok (.bipush 15, 2) := by decide +kernel
theorem dX1_tie_7 : decode cX1_tie 7 = .ok (.if_icmp .gt 38, 3) := by decide +kernel
theorem dX1_tie_10 : decode cX1_tie 10 = .ok (.iload_n 2, 1) := by decide +kernel
theorem dX1_tie_11 : decode cX1_tie 11 = .ok (.invokestatic 29, 3) := by decide +kernel
theorem dX1_tie_14 : decode cX1_tie 14 = .ok (.ifCond .ne 31, 3) := by decide +kernel
theorem dX1_tie_17 : decode cX1_tie 17 = .ok (.iload_n 3, 1) := by decide +kernel
theorem dX1_tie_18 : decode cX1_tie 18 = .ok (.invokestatic 29, 3) := by decide +kernel
theorem dX1_tie_21 : decode cX1_tie 21 = .ok (.ifCond .ne 24, 3) := by decide +kernel
theorem dX1_tie_24 : decode cX1_tie 24 = .ok (.iload_n 2, 1) := by decide +kernel
theorem dX1_tie_25 : decode cX1_tie 25 = .ok (.iload_n 3, 1) := by decide +kernel
theorem dX1_tie_26 : decode cX1_tie 26 = .ok (.if_icmp .eq 19, 3) := by decide +kernel
theorem dX1_tie_29 : decode cX1_tie 29 = .ok (.iload 4, 2) := by decide +kernel
theorem dX1_tie_31 : decode cX1_tie 31 = .ok (.invokestatic 33, 3) := by decide +kernel
theorem dX1_tie_34 : decode cX1_tie 34 = .ok (.ifCond .ne 11, 3) := by decide +kernel
theorem dX1_tie_37 : decode cX1_tie 37 = .ok (.iload 5, 2) := by decide +kernel
theorem dX1_tie_39 : decode cX1_tie 39 = .ok (.invokestatic 33, 3) := by decide +kernel
theorem dX1_tie_42 : decode cX1_tie 42 = .ok (.ifCond .eq 5, 3) := by decide +kernel
theorem dX1_tie_45 : decode cX1_tie 45 = .ok (.iconst (-1), 1) := by decide +kernel
theorem dX1_tie_46 : decode cX1_tie 46 = .ok (.ireturn, 1) := by decide +kernel
theorem dX1_tie_47 : decode cX1_tie 47 = .ok (.aload_n 0, 1) := by decide +kernel
theorem dX1_tie_48 : decode cX1_tie 48 = .ok (.getfield 13, 3) := by decide +kernel
theorem dX1_tie_51 : decode cX1_tie 51 = .ok (.iload_n 1, 1) := by decide +kernel
theorem dX1_tie_52 : decode cX1_tie 52 = .ok (.iconst 1, 1) := by decide +kernel
theorem dX1_tie_53 : decode cX1_tie 53 = .ok (.bastore, 1) := by decide +kernel
theorem dX1_tie_54 : decode cX1_tie 54 = .ok (.aload_n 0, 1) := by decide +kernel
theorem dX1_tie_55 : decode cX1_tie 55 = .ok (.getfield 17, 3) := by decide +kernel
theorem dX1_tie_58 : decode cX1_tie 58 = .ok (.iload_n 1, 1) := by decide +kernel
theorem dX1_tie_59 : decode cX1_tie 59 = .ok (.iload_n 2, 1) := by decide +kernel
theorem dX1_tie_60 : decode cX1_tie 60 = .ok (.iastore, 1) := by decide +kernel
theorem dX1_tie_61 : decode cX1_tie 61 = .ok (.aload_n 0, 1) := by decide +kernel
theorem dX1_tie_62 : decode cX1_tie 62 = .ok (.getfield 20, 3) := by decide +kernel
theorem dX1_tie_65 : decode cX1_tie 65 = .ok (.iload_n 1, 1) := by decide +kernel
theorem dX1_tie_66 : decode cX1_tie 66 = .ok (.iload_n 3, 1) := by decide +kernel
theorem dX1_tie_67 : decode cX1_tie 67 = .ok (.iastore, 1) := by decide +kernel
theorem dX1_tie_68 : decode cX1_tie 68 = .ok (.aload_n 0, 1) := by decide +kernel
theorem dX1_tie_69 : decode cX1_tie 69 = .ok (.getfield 23, 3) := by decide +kernel
theorem dX1_tie_72 : decode cX1_tie 72 = .ok (.iload_n 1, 1) := by decide +kernel
theorem dX1_tie_73 : decode cX1_tie 73 = .ok (.iload 4, 2) := by decide +kernel
theorem dX1_tie_75 : decode cX1_tie 75 = .ok (.iastore, 1) := by decide +kernel
theorem dX1_tie_76 : decode cX1_tie 76 = .ok (.aload_n 0, 1) := by decide +kernel
theorem dX1_tie_77 : decode cX1_tie 77 = .ok (.getfield 26, 3) := by decide +kernel
theorem dX1_tie_80 : decode cX1_tie 80 = .ok (.iload_n 1, 1) := by decide +kernel
theorem dX1_tie_81 : decode cX1_tie 81 = .ok (.iload 5, 2) := by decide +kernel
theorem dX1_tie_83 : decode cX1_tie 83 = .ok (.iastore, 1) := by decide +kernel
theorem dX1_tie_84 : decode cX1_tie 84 = .ok (.iconst 0, 1) := by decide +kernel
theorem dX1_tie_85 : decode cX1_tie 85 = .ok (.ireturn, 1) := by decide +kernel
abbrev cX1_cut : ByteArray := prog_3_method_6_code
def yX1_cut : MethodName := ⟨RX1, "cut", "(I)I"⟩
theorem dX1_cut_0 : decode cX1_cut 0 = .ok (.iload_n 1, 1) := by decide +kernel
theorem dX1_cut_1 : decode cX1_cut 1 = .ok (.ifCond .lt 9, 3) := by decide +kernel
theorem dX1_cut_4 : decode cX1_cut 4 = .ok (.iload_n 1, 1) := by decide +kernel
theorem dX1_cut_5 : decode cX1_cut 5 = .ok (.bipush 15, 2) := by decide +kernel
theorem dX1_cut_7 : decode cX1_cut 7 = .ok (.if_icmp .le 5, 3) := by decide +kernel
theorem dX1_cut_10 : decode cX1_cut 10 = .ok (.iconst (-1), 1) := by decide +kernel
theorem dX1_cut_11 : decode cX1_cut 11 = .ok (.ireturn, 1) := by decide +kernel
theorem dX1_cut_12 : decode cX1_cut 12 = .ok (.aload_n 0, 1) := by decide +kernel
theorem dX1_cut_13 : decode cX1_cut 13 = .ok (.getfield 13, 3) := by decide +kernel
theorem dX1_cut_16 : decode cX1_cut 16 = .ok (.iload_n 1, 1) := by decide +kernel
theorem dX1_cut_17 : decode cX1_cut 17 = .ok (.baload, 1) := by decide +kernel
theorem dX1_cut_18 : decode cX1_cut 18 = .ok (.istore_n 2, 1) := by decide +kernel
theorem dX1_cut_19 : decode cX1_cut 19 = .ok (.aload_n 0, 1) := by decide +kernel
theorem dX1_cut_20 : decode cX1_cut 20 = .ok (.getfield 13, 3) := by decide +kernel
theorem dX1_cut_23 : decode cX1_cut 23 = .ok (.iload_n 1, 1) := by decide +kernel
theorem dX1_cut_24 : decode cX1_cut 24 = .ok (.iconst 0, 1) := by decide +kernel
theorem dX1_cut_25 : decode cX1_cut 25 = .ok (.bastore, 1) := by decide +kernel
theorem dX1_cut_26 : decode cX1_cut 26 = .ok (.iload_n 2, 1) := by decide +kernel
theorem dX1_cut_27 : decode cX1_cut 27 = .ok (.ifCond .eq 7, 3) := by decide +kernel
theorem dX1_cut_30 : decode cX1_cut 30 = .ok (.iconst 1, 1) := by decide +kernel
theorem dX1_cut_31 : decode cX1_cut 31 = .ok (.goto 4, 3) := by decide +kernel
theorem dX1_cut_34 : decode cX1_cut 34 = .ok (.iconst 0, 1) := by decide +kernel
theorem dX1_cut_35 : decode cX1_cut 35 = .ok (.ireturn, 1) := by decide +kernel
abbrev cX1_least : ByteArray := prog_3_method_8_code
def yX1_least : MethodName := ⟨RX1, "least", "()I"⟩
theorem dX1_least_0 : decode cX1_least 0 = .ok (.aload_n 0, 1) := by decide +kernel
theorem dX1_least_1 : decode cX1_least 1 = .ok (.iconst 0, 1) := by decide +kernel
theorem dX1_least_2 : decode cX1_least 2 = .ok (.invokevirtual 36, 3) := by decide +kernel
theorem dX1_least_5 : decode cX1_least 5 = .ok (.istore_n 1, 1) := by decide +kernel
theorem dX1_least_6 : decode cX1_least 6 = .ok (.iconst 1, 1) := by decide +kernel
theorem dX1_least_7 : decode cX1_least 7 = .ok (.istore_n 2, 1) := by decide +kernel
theorem dX1_least_8 : decode cX1_least 8 = .ok (.iload_n 2, 1) := by decide +kernel
theorem dX1_least_9 : decode cX1_least 9 = .ok (.sipush 512, 3) := by decide +kernel
theorem dX1_least_12 : decode cX1_least 12 = .ok (.if_icmp .ge 22, 3) := by decide +kernel
theorem dX1_least_15 : decode cX1_least 15 = .ok (.aload_n 0, 1) := by decide +kernel
theorem dX1_least_16 : decode cX1_least 16 = .ok (.iload_n 2, 1) := by decide +kernel
theorem dX1_least_17 : decode cX1_least 17 = .ok (.invokevirtual 36, 3) := by decide +kernel
theorem dX1_least_20 : decode cX1_least 20 = .ok (.istore_n 3, 1) := by decide +kernel
theorem dX1_least_21 : decode cX1_least 21 = .ok (.iload_n 3, 1) := by decide +kernel
theorem dX1_least_22 : decode cX1_least 22 = .ok (.iload_n 1, 1) := by decide +kernel
theorem dX1_least_23 : decode cX1_least 23 = .ok (.if_icmp .ge 5, 3) := by decide +kernel
theorem dX1_least_26 : decode cX1_least 26 = .ok (.iload_n 3, 1) := by decide +kernel
theorem dX1_least_27 : decode cX1_least 27 = .ok (.istore_n 1, 1) := by decide +kernel
theorem dX1_least_28 : decode cX1_least 28 = .ok (.iinc 2 1, 3) := by decide +kernel
theorem dX1_least_31 : decode cX1_least 31 = .ok (.goto (-23), 3) := by decide +kernel
theorem dX1_least_34 : decode cX1_least 34 = .ok (.iload_n 1, 1) := by decide +kernel
theorem dX1_least_35 : decode cX1_least 35 = .ok (.ireturn, 1) := by decide +kernel
abbrev cX1_energy : ByteArray := prog_3_method_13_code
def yX1_energy : MethodName := ⟨RX1, "energy", "(I)I"⟩
theorem dX1_energy_0 : decode cX1_energy 0 = .ok (.iconst 0, 1) := by decide +kernel
theorem dX1_energy_1 : decode cX1_energy 1 = .ok (.istore_n 2, 1) := by decide +kernel
theorem dX1_energy_2 : decode cX1_energy 2 = .ok (.iconst 0, 1) := by decide +kernel
theorem dX1_energy_3 : decode cX1_energy 3 = .ok (.istore_n 3, 1) := by decide +kernel
theorem dX1_energy_4 : decode cX1_energy 4 = .ok (.iload_n 3, 1) := by decide +kernel
theorem dX1_energy_5 : decode cX1_energy 5 = .ok (.bipush 9, 2) := by decide +kernel
theorem dX1_energy_7 : decode cX1_energy 7 = .ok (.if_icmp .ge 26, 3) := by decide +kernel
theorem dX1_energy_10 : decode cX1_energy 10 = .ok (.iload_n 2, 1) := by decide +kernel
theorem dX1_energy_11 : decode cX1_energy 11 = .ok (.aload_n 0, 1) := by decide +kernel
theorem dX1_energy_12 : decode cX1_energy 12 = .ok (.getfield 7, 3) := by decide +kernel
theorem dX1_energy_15 : decode cX1_energy 15 = .ok (.iconst 2, 1) := by decide +kernel
theorem dX1_energy_16 : decode cX1_energy 16 = .ok (.iload_n 3, 1) := by decide +kernel
theorem dX1_energy_17 : decode cX1_energy 17 = .ok (.imul, 1) := by decide +kernel
theorem dX1_energy_18 : decode cX1_energy 18 = .ok (.iload_n 1, 1) := by decide +kernel
theorem dX1_energy_19 : decode cX1_energy 19 = .ok (.iload_n 3, 1) := by decide +kernel
theorem dX1_energy_20 : decode cX1_energy 20 = .ok (.invokestatic 45, 3) := by decide +kernel
theorem dX1_energy_23 : decode cX1_energy 23 = .ok (.iadd, 1) := by decide +kernel
theorem dX1_energy_24 : decode cX1_energy 24 = .ok (.iaload, 1) := by decide +kernel
theorem dX1_energy_25 : decode cX1_energy 25 = .ok (.iadd, 1) := by decide +kernel
theorem dX1_energy_26 : decode cX1_energy 26 = .ok (.istore_n 2, 1) := by decide +kernel
theorem dX1_energy_27 : decode cX1_energy 27 = .ok (.iinc 3 1, 3) := by decide +kernel
theorem dX1_energy_30 : decode cX1_energy 30 = .ok (.goto (-26), 3) := by decide +kernel
theorem dX1_energy_33 : decode cX1_energy 33 = .ok (.iconst 0, 1) := by decide +kernel
theorem dX1_energy_34 : decode cX1_energy 34 = .ok (.istore_n 3, 1) := by decide +kernel
theorem dX1_energy_35 : decode cX1_energy 35 = .ok (.iload_n 3, 1) := by decide +kernel
theorem dX1_energy_36 : decode cX1_energy 36 = .ok (.bipush 16, 2) := by decide +kernel
theorem dX1_energy_38 : decode cX1_energy 38 = .ok (.if_icmp .ge 83, 3) := by decide +kernel
theorem dX1_energy_41 : decode cX1_energy 41 = .ok (.iload_n 1, 1) := by decide +kernel
theorem dX1_energy_42 : decode cX1_energy 42 = .ok (.aload_n 0, 1) := by decide +kernel
theorem dX1_energy_43 : decode cX1_energy 43 = .ok (.getfield 17, 3) := by decide +kernel
theorem dX1_energy_46 : decode cX1_energy 46 = .ok (.iload_n 3, 1) := by decide +kernel
theorem dX1_energy_47 : decode cX1_energy 47 = .ok (.iaload, 1) := by decide +kernel
theorem dX1_energy_48 : decode cX1_energy 48 = .ok (.invokestatic 45, 3) := by decide +kernel
theorem dX1_energy_51 : decode cX1_energy 51 = .ok (.istore 4, 2) := by decide +kernel
theorem dX1_energy_53 : decode cX1_energy 53 = .ok (.iload_n 1, 1) := by decide +kernel
theorem dX1_energy_54 : decode cX1_energy 54 = .ok (.aload_n 0, 1) := by decide +kernel
theorem dX1_energy_55 : decode cX1_energy 55 = .ok (.getfield 20, 3) := by decide +kernel
theorem dX1_energy_58 : decode cX1_energy 58 = .ok (.iload_n 3, 1) := by decide +kernel
theorem dX1_energy_59 : decode cX1_energy 59 = .ok (.iaload, 1) := by decide +kernel
theorem dX1_energy_60 : decode cX1_energy 60 = .ok (.invokestatic 45, 3) := by decide +kernel
theorem dX1_energy_63 : decode cX1_energy 63 = .ok (.istore 5, 2) := by decide +kernel
theorem dX1_energy_65 : decode cX1_energy 65 = .ok (.aload_n 0, 1) := by decide +kernel
theorem dX1_energy_66 : decode cX1_energy 66 = .ok (.getfield 13, 3) := by decide +kernel
theorem dX1_energy_69 : decode cX1_energy 69 = .ok (.iload_n 3, 1) := by decide +kernel
theorem dX1_energy_70 : decode cX1_energy 70 = .ok (.baload, 1) := by decide +kernel
theorem dX1_energy_71 : decode cX1_energy 71 = .ok (.ifCond .eq 19, 3) := by decide +kernel
theorem dX1_energy_74 : decode cX1_energy 74 = .ok (.iload 4, 2) := by decide +kernel
theorem dX1_energy_76 : decode cX1_energy 76 = .ok (.iload 5, 2) := by decide +kernel
theorem dX1_energy_78 : decode cX1_energy 78 = .ok (.if_icmp .ge 12, 3) := by decide +kernel
theorem dX1_energy_81 : decode cX1_energy 81 = .ok (.iload_n 2, 1) := by decide +kernel
theorem dX1_energy_82 : decode cX1_energy 82 = .ok (.aload_n 0, 1) := by decide +kernel
theorem dX1_energy_83 : decode cX1_energy 83 = .ok (.getfield 23, 3) := by decide +kernel
theorem dX1_energy_86 : decode cX1_energy 86 = .ok (.iload_n 3, 1) := by decide +kernel
theorem dX1_energy_87 : decode cX1_energy 87 = .ok (.iaload, 1) := by decide +kernel
theorem dX1_energy_88 : decode cX1_energy 88 = .ok (.iadd, 1) := by decide +kernel
theorem dX1_energy_89 : decode cX1_energy 89 = .ok (.istore_n 2, 1) := by decide +kernel
theorem dX1_energy_90 : decode cX1_energy 90 = .ok (.aload_n 0, 1) := by decide +kernel
theorem dX1_energy_91 : decode cX1_energy 91 = .ok (.getfield 13, 3) := by decide +kernel
theorem dX1_energy_94 : decode cX1_energy 94 = .ok (.iload_n 3, 1) := by decide +kernel
theorem dX1_energy_95 : decode cX1_energy 95 = .ok (.baload, 1) := by decide +kernel
theorem dX1_energy_96 : decode cX1_energy 96 = .ok (.ifCond .eq 19, 3) := by decide +kernel
theorem dX1_energy_99 : decode cX1_energy 99 = .ok (.iload 4, 2) := by decide +kernel
theorem dX1_energy_101 : decode cX1_energy 101 = .ok (.iload 5, 2) := by decide +kernel
theorem dX1_energy_103 : decode cX1_energy 103 = .ok (.if_icmp .le 12, 3) := by decide +kernel
theorem dX1_energy_106 : decode cX1_energy 106 = .ok (.iload_n 2, 1) := by decide +kernel
theorem dX1_energy_107 : decode cX1_energy 107 = .ok (.aload_n 0, 1) := by decide +kernel
theorem dX1_energy_108 : decode cX1_energy 108 = .ok (.getfield 26, 3) := by decide +kernel
theorem dX1_energy_111 : decode cX1_energy 111 = .ok (.iload_n 3, 1) := by decide +kernel
theorem dX1_energy_112 : decode cX1_energy 112 = .ok (.iaload, 1) := by decide +kernel
theorem dX1_energy_113 : decode cX1_energy 113 = .ok (.iadd, 1) := by decide +kernel
theorem dX1_energy_114 : decode cX1_energy 114 = .ok (.istore_n 2, 1) := by decide +kernel
theorem dX1_energy_115 : decode cX1_energy 115 = .ok (.iinc 3 1, 3) := by decide +kernel
theorem dX1_energy_118 : decode cX1_energy 118 = .ok (.goto (-83), 3) := by decide +kernel
theorem dX1_energy_121 : decode cX1_energy 121 = .ok (.iload_n 2, 1) := by decide +kernel
theorem dX1_energy_122 : decode cX1_energy 122 = .ok (.ireturn, 1) := by decide +kernel
abbrev cX1_label : ByteArray := prog_3_method_7_code
def yX1_label : MethodName := ⟨RX1, "label", "(II)I"⟩
theorem dX1_label_0 : decode cX1_label 0 = .ok (.iload_n 0, 1) := by decide +kernel
theorem dX1_label_1 : decode cX1_label 1 = .ok (.iload_n 1, 1) := by decide +kernel
theorem dX1_label_2 : decode cX1_label 2 = .ok (.ishr, 1) := by decide +kernel
theorem dX1_label_3 : decode cX1_label 3 = .ok (.iconst 1, 1) := by decide +kernel
theorem dX1_label_4 : decode cX1_label 4 = .ok (.iand, 1) := by decide +kernel
theorem dX1_label_5 : decode cX1_label 5 = .ok (.ireturn, 1) := by decide +kernel
abbrev cX1_lower : ByteArray := prog_3_method_9_code
def yX1_lower : MethodName := ⟨RX1, "lower", "()I"⟩
theorem dX1_lower_0 : decode cX1_lower 0 = .ok (.aload_n 0, 1) := by decide +kernel
theorem dX1_lower_1 : decode cX1_lower 1 = .ok (.invokevirtual 40, 3) := by decide +kernel
theorem dX1_lower_4 : decode cX1_lower 4 = .ok (.istore_n 1, 1) := by decide +kernel
theorem dX1_lower_5 : decode cX1_lower 5 = .ok (.sipush 511, 3) := by decide +kernel
theorem dX1_lower_8 : decode cX1_lower 8 = .ok (.istore_n 2, 1) := by decide +kernel
theorem dX1_lower_9 : decode cX1_lower 9 = .ok (.iconst 0, 1) := by decide +kernel
theorem dX1_lower_10 : decode cX1_lower 10 = .ok (.istore_n 3, 1) := by decide +kernel
theorem dX1_lower_11 : decode cX1_lower 11 = .ok (.iload_n 3, 1) := by decide +kernel
theorem dX1_lower_12 : decode cX1_lower 12 = .ok (.sipush 512, 3) := by decide +kernel
theorem dX1_lower_15 : decode cX1_lower 15 = .ok (.if_icmp .ge 22, 3) := by decide +kernel
theorem dX1_lower_18 : decode cX1_lower 18 = .ok (.aload_n 0, 1) := by decide +kernel
theorem dX1_lower_19 : decode cX1_lower 19 = .ok (.iload_n 3, 1) := by decide +kernel
theorem dX1_lower_20 : decode cX1_lower 20 = .ok (.invokevirtual 36, 3) := by decide +kernel
theorem dX1_lower_23 : decode cX1_lower 23 = .ok (.iload_n 1, 1) := by decide +kernel
theorem dX1_lower_24 : decode cX1_lower 24 = .ok (.if_icmp .ne 7, 3) := by decide +kernel
theorem dX1_lower_27 : decode cX1_lower 27 = .ok (.iload_n 2, 1) := by decide +kernel
theorem dX1_lower_28 : decode cX1_lower 28 = .ok (.iload_n 3, 1) := by decide +kernel
theorem dX1_lower_29 : decode cX1_lower 29 = .ok (.iand, 1) := by decide +kernel
theorem dX1_lower_30 : decode cX1_lower 30 = .ok (.istore_n 2, 1) := by decide +kernel
theorem dX1_lower_31 : decode cX1_lower 31 = .ok (.iinc 3 1, 3) := by decide +kernel
theorem dX1_lower_34 : decode cX1_lower 34 = .ok (.goto (-23), 3) := by decide +kernel
theorem dX1_lower_37 : decode cX1_lower 37 = .ok (.iload_n 2, 1) := by decide +kernel
theorem dX1_lower_38 : decode cX1_lower 38 = .ok (.ireturn, 1) := by decide +kernel
abbrev cX1_upper : ByteArray := prog_3_method_10_code
def yX1_upper : MethodName := ⟨RX1, "upper", "()I"⟩
theorem dX1_upper_0 : decode cX1_upper 0 = .ok (.aload_n 0, 1) := by decide +kernel
theorem dX1_upper_1 : decode cX1_upper 1 = .ok (.invokevirtual 40, 3) := by decide +kernel
theorem dX1_upper_4 : decode cX1_upper 4 = .ok (.istore_n 1, 1) := by decide +kernel
theorem dX1_upper_5 : decode cX1_upper 5 = .ok (.iconst 0, 1) := by decide +kernel
theorem dX1_upper_6 : decode cX1_upper 6 = .ok (.istore_n 2, 1) := by decide +kernel
theorem dX1_upper_7 : decode cX1_upper 7 = .ok (.iconst 0, 1) := by decide +kernel
theorem dX1_upper_8 : decode cX1_upper 8 = .ok (.istore_n 3, 1) := by decide +kernel
theorem dX1_upper_9 : decode cX1_upper 9 = .ok (.iload_n 3, 1) := by decide +kernel
theorem dX1_upper_10 : decode cX1_upper 10 = .ok (.sipush 512, 3) := by decide +kernel
theorem dX1_upper_13 : decode cX1_upper 13 = .ok (.if_icmp .ge 22, 3) := by decide +kernel
theorem dX1_upper_16 : decode cX1_upper 16 = .ok (.aload_n 0, 1) := by decide +kernel
theorem dX1_upper_17 : decode cX1_upper 17 = .ok (.iload_n 3, 1) := by decide +kernel
theorem dX1_upper_18 : decode cX1_upper 18 = .ok (.invokevirtual 36, 3) := by decide +kernel
theorem dX1_upper_21 : decode cX1_upper 21 = .ok (.iload_n 1, 1) := by decide +kernel
theorem dX1_upper_22 : decode cX1_upper 22 = .ok (.if_icmp .ne 7, 3) := by decide +kernel
theorem dX1_upper_25 : decode cX1_upper 25 = .ok (.iload_n 2, 1) := by decide +kernel
theorem dX1_upper_26 : decode cX1_upper 26 = .ok (.iload_n 3, 1) := by decide +kernel
theorem dX1_upper_27 : decode cX1_upper 27 = .ok (.ior, 1) := by decide +kernel
theorem dX1_upper_28 : decode cX1_upper 28 = .ok (.istore_n 2, 1) := by decide +kernel
theorem dX1_upper_29 : decode cX1_upper 29 = .ok (.iinc 3 1, 3) := by decide +kernel
theorem dX1_upper_32 : decode cX1_upper 32 = .ok (.goto (-23), 3) := by decide +kernel
theorem dX1_upper_35 : decode cX1_upper 35 = .ok (.iload_n 2, 1) := by decide +kernel
theorem dX1_upper_36 : decode cX1_upper 36 = .ok (.ireturn, 1) := by decide +kernel
abbrev cX1_with : ByteArray := prog_3_method_11_code
def yX1_with : MethodName := ⟨RX1, "with", "(II)I"⟩
theorem dX1_with_0 : decode cX1_with 0 = .ok (.iload_n 1, 1) := by decide +kernel
theorem dX1_with_1 : decode cX1_with 1 = .ok (.invokestatic 29, 3) := by decide +kernel
theorem dX1_with_4 : decode cX1_with 4 = .ok (.ifCond .eq 5, 3) := by decide +kernel
theorem dX1_with_7 : decode cX1_with 7 = .ok (.iconst (-1), 1) := by decide +kernel
theorem dX1_with_8 : decode cX1_with 8 = .ok (.ireturn, 1) := by decide +kernel
theorem dX1_with_9 : decode cX1_with 9 = .ok (.ldc 44, 2) := by decide +kernel
theorem dX1_with_11 : decode cX1_with 11 = .ok (.istore_n 3, 1) := by decide +kernel
theorem dX1_with_12 : decode cX1_with 12 = .ok (.iconst 0, 1) := by decide +kernel
theorem dX1_with_13 : decode cX1_with 13 = .ok (.istore 4, 2) := by decide +kernel
theorem dX1_with_15 : decode cX1_with 15 = .ok (.iload 4, 2) := by decide +kernel
theorem dX1_with_17 : decode cX1_with 17 = .ok (.sipush 512, 3) := by decide +kernel
theorem dX1_with_20 : decode cX1_with 20 = .ok (.if_icmp .ge 38, 3) := by decide +kernel
theorem dX1_with_23 : decode cX1_with 23 = .ok (.aload_n 0, 1) := by decide +kernel
theorem dX1_with_24 : decode cX1_with 24 = .ok (.iload 4, 2) := by decide +kernel
theorem dX1_with_26 : decode cX1_with 26 = .ok (.invokevirtual 36, 3) := by decide +kernel
theorem dX1_with_29 : decode cX1_with 29 = .ok (.istore 5, 2) := by decide +kernel
theorem dX1_with_31 : decode cX1_with 31 = .ok (.iload 4, 2) := by decide +kernel
theorem dX1_with_33 : decode cX1_with 33 = .ok (.iload_n 1, 1) := by decide +kernel
theorem dX1_with_34 : decode cX1_with 34 = .ok (.invokestatic 45, 3) := by decide +kernel
theorem dX1_with_37 : decode cX1_with 37 = .ok (.iload_n 2, 1) := by decide +kernel
theorem dX1_with_38 : decode cX1_with 38 = .ok (.iconst 1, 1) := by decide +kernel
theorem dX1_with_39 : decode cX1_with 39 = .ok (.iand, 1) := by decide +kernel
theorem dX1_with_40 : decode cX1_with 40 = .ok (.if_icmp .ne 12, 3) := by decide +kernel
theorem dX1_with_43 : decode cX1_with 43 = .ok (.iload 5, 2) := by decide +kernel
theorem dX1_with_45 : decode cX1_with 45 = .ok (.iload_n 3, 1) := by decide +kernel
theorem dX1_with_46 : decode cX1_with 46 = .ok (.if_icmp .ge 6, 3) := by decide +kernel
theorem dX1_with_49 : decode cX1_with 49 = .ok (.iload 5, 2) := by decide +kernel
theorem dX1_with_51 : decode cX1_with 51 = .ok (.istore_n 3, 1) := by decide +kernel
theorem dX1_with_52 : decode cX1_with 52 = .ok (.iinc 4 1, 3) := by decide +kernel
theorem dX1_with_55 : decode cX1_with 55 = .ok (.goto (-40), 3) := by decide +kernel
theorem dX1_with_58 : decode cX1_with 58 = .ok (.iload_n 3, 1) := by decide +kernel
theorem dX1_with_59 : decode cX1_with 59 = .ok (.ireturn, 1) := by decide +kernel
abbrev cX1_apart : ByteArray := prog_3_method_12_code
def yX1_apart : MethodName := ⟨RX1, "apart", "(II)I"⟩
theorem dX1_apart_0 : decode cX1_apart 0 = .ok (.iload_n 1, 1) := by decide +kernel
theorem dX1_apart_1 : decode cX1_apart 1 = .ok (.invokestatic 29, 3) := by decide +kernel
theorem dX1_apart_4 : decode cX1_apart 4 = .ok (.ifCond .ne 15, 3) := by decide +kernel
theorem dX1_apart_7 : decode cX1_apart 7 = .ok (.iload_n 2, 1) := by decide +kernel
theorem dX1_apart_8 : decode cX1_apart 8 = .ok (.invokestatic 29, 3) := by decide +kernel
theorem dX1_apart_11 : decode cX1_apart 11 = .ok (.ifCond .ne 8, 3) := by decide +kernel
theorem dX1_apart_14 : decode cX1_apart 14 = .ok (.iload_n 1, 1) := by decide +kernel
theorem dX1_apart_15 : decode cX1_apart 15 = .ok (.iload_n 2, 1) := by decide +kernel
theorem dX1_apart_16 : decode cX1_apart 16 = .ok (.if_icmp .ne 5, 3) := by decide +kernel
theorem dX1_apart_19 : decode cX1_apart 19 = .ok (.iconst (-1), 1) := by decide +kernel
theorem dX1_apart_20 : decode cX1_apart 20 = .ok (.ireturn, 1) := by decide +kernel
theorem dX1_apart_21 : decode cX1_apart 21 = .ok (.ldc 44, 2) := by decide +kernel
theorem dX1_apart_23 : decode cX1_apart 23 = .ok (.istore_n 3, 1) := by decide +kernel
theorem dX1_apart_24 : decode cX1_apart 24 = .ok (.iconst 0, 1) := by decide +kernel
theorem dX1_apart_25 : decode cX1_apart 25 = .ok (.istore 4, 2) := by decide +kernel
theorem dX1_apart_27 : decode cX1_apart 27 = .ok (.iload 4, 2) := by decide +kernel
theorem dX1_apart_29 : decode cX1_apart 29 = .ok (.sipush 512, 3) := by decide +kernel
theorem dX1_apart_32 : decode cX1_apart 32 = .ok (.if_icmp .ge 41, 3) := by decide +kernel
theorem dX1_apart_35 : decode cX1_apart 35 = .ok (.aload_n 0, 1) := by decide +kernel
theorem dX1_apart_36 : decode cX1_apart 36 = .ok (.iload 4, 2) := by decide +kernel
theorem dX1_apart_38 : decode cX1_apart 38 = .ok (.invokevirtual 36, 3) := by decide +kernel
theorem dX1_apart_41 : decode cX1_apart 41 = .ok (.istore 5, 2) := by decide +kernel
theorem dX1_apart_43 : decode cX1_apart 43 = .ok (.iload 4, 2) := by decide +kernel
theorem dX1_apart_45 : decode cX1_apart 45 = .ok (.iload_n 1, 1) := by decide +kernel
theorem dX1_apart_46 : decode cX1_apart 46 = .ok (.invokestatic 45, 3) := by decide +kernel
theorem dX1_apart_49 : decode cX1_apart 49 = .ok (.iload 4, 2) := by decide +kernel
theorem dX1_apart_51 : decode cX1_apart 51 = .ok (.iload_n 2, 1) := by decide +kernel
theorem dX1_apart_52 : decode cX1_apart 52 = .ok (.invokestatic 45, 3) := by decide +kernel
theorem dX1_apart_55 : decode cX1_apart 55 = .ok (.if_icmp .eq 12, 3) := by decide +kernel
theorem dX1_apart_58 : decode cX1_apart 58 = .ok (.iload 5, 2) := by decide +kernel
theorem dX1_apart_60 : decode cX1_apart 60 = .ok (.iload_n 3, 1) := by decide +kernel
theorem dX1_apart_61 : decode cX1_apart 61 = .ok (.if_icmp .ge 6, 3) := by decide +kernel
theorem dX1_apart_64 : decode cX1_apart 64 = .ok (.iload 5, 2) := by decide +kernel
theorem dX1_apart_66 : decode cX1_apart 66 = .ok (.istore_n 3, 1) := by decide +kernel
theorem dX1_apart_67 : decode cX1_apart 67 = .ok (.iinc 4 1, 3) := by decide +kernel
theorem dX1_apart_70 : decode cX1_apart 70 = .ok (.goto (-43), 3) := by decide +kernel
theorem dX1_apart_73 : decode cX1_apart 73 = .ok (.iload_n 3, 1) := by decide +kernel
theorem dX1_apart_74 : decode cX1_apart 74 = .ok (.ireturn, 1) := by decide +kernel
theorem q7 : (Jvm.Cond.initialized "CutLabelsModel") ∈ lw_all := lw_g (lw_at lw_m0 2 rfl) rfl
theorem q116 : (Jvm.Cond.instantiable "CutLabelsModel" (6 : Nat)) ∈ lw_all := lw_g (lw_at lw_m0 111 rfl) rfl
theorem q118 : (Jvm.Cond.instanceMethod ({ cls := "CutLabelsModel", name := "<init>", desc := "()V" } : Jvm.MethodName)) ∈ lw_all := lw_g (lw_at lw_m0 113 rfl) rfl
theorem q119 : (Jvm.Cond.code ({ cls := "CutLabelsModel", name := "<init>", desc := "()V" } : Jvm.MethodName) prog_3_method_1_code (1 : Nat) (Option.none : Option Jvm.ClassFile.FieldType)) ∈ lw_all := lw_g (lw_at lw_m0 114 rfl) rfl
theorem q120 : (Jvm.Cond.methodLink "CutLabelsModel" (1 : Nat) ({ cls := "java/lang/Object", name := "<init>", desc := "()V" } : Jvm.MethodName)) ∈ lw_all := lw_g (lw_at lw_m0 115 rfl) rfl
theorem q121 : (Jvm.Cond.fieldLink "CutLabelsModel" (7 : Nat) "CutLabelsModel" "costs" "[I") ∈ lw_all := lw_g (lw_at lw_m0 116 rfl) rfl
theorem q122 : (Jvm.Cond.fieldLink "CutLabelsModel" (13 : Nat) "CutLabelsModel" "tied" "[Z") ∈ lw_all := lw_g (lw_at lw_m0 117 rfl) rfl
theorem q123 : (Jvm.Cond.fieldLink "CutLabelsModel" (17 : Nat) "CutLabelsModel" "one" "[I") ∈ lw_all := lw_g (lw_at lw_m0 118 rfl) rfl
theorem q124 : (Jvm.Cond.fieldLink "CutLabelsModel" (20 : Nat) "CutLabelsModel" "other" "[I") ∈ lw_all := lw_g (lw_at lw_m0 119 rfl) rfl
theorem q125 : (Jvm.Cond.fieldLink "CutLabelsModel" (23 : Nat) "CutLabelsModel" "up" "[I") ∈ lw_all := lw_g (lw_at lw_m0 120 rfl) rfl
theorem q126 : (Jvm.Cond.fieldLink "CutLabelsModel" (26 : Nat) "CutLabelsModel" "down" "[I") ∈ lw_all := lw_g (lw_at lw_m0 121 rfl) rfl
theorem q127 : (Jvm.Cond.laysFinal "CutLabelsModel" "CutLabelsModel" "costs" "[I") ∈ lw_all := lw_g (lw_at lw_m0 122 rfl) rfl
theorem q128 : (Jvm.Cond.soleField "CutLabelsModel" "costs") ∈ lw_all := lw_g (lw_at lw_m0 123 rfl) rfl
theorem q129 : (Jvm.Cond.laysFinal "CutLabelsModel" "CutLabelsModel" "tied" "[Z") ∈ lw_all := lw_g (lw_at lw_m0 124 rfl) rfl
theorem q130 : (Jvm.Cond.soleField "CutLabelsModel" "tied") ∈ lw_all := lw_g (lw_at lw_m0 125 rfl) rfl
theorem q131 : (Jvm.Cond.laysFinal "CutLabelsModel" "CutLabelsModel" "one" "[I") ∈ lw_all := lw_g (lw_at lw_m0 126 rfl) rfl
theorem q132 : (Jvm.Cond.soleField "CutLabelsModel" "one") ∈ lw_all := lw_g (lw_at lw_m0 127 rfl) rfl
theorem q133 : (Jvm.Cond.laysFinal "CutLabelsModel" "CutLabelsModel" "other" "[I") ∈ lw_all := lw_g (lw_at lw_m0 128 rfl) rfl
theorem q134 : (Jvm.Cond.soleField "CutLabelsModel" "other") ∈ lw_all := lw_g (lw_at lw_m0 129 rfl) rfl
theorem q135 : (Jvm.Cond.laysFinal "CutLabelsModel" "CutLabelsModel" "up" "[I") ∈ lw_all := lw_g (lw_at lw_m0 130 rfl) rfl
theorem q136 : (Jvm.Cond.soleField "CutLabelsModel" "up") ∈ lw_all := lw_g (lw_at lw_m0 131 rfl) rfl
theorem q137 : (Jvm.Cond.laysFinal "CutLabelsModel" "CutLabelsModel" "down" "[I") ∈ lw_all := lw_g (lw_at lw_m0 132 rfl) rfl
theorem q138 : (Jvm.Cond.soleField "CutLabelsModel" "down") ∈ lw_all := lw_g (lw_at lw_m0 133 rfl) rfl
theorem q139 : (Jvm.Cond.superclass "CutLabelsModel" "java/lang/Object") ∈ lw_all := lw_g (lw_at lw_m0 134 rfl) rfl
theorem q141 : (Jvm.Cond.instanceMethod ({ cls := "CutLabelsModel", name := "cost", desc := "(III)I" } : Jvm.MethodName)) ∈ lw_all := lw_g (lw_at lw_m0 136 rfl) rfl
theorem q142 : (Jvm.Cond.selects "CutLabelsModel" ({ cls := "CutLabelsModel", name := "cost", desc := "(III)I" } : Jvm.MethodName) ({ cls := "CutLabelsModel", name := "cost", desc := "(III)I" } : Jvm.MethodName)) ∈ lw_all := lw_g (lw_at lw_m0 137 rfl) rfl
theorem q143 : (Jvm.Cond.code ({ cls := "CutLabelsModel", name := "cost", desc := "(III)I" } : Jvm.MethodName) prog_3_method_4_code (4 : Nat) (Option.some Jvm.ClassFile.FieldType.int)) ∈ lw_all := lw_g (lw_at lw_m0 138 rfl) rfl
theorem q144 : (Jvm.Cond.methodLink "CutLabelsModel" (29 : Nat) ({ cls := "CutLabelsModel", name := "bad", desc := "(I)Z" } : Jvm.MethodName)) ∈ lw_all := lw_g (lw_at lw_m0 139 rfl) rfl
theorem q145 : (Jvm.Cond.static ({ cls := "CutLabelsModel", name := "bad", desc := "(I)Z" } : Jvm.MethodName)) ∈ lw_all := lw_g (lw_at lw_m0 140 rfl) rfl
theorem q146 : (Jvm.Cond.code ({ cls := "CutLabelsModel", name := "bad", desc := "(I)Z" } : Jvm.MethodName) prog_3_method_2_code (1 : Nat) (Option.some Jvm.ClassFile.FieldType.boolean)) ∈ lw_all := lw_g (lw_at lw_m0 141 rfl) rfl
theorem q147 : (Jvm.Cond.methodLink "CutLabelsModel" (33 : Nat) ({ cls := "CutLabelsModel", name := "badCost", desc := "(I)Z" } : Jvm.MethodName)) ∈ lw_all := lw_g (lw_at lw_m0 142 rfl) rfl
theorem q148 : (Jvm.Cond.static ({ cls := "CutLabelsModel", name := "badCost", desc := "(I)Z" } : Jvm.MethodName)) ∈ lw_all := lw_g (lw_at lw_m0 143 rfl) rfl
theorem q149 : (Jvm.Cond.code ({ cls := "CutLabelsModel", name := "badCost", desc := "(I)Z" } : Jvm.MethodName) prog_3_method_3_code (1 : Nat) (Option.some Jvm.ClassFile.FieldType.boolean)) ∈ lw_all := lw_g (lw_at lw_m0 144 rfl) rfl
theorem q151 : (Jvm.Cond.instanceMethod ({ cls := "CutLabelsModel", name := "tie", desc := "(IIIII)I" } : Jvm.MethodName)) ∈ lw_all := lw_g (lw_at lw_m0 146 rfl) rfl
theorem q152 : (Jvm.Cond.selects "CutLabelsModel" ({ cls := "CutLabelsModel", name := "tie", desc := "(IIIII)I" } : Jvm.MethodName) ({ cls := "CutLabelsModel", name := "tie", desc := "(IIIII)I" } : Jvm.MethodName)) ∈ lw_all := lw_g (lw_at lw_m0 147 rfl) rfl
theorem q153 : (Jvm.Cond.code ({ cls := "CutLabelsModel", name := "tie", desc := "(IIIII)I" } : Jvm.MethodName) prog_3_method_5_code (6 : Nat) (Option.some Jvm.ClassFile.FieldType.int)) ∈ lw_all := lw_g (lw_at lw_m0 148 rfl) rfl
theorem q155 : (Jvm.Cond.instanceMethod ({ cls := "CutLabelsModel", name := "cut", desc := "(I)I" } : Jvm.MethodName)) ∈ lw_all := lw_g (lw_at lw_m0 150 rfl) rfl
theorem q156 : (Jvm.Cond.selects "CutLabelsModel" ({ cls := "CutLabelsModel", name := "cut", desc := "(I)I" } : Jvm.MethodName) ({ cls := "CutLabelsModel", name := "cut", desc := "(I)I" } : Jvm.MethodName)) ∈ lw_all := lw_g (lw_at lw_m0 151 rfl) rfl
theorem q157 : (Jvm.Cond.code ({ cls := "CutLabelsModel", name := "cut", desc := "(I)I" } : Jvm.MethodName) prog_3_method_6_code (3 : Nat) (Option.some Jvm.ClassFile.FieldType.int)) ∈ lw_all := lw_g (lw_at lw_m0 152 rfl) rfl
theorem q159 : (Jvm.Cond.instanceMethod ({ cls := "CutLabelsModel", name := "least", desc := "()I" } : Jvm.MethodName)) ∈ lw_all := lw_g (lw_at lw_m0 154 rfl) rfl
theorem q160 : (Jvm.Cond.selects "CutLabelsModel" ({ cls := "CutLabelsModel", name := "least", desc := "()I" } : Jvm.MethodName) ({ cls := "CutLabelsModel", name := "least", desc := "()I" } : Jvm.MethodName)) ∈ lw_all := lw_g (lw_at lw_m0 155 rfl) rfl
theorem q161 : (Jvm.Cond.code ({ cls := "CutLabelsModel", name := "least", desc := "()I" } : Jvm.MethodName) prog_3_method_8_code (4 : Nat) (Option.some Jvm.ClassFile.FieldType.int)) ∈ lw_all := lw_g (lw_at lw_m0 156 rfl) rfl
theorem q162 : (Jvm.Cond.methodLink "CutLabelsModel" (36 : Nat) ({ cls := "CutLabelsModel", name := "energy", desc := "(I)I" } : Jvm.MethodName)) ∈ lw_all := lw_g (lw_at lw_m0 157 rfl) rfl
theorem q163 : (Jvm.Cond.instanceMethod ({ cls := "CutLabelsModel", name := "energy", desc := "(I)I" } : Jvm.MethodName)) ∈ lw_all := lw_g (lw_at lw_m0 158 rfl) rfl
theorem q164 : (Jvm.Cond.selects "CutLabelsModel" ({ cls := "CutLabelsModel", name := "energy", desc := "(I)I" } : Jvm.MethodName) ({ cls := "CutLabelsModel", name := "energy", desc := "(I)I" } : Jvm.MethodName)) ∈ lw_all := lw_g (lw_at lw_m0 159 rfl) rfl
theorem q165 : (Jvm.Cond.code ({ cls := "CutLabelsModel", name := "energy", desc := "(I)I" } : Jvm.MethodName) prog_3_method_13_code (6 : Nat) (Option.some Jvm.ClassFile.FieldType.int)) ∈ lw_all := lw_g (lw_at lw_m0 160 rfl) rfl
theorem q166 : (Jvm.Cond.methodLink "CutLabelsModel" (45 : Nat) ({ cls := "CutLabelsModel", name := "label", desc := "(II)I" } : Jvm.MethodName)) ∈ lw_all := lw_g (lw_at lw_m0 161 rfl) rfl
theorem q167 : (Jvm.Cond.static ({ cls := "CutLabelsModel", name := "label", desc := "(II)I" } : Jvm.MethodName)) ∈ lw_all := lw_g (lw_at lw_m0 162 rfl) rfl
theorem q168 : (Jvm.Cond.code ({ cls := "CutLabelsModel", name := "label", desc := "(II)I" } : Jvm.MethodName) prog_3_method_7_code (2 : Nat) (Option.some Jvm.ClassFile.FieldType.int)) ∈ lw_all := lw_g (lw_at lw_m0 163 rfl) rfl
theorem q170 : (Jvm.Cond.instanceMethod ({ cls := "CutLabelsModel", name := "lower", desc := "()I" } : Jvm.MethodName)) ∈ lw_all := lw_g (lw_at lw_m0 165 rfl) rfl
theorem q171 : (Jvm.Cond.selects "CutLabelsModel" ({ cls := "CutLabelsModel", name := "lower", desc := "()I" } : Jvm.MethodName) ({ cls := "CutLabelsModel", name := "lower", desc := "()I" } : Jvm.MethodName)) ∈ lw_all := lw_g (lw_at lw_m0 166 rfl) rfl
theorem q172 : (Jvm.Cond.code ({ cls := "CutLabelsModel", name := "lower", desc := "()I" } : Jvm.MethodName) prog_3_method_9_code (4 : Nat) (Option.some Jvm.ClassFile.FieldType.int)) ∈ lw_all := lw_g (lw_at lw_m0 167 rfl) rfl
theorem q173 : (Jvm.Cond.methodLink "CutLabelsModel" (40 : Nat) ({ cls := "CutLabelsModel", name := "least", desc := "()I" } : Jvm.MethodName)) ∈ lw_all := lw_g (lw_at lw_m0 168 rfl) rfl
theorem q175 : (Jvm.Cond.instanceMethod ({ cls := "CutLabelsModel", name := "upper", desc := "()I" } : Jvm.MethodName)) ∈ lw_all := lw_g (lw_at lw_m0 170 rfl) rfl
theorem q176 : (Jvm.Cond.selects "CutLabelsModel" ({ cls := "CutLabelsModel", name := "upper", desc := "()I" } : Jvm.MethodName) ({ cls := "CutLabelsModel", name := "upper", desc := "()I" } : Jvm.MethodName)) ∈ lw_all := lw_g (lw_at lw_m0 171 rfl) rfl
theorem q177 : (Jvm.Cond.code ({ cls := "CutLabelsModel", name := "upper", desc := "()I" } : Jvm.MethodName) prog_3_method_10_code (4 : Nat) (Option.some Jvm.ClassFile.FieldType.int)) ∈ lw_all := lw_g (lw_at lw_m0 172 rfl) rfl
theorem q179 : (Jvm.Cond.instanceMethod ({ cls := "CutLabelsModel", name := "with", desc := "(II)I" } : Jvm.MethodName)) ∈ lw_all := lw_g (lw_at lw_m0 174 rfl) rfl
theorem q180 : (Jvm.Cond.selects "CutLabelsModel" ({ cls := "CutLabelsModel", name := "with", desc := "(II)I" } : Jvm.MethodName) ({ cls := "CutLabelsModel", name := "with", desc := "(II)I" } : Jvm.MethodName)) ∈ lw_all := lw_g (lw_at lw_m0 175 rfl) rfl
theorem q181 : (Jvm.Cond.code ({ cls := "CutLabelsModel", name := "with", desc := "(II)I" } : Jvm.MethodName) prog_3_method_11_code (6 : Nat) (Option.some Jvm.ClassFile.FieldType.int)) ∈ lw_all := lw_g (lw_at lw_m0 176 rfl) rfl
theorem q182 : (Jvm.Cond.constant "CutLabelsModel" (44 : Nat) (1000000 : Int32)) ∈ lw_all := lw_g (lw_at lw_m0 177 rfl) rfl
theorem q184 : (Jvm.Cond.instanceMethod ({ cls := "CutLabelsModel", name := "apart", desc := "(II)I" } : Jvm.MethodName)) ∈ lw_all := lw_g (lw_at lw_m0 179 rfl) rfl
theorem q185 : (Jvm.Cond.selects "CutLabelsModel" ({ cls := "CutLabelsModel", name := "apart", desc := "(II)I" } : Jvm.MethodName) ({ cls := "CutLabelsModel", name := "apart", desc := "(II)I" } : Jvm.MethodName)) ∈ lw_all := lw_g (lw_at lw_m0 180 rfl) rfl
theorem q186 : (Jvm.Cond.code ({ cls := "CutLabelsModel", name := "apart", desc := "(II)I" } : Jvm.MethodName) prog_3_method_12_code (6 : Nat) (Option.some Jvm.ClassFile.FieldType.int)) ∈ lw_all := lw_g (lw_at lw_m0 181 rfl) rfl
theorem in_X1 : ∀ w ∈ wsX10, w ∈ lw_all := lw_in wsX10 [127, 129, 131, 133, 135, 137] (by decide +kernel) (by decide +kernel)
end
section
/-! the law's own entry -/
set_option maxRecDepth 100000
abbrev cL_law : ByteArray := code
theorem dL_law_0 : decode cL_law 0 = .ok (.new 7, 3) := by decide +kernel
theorem dL_law_3 : decode cL_law 3 = .ok (.dup, 1) := by decide +kernel
theorem dL_law_4 : decode cL_law 4 = .ok (.invokespecial 9, 3) := by decide +kernel
theorem dL_law_7 : decode cL_law 7 = .ok (.astore_n 1, 1) := by decide +kernel
theorem dL_law_8 : decode cL_law 8 = .ok (.new 10, 3) := by decide +kernel
theorem dL_law_11 : decode cL_law 11 = .ok (.dup, 1) := by decide +kernel
theorem dL_law_12 : decode cL_law 12 = .ok (.invokespecial 12, 3) := by decide +kernel
theorem dL_law_15 : decode cL_law 15 = .ok (.astore_n 2, 1) := by decide +kernel
theorem dL_law_16 : decode cL_law 16 = .ok (.iconst 0, 1) := by decide +kernel
theorem dL_law_17 : decode cL_law 17 = .ok (.istore_n 3, 1) := by decide +kernel
theorem dL_law_18 : decode cL_law 18 = .ok (.iload_n 3, 1) := by decide +kernel
theorem dL_law_19 : decode cL_law 19 = .ok (.aload_n 0, 1) := by decide +kernel
theorem dL_law_20 : decode cL_law 20 = .ok (.arraylength, 1) := by decide +kernel
theorem dL_law_21 : decode cL_law 21 = .ok (.bipush 6, 2) := by decide +kernel
theorem dL_law_23 : decode cL_law 23 = .ok (.isub, 1) := by decide +kernel
theorem dL_law_24 : decode cL_law 24 = .ok (.if_icmp .gt 323, 3) := by decide +kernel
theorem dL_law_27 : decode cL_law 27 = .ok (.aload_n 0, 1) := by decide +kernel
theorem dL_law_28 : decode cL_law 28 = .ok (.iload_n 3, 1) := by decide +kernel
theorem dL_law_29 : decode cL_law 29 = .ok (.iaload, 1) := by decide +kernel
theorem dL_law_30 : decode cL_law 30 = .ok (.bipush 15, 2) := by decide +kernel
theorem dL_law_32 : decode cL_law 32 = .ok (.iand, 1) := by decide +kernel
theorem dL_law_33 : decode cL_law 33 = .ok (.tableswitch 308 0 8 #[51, 94, 157, 180, 193, 206, 219, 252, 285], 51) := by decide +kernel
theorem dL_law_84 : decode cL_law 84 = .ok (.aload_n 1, 1) := by decide +kernel
theorem dL_law_85 : decode cL_law 85 = .ok (.aload_n 0, 1) := by decide +kernel
theorem dL_law_86 : decode cL_law 86 = .ok (.iload_n 3, 1) := by decide +kernel
theorem dL_law_87 : decode cL_law 87 = .ok (.iconst 1, 1) := by decide +kernel
theorem dL_law_88 : decode cL_law 88 = .ok (.iadd, 1) := by decide +kernel
theorem dL_law_89 : decode cL_law 89 = .ok (.iaload, 1) := by decide +kernel
theorem dL_law_90 : decode cL_law 90 = .ok (.aload_n 0, 1) := by decide +kernel
theorem dL_law_91 : decode cL_law 91 = .ok (.iload_n 3, 1) := by decide +kernel
theorem dL_law_92 : decode cL_law 92 = .ok (.iconst 2, 1) := by decide +kernel
theorem dL_law_93 : decode cL_law 93 = .ok (.iadd, 1) := by decide +kernel
theorem dL_law_94 : decode cL_law 94 = .ok (.iaload, 1) := by decide +kernel
theorem dL_law_95 : decode cL_law 95 = .ok (.aload_n 0, 1) := by decide +kernel
theorem dL_law_96 : decode cL_law 96 = .ok (.iload_n 3, 1) := by decide +kernel
theorem dL_law_97 : decode cL_law 97 = .ok (.iconst 3, 1) := by decide +kernel
theorem dL_law_98 : decode cL_law 98 = .ok (.iadd, 1) := by decide +kernel
theorem dL_law_99 : decode cL_law 99 = .ok (.iaload, 1) := by decide +kernel
theorem dL_law_100 : decode cL_law 100 = .ok (.invokevirtual 13, 3) := by decide +kernel
theorem dL_law_103 : decode cL_law 103 = .ok (.aload_n 2, 1) := by decide +kernel
theorem dL_law_104 : decode cL_law 104 = .ok (.aload_n 0, 1) := by decide +kernel
theorem dL_law_105 : decode cL_law 105 = .ok (.iload_n 3, 1) := by decide +kernel
theorem dL_law_106 : decode cL_law 106 = .ok (.iconst 1, 1) := by decide +kernel
theorem dL_law_107 : decode cL_law 107 = .ok (.iadd, 1) := by decide +kernel
theorem dL_law_108 : decode cL_law 108 = .ok (.iaload, 1) := by decide +kernel
theorem dL_law_109 : decode cL_law 109 = .ok (.aload_n 0, 1) := by decide +kernel
theorem dL_law_110 : decode cL_law 110 = .ok (.iload_n 3, 1) := by decide +kernel
theorem dL_law_111 : decode cL_law 111 = .ok (.iconst 2, 1) := by decide +kernel
theorem dL_law_112 : decode cL_law 112 = .ok (.iadd, 1) := by decide +kernel
theorem dL_law_113 : decode cL_law 113 = .ok (.iaload, 1) := by decide +kernel
theorem dL_law_114 : decode cL_law 114 = .ok (.aload_n 0, 1) := by decide +kernel
theorem dL_law_115 : decode cL_law 115 = .ok (.iload_n 3, 1) := by decide +kernel
theorem dL_law_116 : decode cL_law 116 = .ok (.iconst 3, 1) := by decide +kernel
theorem dL_law_117 : decode cL_law 117 = .ok (.iadd, 1) := by decide +kernel
theorem dL_law_118 : decode cL_law 118 = .ok (.iaload, 1) := by decide +kernel
theorem dL_law_119 : decode cL_law 119 = .ok (.invokevirtual 17, 3) := by decide +kernel
theorem dL_law_122 : decode cL_law 122 = .ok (.if_icmp .eq 219, 3) := by decide +kernel
theorem dL_law_125 : decode cL_law 125 = .ok (.iconst 0, 1) := by decide +kernel
theorem dL_law_126 : decode cL_law 126 = .ok (.ireturn, 1) := by decide +kernel
theorem dL_law_127 : decode cL_law 127 = .ok (.aload_n 1, 1) := by decide +kernel
theorem dL_law_128 : decode cL_law 128 = .ok (.aload_n 0, 1) := by decide +kernel
theorem dL_law_129 : decode cL_law 129 = .ok (.iload_n 3, 1) := by decide +kernel
theorem dL_law_130 : decode cL_law 130 = .ok (.iconst 1, 1) := by decide +kernel
theorem dL_law_131 : decode cL_law 131 = .ok (.iadd, 1) := by decide +kernel
theorem dL_law_132 : decode cL_law 132 = .ok (.iaload, 1) := by decide +kernel
theorem dL_law_133 : decode cL_law 133 = .ok (.aload_n 0, 1) := by decide +kernel
theorem dL_law_134 : decode cL_law 134 = .ok (.iload_n 3, 1) := by decide +kernel
theorem dL_law_135 : decode cL_law 135 = .ok (.iconst 2, 1) := by decide +kernel
theorem dL_law_136 : decode cL_law 136 = .ok (.iadd, 1) := by decide +kernel
theorem dL_law_137 : decode cL_law 137 = .ok (.iaload, 1) := by decide +kernel
theorem dL_law_138 : decode cL_law 138 = .ok (.aload_n 0, 1) := by decide +kernel
theorem dL_law_139 : decode cL_law 139 = .ok (.iload_n 3, 1) := by decide +kernel
theorem dL_law_140 : decode cL_law 140 = .ok (.iconst 3, 1) := by decide +kernel
theorem dL_law_141 : decode cL_law 141 = .ok (.iadd, 1) := by decide +kernel
theorem dL_law_142 : decode cL_law 142 = .ok (.iaload, 1) := by decide +kernel
theorem dL_law_143 : decode cL_law 143 = .ok (.aload_n 0, 1) := by decide +kernel
theorem dL_law_144 : decode cL_law 144 = .ok (.iload_n 3, 1) := by decide +kernel
theorem dL_law_145 : decode cL_law 145 = .ok (.iconst 4, 1) := by decide +kernel
theorem dL_law_146 : decode cL_law 146 = .ok (.iadd, 1) := by decide +kernel
theorem dL_law_147 : decode cL_law 147 = .ok (.iaload, 1) := by decide +kernel
theorem dL_law_148 : decode cL_law 148 = .ok (.aload_n 0, 1) := by decide +kernel
theorem dL_law_149 : decode cL_law 149 = .ok (.iload_n 3, 1) := by decide +kernel
theorem dL_law_150 : decode cL_law 150 = .ok (.iconst 5, 1) := by decide +kernel
theorem dL_law_151 : decode cL_law 151 = .ok (.iadd, 1) := by decide +kernel
theorem dL_law_152 : decode cL_law 152 = .ok (.iaload, 1) := by decide +kernel
theorem dL_law_153 : decode cL_law 153 = .ok (.invokevirtual 18, 3) := by decide +kernel
theorem dL_law_156 : decode cL_law 156 = .ok (.aload_n 2, 1) := by decide +kernel
theorem dL_law_157 : decode cL_law 157 = .ok (.aload_n 0, 1) := by decide +kernel
theorem dL_law_158 : decode cL_law 158 = .ok (.iload_n 3, 1) := by decide +kernel
theorem dL_law_159 : decode cL_law 159 = .ok (.iconst 1, 1) := by decide +kernel
theorem dL_law_160 : decode cL_law 160 = .ok (.iadd, 1) := by decide +kernel
theorem dL_law_161 : decode cL_law 161 = .ok (.iaload, 1) := by decide +kernel
theorem dL_law_162 : decode cL_law 162 = .ok (.aload_n 0, 1) := by decide +kernel
theorem dL_law_163 : decode cL_law 163 = .ok (.iload_n 3, 1) := by decide +kernel
theorem dL_law_164 : decode cL_law 164 = .ok (.iconst 2, 1) := by decide +kernel
theorem dL_law_165 : decode cL_law 165 = .ok (.iadd, 1) := by decide +kernel
theorem dL_law_166 : decode cL_law 166 = .ok (.iaload, 1) := by decide +kernel
theorem dL_law_167 : decode cL_law 167 = .ok (.aload_n 0, 1) := by decide +kernel
theorem dL_law_168 : decode cL_law 168 = .ok (.iload_n 3, 1) := by decide +kernel
theorem dL_law_169 : decode cL_law 169 = .ok (.iconst 3, 1) := by decide +kernel
theorem dL_law_170 : decode cL_law 170 = .ok (.iadd, 1) := by decide +kernel
theorem dL_law_171 : decode cL_law 171 = .ok (.iaload, 1) := by decide +kernel
theorem dL_law_172 : decode cL_law 172 = .ok (.aload_n 0, 1) := by decide +kernel
theorem dL_law_173 : decode cL_law 173 = .ok (.iload_n 3, 1) := by decide +kernel
theorem dL_law_174 : decode cL_law 174 = .ok (.iconst 4, 1) := by decide +kernel
theorem dL_law_175 : decode cL_law 175 = .ok (.iadd, 1) := by decide +kernel
theorem dL_law_176 : decode cL_law 176 = .ok (.iaload, 1) := by decide +kernel
theorem dL_law_177 : decode cL_law 177 = .ok (.aload_n 0, 1) := by decide +kernel
theorem dL_law_178 : decode cL_law 178 = .ok (.iload_n 3, 1) := by decide +kernel
theorem dL_law_179 : decode cL_law 179 = .ok (.iconst 5, 1) := by decide +kernel
theorem dL_law_180 : decode cL_law 180 = .ok (.iadd, 1) := by decide +kernel
theorem dL_law_181 : decode cL_law 181 = .ok (.iaload, 1) := by decide +kernel
theorem dL_law_182 : decode cL_law 182 = .ok (.invokevirtual 22, 3) := by decide +kernel
theorem dL_law_185 : decode cL_law 185 = .ok (.if_icmp .eq 156, 3) := by decide +kernel
theorem dL_law_188 : decode cL_law 188 = .ok (.iconst 0, 1) := by decide +kernel
theorem dL_law_189 : decode cL_law 189 = .ok (.ireturn, 1) := by decide +kernel
theorem dL_law_190 : decode cL_law 190 = .ok (.aload_n 1, 1) := by decide +kernel
theorem dL_law_191 : decode cL_law 191 = .ok (.aload_n 0, 1) := by decide +kernel
theorem dL_law_192 : decode cL_law 192 = .ok (.iload_n 3, 1) := by decide +kernel
theorem dL_law_193 : decode cL_law 193 = .ok (.iconst 1, 1) := by decide +kernel
theorem dL_law_194 : decode cL_law 194 = .ok (.iadd, 1) := by decide +kernel
theorem dL_law_195 : decode cL_law 195 = .ok (.iaload, 1) := by decide +kernel
theorem dL_law_196 : decode cL_law 196 = .ok (.invokevirtual 23, 3) := by decide +kernel
theorem dL_law_199 : decode cL_law 199 = .ok (.aload_n 2, 1) := by decide +kernel
theorem dL_law_200 : decode cL_law 200 = .ok (.aload_n 0, 1) := by decide +kernel
theorem dL_law_201 : decode cL_law 201 = .ok (.iload_n 3, 1) := by decide +kernel
theorem dL_law_202 : decode cL_law 202 = .ok (.iconst 1, 1) := by decide +kernel
theorem dL_law_203 : decode cL_law 203 = .ok (.iadd, 1) := by decide +kernel
theorem dL_law_204 : decode cL_law 204 = .ok (.iaload, 1) := by decide +kernel
theorem dL_law_205 : decode cL_law 205 = .ok (.invokevirtual 27, 3) := by decide +kernel
theorem dL_law_208 : decode cL_law 208 = .ok (.if_icmp .eq 133, 3) := by decide +kernel
theorem dL_law_211 : decode cL_law 211 = .ok (.iconst 0, 1) := by decide +kernel
theorem dL_law_212 : decode cL_law 212 = .ok (.ireturn, 1) := by decide +kernel
theorem dL_law_213 : decode cL_law 213 = .ok (.aload_n 1, 1) := by decide +kernel
theorem dL_law_214 : decode cL_law 214 = .ok (.invokevirtual 28, 3) := by decide +kernel
theorem dL_law_217 : decode cL_law 217 = .ok (.aload_n 2, 1) := by decide +kernel
theorem dL_law_218 : decode cL_law 218 = .ok (.invokevirtual 32, 3) := by decide +kernel
theorem dL_law_221 : decode cL_law 221 = .ok (.if_icmp .eq 120, 3) := by decide +kernel
theorem dL_law_224 : decode cL_law 224 = .ok (.iconst 0, 1) := by decide +kernel
theorem dL_law_225 : decode cL_law 225 = .ok (.ireturn, 1) := by decide +kernel
theorem dL_law_226 : decode cL_law 226 = .ok (.aload_n 1, 1) := by decide +kernel
theorem dL_law_227 : decode cL_law 227 = .ok (.invokevirtual 33, 3) := by decide +kernel
theorem dL_law_230 : decode cL_law 230 = .ok (.aload_n 2, 1) := by decide +kernel
theorem dL_law_231 : decode cL_law 231 = .ok (.invokevirtual 36, 3) := by decide +kernel
theorem dL_law_234 : decode cL_law 234 = .ok (.if_icmp .eq 107, 3) := by decide +kernel
theorem dL_law_237 : decode cL_law 237 = .ok (.iconst 0, 1) := by decide +kernel
theorem dL_law_238 : decode cL_law 238 = .ok (.ireturn, 1) := by decide +kernel
theorem dL_law_239 : decode cL_law 239 = .ok (.aload_n 1, 1) := by decide +kernel
theorem dL_law_240 : decode cL_law 240 = .ok (.invokevirtual 37, 3) := by decide +kernel
theorem dL_law_243 : decode cL_law 243 = .ok (.aload_n 2, 1) := by decide +kernel
theorem dL_law_244 : decode cL_law 244 = .ok (.invokevirtual 40, 3) := by decide +kernel
theorem dL_law_247 : decode cL_law 247 = .ok (.if_icmp .eq 94, 3) := by decide +kernel
theorem dL_law_250 : decode cL_law 250 = .ok (.iconst 0, 1) := by decide +kernel
theorem dL_law_251 : decode cL_law 251 = .ok (.ireturn, 1) := by decide +kernel
theorem dL_law_252 : decode cL_law 252 = .ok (.aload_n 1, 1) := by decide +kernel
theorem dL_law_253 : decode cL_law 253 = .ok (.aload_n 0, 1) := by decide +kernel
theorem dL_law_254 : decode cL_law 254 = .ok (.iload_n 3, 1) := by decide +kernel
theorem dL_law_255 : decode cL_law 255 = .ok (.iconst 1, 1) := by decide +kernel
theorem dL_law_256 : decode cL_law 256 = .ok (.iadd, 1) := by decide +kernel
theorem dL_law_257 : decode cL_law 257 = .ok (.iaload, 1) := by decide +kernel
theorem dL_law_258 : decode cL_law 258 = .ok (.aload_n 0, 1) := by decide +kernel
theorem dL_law_259 : decode cL_law 259 = .ok (.iload_n 3, 1) := by decide +kernel
theorem dL_law_260 : decode cL_law 260 = .ok (.iconst 2, 1) := by decide +kernel
theorem dL_law_261 : decode cL_law 261 = .ok (.iadd, 1) := by decide +kernel
theorem dL_law_262 : decode cL_law 262 = .ok (.iaload, 1) := by decide +kernel
theorem dL_law_263 : decode cL_law 263 = .ok (.invokevirtual 41, 3) := by decide +kernel
theorem dL_law_266 : decode cL_law 266 = .ok (.aload_n 2, 1) := by decide +kernel
theorem dL_law_267 : decode cL_law 267 = .ok (.aload_n 0, 1) := by decide +kernel
theorem dL_law_268 : decode cL_law 268 = .ok (.iload_n 3, 1) := by decide +kernel
theorem dL_law_269 : decode cL_law 269 = .ok (.iconst 1, 1) := by decide +kernel
theorem dL_law_270 : decode cL_law 270 = .ok (.iadd, 1) := by decide +kernel
theorem dL_law_271 : decode cL_law 271 = .ok (.iaload, 1) := by decide +kernel
theorem dL_law_272 : decode cL_law 272 = .ok (.aload_n 0, 1) := by decide +kernel
theorem dL_law_273 : decode cL_law 273 = .ok (.iload_n 3, 1) := by decide +kernel
theorem dL_law_274 : decode cL_law 274 = .ok (.iconst 2, 1) := by decide +kernel
theorem dL_law_275 : decode cL_law 275 = .ok (.iadd, 1) := by decide +kernel
theorem dL_law_276 : decode cL_law 276 = .ok (.iaload, 1) := by decide +kernel
theorem dL_law_277 : decode cL_law 277 = .ok (.invokevirtual 45, 3) := by decide +kernel
theorem dL_law_280 : decode cL_law 280 = .ok (.if_icmp .eq 61, 3) := by decide +kernel
theorem dL_law_283 : decode cL_law 283 = .ok (.iconst 0, 1) := by decide +kernel
theorem dL_law_284 : decode cL_law 284 = .ok (.ireturn, 1) := by decide +kernel
theorem dL_law_285 : decode cL_law 285 = .ok (.aload_n 1, 1) := by decide +kernel
theorem dL_law_286 : decode cL_law 286 = .ok (.aload_n 0, 1) := by decide +kernel
theorem dL_law_287 : decode cL_law 287 = .ok (.iload_n 3, 1) := by decide +kernel
theorem dL_law_288 : decode cL_law 288 = .ok (.iconst 1, 1) := by decide +kernel
theorem dL_law_289 : decode cL_law 289 = .ok (.iadd, 1) := by decide +kernel
theorem dL_law_290 : decode cL_law 290 = .ok (.iaload, 1) := by decide +kernel
theorem dL_law_291 : decode cL_law 291 = .ok (.aload_n 0, 1) := by decide +kernel
theorem dL_law_292 : decode cL_law 292 = .ok (.iload_n 3, 1) := by decide +kernel
theorem dL_law_293 : decode cL_law 293 = .ok (.iconst 2, 1) := by decide +kernel
theorem dL_law_294 : decode cL_law 294 = .ok (.iadd, 1) := by decide +kernel
theorem dL_law_295 : decode cL_law 295 = .ok (.iaload, 1) := by decide +kernel
theorem dL_law_296 : decode cL_law 296 = .ok (.invokevirtual 46, 3) := by decide +kernel
theorem dL_law_299 : decode cL_law 299 = .ok (.aload_n 2, 1) := by decide +kernel
theorem dL_law_300 : decode cL_law 300 = .ok (.aload_n 0, 1) := by decide +kernel
theorem dL_law_301 : decode cL_law 301 = .ok (.iload_n 3, 1) := by decide +kernel
theorem dL_law_302 : decode cL_law 302 = .ok (.iconst 1, 1) := by decide +kernel
theorem dL_law_303 : decode cL_law 303 = .ok (.iadd, 1) := by decide +kernel
theorem dL_law_304 : decode cL_law 304 = .ok (.iaload, 1) := by decide +kernel
theorem dL_law_305 : decode cL_law 305 = .ok (.aload_n 0, 1) := by decide +kernel
theorem dL_law_306 : decode cL_law 306 = .ok (.iload_n 3, 1) := by decide +kernel
theorem dL_law_307 : decode cL_law 307 = .ok (.iconst 2, 1) := by decide +kernel
theorem dL_law_308 : decode cL_law 308 = .ok (.iadd, 1) := by decide +kernel
theorem dL_law_309 : decode cL_law 309 = .ok (.iaload, 1) := by decide +kernel
theorem dL_law_310 : decode cL_law 310 = .ok (.invokevirtual 49, 3) := by decide +kernel
theorem dL_law_313 : decode cL_law 313 = .ok (.if_icmp .eq 28, 3) := by decide +kernel
theorem dL_law_316 : decode cL_law 316 = .ok (.iconst 0, 1) := by decide +kernel
theorem dL_law_317 : decode cL_law 317 = .ok (.ireturn, 1) := by decide +kernel
theorem dL_law_318 : decode cL_law 318 = .ok (.aload_n 1, 1) := by decide +kernel
theorem dL_law_319 : decode cL_law 319 = .ok (.aload_n 0, 1) := by decide +kernel
theorem dL_law_320 : decode cL_law 320 = .ok (.iload_n 3, 1) := by decide +kernel
theorem dL_law_321 : decode cL_law 321 = .ok (.iconst 1, 1) := by decide +kernel
theorem dL_law_322 : decode cL_law 322 = .ok (.iadd, 1) := by decide +kernel
theorem dL_law_323 : decode cL_law 323 = .ok (.iaload, 1) := by decide +kernel
theorem dL_law_324 : decode cL_law 324 = .ok (.invokevirtual 50, 3) := by decide +kernel
theorem dL_law_327 : decode cL_law 327 = .ok (.aload_n 2, 1) := by decide +kernel
theorem dL_law_328 : decode cL_law 328 = .ok (.aload_n 0, 1) := by decide +kernel
theorem dL_law_329 : decode cL_law 329 = .ok (.iload_n 3, 1) := by decide +kernel
theorem dL_law_330 : decode cL_law 330 = .ok (.iconst 1, 1) := by decide +kernel
theorem dL_law_331 : decode cL_law 331 = .ok (.iadd, 1) := by decide +kernel
theorem dL_law_332 : decode cL_law 332 = .ok (.iaload, 1) := by decide +kernel
theorem dL_law_333 : decode cL_law 333 = .ok (.invokevirtual 53, 3) := by decide +kernel
theorem dL_law_336 : decode cL_law 336 = .ok (.if_icmp .eq 5, 3) := by decide +kernel
theorem dL_law_339 : decode cL_law 339 = .ok (.iconst 0, 1) := by decide +kernel
theorem dL_law_340 : decode cL_law 340 = .ok (.ireturn, 1) := by decide +kernel
theorem dL_law_341 : decode cL_law 341 = .ok (.iinc 3 6, 3) := by decide +kernel
theorem dL_law_344 : decode cL_law 344 = .ok (.goto (-326), 3) := by decide +kernel
theorem dL_law_347 : decode cL_law 347 = .ok (.iconst 1, 1) := by decide +kernel
theorem dL_law_348 : decode cL_law 348 = .ok (.ireturn, 1) := by decide +kernel
/-! java/lang/Object -/
def RJ0 : String := "java/lang/Object"
abbrev cJ0_init : ByteArray := object_method_1_code
def yJ0_init : MethodName := ⟨RJ0, "<init>", "()V"⟩
theorem dJ0_init_0 : decode cJ0_init 0 = .ok (.return_, 1) := by decide +kernel
theorem q14 : (Jvm.Cond.instanceMethod ({ cls := "java/lang/Object", name := "<init>", desc := "()V" } : Jvm.MethodName)) ∈ lw_all := lw_g (lw_at lw_m0 9 rfl) rfl
theorem q15 : (Jvm.Cond.code ({ cls := "java/lang/Object", name := "<init>", desc := "()V" } : Jvm.MethodName) object_method_1_code (1 : Nat) (Option.none : Option Jvm.ClassFile.FieldType)) ∈ lw_all := lw_g (lw_at lw_m0 10 rfl) rfl
theorem q5 : (Jvm.Cond.initialized "CutLabelsLaw") ∈ lw_all := lw_g (lw_at lw_m0 0 rfl) rfl
theorem q8 : (Jvm.Cond.classLink "CutLabelsLaw" (7 : Nat) "CutLabels") ∈ lw_all := lw_g (lw_at lw_m0 3 rfl) rfl
theorem q10 : (Jvm.Cond.methodLink "CutLabelsLaw" (9 : Nat) ({ cls := "CutLabels", name := "<init>", desc := "()V" } : Jvm.MethodName)) ∈ lw_all := lw_g (lw_at lw_m0 5 rfl) rfl
theorem q52 : (Jvm.Cond.methodLink "CutLabelsLaw" (13 : Nat) ({ cls := "CutLabels", name := "cost", desc := "(III)I" } : Jvm.MethodName)) ∈ lw_all := lw_g (lw_at lw_m0 47 rfl) rfl
theorem q62 : (Jvm.Cond.methodLink "CutLabelsLaw" (18 : Nat) ({ cls := "CutLabels", name := "tie", desc := "(IIIII)I" } : Jvm.MethodName)) ∈ lw_all := lw_g (lw_at lw_m0 57 rfl) rfl
theorem q66 : (Jvm.Cond.methodLink "CutLabelsLaw" (23 : Nat) ({ cls := "CutLabels", name := "cut", desc := "(I)I" } : Jvm.MethodName)) ∈ lw_all := lw_g (lw_at lw_m0 61 rfl) rfl
theorem q70 : (Jvm.Cond.methodLink "CutLabelsLaw" (28 : Nat) ({ cls := "CutLabels", name := "least", desc := "()I" } : Jvm.MethodName)) ∈ lw_all := lw_g (lw_at lw_m0 65 rfl) rfl
theorem q91 : (Jvm.Cond.methodLink "CutLabelsLaw" (33 : Nat) ({ cls := "CutLabels", name := "lower", desc := "()I" } : Jvm.MethodName)) ∈ lw_all := lw_g (lw_at lw_m0 86 rfl) rfl
theorem q95 : (Jvm.Cond.methodLink "CutLabelsLaw" (37 : Nat) ({ cls := "CutLabels", name := "upper", desc := "()I" } : Jvm.MethodName)) ∈ lw_all := lw_g (lw_at lw_m0 90 rfl) rfl
theorem q99 : (Jvm.Cond.methodLink "CutLabelsLaw" (41 : Nat) ({ cls := "CutLabels", name := "with", desc := "(II)I" } : Jvm.MethodName)) ∈ lw_all := lw_g (lw_at lw_m0 94 rfl) rfl
theorem q107 : (Jvm.Cond.methodLink "CutLabelsLaw" (46 : Nat) ({ cls := "CutLabels", name := "apart", desc := "(II)I" } : Jvm.MethodName)) ∈ lw_all := lw_g (lw_at lw_m0 102 rfl) rfl
theorem q111 : (Jvm.Cond.methodLink "CutLabelsLaw" (50 : Nat) ({ cls := "CutLabels", name := "energy", desc := "(I)I" } : Jvm.MethodName)) ∈ lw_all := lw_g (lw_at lw_m0 106 rfl) rfl
theorem q115 : (Jvm.Cond.classLink "CutLabelsLaw" (10 : Nat) "CutLabelsModel") ∈ lw_all := lw_g (lw_at lw_m0 110 rfl) rfl
theorem q117 : (Jvm.Cond.methodLink "CutLabelsLaw" (12 : Nat) ({ cls := "CutLabelsModel", name := "<init>", desc := "()V" } : Jvm.MethodName)) ∈ lw_all := lw_g (lw_at lw_m0 112 rfl) rfl
theorem q140 : (Jvm.Cond.methodLink "CutLabelsLaw" (17 : Nat) ({ cls := "CutLabelsModel", name := "cost", desc := "(III)I" } : Jvm.MethodName)) ∈ lw_all := lw_g (lw_at lw_m0 135 rfl) rfl
theorem q150 : (Jvm.Cond.methodLink "CutLabelsLaw" (22 : Nat) ({ cls := "CutLabelsModel", name := "tie", desc := "(IIIII)I" } : Jvm.MethodName)) ∈ lw_all := lw_g (lw_at lw_m0 145 rfl) rfl
theorem q154 : (Jvm.Cond.methodLink "CutLabelsLaw" (27 : Nat) ({ cls := "CutLabelsModel", name := "cut", desc := "(I)I" } : Jvm.MethodName)) ∈ lw_all := lw_g (lw_at lw_m0 149 rfl) rfl
theorem q158 : (Jvm.Cond.methodLink "CutLabelsLaw" (32 : Nat) ({ cls := "CutLabelsModel", name := "least", desc := "()I" } : Jvm.MethodName)) ∈ lw_all := lw_g (lw_at lw_m0 153 rfl) rfl
theorem q169 : (Jvm.Cond.methodLink "CutLabelsLaw" (36 : Nat) ({ cls := "CutLabelsModel", name := "lower", desc := "()I" } : Jvm.MethodName)) ∈ lw_all := lw_g (lw_at lw_m0 164 rfl) rfl
theorem q174 : (Jvm.Cond.methodLink "CutLabelsLaw" (40 : Nat) ({ cls := "CutLabelsModel", name := "upper", desc := "()I" } : Jvm.MethodName)) ∈ lw_all := lw_g (lw_at lw_m0 169 rfl) rfl
theorem q178 : (Jvm.Cond.methodLink "CutLabelsLaw" (45 : Nat) ({ cls := "CutLabelsModel", name := "with", desc := "(II)I" } : Jvm.MethodName)) ∈ lw_all := lw_g (lw_at lw_m0 173 rfl) rfl
theorem q183 : (Jvm.Cond.methodLink "CutLabelsLaw" (49 : Nat) ({ cls := "CutLabelsModel", name := "apart", desc := "(II)I" } : Jvm.MethodName)) ∈ lw_all := lw_g (lw_at lw_m0 178 rfl) rfl
theorem q187 : (Jvm.Cond.methodLink "CutLabelsLaw" (53 : Nat) ({ cls := "CutLabelsModel", name := "energy", desc := "(I)I" } : Jvm.MethodName)) ∈ lw_all := lw_g (lw_at lw_m0 182 rfl) rfl
theorem q50 : (Jvm.Cond.arrayClass Jvm.ClassFile.FieldType.int) ∈ lw_all := lw_g (lw_at lw_m0 45 rfl) rfl
theorem q51 : (Jvm.Cond.arrayClass Jvm.ClassFile.FieldType.boolean) ∈ lw_all := lw_g (lw_at lw_m0 46 rfl) rfl
end
section
/-! the worlds of X (CutLabels) and M (CutLabelsModel), and rows over them -/
set_option maxRecDepth 100000
abbrev vwCl : List vw_C := [(RX0, TX0, 11), (RX1, TX1, 6)]
/-- X's scratch: room, reachedFrom, queueEnd, queue -/
abbrev cl_U : Type := (Nat → Int32) × (Nat → Int32) × Int32 × (Nat → Int32)
abbrev wX (dA dZ : ClassId) (h : Nat) (q : Nat → Nat) (g : Nat → Nat → Nat) (u : cl_U) : va_W :=
  [(h, .inr (0, [.ref (q 0), .ref (q 1), .ref (q 2), .ref (q 3), .ref (q 4), .ref (q 5), .ref (q 6), .ref (q 7), .ref (q 8), .int u.2.2.1, .ref (q 9)])),
   (q 0, .inl (dA, 9, .inl (fun i => nI (g 0 i)))), (q 1, .inl (dA, 9, .inl (fun i => nI (g 1 i)))), (q 2, .inl (dZ, 16, .inl (fun i => nI (g 2 i)))),
   (q 3, .inl (dA, 16, .inl (fun i => nI (g 3 i)))), (q 4, .inl (dA, 16, .inl (fun i => nI (g 4 i)))), (q 5, .inl (dA, 16, .inl (fun i => nI (g 5 i)))), (q 6, .inl (dA, 16, .inl (fun i => nI (g 6 i)))),
   (q 7, .inl (dA, 121, .inl u.1)), (q 8, .inl (dA, 11, .inl u.2.1)), (q 9, .inl (dA, 11, .inl u.2.2.2))]
/-- M's costs: the cost of label l at place p at 2 * p + l -/
def cl_c2 (g : Nat → Nat → Nat) (i : Nat) : Nat := if i % 2 = 0 then g 0 (i / 2) else g 1 (i / 2)
abbrev wM (dA dZ : ClassId) (h : Nat) (q : Nat → Nat) (g : Nat → Nat → Nat) : va_W :=
  [(h, .inr (1, [.ref (q 0), .ref (q 1), .ref (q 2), .ref (q 3), .ref (q 4), .ref (q 5)])),
   (q 0, .inl (dA, 18, .inl (fun i => nI (cl_c2 g i)))), (q 1, .inl (dZ, 16, .inl (fun i => nI (g 2 i)))),
   (q 2, .inl (dA, 16, .inl (fun i => nI (g 3 i)))), (q 3, .inl (dA, 16, .inl (fun i => nI (g 4 i)))), (q 4, .inl (dA, 16, .inl (fun i => nI (g 5 i)))), (q 5, .inl (dA, 16, .inl (fun i => nI (g 6 i))))]
/-- the cells that X's, M's methods may write -/
def aX (h : Nat) (q : Nat → Nat) : Nat → Prop := fun a => a = h ∨ ∃ k, k < 10 ∧ a = q k
def aM (h : Nat) (q : Nat → Nat) : Nat → Prop := fun a => a = h ∨ ∃ k, k < 6 ∧ a = q k
/-- the cells are apart -/
def dX (h : Nat) (q : Nat → Nat) : Prop := ∀ (dA dZ : ClassId) (g : Nat → Nat → Nat) (u : cl_U), va_D (aX h q) (wX dA dZ h q g u)
def dM (h : Nat) (q : Nat → Nat) : Prop := ∀ (dA dZ : ClassId) (g : Nat → Nat → Nat), va_D (aM h q) (wM dA dZ h q g)
abbrev tX (dA dZ : ClassId) : List (ClassId × FieldType) := [(dA, .int), (dZ, .boolean)]
/-- a method's start -/
abbrev pX (dC : Nat → ClassId) (dI : Nat → Nat → Nat) (dA dZ : ClassId) (h : Nat) (q : Nat → Nat) (g : Nat → Nat → Nat) (u : cl_U) (as : List Value) : Array Value → State → Prop := va_Pc (.ref h :: as) (fun U => va_P (dC, dI) vwCl (wX dA dZ h q g u) U.heap ∧ va_K (dC, dI) vwCl (tX dA dZ) U)
abbrev pM (dC : Nat → ClassId) (dI : Nat → Nat → Nat) (dA dZ : ClassId) (h : Nat) (q : Nat → Nat) (g : Nat → Nat → Nat) (as : List Value) : Array Value → State → Prop := va_Pc (.ref h :: as) (fun U => va_P (dC, dI) vwCl (wM dA dZ h q g) U.heap ∧ va_K (dC, dI) vwCl (tX dA dZ) U)
theorem pX_blind {dC : Nat → ClassId} {dI : Nat → Nat → Nat} {dA dZ : ClassId} {h : Nat} {q : Nat → Nat} {g : Nat → Nat → Nat} {u : cl_U} {as : List Value} : FrameBlind (pX dC dI dA dZ h q g u as) := fun a U f mk z => ⟨z.1, z.2.1, va_K.moved (u := U) (U := U.calling f mk a) (Vm.Alike.refl U.vm) z.2.2⟩
theorem pM_blind {dC : Nat → ClassId} {dI : Nat → Nat → Nat} {dA dZ : ClassId} {h : Nat} {q : Nat → Nat} {g : Nat → Nat → Nat} {as : List Value} : FrameBlind (pM dC dI dA dZ h q g as) := fun a U f mk z => ⟨z.1, z.2.1, va_K.moved (u := U) (U := U.calling f mk a) (Vm.Alike.refl U.vm) z.2.2⟩
/-- a static method's start: its numbers alone -/
abbrev pS (as : List Value) : Array Value → State → Prop := va_Pc as (fun _ => True)
theorem pS_blind {as : List Value} : FrameBlind (pS as) := fun a U f mk z => z
/-- a method that only reads and answers an int -/
def cw_Si (post : Int32 → Prop) : Array Value → State → Outcome → State → Prop := fun _ st oc t => ∃ r : Int32, oc = .returned (some (.int r)) ∧ post r ∧ t.heap = st.heap
abbrev cw_no : Addr → Prop := fun _ => False
section CW
variable {p : Program} {l : Launch} {e : Env} {R : Room} {s : State} {m : MethodId} {args : Array Value} {below : List Frame} {meth : Method} {c : Code} {H : Heap} {locs : List Loc} {cells slots : Nat} {Q : State → Prop}
variable {cc : ByteArray} {pc : Nat} {ls : Array Slot} {rest st0 : List Value} {D : va_G} {cl : List vw_C} {A : Nat → Prop} {a : Nat} {tys : List (ClassId × FieldType)} {ws : va_W} {H0 : Heap}
theorem xw_e {x y : Int32} (h : x = y) (k : W p l e R s m args below meth c H locs cells slots Q (F0 m pc ls (.int y :: rest))) : W p l e R s m args below meth c H locs cells slots Q (F0 m pc ls (.int x :: rest)) := by
  rw [h]; exact k
theorem xw_iald (hexec : p.tables.exec = Jvm.exec) (hb : c.code = cc) (hK : va_K D cl tys s) (hP : va_P D cl ws H) (q0 t0 : Nat) {cA : ClassId} {n : Nat} {f : Nat → Int32} (ha : ws[q0]? = some (a, .inl (cA, n, .inl f))) (ht : tys[t0]? = some (cA, .int)) (j : Nat) (hj : j < n) (hn : n < 2 ^ 31) {v : Int32} (hv : f j = v) (hdg : decode cc pc = .ok (.iaload, 1))
    (kk : W p l e R s m args below meth c H locs cells slots Q (F0 m (pc + 1) ls (.int v :: rest))) : W p l e R s m args below meth c H locs cells slots Q (F0 m pc ls (.int (nI j) :: .ref a :: rest)) := by
  refine va_iald hexec hb hK hP q0 t0 ha ht (vp_in_nI hj hn) hdg ?_
  rw [nI_clamp (Nat.lt_trans hj hn), hv]; exact kk
theorem xw_zald (hexec : p.tables.exec = Jvm.exec) (hb : c.code = cc) (hK : va_K D cl tys s) (hP : va_P D cl ws H) (q0 t0 : Nat) {cA : ClassId} {n : Nat} {f : Nat → Int32} (ha : ws[q0]? = some (a, .inl (cA, n, .inl f))) (ht : tys[t0]? = some (cA, .boolean)) (j : Nat) (hj : j < n) (hn : n < 2 ^ 31) {v : Int32} (hv : f j = v) (hdg : decode cc pc = .ok (.baload, 1))
    (kk : W p l e R s m args below meth c H locs cells slots Q (F0 m (pc + 1) ls (.int v :: rest))) : W p l e R s m args below meth c H locs cells slots Q (F0 m pc ls (.int (nI j) :: .ref a :: rest)) := by
  refine va_zald hexec hb hK hP q0 t0 ha ht (vp_in_nI hj hn) hdg ?_
  rw [nI_clamp (Nat.lt_trans hj hn), hv]; exact kk
theorem xw_iast (hexec : p.tables.exec = Jvm.exec) (hb : c.code = cc) (hK : va_K D cl tys s) (hP : va_P D cl ws H) (hD : va_D A ws) (hS : va_S A H0 H locs) (q0 t0 : Nat) {cA : ClassId} {n : Nat} {f : Nat → Int32} (ha : ws[q0]? = some (a, .inl (cA, n, .inl f))) (ht : tys[t0]? = some (cA, .int)) (j : Nat) (hj : j < n) (hn : n < 2 ^ 31) {x : Int32} (hdg : decode cc pc = .ok (.iastore, 1))
    (kk : ∀ (H1 : Heap) (locs1 : List Loc), va_P D cl (ws.set q0 (a, .inl (cA, n, .inl (upd f j x)))) H1 → va_S A H0 H1 locs1 → W p l e R s m args below meth c H1 locs1 cells slots Q (F0 m (pc + 1) ls rest)) : W p l e R s m args below meth c H locs cells slots Q (F0 m pc ls (.int x :: .int (nI j) :: .ref a :: rest)) := by
  refine va_iast hexec hb hK hP hD hS q0 t0 ha ht (vp_in_nI hj hn) hdg (fun H1 locs1 h1 _ h3 => ?_)
  rw [nI_clamp (Nat.lt_trans hj hn)] at h1
  exact kk H1 locs1 h1 h3
theorem xw_zast (hexec : p.tables.exec = Jvm.exec) (hb : c.code = cc) (hK : va_K D cl tys s) (hP : va_P D cl ws H) (hD : va_D A ws) (hS : va_S A H0 H locs) (q0 t0 : Nat) {cA : ClassId} {n : Nat} {f : Nat → Int32} (ha : ws[q0]? = some (a, .inl (cA, n, .inl f))) (ht : tys[t0]? = some (cA, .boolean)) (j : Nat) (hj : j < n) (hn : n < 2 ^ 31) {x y : Int32} (hy : vp_nar .boolean x = y) (hdg : decode cc pc = .ok (.bastore, 1))
    (kk : ∀ (H1 : Heap) (locs1 : List Loc), va_P D cl (ws.set q0 (a, .inl (cA, n, .inl (upd f j y)))) H1 → va_S A H0 H1 locs1 → W p l e R s m args below meth c H1 locs1 cells slots Q (F0 m (pc + 1) ls rest)) : W p l e R s m args below meth c H locs cells slots Q (F0 m pc ls (.int x :: .int (nI j) :: .ref a :: rest)) := by
  refine va_zast hexec hb hK hP hD hS q0 t0 ha ht (vp_in_nI hj hn) hdg (fun H1 locs1 h1 _ h3 => ?_)
  rw [nI_clamp (Nat.lt_trans hj hn), hy] at h1
  exact kk H1 locs1 h1 h3
/-- a call that only reads -/
theorem cw_ci {pr : Array Value} {post : Int32 → Prop} (hr : va_Run p l e R s m args below meth c H locs cells slots 0 0 (F0 m pc ls st0) rest (cw_Si post pr) cw_no)
    (kk : ∀ r : Int32, post r → W p l e R s m args below meth c H locs cells slots Q (F0 m (pc + 3) ls (.int r :: rest))) : W p l e R s m args below meth c H locs cells slots Q (F0 m pc ls st0) := by
  intro T hT X
  obtain ⟨v, st₀, t, T', L, h0, X', hL, e1, e2, ⟨r, hv, hp, hh⟩, st⟩ := hr T hT X
  cases hv
  obtain ⟨t2, a1, b1⟩ := kk r hp T' (by rw [e1, hh, h0]) (Stand.forget X' (fun q h => (hL q h).elim))
  exact ⟨t2, st t2 a1, b1⟩
variable {y : MethodName} {bytes : ByteArray} {maxL nL n index : Nat} {ret : Option FieldType} {rm : Room} {As : List Value} {own : String} {dC : Nat → ClassId} {dI : Nat → Nat → Nat} {dA dZ : ClassId} {h : Nat} {q : Nat → Nat} {g : Nat → Nat → Nat} {u : cl_U}
/-- a static call -/
theorem cs_i {post : Int32 → Prop} (S : CallFix p m c cc nL s args lw_all own) (hM : Met l y (ws_ y bytes maxL ret) rm (pS As) (cw_Si post) 0 0 cw_no) (cw : CallB R s args own index y bytes maxL ret (ws_ y bytes maxL ret) rm 0 0 n ∧ (Cond.static y).before args s = true)
    (hn : As.length = n) (hsize : ls.size = nL) (hst : st0 = As.reverse ++ rest) (hW : (rest.map fun v => v.category).sum ≤ 8) (hdg : decode cc pc = .ok (.invokestatic index, 3)) (hf : cells ≤ R.cells ∧ slots ≤ R.slots)
    (kk : ∀ r : Int32, post r → W p l e R s m args below meth c H locs cells slots Q (F0 m (pc + 3) ls (.int r :: rest))) : W p l e R s m args below meth c H locs cells slots Q (F0 m pc ls st0) :=
  cw_ci (va_runS (As := As) (rest := rest) S hM cw ⟨pS_blind, fun U hU hW => ⟨rfl, trivial⟩⟩ rfl hn hsize hst (lv_room hW) hdg hf) kk
/-- X's own calls: one that only reads, one that answers nothing, one that answers an int -/
theorem cx_r {post : Int32 → Prop} (S : CallFix p m c cc nL s args lw_all own) (hM : Met l y (ws_ y bytes maxL ret) rm (pX dC dI dA dZ h q g u As) (cw_Si post) 0 0 cw_no) (cw : CallW R s args own RX0 index y bytes maxL ret (ws_ y bytes maxL ret) rm 0 0 n)
    (hK : va_K (dC, dI) vwCl (tX dA dZ) s) (hP : va_P (dC, dI) vwCl (wX dA dZ h q g u) H) (hn : As.length = n) (hsize : ls.size = nL) (hst : st0 = As.reverse ++ .ref h :: rest) (hW : (rest.map fun v => v.category).sum ≤ 8) (hdg : decode cc pc = .ok (.invokevirtual index, 3)) (hf : cells ≤ R.cells ∧ slots ≤ R.slots)
    (kk : ∀ r : Int32, post r → W p l e R s m args below meth c H locs cells slots Q (F0 m (pc + 3) ls (.int r :: rest))) : W p l e R s m args below meth c H locs cells slots Q (F0 m pc ls st0) :=
  cw_ci (va_runV (As := As) (rest := rest) S hM cw ⟨pX_blind, va_recv hK hP (ci := 0) (q0 := 0) rfl rfl, fun U hU hW => ⟨rfl, by rw [hU]; exact hP, va_K.moved hW.alike hK⟩⟩ rfl hn hsize hst (lv_room hW) hdg hf) kk
theorem cx_v {post : cl_U → Prop} (S : CallFix p m c cc nL s args lw_all own) (hM : Met l y (ws_ y bytes maxL ret) rm (pX dC dI dA dZ h q g u As) (va_Qv post (fun u' t => va_P (dC, dI) vwCl (wX dA dZ h q g u') t.heap) (aX h q)) 0 0 (aX h q)) (cw : CallW R s args own RX0 index y bytes maxL ret (ws_ y bytes maxL ret) rm 0 0 n)
    (hK : va_K (dC, dI) vwCl (tX dA dZ) s) (hP : va_P (dC, dI) vwCl (wX dA dZ h q g u) H) (hS : va_S (aX h q) H0 H locs) (hn : As.length = n) (hsize : ls.size = nL) (hst : st0 = As.reverse ++ .ref h :: rest) (hW : (rest.map fun v => v.category).sum ≤ 8) (hdg : decode cc pc = .ok (.invokevirtual index, 3)) (hf : cells ≤ R.cells ∧ slots ≤ R.slots)
    (kk : ∀ (u' : cl_U) (H1 : Heap) (locs1 : List Loc), post u' → va_P (dC, dI) vwCl (wX dA dZ h q g u') H1 → va_S (aX h q) H0 H1 locs1 → W p l e R s m args below meth c H1 locs1 cells slots Q (F0 m (pc + 3) ls rest)) : W p l e R s m args below meth c H locs cells slots Q (F0 m pc ls st0) :=
  va_callv (va_runV (As := As) (rest := rest) S hM cw ⟨pX_blind, va_recv hK hP (ci := 0) (q0 := 0) rfl rfl, fun U hU hW => ⟨rfl, by rw [hU]; exact hP, va_K.moved hW.alike hK⟩⟩ rfl hn hsize hst (lv_room hW) hdg hf) hS (fun _ _ z => z) (fun _ z => z) (fun u' t H1 locs1 ht _ hp hB _ _ hS1 => kk u' H1 locs1 hp (ht ▸ hB) hS1)
theorem cx_i {post : Int32 → cl_U → Prop} (S : CallFix p m c cc nL s args lw_all own) (hM : Met l y (ws_ y bytes maxL ret) rm (pX dC dI dA dZ h q g u As) (va_Qi post (fun u' t => va_P (dC, dI) vwCl (wX dA dZ h q g u') t.heap) (aX h q)) 0 0 (aX h q)) (cw : CallW R s args own RX0 index y bytes maxL ret (ws_ y bytes maxL ret) rm 0 0 n)
    (hK : va_K (dC, dI) vwCl (tX dA dZ) s) (hP : va_P (dC, dI) vwCl (wX dA dZ h q g u) H) (hS : va_S (aX h q) H0 H locs) (hn : As.length = n) (hsize : ls.size = nL) (hst : st0 = As.reverse ++ .ref h :: rest) (hW : (rest.map fun v => v.category).sum ≤ 8) (hdg : decode cc pc = .ok (.invokevirtual index, 3)) (hf : cells ≤ R.cells ∧ slots ≤ R.slots)
    (kk : ∀ (r : Int32) (u' : cl_U) (H1 : Heap) (locs1 : List Loc), post r u' → va_P (dC, dI) vwCl (wX dA dZ h q g u') H1 → va_S (aX h q) H0 H1 locs1 → W p l e R s m args below meth c H1 locs1 cells slots Q (F0 m (pc + 3) ls (.int r :: rest))) : W p l e R s m args below meth c H locs cells slots Q (F0 m pc ls st0) :=
  va_calli (va_runV (As := As) (rest := rest) S hM cw ⟨pX_blind, va_recv hK hP (ci := 0) (q0 := 0) rfl rfl, fun U hU hW => ⟨rfl, by rw [hU]; exact hP, va_K.moved hW.alike hK⟩⟩ rfl hn hsize hst (lv_room hW) hdg hf) hS (fun _ _ z => z) (fun _ z => z) (fun r u' t H1 locs1 ht _ hp hB _ _ hS1 => kk r u' H1 locs1 hp (ht ▸ hB) hS1)
/-- M's calls that only read -/
theorem cm_r {post : Int32 → Prop} (S : CallFix p m c cc nL s args lw_all own) (hM : Met l y (ws_ y bytes maxL ret) rm (pM dC dI dA dZ h q g As) (cw_Si post) 0 0 cw_no) (cw : CallW R s args own RX1 index y bytes maxL ret (ws_ y bytes maxL ret) rm 0 0 n)
    (hK : va_K (dC, dI) vwCl (tX dA dZ) s) (hP : va_P (dC, dI) vwCl (wM dA dZ h q g) H) (hn : As.length = n) (hsize : ls.size = nL) (hst : st0 = As.reverse ++ .ref h :: rest) (hW : (rest.map fun v => v.category).sum ≤ 8) (hdg : decode cc pc = .ok (.invokevirtual index, 3)) (hf : cells ≤ R.cells ∧ slots ≤ R.slots)
    (kk : ∀ r : Int32, post r → W p l e R s m args below meth c H locs cells slots Q (F0 m (pc + 3) ls (.int r :: rest))) : W p l e R s m args below meth c H locs cells slots Q (F0 m pc ls st0) :=
  cw_ci (va_runV (As := As) (rest := rest) S hM cw ⟨pM_blind, va_recv hK hP (ci := 1) (q0 := 0) rfl rfl, fun U hU hW => ⟨rfl, by rw [hU]; exact hP, va_K.moved hW.alike hK⟩⟩ rfl hn hsize hst (lv_room hW) hdg hf) kk
end CW
/-- a number in 0 .. n -/
theorem cw_rng {x M : Int32} {n : Nat} (hM : M.toInt = n) (hn : n < 2 ^ 31) : (∃ j, j ≤ n ∧ x = nI j) ∨ (x < 0 ∨ M < x) := by
  by_cases h1 : x < 0
  · exact Or.inr (Or.inl h1)
  · by_cases h2 : M < x
    · exact Or.inr (Or.inr h2)
    · exact Or.inl (nI_of2 hM h1 (fa_of_nlt h2))
end
section
/-! branches and sums over plain numbers -/
section CR
variable {p : Program} {l : Launch} {e : Env} {R : Room} {s : State} {m : MethodId} {args : Array Value} {below : List Frame} {meth : Method} {c : Code} {H : Heap} {locs : List Loc} {cells slots : Nat} {Q : State → Prop}
variable {cc : ByteArray} {pc : Nat} {ls : Array Slot} {rest : List Value}
theorem cw_lt (n : Nat) : nI n < 0 → 2 ^ 31 ≤ n := fun h => Nat.le_of_not_lt (fun q => nI_pos q h)
theorem xw_icmp_eq (hexec : p.tables.exec = Jvm.exec) (hb : c.code = cc) {a b : Nat} (ha : a < 2 ^ 31) (hb2 : b < 2 ^ 31) {off : Int} {tgt : Nat} (hdg : decode cc pc = .ok (.if_icmp .eq off, 3)) (ht : (pc : Int) + off = (tgt : Int))
    (kt : a = b → W p l e R s m args below meth c H locs cells slots Q (F0 m tgt ls rest)) (kf : a ≠ b → W p l e R s m args below meth c H locs cells slots Q (F0 m (pc + 3) ls rest)) : W p l e R s m args below meth c H locs cells slots Q (F0 m pc ls (.int (nI b) :: .int (nI a) :: rest)) :=
  lv_icmp_eq hexec hb hdg ht (fun h => kt ((nI_eq ha hb2).mp h)) (fun h => kf (fun q => h (by rw [q])))
theorem xw_icmp_ne (hexec : p.tables.exec = Jvm.exec) (hb : c.code = cc) {a b : Nat} (ha : a < 2 ^ 31) (hb2 : b < 2 ^ 31) {off : Int} {tgt : Nat} (hdg : decode cc pc = .ok (.if_icmp .ne off, 3)) (ht : (pc : Int) + off = (tgt : Int))
    (kt : a ≠ b → W p l e R s m args below meth c H locs cells slots Q (F0 m tgt ls rest)) (kf : a = b → W p l e R s m args below meth c H locs cells slots Q (F0 m (pc + 3) ls rest)) : W p l e R s m args below meth c H locs cells slots Q (F0 m pc ls (.int (nI b) :: .int (nI a) :: rest)) :=
  lv_icmp_ne hexec hb hdg ht (fun h => kt (fun q => h (by rw [q]))) (fun h => kf ((nI_eq ha hb2).mp h))
theorem xw_icmp_ge (hexec : p.tables.exec = Jvm.exec) (hb : c.code = cc) {a b : Nat} (ha : a < 2 ^ 31) (hb2 : b < 2 ^ 31) {off : Int} {tgt : Nat} (hdg : decode cc pc = .ok (.if_icmp .ge off, 3)) (ht : (pc : Int) + off = (tgt : Int))
    (kt : b ≤ a → W p l e R s m args below meth c H locs cells slots Q (F0 m tgt ls rest)) (kf : a < b → W p l e R s m args below meth c H locs cells slots Q (F0 m (pc + 3) ls rest)) : W p l e R s m args below meth c H locs cells slots Q (F0 m pc ls (.int (nI b) :: .int (nI a) :: rest)) :=
  lv_icmp_ge hexec hb hdg ht (fun h => kt ((nI_leI hb2 ha).mp h)) (fun h => kf (Nat.lt_of_not_le (fun q => h ((nI_leI hb2 ha).mpr q))))
theorem xw_icmp_gt (hexec : p.tables.exec = Jvm.exec) (hb : c.code = cc) {a b : Nat} (ha : a < 2 ^ 31) (hb2 : b < 2 ^ 31) {off : Int} {tgt : Nat} (hdg : decode cc pc = .ok (.if_icmp .gt off, 3)) (ht : (pc : Int) + off = (tgt : Int))
    (kt : b < a → W p l e R s m args below meth c H locs cells slots Q (F0 m tgt ls rest)) (kf : a ≤ b → W p l e R s m args below meth c H locs cells slots Q (F0 m (pc + 3) ls rest)) : W p l e R s m args below meth c H locs cells slots Q (F0 m pc ls (.int (nI b) :: .int (nI a) :: rest)) :=
  lv_icmp_gt hexec hb hdg ht (fun h => kt ((nI_ltI hb2 ha).mp h)) (fun h => kf (Nat.le_of_not_lt (fun q => h ((nI_ltI hb2 ha).mpr q))))
theorem xw_icmp_le (hexec : p.tables.exec = Jvm.exec) (hb : c.code = cc) {a b : Nat} (ha : a < 2 ^ 31) (hb2 : b < 2 ^ 31) {off : Int} {tgt : Nat} (hdg : decode cc pc = .ok (.if_icmp .le off, 3)) (ht : (pc : Int) + off = (tgt : Int))
    (kt : a ≤ b → W p l e R s m args below meth c H locs cells slots Q (F0 m tgt ls rest)) (kf : b < a → W p l e R s m args below meth c H locs cells slots Q (F0 m (pc + 3) ls rest)) : W p l e R s m args below meth c H locs cells slots Q (F0 m pc ls (.int (nI b) :: .int (nI a) :: rest)) :=
  lv_icmp_le hexec hb hdg ht (fun h => kt ((nI_leI ha hb2).mp h)) (fun h => kf (Nat.lt_of_not_le (fun q => h ((nI_leI ha hb2).mpr q))))
theorem cw_z {a : Nat} (ha : a < 2 ^ 31) : nI a = 0 ↔ a = 0 := by
  rw [← nI_0]
  exact nI_eq ha (by decide)
theorem xw_if_eq (hexec : p.tables.exec = Jvm.exec) (hb : c.code = cc) {a : Nat} (ha : a < 2 ^ 31) {off : Int} {tgt : Nat} (hdg : decode cc pc = .ok (.ifCond .eq off, 3)) (ht : (pc : Int) + off = (tgt : Int))
    (kt : a = 0 → W p l e R s m args below meth c H locs cells slots Q (F0 m tgt ls rest)) (kf : a ≠ 0 → W p l e R s m args below meth c H locs cells slots Q (F0 m (pc + 3) ls rest)) : W p l e R s m args below meth c H locs cells slots Q (F0 m pc ls (.int (nI a) :: rest)) :=
  lv_if_eq hexec hb hdg ht (fun h => kt ((cw_z ha).mp h)) (fun h => kf (fun q => h ((cw_z ha).mpr q)))
theorem xw_if_ne (hexec : p.tables.exec = Jvm.exec) (hb : c.code = cc) {a : Nat} (ha : a < 2 ^ 31) {off : Int} {tgt : Nat} (hdg : decode cc pc = .ok (.ifCond .ne off, 3)) (ht : (pc : Int) + off = (tgt : Int))
    (kt : a ≠ 0 → W p l e R s m args below meth c H locs cells slots Q (F0 m tgt ls rest)) (kf : a = 0 → W p l e R s m args below meth c H locs cells slots Q (F0 m (pc + 3) ls rest)) : W p l e R s m args below meth c H locs cells slots Q (F0 m pc ls (.int (nI a) :: rest)) :=
  lv_if_ne hexec hb hdg ht (fun h => kt (fun q => h ((cw_z ha).mpr q))) (fun h => kf ((cw_z ha).mp h))
end CR
theorem cw_i1 (i : Nat) : nI i + Int32.ofInt 1 = nI (i + 1) := nI_1 i
theorem cw_i6 (i : Nat) : nI i + Int32.ofInt 6 = nI (i + 6) := nI_add i 6
/-- one bit of an int -/
def cl_b (x : Int32) (p : Nat) : Bool := bt x p
theorem cw_and1 (y : Int32) : y &&& 1 = nI (if bt y 0 then 1 else 0) := by
  refine b_ext fun i hi => ?_
  rw [b_and]
  have h1 : bt 1 i = decide (i = 0) := (by decide +kernel : ∀ i, i < 32 → bt 1 i = decide (i = 0)) i hi
  rw [h1]
  by_cases c : i = 0
  · subst c
    cases bt y 0 <;> decide +kernel
  · rw [decide_eq_false c, Bool.and_false]
    cases bt y 0
    · exact (b_0 i).symm
    · exact (h1.trans (decide_eq_false c)).symm
theorem cw_ush (x : Int32) {p : Nat} (hp : p < 32) : (x.toUInt32 >>> ((nI p).toUInt32 &&& Int32.toUInt32 31)).toInt32 &&& 1 = nI (if cl_b x p then 1 else 0) := by
  rw [cw_and1, b_ushr p hp x 0]
  rfl
theorem cw_ssh (x : Int32) {p : Nat} (hp : p < 32) : x >>> (nI p &&& 31) &&& 1 = nI (if cl_b x p then 1 else 0) := by
  have h : bt (x >>> (nI p &&& 31)) 0 = bt x (p + 0) := by
    rw [b_sshr p hp x (i := 0) (by decide), if_pos (by omega)]
  rw [cw_and1, h]
  rfl
theorem cw_bit (l p : Nat) (hp : p < 32) : cl_b (nI l) p = l.testBit p := by
  show (BitVec.ofNat 32 l).getLsbD p = l.testBit p
  rw [BitVec.getLsbD_ofNat, decide_eq_true hp, Bool.true_and]
theorem cw_shl {p : Nat} (hp : p < 31) : nI 1 <<< (nI p &&& 31) = nI (2 ^ p) := by
  rw [pk_shlN (nI p &&& 31) p (s_l p (by omega)) (by rw [Nat.one_mul]; exact Nat.pow_lt_pow_right (by decide) (by omega)), Nat.one_mul]
theorem cw_updN (f : Nat → Nat) (k v : Nat) : upd (fun i => nI (f i)) k (nI v) = fun i => nI (cl_up f k v i) := by
  funext i
  unfold upd cl_up
  split <;> rfl
end
section
/-! the static methods: isPlace, isCost, bad, badCost, label -/
def cl_rg (n : Nat) (x : Int32) : Prop := ∃ j, j ≤ n ∧ x = nI j
theorem cl_rg_lt {n : Nat} {x : Int32} (hn : n < 2 ^ 31) (h : x < 0) : ¬ cl_rg n x := by
  intro ⟨j, h1, h2⟩
  rw [h2] at h
  exact nI_pos (by omega) h
theorem cl_rg_gt {n : Nat} {x : Int32} (hn : n < 2 ^ 31) (h : nI n < x) : ¬ cl_rg n x := by
  intro ⟨j, h1, h2⟩
  rw [h2] at h
  have := (nI_ltI hn (by omega)).mp h
  omega
theorem cl_rg_of {n : Nat} {x : Int32} (hn : n < 2 ^ 31) (h1 : ¬ x < 0) (h2 : x ≤ nI n) : cl_rg n x := nI_of2 (nI_toInt hn) h1 h2
/-- an answer that says whether the number is in 0 .. n: yes, no -/
abbrev cl_yes (n : Nat) (x : Int32) (r : Int32) : Prop := (cl_rg n x ∧ r = nI 1) ∨ (¬ cl_rg n x ∧ r = nI 0)
abbrev cl_nay (n : Nat) (x : Int32) (r : Int32) : Prop := (cl_rg n x ∧ r = nI 0) ∨ (¬ cl_rg n x ∧ r = nI 1)
abbrev cl_rm0 : Room := { frames := 0, cells := 0, slots := 0, locals := 0 }
set_option maxHeartbeats 4000000 in
set_option maxRecDepth 100000 in
theorem metX0_isPlace (l : Launch) (x0 : Int32) : Met l yX0_isPlace (ws_ yX0_isPlace cX0_isPlace 1 (some .boolean)) cl_rm0 (pS [.int x0]) (cw_Si (cl_yes 8 x0)) 0 0 cw_no := by
  refine Met.ofW (cc := cX0_isPlace) (maxL := 1) (ret := (some .boolean)) (by decide) rfl ?_
  intro p e s m args below meth c s₁ B hml hv
  obtain ⟨rfl, hv⟩ := hv
  have S : CallFix p m c cX0_isPlace 1 s _ lw_all RX0 := ⟨B.exec, B.bytes, hml, findClass_of_methodNamed B.named, fun w hw => atoms_spec (ws := ws_ yX0_isPlace cX0_isPlace 1 (some .boolean)) B.pre w (List.mem_cons_of_mem _ hw)⟩
  obtain ⟨hx, hb, -, hown, hts⟩ := id S
  have hr := B.returns
  have hlocks := B.notSynchronized
  have hl := lv_entry ([.int x0]) (n := 1) (Nat.le_of_ble_eq_true rfl)
  rw [lg_entry_eq]
  generalize (lg_sl ([.int x0]) ++ List.replicate (1 - (lg_sl ([.int x0])).length) Slot.unset).toArray = ls at hl ⊢
  have hl : lv_has ls 1 [(0, .int x0)] := hl
  refine lv_iload_n hx hb dX0_isPlace_0 rfl (lv_at hl 0 rfl) ?_
  refine lv_if_lt (tgt := 14) hx hb dX0_isPlace_1 (by decide) (fun c1 => ?_) (fun c1 => ?_)
  · refine lv_iconst (v := nI 0) hx hb dX0_isPlace_14 (by decide) ?_
    exact W.zret (v := nI 0) hx hb hr rfl (fun t ht hW => ⟨_, rfl, Or.inr ⟨cl_rg_lt (by decide) c1, rfl⟩, ht⟩) (fun _ hq => by cases hq) dX0_isPlace_15
  · refine lv_iload_n hx hb dX0_isPlace_4 rfl (lv_at hl 0 rfl) ?_
    refine lv_bipush (v := nI 8) hx hb dX0_isPlace_5 (by decide) ?_
    refine lv_icmp_gt (tgt := 14) hx hb dX0_isPlace_7 (by decide) (fun c2 => ?_) (fun c2 => ?_)
    · refine lv_iconst (v := nI 0) hx hb dX0_isPlace_14 (by decide) ?_
      exact W.zret (v := nI 0) hx hb hr rfl (fun t ht hW => ⟨_, rfl, Or.inr ⟨cl_rg_gt (by decide) c2, rfl⟩, ht⟩) (fun _ hq => by cases hq) dX0_isPlace_15
    · refine lv_iconst (v := nI 1) hx hb dX0_isPlace_10 (by decide) ?_
      refine lv_goto (tgt := 15) hx hb dX0_isPlace_11 (by decide) ?_
      exact W.zret (v := nI 1) hx hb hr rfl (fun t ht hW => ⟨_, rfl, Or.inl ⟨cl_rg_of (by decide) c1 (fa_of_nlt c2), rfl⟩, ht⟩) (fun _ hq => by cases hq) dX0_isPlace_15
set_option maxHeartbeats 4000000 in
set_option maxRecDepth 100000 in
theorem metX0_isCost (l : Launch) (x0 : Int32) : Met l yX0_isCost (ws_ yX0_isCost cX0_isCost 1 (some .boolean)) cl_rm0 (pS [.int x0]) (cw_Si (cl_yes 100 x0)) 0 0 cw_no := by
  refine Met.ofW (cc := cX0_isCost) (maxL := 1) (ret := (some .boolean)) (by decide) rfl ?_
  intro p e s m args below meth c s₁ B hml hv
  obtain ⟨rfl, hv⟩ := hv
  have S : CallFix p m c cX0_isCost 1 s _ lw_all RX0 := ⟨B.exec, B.bytes, hml, findClass_of_methodNamed B.named, fun w hw => atoms_spec (ws := ws_ yX0_isCost cX0_isCost 1 (some .boolean)) B.pre w (List.mem_cons_of_mem _ hw)⟩
  obtain ⟨hx, hb, -, hown, hts⟩ := id S
  have hr := B.returns
  have hlocks := B.notSynchronized
  have hl := lv_entry ([.int x0]) (n := 1) (Nat.le_of_ble_eq_true rfl)
  rw [lg_entry_eq]
  generalize (lg_sl ([.int x0]) ++ List.replicate (1 - (lg_sl ([.int x0])).length) Slot.unset).toArray = ls at hl ⊢
  have hl : lv_has ls 1 [(0, .int x0)] := hl
  refine lv_iload_n hx hb dX0_isCost_0 rfl (lv_at hl 0 rfl) ?_
  refine lv_if_lt (tgt := 14) hx hb dX0_isCost_1 (by decide) (fun c1 => ?_) (fun c1 => ?_)
  · refine lv_iconst (v := nI 0) hx hb dX0_isCost_14 (by decide) ?_
    exact W.zret (v := nI 0) hx hb hr rfl (fun t ht hW => ⟨_, rfl, Or.inr ⟨cl_rg_lt (by decide) c1, rfl⟩, ht⟩) (fun _ hq => by cases hq) dX0_isCost_15
  · refine lv_iload_n hx hb dX0_isCost_4 rfl (lv_at hl 0 rfl) ?_
    refine lv_bipush (v := nI 100) hx hb dX0_isCost_5 (by decide) ?_
    refine lv_icmp_gt (tgt := 14) hx hb dX0_isCost_7 (by decide) (fun c2 => ?_) (fun c2 => ?_)
    · refine lv_iconst (v := nI 0) hx hb dX0_isCost_14 (by decide) ?_
      exact W.zret (v := nI 0) hx hb hr rfl (fun t ht hW => ⟨_, rfl, Or.inr ⟨cl_rg_gt (by decide) c2, rfl⟩, ht⟩) (fun _ hq => by cases hq) dX0_isCost_15
    · refine lv_iconst (v := nI 1) hx hb dX0_isCost_10 (by decide) ?_
      refine lv_goto (tgt := 15) hx hb dX0_isCost_11 (by decide) ?_
      exact W.zret (v := nI 1) hx hb hr rfl (fun t ht hW => ⟨_, rfl, Or.inl ⟨cl_rg_of (by decide) c1 (fa_of_nlt c2), rfl⟩, ht⟩) (fun _ hq => by cases hq) dX0_isCost_15
set_option maxHeartbeats 4000000 in
set_option maxRecDepth 100000 in
theorem metX1_bad (l : Launch) (x0 : Int32) : Met l yX1_bad (ws_ yX1_bad cX1_bad 1 (some .boolean)) cl_rm0 (pS [.int x0]) (cw_Si (cl_nay 8 x0)) 0 0 cw_no := by
  refine Met.ofW (cc := cX1_bad) (maxL := 1) (ret := (some .boolean)) (by decide) rfl ?_
  intro p e s m args below meth c s₁ B hml hv
  obtain ⟨rfl, hv⟩ := hv
  have S : CallFix p m c cX1_bad 1 s _ lw_all RX1 := ⟨B.exec, B.bytes, hml, findClass_of_methodNamed B.named, fun w hw => atoms_spec (ws := ws_ yX1_bad cX1_bad 1 (some .boolean)) B.pre w (List.mem_cons_of_mem _ hw)⟩
  obtain ⟨hx, hb, -, hown, hts⟩ := id S
  have hr := B.returns
  have hlocks := B.notSynchronized
  have hl := lv_entry ([.int x0]) (n := 1) (Nat.le_of_ble_eq_true rfl)
  rw [lg_entry_eq]
  generalize (lg_sl ([.int x0]) ++ List.replicate (1 - (lg_sl ([.int x0])).length) Slot.unset).toArray = ls at hl ⊢
  have hl : lv_has ls 1 [(0, .int x0)] := hl
  refine lv_iload_n hx hb dX1_bad_0 rfl (lv_at hl 0 rfl) ?_
  refine lv_if_lt (tgt := 10) hx hb dX1_bad_1 (by decide) (fun c1 => ?_) (fun c1 => ?_)
  · refine lv_iconst (v := nI 1) hx hb dX1_bad_10 (by decide) ?_
    refine lv_goto (tgt := 15) hx hb dX1_bad_11 (by decide) ?_
    exact W.zret (v := nI 1) hx hb hr rfl (fun t ht hW => ⟨_, rfl, Or.inr ⟨cl_rg_lt (by decide) c1, rfl⟩, ht⟩) (fun _ hq => by cases hq) dX1_bad_15
  · refine lv_iload_n hx hb dX1_bad_4 rfl (lv_at hl 0 rfl) ?_
    refine lv_bipush (v := nI 8) hx hb dX1_bad_5 (by decide) ?_
    refine lv_icmp_le (tgt := 14) hx hb dX1_bad_7 (by decide) (fun c2 => ?_) (fun c2 => ?_)
    · refine lv_iconst (v := nI 0) hx hb dX1_bad_14 (by decide) ?_
      exact W.zret (v := nI 0) hx hb hr rfl (fun t ht hW => ⟨_, rfl, Or.inl ⟨cl_rg_of (by decide) c1 c2, rfl⟩, ht⟩) (fun _ hq => by cases hq) dX1_bad_15
    · refine lv_iconst (v := nI 1) hx hb dX1_bad_10 (by decide) ?_
      refine lv_goto (tgt := 15) hx hb dX1_bad_11 (by decide) ?_
      exact W.zret (v := nI 1) hx hb hr rfl (fun t ht hW => ⟨_, rfl, Or.inr ⟨cl_rg_gt (by decide) (fa_of_nle c2), rfl⟩, ht⟩) (fun _ hq => by cases hq) dX1_bad_15
set_option maxHeartbeats 4000000 in
set_option maxRecDepth 100000 in
theorem metX1_badCost (l : Launch) (x0 : Int32) : Met l yX1_badCost (ws_ yX1_badCost cX1_badCost 1 (some .boolean)) cl_rm0 (pS [.int x0]) (cw_Si (cl_nay 100 x0)) 0 0 cw_no := by
  refine Met.ofW (cc := cX1_badCost) (maxL := 1) (ret := (some .boolean)) (by decide) rfl ?_
  intro p e s m args below meth c s₁ B hml hv
  obtain ⟨rfl, hv⟩ := hv
  have S : CallFix p m c cX1_badCost 1 s _ lw_all RX1 := ⟨B.exec, B.bytes, hml, findClass_of_methodNamed B.named, fun w hw => atoms_spec (ws := ws_ yX1_badCost cX1_badCost 1 (some .boolean)) B.pre w (List.mem_cons_of_mem _ hw)⟩
  obtain ⟨hx, hb, -, hown, hts⟩ := id S
  have hr := B.returns
  have hlocks := B.notSynchronized
  have hl := lv_entry ([.int x0]) (n := 1) (Nat.le_of_ble_eq_true rfl)
  rw [lg_entry_eq]
  generalize (lg_sl ([.int x0]) ++ List.replicate (1 - (lg_sl ([.int x0])).length) Slot.unset).toArray = ls at hl ⊢
  have hl : lv_has ls 1 [(0, .int x0)] := hl
  refine lv_iload_n hx hb dX1_badCost_0 rfl (lv_at hl 0 rfl) ?_
  refine lv_if_lt (tgt := 10) hx hb dX1_badCost_1 (by decide) (fun c1 => ?_) (fun c1 => ?_)
  · refine lv_iconst (v := nI 1) hx hb dX1_badCost_10 (by decide) ?_
    refine lv_goto (tgt := 15) hx hb dX1_badCost_11 (by decide) ?_
    exact W.zret (v := nI 1) hx hb hr rfl (fun t ht hW => ⟨_, rfl, Or.inr ⟨cl_rg_lt (by decide) c1, rfl⟩, ht⟩) (fun _ hq => by cases hq) dX1_badCost_15
  · refine lv_iload_n hx hb dX1_badCost_4 rfl (lv_at hl 0 rfl) ?_
    refine lv_bipush (v := nI 100) hx hb dX1_badCost_5 (by decide) ?_
    refine lv_icmp_le (tgt := 14) hx hb dX1_badCost_7 (by decide) (fun c2 => ?_) (fun c2 => ?_)
    · refine lv_iconst (v := nI 0) hx hb dX1_badCost_14 (by decide) ?_
      exact W.zret (v := nI 0) hx hb hr rfl (fun t ht hW => ⟨_, rfl, Or.inl ⟨cl_rg_of (by decide) c1 c2, rfl⟩, ht⟩) (fun _ hq => by cases hq) dX1_badCost_15
    · refine lv_iconst (v := nI 1) hx hb dX1_badCost_10 (by decide) ?_
      refine lv_goto (tgt := 15) hx hb dX1_badCost_11 (by decide) ?_
      exact W.zret (v := nI 1) hx hb hr rfl (fun t ht hW => ⟨_, rfl, Or.inr ⟨cl_rg_gt (by decide) (fa_of_nle c2), rfl⟩, ht⟩) (fun _ hq => by cases hq) dX1_badCost_15
set_option maxHeartbeats 4000000 in
set_option maxRecDepth 100000 in
theorem metX1_label (l : Launch) (x0 : Int32) (k : Nat) (hk : k < 32) : Met l yX1_label (ws_ yX1_label cX1_label 2 (some .int)) cl_rm0 (pS [.int x0, .int (nI k)]) (cw_Si (fun r => r = nI (if cl_b x0 k then 1 else 0))) 0 0 cw_no := by
  refine Met.ofW (cc := cX1_label) (maxL := 2) (ret := (some .int)) (by decide) rfl ?_
  intro p e s m args below meth c s₁ B hml hv
  obtain ⟨rfl, hv⟩ := hv
  have S : CallFix p m c cX1_label 2 s _ lw_all RX1 := ⟨B.exec, B.bytes, hml, findClass_of_methodNamed B.named, fun w hw => atoms_spec (ws := ws_ yX1_label cX1_label 2 (some .int)) B.pre w (List.mem_cons_of_mem _ hw)⟩
  obtain ⟨hx, hb, -, hown, hts⟩ := id S
  have hr := B.returns
  have hlocks := B.notSynchronized
  have hl := lv_entry ([.int x0, .int (nI k)]) (n := 2) (Nat.le_of_ble_eq_true rfl)
  rw [lg_entry_eq]
  generalize (lg_sl ([.int x0, .int (nI k)]) ++ List.replicate (2 - (lg_sl ([.int x0, .int (nI k)])).length) Slot.unset).toArray = ls at hl ⊢
  have hl : lv_has ls 2 [(0, .int x0), (1, .int (nI k))] := hl
  refine lv_iload_n hx hb dX1_label_0 rfl (lv_at hl 0 rfl) ?_
  refine lv_iload_n hx hb dX1_label_1 rfl (lv_at hl 1 rfl) ?_
  refine lv_ishr hx hb dX1_label_2 ?_
  refine lv_iconst (v := nI 1) hx hb dX1_label_3 (by decide) ?_
  refine lv_iand hx hb dX1_label_4 ?_
  exact W.iret (v := ((x0) >>> ((nI k) &&& 31)) &&& (nI 1)) hx hb hr (fun t ht hW => ⟨_, rfl, cw_ssh x0 hk, ht⟩) (fun _ hq => by cases hq) dX1_label_5
end
section
/-! X.search -/
set_option maxHeartbeats 4000000 in
set_option maxRecDepth 100000 in
theorem sr_1 {p : Program} {l : Launch} {e : Env} {R : Room} {s : State} {m : MethodId} {args : Array Value} {below : List Frame} {meth : Method} {c : Code} {cells slots : Nat} {Q : State → Prop} {dC : Nat → ClassId} {dI : Nat → Nat → Nat} {dA dZ : ClassId} {h : Nat} {q : Nat → Nat} {g : Nat → Nat → Nat} {st : Nat} {f7 f10 : Nat → Int32} {qe : Int32} (S : CallFix p m c cX0_search 4 s args lw_all RX0) (hK : va_K (dC, dI) vwCl (tX dA dZ) s) (hD : dX h q)
    (kk : ∀ (f8 : Nat → Int32) (H : Heap) (locs : List Loc) (ls : Array Slot), (∀ x, x < 11 → f8 x = -1) → va_P (dC, dI) vwCl (wX dA dZ h q g (f7, f8, qe, f10)) H → va_S (aX h q) s.heap H locs → lv_has ls 4 [(0, .ref h), (1, .int (nI st))] → W p l e R s m args below meth c H locs cells slots Q (F0 m 21 ls [])) :
    ∀ n i : Nat, i ≤ 11 → 12 ≤ i + n → ∀ (f8 : Nat → Int32) (H : Heap) (locs : List Loc) (ls : Array Slot), (∀ x, x < i → f8 x = -1) → va_P (dC, dI) vwCl (wX dA dZ h q g (f7, f8, qe, f10)) H → va_S (aX h q) s.heap H locs → lv_has ls 4 [(0, .ref h), (1, .int (nI st)), (2, .int (nI i))] → W p l e R s m args below meth c H locs cells slots Q (F0 m 2 ls []) := by
  obtain ⟨hx, hb, -, hown, hts⟩ := id S
  intro n
  induction n with
  | zero => intro i h1 h2; exact absurd h2 (by omega)
  | succ n ih =>
    intro i h1 h2 f8 H locs ls hf hP hS hl
    refine lv_iload_n hx hb dX0_search_2 rfl (lv_at hl 2 rfl) ?_
    refine lv_bipush (v := nI 11) hx hb dX0_search_3 (by decide) ?_
    refine xw_icmp_ge (tgt := 21) hx hb (by omega) (by omega) dX0_search_5 (by decide) (fun c1 => ?_) (fun c1 => ?_)
    · exact kk f8 H locs ls (fun x hx => hf x (by omega)) hP hS (lv_sub hl [0, 1] rfl)
    · refine lv_aload_n hx hb dX0_search_8 rfl (lv_at hl 0 rfl) ?_
      refine va_get (D := (dC, dI)) (ci := 0) (v := .ref (q 8)) (C := RX0) (T := TX0) (N := 11) hx hb hts in_X0 hown hK hP 0 rfl rfl 8 (by decide) (hts _ q24) (fun _ h9 => h9) rfl dX0_search_9 ?_
      refine lv_iload_n hx hb dX0_search_12 rfl (lv_at hl 2 rfl) ?_
      refine lv_iconst (v := -1) hx hb dX0_search_13 (by decide) ?_
      refine xw_iast hx hb hK hP (hD _ _ _ _) hS 9 0 rfl rfl (i) (by omega) (by decide) dX0_search_14 (fun H locs hP hS => ?_)
      have hP : va_P (dC, dI) vwCl (wX dA dZ h q g (f7, (upd f8 (i) (-1)), qe, f10)) H := hP
      refine lv_iinc (v := nI (i + 1)) (lv' := [(2, .int (nI (i + 1))), (0, .ref h), (1, .int (nI st))]) hx hb dX0_search_15 hl (k := 2) rfl (cw_i1 _) (by decide) rfl (fun ls hl => ?_)
      refine lv_goto (tgt := 2) hx hb dX0_search_18 (by decide) ?_
      exact ih (i + 1) (by omega) (by omega) _ H locs ls (fun x hx => by
        by_cases hxi : x = i
        · rw [hxi, pk_us]
        · rw [pk_un hxi]; exact hf x (by omega)) hP hS (lv_sub hl [1, 2, 0] rfl)
set_option maxHeartbeats 4000000 in
set_option maxRecDepth 100000 in
theorem sr_3 {p : Program} {l : Launch} {e : Env} {R : Room} {s : State} {m : MethodId} {args : Array Value} {below : List Frame} {meth : Method} {c : Code} {cells slots : Nat} {Q : State → Prop} {dC : Nat → ClassId} {dI : Nat → Nat → Nat} {dA dZ : ClassId} {h : Nat} {q : Nat → Nat} {g : Nat → Nat → Nat} {st k : Nat} {f7 : Nat → Int32} (S : CallFix p m c cX0_search 4 s args lw_all RX0) (hK : va_K (dC, dI) vwCl (tX dA dZ) s) (hD : dX h q) (hk11 : k < 11)
    (kk : ∀ (f8 : Nat → Int32) (qn : Nat) (f10 : Nat → Int32) (H : Heap) (locs : List Loc) (ls : Array Slot), cl_Bfs f7 st k 11 f8 qn f10 → k < qn → va_P (dC, dI) vwCl (wX dA dZ h q g (f7, f8, nI qn, f10)) H → va_S (aX h q) s.heap H locs → lv_has ls 4 [(0, .ref h), (1, .int (nI st)), (2, .int (nI k))] → W p l e R s m args below meth c H locs cells slots Q (F0 m 130 ls [])) :
    ∀ n pp : Nat, pp ≤ 11 → 12 ≤ pp + n → ∀ (f8 : Nat → Int32) (qn : Nat) (f10 : Nat → Int32) (H : Heap) (locs : List Loc) (ls : Array Slot), cl_Bfs f7 st k pp f8 qn f10 → k < qn → va_P (dC, dI) vwCl (wX dA dZ h q g (f7, f8, nI qn, f10)) H → va_S (aX h q) s.heap H locs → lv_has ls 4 [(0, .ref h), (1, .int (nI st)), (2, .int (nI k)), (3, .int (nI pp))] → W p l e R s m args below meth c H locs cells slots Q (F0 m 58 ls []) := by
  obtain ⟨hx, hb, -, hown, hts⟩ := id S
  intro n
  induction n with
  | zero => intro pp h1 h2; exact absurd h2 (by omega)
  | succ n ih =>
    intro pp h1 h2 f8 qn f10 H locs ls hB hkq hP hS hl
    refine lv_iload_n hx hb dX0_search_58 rfl (lv_at hl 3 rfl) ?_
    refine lv_bipush (v := nI 11) hx hb dX0_search_59 (by decide) ?_
    refine xw_icmp_ge (tgt := 130) hx hb (by omega) (by omega) dX0_search_61 (by decide) (fun c1 => ?_) (fun c1 => ?_)
    · have e1 : pp = 11 := by omega
      exact kk f8 qn f10 H locs ls (e1 ▸ hB) hkq hP hS (lv_sub hl [0, 1, 2] rfl)
    · obtain ⟨a, ha, ha2⟩ := cl_bfs_q hB hkq
      refine lv_aload_n hx hb dX0_search_64 rfl (lv_at hl 0 rfl) ?_
      refine va_get (D := (dC, dI)) (ci := 0) (v := .ref (q 8)) (C := RX0) (T := TX0) (N := 11) hx hb hts in_X0 hown hK hP 0 rfl rfl 8 (by decide) (hts _ q24) (fun _ h9 => h9) rfl dX0_search_65 ?_
      refine lv_iload_n hx hb dX0_search_68 rfl (lv_at hl 3 rfl) ?_
      refine xw_iald hx hb hK hP 9 0 rfl rfl (pp) (by omega) (by decide) (v := f8 (pp)) (rfl) dX0_search_69 ?_
      refine lv_if_ge (tgt := 124) hx hb dX0_search_70 (by decide) (fun c2 => ?_) (fun c2 => ?_)
      · have hB := cl_bfs_skip hB hkq c1 ha ha2 (Or.inl (fun q => by rw [q] at c2; exact absurd c2 (by decide)))
        refine lv_iinc (v := nI (pp + 1)) (lv' := [(3, .int (nI (pp + 1))), (0, .ref h), (1, .int (nI st)), (2, .int (nI k))]) hx hb dX0_search_124 hl (k := 3) rfl (cw_i1 _) (by decide) rfl (fun ls hl => ?_)
        refine lv_goto (tgt := 58) hx hb dX0_search_127 (by decide) ?_
        exact ih (pp + 1) (by omega) (by omega) f8 qn f10 H locs ls hB hkq hP hS (lv_sub hl [1, 2, 3, 0] rfl)
      · have hr1 : f8 pp = -1 := by
          rcases cl_bfs_rf hB c1 with q | ⟨b, q1, q2⟩
          · exact q
          · exact absurd (by rw [q2]; exact nI_pos' (by omega)) c2
        refine lv_aload_n hx hb dX0_search_73 rfl (lv_at hl 0 rfl) ?_
        refine va_get (D := (dC, dI)) (ci := 0) (v := .ref (q 7)) (C := RX0) (T := TX0) (N := 11) hx hb hts in_X0 hown hK hP 0 rfl rfl 7 (by decide) (hts _ q23) (fun _ h9 => h9) rfl dX0_search_74 ?_
        refine lv_bipush (v := nI 11) hx hb dX0_search_77 (by decide) ?_
        refine lv_aload_n hx hb dX0_search_79 rfl (lv_at hl 0 rfl) ?_
        refine va_get (D := (dC, dI)) (ci := 0) (v := .ref (q 9)) (C := RX0) (T := TX0) (N := 11) hx hb hts in_X0 hown hK hP 0 rfl rfl 10 (by decide) (hts _ q26) (fun _ h9 => h9) rfl dX0_search_80 ?_
        refine lv_iload_n hx hb dX0_search_83 rfl (lv_at hl 2 rfl) ?_
        refine xw_iald hx hb hK hP 10 0 rfl rfl (k) (by omega) (by decide) (v := nI a) (ha2) dX0_search_84 ?_
        refine lv_imul hx hb dX0_search_85 ?_
        refine xw_e (y := nI (11 * a)) (pk_mul _ _) ?_
        refine lv_iload_n hx hb dX0_search_86 rfl (lv_at hl 3 rfl) ?_
        refine lv_iadd hx hb dX0_search_87 ?_
        refine xw_e (y := nI (11 * a + pp)) (nI_add _ _) ?_
        refine xw_iald hx hb hK hP 8 0 rfl rfl (11 * a + pp) (by omega) (by decide) (v := f7 (11 * a + pp)) (rfl) dX0_search_88 ?_
        refine lv_if_le (tgt := 124) hx hb dX0_search_89 (by decide) (fun c3 => ?_) (fun c3 => ?_)
        · have hB := cl_bfs_skip hB hkq c1 ha ha2 (Or.inr (fun q => (fa_of_lt q).2.1 c3))
          refine lv_iinc (v := nI (pp + 1)) (lv' := [(3, .int (nI (pp + 1))), (0, .ref h), (1, .int (nI st)), (2, .int (nI k))]) hx hb dX0_search_124 hl (k := 3) rfl (cw_i1 _) (by decide) rfl (fun ls hl => ?_)
          refine lv_goto (tgt := 58) hx hb dX0_search_127 (by decide) ?_
          exact ih (pp + 1) (by omega) (by omega) f8 qn f10 H locs ls hB hkq hP hS (lv_sub hl [1, 2, 3, 0] rfl)
        · obtain ⟨hq11, hB2⟩ := cl_bfs_add hB hkq c1 ha ha2 hr1 (fa_of_nle c3)
          refine lv_aload_n hx hb dX0_search_92 rfl (lv_at hl 0 rfl) ?_
          refine va_get (D := (dC, dI)) (ci := 0) (v := .ref (q 8)) (C := RX0) (T := TX0) (N := 11) hx hb hts in_X0 hown hK hP 0 rfl rfl 8 (by decide) (hts _ q24) (fun _ h9 => h9) rfl dX0_search_93 ?_
          refine lv_iload_n hx hb dX0_search_96 rfl (lv_at hl 3 rfl) ?_
          refine lv_aload_n hx hb dX0_search_97 rfl (lv_at hl 0 rfl) ?_
          refine va_get (D := (dC, dI)) (ci := 0) (v := .ref (q 9)) (C := RX0) (T := TX0) (N := 11) hx hb hts in_X0 hown hK hP 0 rfl rfl 10 (by decide) (hts _ q26) (fun _ h9 => h9) rfl dX0_search_98 ?_
          refine lv_iload_n hx hb dX0_search_101 rfl (lv_at hl 2 rfl) ?_
          refine xw_iald hx hb hK hP 10 0 rfl rfl (k) (by omega) (by decide) (v := nI a) (ha2) dX0_search_102 ?_
          refine xw_iast hx hb hK hP (hD _ _ _ _) hS 9 0 rfl rfl (pp) (by omega) (by decide) dX0_search_103 (fun H locs hP hS => ?_)
          have hP : va_P (dC, dI) vwCl (wX dA dZ h q g (f7, (upd f8 (pp) (nI a)), nI qn, f10)) H := hP
          refine lv_aload_n hx hb dX0_search_104 rfl (lv_at hl 0 rfl) ?_
          refine va_get (D := (dC, dI)) (ci := 0) (v := .ref (q 9)) (C := RX0) (T := TX0) (N := 11) hx hb hts in_X0 hown hK hP 0 rfl rfl 10 (by decide) (hts _ q26) (fun _ h9 => h9) rfl dX0_search_105 ?_
          refine lv_aload_n hx hb dX0_search_108 rfl (lv_at hl 0 rfl) ?_
          refine va_get (D := (dC, dI)) (ci := 0) (v := .int (nI qn)) (C := RX0) (T := TX0) (N := 11) hx hb hts in_X0 hown hK hP 0 rfl rfl 9 (by decide) (hts _ q25) (fun _ h9 => h9) rfl dX0_search_109 ?_
          refine lv_iload_n hx hb dX0_search_112 rfl (lv_at hl 3 rfl) ?_
          refine xw_iast hx hb hK hP (hD _ _ _ _) hS 10 0 rfl rfl (qn) (by omega) (by decide) dX0_search_113 (fun H locs hP hS => ?_)
          have hP : va_P (dC, dI) vwCl (wX dA dZ h q g (f7, (upd f8 (pp) (nI a)), nI qn, (upd f10 (qn) (nI pp)))) H := hP
          refine lv_aload_n hx hb dX0_search_114 rfl (lv_at hl 0 rfl) ?_
          refine lv_dup hx hb dX0_search_115 rfl ?_
          refine va_get (D := (dC, dI)) (ci := 0) (v := .int (nI qn)) (C := RX0) (T := TX0) (N := 11) hx hb hts in_X0 hown hK hP 0 rfl rfl 9 (by decide) (hts _ q25) (fun _ h9 => h9) rfl dX0_search_116 ?_
          refine lv_iconst (v := nI 1) hx hb dX0_search_119 (by decide) ?_
          refine lv_iadd hx hb dX0_search_120 ?_
          refine xw_e (y := nI (qn + 1)) (nI_add _ _) ?_
          refine va_put (D := (dC, dI)) (ci := 0) (v := .int (nI (qn + 1))) (ty := .int) (C := RX0) (T := TX0) (N := 11) hx hb hts in_X0 tyX0 tyX0_ok nmX0 hown hK hP (hD _ _ _ _) hS 0 rfl rfl 9 (by decide) (hts _ q25) (fun _ h9 => h9) rfl (by decide +kernel) rfl rfl (Nat.le_of_ble_eq_true rfl) dX0_search_121 (fun H locs hP _ hS => ?_)
          have hP : va_P (dC, dI) vwCl (wX dA dZ h q g (f7, (upd f8 (pp) (nI a)), nI (qn + 1), (upd f10 (qn) (nI pp)))) H := hP
          refine lv_iinc (v := nI (pp + 1)) (lv' := [(3, .int (nI (pp + 1))), (0, .ref h), (1, .int (nI st)), (2, .int (nI k))]) hx hb dX0_search_124 hl (k := 3) rfl (cw_i1 _) (by decide) rfl (fun ls hl => ?_)
          refine lv_goto (tgt := 58) hx hb dX0_search_127 (by decide) ?_
          exact ih (pp + 1) (by omega) (by omega) _ (qn + 1) _ H locs ls hB2 (by omega) hP hS (lv_sub hl [1, 2, 3, 0] rfl)
set_option maxHeartbeats 4000000 in
set_option maxRecDepth 100000 in
theorem sr_2 {p : Program} {l : Launch} {e : Env} {R : Room} {s : State} {m : MethodId} {args : Array Value} {below : List Frame} {meth : Method} {c : Code} {cells slots : Nat} {Q : State → Prop} {dC : Nat → ClassId} {dI : Nat → Nat → Nat} {dA dZ : ClassId} {h : Nat} {q : Nat → Nat} {g : Nat → Nat → Nat} {st : Nat} {f7 : Nat → Int32} (S : CallFix p m c cX0_search 4 s args lw_all RX0) (hK : va_K (dC, dI) vwCl (tX dA dZ) s) (hD : dX h q)
    (kk : ∀ (f8 : Nat → Int32) (qe : Int32) (f10 : Nat → Int32) (H : Heap) (locs : List Loc) (ls : Array Slot), cl_Sea f7 st f8 → va_P (dC, dI) vwCl (wX dA dZ h q g (f7, f8, qe, f10)) H → va_S (aX h q) s.heap H locs → W p l e R s m args below meth c H locs cells slots Q (F0 m 136 ls [])) :
    ∀ n k : Nat, k ≤ 11 → 12 ≤ k + n → ∀ (f8 : Nat → Int32) (qn : Nat) (f10 : Nat → Int32) (H : Heap) (locs : List Loc) (ls : Array Slot), cl_Bfs f7 st k 0 f8 qn f10 → va_P (dC, dI) vwCl (wX dA dZ h q g (f7, f8, nI qn, f10)) H → va_S (aX h q) s.heap H locs → lv_has ls 4 [(0, .ref h), (1, .int (nI st)), (2, .int (nI k))] → W p l e R s m args below meth c H locs cells slots Q (F0 m 42 ls []) := by
  obtain ⟨hx, hb, -, hown, hts⟩ := id S
  intro n
  induction n with
  | zero => intro k h1 h2; exact absurd h2 (by omega)
  | succ n ih =>
    intro k h1 h2 f8 qn f10 H locs ls hB hP hS hl
    have hq := cl_bfs_le hB
    refine lv_iload_n hx hb dX0_search_42 rfl (lv_at hl 2 rfl) ?_
    refine lv_aload_n hx hb dX0_search_43 rfl (lv_at hl 0 rfl) ?_
    refine va_get (D := (dC, dI)) (ci := 0) (v := .int (nI qn)) (C := RX0) (T := TX0) (N := 11) hx hb hts in_X0 hown hK hP 0 rfl rfl 9 (by decide) (hts _ q25) (fun _ h9 => h9) rfl dX0_search_44 ?_
    refine xw_icmp_ge (tgt := 136) hx hb (by omega) (by omega) dX0_search_47 (by decide) (fun c1 => ?_) (fun c1 => ?_)
    · exact kk f8 _ f10 H locs ls (cl_bfs_end hB (Or.inl c1)) hP hS
    · refine lv_iload_n hx hb dX0_search_50 rfl (lv_at hl 2 rfl) ?_
      refine lv_bipush (v := nI 11) hx hb dX0_search_51 (by decide) ?_
      refine xw_icmp_ge (tgt := 136) hx hb (by omega) (by omega) dX0_search_53 (by decide) (fun c2 => ?_) (fun c2 => ?_)
      · exact kk f8 _ f10 H locs ls (cl_bfs_end hB (Or.inr c2)) hP hS
      · refine lv_iconst (v := nI 0) hx hb dX0_search_56 (by decide) ?_
        refine lv_istore_n (lv' := [(3, .int (nI 0)), (0, .ref h), (1, .int (nI st)), (2, .int (nI k))]) hx hb dX0_search_57 rfl hl (by decide) rfl (fun ls hl => ?_)
        refine sr_3 S hK hD c2 (fun f8 qn f10 H locs ls hB hkq hP hS hl => ?_) 12 0 (by decide) (by decide) f8 qn f10 H locs ls hB c1 hP hS (lv_sub hl [1, 2, 3, 0] rfl)
        refine lv_iinc (v := nI (k + 1)) (lv' := [(2, .int (nI (k + 1))), (0, .ref h), (1, .int (nI st))]) hx hb dX0_search_130 hl (k := 2) rfl (cw_i1 _) (by decide) rfl (fun ls hl => ?_)
        refine lv_goto (tgt := 42) hx hb dX0_search_133 (by decide) ?_
        exact ih (k + 1) (by omega) (by omega) f8 qn f10 H locs ls (cl_bfs_next hB hkq) hP hS (lv_sub hl [1, 2, 0] rfl)
set_option maxHeartbeats 4000000 in
set_option maxRecDepth 100000 in
/-- search(st): reachedFrom is what a search leaves; the room stays -/
theorem metX0_search (l : Launch) (dC : Nat → ClassId) (dI : Nat → Nat → Nat) (dA dZ : ClassId) (h : Nat) (q : Nat → Nat) (g : Nat → Nat → Nat) (hD : dX h q) (f7 f8 : Nat → Int32) (qe : Int32) (f10 : Nat → Int32) (st : Nat) (hst : st < 11) : Met l yX0_search (ws_ yX0_search cX0_search 4 none) cl_rm0 (pX dC dI dA dZ h q g (f7, f8, qe, f10) [.int (nI st)]) (va_Qv (fun u' : cl_U => u'.1 = f7 ∧ cl_Sea f7 st u'.2.1) (fun u' t => va_P (dC, dI) vwCl (wX dA dZ h q g u') t.heap) (aX h q)) 0 0 (aX h q) := by
  refine Met.ofW (cc := cX0_search) (maxL := 4) (ret := none) (by decide) rfl ?_
  intro p e s m args below meth c s₁ B hml hv
  obtain ⟨rfl, hv⟩ := hv
  have S : CallFix p m c cX0_search 4 s _ lw_all RX0 := ⟨B.exec, B.bytes, hml, findClass_of_methodNamed B.named, fun w hw => atoms_spec (ws := ws_ yX0_search cX0_search 4 none) B.pre w (List.mem_cons_of_mem _ hw)⟩
  obtain ⟨hx, hb, -, hown, hts⟩ := id S
  have hr := B.returns
  have hlocks := B.notSynchronized
  obtain ⟨hP, hK⟩ := hv
  have hS : va_S (aX h q) s.heap s.heap [] := va_S.rf
  have hl := lv_entry ([.ref h, .int (nI st)]) (n := 4) (Nat.le_of_ble_eq_true rfl)
  rw [lg_entry_eq]
  generalize (lg_sl ([.ref h, .int (nI st)]) ++ List.replicate (4 - (lg_sl ([.ref h, .int (nI st)])).length) Slot.unset).toArray = ls at hl ⊢
  have hl : lv_has ls 4 [(0, .ref h), (1, .int (nI st))] := hl
  refine lv_iconst (v := nI 0) hx hb dX0_search_0 (by decide) ?_
  refine lv_istore_n (lv' := [(2, .int (nI 0)), (0, .ref h), (1, .int (nI st))]) hx hb dX0_search_1 rfl hl (by decide) rfl (fun ls hl => ?_)
  refine sr_1 S hK hD (fun f8 H locs ls hf hP hS hl => ?_) 12 0 (by decide) (by decide) f8 s.heap [] ls (fun x hx => absurd hx (Nat.not_lt_zero x)) hP hS (lv_sub hl [1, 2, 0] rfl)
  refine lv_aload_n hx hb dX0_search_21 rfl (lv_at hl 0 rfl) ?_
  refine va_get (D := (dC, dI)) (ci := 0) (v := .ref (q 8)) (C := RX0) (T := TX0) (N := 11) hx hb hts in_X0 hown hK hP 0 rfl rfl 8 (by decide) (hts _ q24) (fun _ h9 => h9) rfl dX0_search_22 ?_
  refine lv_iload_n hx hb dX0_search_25 rfl (lv_at hl 1 rfl) ?_
  refine lv_iload_n hx hb dX0_search_26 rfl (lv_at hl 1 rfl) ?_
  refine xw_iast hx hb hK hP (hD _ _ _ _) hS 9 0 rfl rfl (st) (by omega) (by decide) dX0_search_27 (fun H locs hP hS => ?_)
  have hP : va_P (dC, dI) vwCl (wX dA dZ h q g (f7, (upd f8 (st) (nI st)), qe, f10)) H := hP
  refine lv_aload_n hx hb dX0_search_28 rfl (lv_at hl 0 rfl) ?_
  refine va_get (D := (dC, dI)) (ci := 0) (v := .ref (q 9)) (C := RX0) (T := TX0) (N := 11) hx hb hts in_X0 hown hK hP 0 rfl rfl 10 (by decide) (hts _ q26) (fun _ h9 => h9) rfl dX0_search_29 ?_
  refine lv_iconst (v := nI 0) hx hb dX0_search_32 (by decide) ?_
  refine lv_iload_n hx hb dX0_search_33 rfl (lv_at hl 1 rfl) ?_
  refine xw_iast hx hb hK hP (hD _ _ _ _) hS 10 0 rfl rfl (0) (by omega) (by decide) dX0_search_34 (fun H locs hP hS => ?_)
  have hP : va_P (dC, dI) vwCl (wX dA dZ h q g (f7, (upd f8 (st) (nI st)), qe, (upd f10 (0) (nI st)))) H := hP
  refine lv_aload_n hx hb dX0_search_35 rfl (lv_at hl 0 rfl) ?_
  refine lv_iconst (v := nI 1) hx hb dX0_search_36 (by decide) ?_
  refine va_put (D := (dC, dI)) (ci := 0) (v := .int (nI 1)) (ty := .int) (C := RX0) (T := TX0) (N := 11) hx hb hts in_X0 tyX0 tyX0_ok nmX0 hown hK hP (hD _ _ _ _) hS 0 rfl rfl 9 (by decide) (hts _ q25) (fun _ h9 => h9) rfl (by decide +kernel) rfl rfl (Nat.le_of_ble_eq_true rfl) dX0_search_37 (fun H locs hP _ hS => ?_)
  have hP : va_P (dC, dI) vwCl (wX dA dZ h q g (f7, (upd f8 (st) (nI st)), nI 1, (upd f10 (0) (nI st)))) H := hP
  refine lv_iconst (v := nI 0) hx hb dX0_search_40 (by decide) ?_
  refine lv_istore_n (lv' := [(2, .int (nI 0)), (0, .ref h), (1, .int (nI st))]) hx hb dX0_search_41 rfl hl (by decide) rfl (fun ls hl => ?_)
  refine sr_2 S hK hD (fun f8 qe f10 H locs ls hSe hP hS => ?_) 12 0 (by decide) (by decide) _ 1 _ H locs ls (cl_bfs_0 hst (fun x hx hne => by rw [pk_un hne]; exact hf x hx) pk_us pk_us) hP hS (lv_sub hl [1, 2, 0] rfl)
  exact W.vret hx hb hr (fun t ht hW => ⟨⟨(f7, f8, qe, f10), rfl, ⟨rfl, hSe⟩, by show va_P _ _ _ t.heap; rw [ht]; exact hP⟩, hS.F ht⟩) hS.2.2 dX0_search_136
end
section
/-! X.narrowest -/
set_option maxHeartbeats 4000000 in
set_option maxRecDepth 100000 in
theorem nr_1 {p : Program} {l : Launch} {e : Env} {R : Room} {s : State} {m : MethodId} {args : Array Value} {below : List Frame} {meth : Method} {c : Code} {cells slots : Nat} {Q : State → Prop} {dC : Nat → ClassId} {dI : Nat → Nat → Nat} {dA dZ : ClassId} {h : Nat} {q : Nat → Nat} {g : Nat → Nat → Nat} {f7 f8 f10 : Nat → Int32} {qe : Int32} {H : Heap} {locs : List Loc} {Rn D P : Nat → Nat} (h7 : ∀ k, k < 121 → f7 k = nI (Rn k)) (hRb : ∀ k, k < 121 → Rn k ≤ 2000000) (hT : cl_Tree Rn D P) (h10 : D 10 ≤ 10) (h8 : ∀ x, x < 11 → D x ≤ 10 → f8 x = nI (P x)) (S : CallFix p m c cX0_narrowest 5 s args lw_all RX0) (hK : va_K (dC, dI) vwCl (tX dA dZ) s) (hP : va_P (dC, dI) vwCl (wX dA dZ h q g (f7, f8, qe, f10)) H)
    (kk : ∀ (F : Nat) (ls : Array Slot), cl_Nar Rn D P (D 10) F → lv_has ls 5 [(1, .int (nI F))] → W p l e R s m args below meth c H locs cells slots Q (F0 m 64 ls [])) :
    ∀ n j : Nat, j ≤ D 10 → 11 ≤ j + n → ∀ (F : Nat) (ls : Array Slot), cl_Nar Rn D P j F → lv_has ls 5 [(0, .ref h), (1, .int (nI F)), (2, .int (nI (cl_it P j))), (3, .int (nI j))] → W p l e R s m args below meth c H locs cells slots Q (F0 m 8 ls []) := by
  obtain ⟨hx, hb, -, hown, hts⟩ := id S
  intro n
  induction n with
  | zero => intro j h1 h2; exact absurd h2 (by omega)
  | succ n ih =>
    intro j h1 h2 F ls hN hl
    obtain ⟨hi1, hi2⟩ := cl_it_ok hT h10 j h1
    have hF := hN.1
    refine lv_iload_n hx hb dX0_narrowest_8 rfl (lv_at hl 3 rfl) ?_
    refine lv_bipush (v := nI 11) hx hb dX0_narrowest_9 (by decide) ?_
    refine xw_icmp_ge (tgt := 64) hx hb (by omega) (by omega) dX0_narrowest_11 (by decide) (fun c1 => ?_) (fun c1 => ?_)
    · exact absurd c1 (by omega)
    · refine lv_iload_n hx hb dX0_narrowest_14 rfl (lv_at hl 2 rfl) ?_
      refine lv_bipush (v := nI 9) hx hb dX0_narrowest_15 (by decide) ?_
      refine xw_icmp_eq (tgt := 64) hx hb (by omega) (by omega) dX0_narrowest_17 (by decide) (fun c2 => ?_) (fun c2 => ?_)
      · have ej : j = D 10 := by
          have := hT.1
          rw [c2] at hi2
          omega
        exact kk F ls (ej ▸ hN) (lv_sub hl [1] rfl)
      · have hj : j < D 10 := by
          rcases Nat.lt_or_ge j (D 10) with z | z
          · exact z
          · have ej : j = D 10 := by omega
            exact absurd (ej ▸ cl_it_end hT h10) c2
        obtain ⟨g1, g2, g3, g4, g5, g6, g7⟩ := cl_it_st hT h10 hj
        have hN2 := cl_nar_1 hT h10 hj hN
        have hb2 := hRb (11 * P (cl_it P j) + cl_it P j) (by omega)
        refine lv_aload_n hx hb dX0_narrowest_20 rfl (lv_at hl 0 rfl) ?_
        refine va_get (D := (dC, dI)) (ci := 0) (v := .ref (q 7)) (C := RX0) (T := TX0) (N := 11) hx hb hts in_X0 hown hK hP 0 rfl rfl 7 (by decide) (hts _ q23) (fun _ h9 => h9) rfl dX0_narrowest_21 ?_
        refine lv_bipush (v := nI 11) hx hb dX0_narrowest_24 (by decide) ?_
        refine lv_aload_n hx hb dX0_narrowest_26 rfl (lv_at hl 0 rfl) ?_
        refine va_get (D := (dC, dI)) (ci := 0) (v := .ref (q 8)) (C := RX0) (T := TX0) (N := 11) hx hb hts in_X0 hown hK hP 0 rfl rfl 8 (by decide) (hts _ q24) (fun _ h9 => h9) rfl dX0_narrowest_27 ?_
        refine lv_iload_n hx hb dX0_narrowest_30 rfl (lv_at hl 2 rfl) ?_
        refine xw_iald hx hb hK hP 9 0 rfl rfl (cl_it P j) (by omega) (by decide) (v := nI (P (cl_it P j))) (h8 _ g1 (by omega)) dX0_narrowest_31 ?_
        refine lv_imul hx hb dX0_narrowest_32 ?_
        refine xw_e (y := nI (11 * (P (cl_it P j)))) (pk_mul _ _) ?_
        refine lv_iload_n hx hb dX0_narrowest_33 rfl (lv_at hl 2 rfl) ?_
        refine lv_iadd hx hb dX0_narrowest_34 ?_
        refine xw_e (y := nI (11 * (P (cl_it P j)) + cl_it P j)) (nI_add _ _) ?_
        refine xw_iald hx hb hK hP 8 0 rfl rfl (11 * (P (cl_it P j)) + cl_it P j) (by omega) (by decide) (v := nI (Rn (11 * P (cl_it P j) + cl_it P j))) (h7 _ (by omega)) dX0_narrowest_35 ?_
        refine lv_istore (lv' := [(4, .int (nI (Rn (11 * P (cl_it P j) + cl_it P j)))), (0, .ref h), (1, .int (nI F)), (2, .int (nI (cl_it P j))), (3, .int (nI j))]) hx hb dX0_narrowest_36 hl (by decide) rfl (fun ls hl => ?_)
        refine lv_iload hx hb dX0_narrowest_38 (lv_at hl 0 rfl) ?_
        refine lv_iload_n hx hb dX0_narrowest_40 rfl (lv_at hl 2 rfl) ?_
        refine xw_icmp_ge (tgt := 49) hx hb (by omega) (by omega) dX0_narrowest_41 (by decide) (fun c3 => ?_) (fun c3 => ?_)
        · rw [if_neg (by omega)] at hN2
          refine lv_iload_n hx hb dX0_narrowest_49 rfl (lv_at hl 2 rfl) ?_
          refine lv_istore_n (lv' := [(1, .int (nI F)), (4, .int (nI (Rn (11 * P (cl_it P j) + cl_it P j)))), (0, .ref h), (2, .int (nI (cl_it P j))), (3, .int (nI j))]) hx hb dX0_narrowest_50 rfl hl (by decide) rfl (fun ls hl => ?_)
          refine lv_aload_n hx hb dX0_narrowest_51 rfl (lv_at hl 2 rfl) ?_
          refine va_get (D := (dC, dI)) (ci := 0) (v := .ref (q 8)) (C := RX0) (T := TX0) (N := 11) hx hb hts in_X0 hown hK hP 0 rfl rfl 8 (by decide) (hts _ q24) (fun _ h9 => h9) rfl dX0_narrowest_52 ?_
          refine lv_iload_n hx hb dX0_narrowest_55 rfl (lv_at hl 3 rfl) ?_
          refine xw_iald hx hb hK hP 9 0 rfl rfl (cl_it P j) (by omega) (by decide) (v := nI (P (cl_it P j))) (h8 _ g1 (by omega)) dX0_narrowest_56 ?_
          refine lv_istore_n (lv' := [(2, .int (nI (P (cl_it P j)))), (1, .int (nI F)), (4, .int (nI (Rn (11 * P (cl_it P j) + cl_it P j)))), (0, .ref h), (3, .int (nI j))]) hx hb dX0_narrowest_57 rfl hl (by decide) rfl (fun ls hl => ?_)
          refine lv_iinc (v := nI (j + 1)) (lv' := [(3, .int (nI (j + 1))), (2, .int (nI (P (cl_it P j)))), (1, .int (nI F)), (4, .int (nI (Rn (11 * P (cl_it P j) + cl_it P j)))), (0, .ref h)]) hx hb dX0_narrowest_58 hl (k := 4) rfl (cw_i1 _) (by decide) rfl (fun ls hl => ?_)
          refine lv_goto (tgt := 8) hx hb dX0_narrowest_61 (by decide) ?_
          exact ih (j + 1) hj (by omega) _ ls hN2 (lv_sub hl [4, 2, 1, 0] rfl)
        · rw [if_pos c3] at hN2
          refine lv_iload hx hb dX0_narrowest_44 (lv_at hl 0 rfl) ?_
          refine lv_goto (tgt := 50) hx hb dX0_narrowest_46 (by decide) ?_
          refine lv_istore_n (lv' := [(1, .int (nI (Rn (11 * P (cl_it P j) + cl_it P j)))), (4, .int (nI (Rn (11 * P (cl_it P j) + cl_it P j)))), (0, .ref h), (2, .int (nI (cl_it P j))), (3, .int (nI j))]) hx hb dX0_narrowest_50 rfl hl (by decide) rfl (fun ls hl => ?_)
          refine lv_aload_n hx hb dX0_narrowest_51 rfl (lv_at hl 2 rfl) ?_
          refine va_get (D := (dC, dI)) (ci := 0) (v := .ref (q 8)) (C := RX0) (T := TX0) (N := 11) hx hb hts in_X0 hown hK hP 0 rfl rfl 8 (by decide) (hts _ q24) (fun _ h9 => h9) rfl dX0_narrowest_52 ?_
          refine lv_iload_n hx hb dX0_narrowest_55 rfl (lv_at hl 3 rfl) ?_
          refine xw_iald hx hb hK hP 9 0 rfl rfl (cl_it P j) (by omega) (by decide) (v := nI (P (cl_it P j))) (h8 _ g1 (by omega)) dX0_narrowest_56 ?_
          refine lv_istore_n (lv' := [(2, .int (nI (P (cl_it P j)))), (1, .int (nI (Rn (11 * P (cl_it P j) + cl_it P j)))), (4, .int (nI (Rn (11 * P (cl_it P j) + cl_it P j)))), (0, .ref h), (3, .int (nI j))]) hx hb dX0_narrowest_57 rfl hl (by decide) rfl (fun ls hl => ?_)
          refine lv_iinc (v := nI (j + 1)) (lv' := [(3, .int (nI (j + 1))), (2, .int (nI (P (cl_it P j)))), (1, .int (nI (Rn (11 * P (cl_it P j) + cl_it P j)))), (4, .int (nI (Rn (11 * P (cl_it P j) + cl_it P j)))), (0, .ref h)]) hx hb dX0_narrowest_58 hl (k := 4) rfl (cw_i1 _) (by decide) rfl (fun ls hl => ?_)
          refine lv_goto (tgt := 8) hx hb dX0_narrowest_61 (by decide) ?_
          exact ih (j + 1) hj (by omega) _ ls hN2 (lv_sub hl [4, 2, 1, 0] rfl)
set_option maxHeartbeats 4000000 in
set_option maxRecDepth 100000 in
/-- narrowest(): the least room on the way that the search found -/
theorem metX0_narrowest (l : Launch) (dC : Nat → ClassId) (dI : Nat → Nat → Nat) (dA dZ : ClassId) (h : Nat) (q : Nat → Nat) (g : Nat → Nat → Nat) (f7 f8 : Nat → Int32) (qe : Int32) (f10 : Nat → Int32) {Rn D P : Nat → Nat} (h7 : ∀ k, k < 121 → f7 k = nI (Rn k)) (hRb : ∀ k, k < 121 → Rn k ≤ 2000000) (hT : cl_Tree Rn D P) (h10 : D 10 ≤ 10) (h8 : ∀ x, x < 11 → D x ≤ 10 → f8 x = nI (P x)) : Met l yX0_narrowest (ws_ yX0_narrowest cX0_narrowest 5 (some .int)) cl_rm0 (pX dC dI dA dZ h q g (f7, f8, qe, f10) []) (cw_Si (fun r => ∃ F, r = nI F ∧ cl_Nar Rn D P (D 10) F)) 0 0 cw_no := by
  refine Met.ofW (cc := cX0_narrowest) (maxL := 5) (ret := (some .int)) (by decide) rfl ?_
  intro p e s m args below meth c s₁ B hml hv
  obtain ⟨rfl, hv⟩ := hv
  have S : CallFix p m c cX0_narrowest 5 s _ lw_all RX0 := ⟨B.exec, B.bytes, hml, findClass_of_methodNamed B.named, fun w hw => atoms_spec (ws := ws_ yX0_narrowest cX0_narrowest 5 (some .int)) B.pre w (List.mem_cons_of_mem _ hw)⟩
  obtain ⟨hx, hb, -, hown, hts⟩ := id S
  have hr := B.returns
  have hlocks := B.notSynchronized
  obtain ⟨hP, hK⟩ := hv
  have hl := lv_entry ([.ref h]) (n := 5) (Nat.le_of_ble_eq_true rfl)
  rw [lg_entry_eq]
  generalize (lg_sl ([.ref h]) ++ List.replicate (5 - (lg_sl ([.ref h])).length) Slot.unset).toArray = ls at hl ⊢
  have hl : lv_has ls 5 [(0, .ref h)] := hl
  refine lv_ldc (own := RX0) (v := 1000000) hx hb hown (hts _ q90) dX0_narrowest_0 ?_
  refine xw_e (y := nI 1000000) rfl ?_
  refine lv_istore_n (lv' := [(1, .int (nI 1000000)), (0, .ref h)]) hx hb dX0_narrowest_2 rfl hl (by decide) rfl (fun ls hl => ?_)
  refine lv_bipush (v := nI 10) hx hb dX0_narrowest_3 (by decide) ?_
  refine lv_istore_n (lv' := [(2, .int (nI 10)), (1, .int (nI 1000000)), (0, .ref h)]) hx hb dX0_narrowest_5 rfl hl (by decide) rfl (fun ls hl => ?_)
  refine lv_iconst (v := nI 0) hx hb dX0_narrowest_6 (by decide) ?_
  refine lv_istore_n (lv' := [(3, .int (nI 0)), (2, .int (nI 10)), (1, .int (nI 1000000)), (0, .ref h)]) hx hb dX0_narrowest_7 rfl hl (by decide) rfl (fun ls hl => ?_)
  refine nr_1 h7 hRb hT h10 h8 S hK hP (fun F ls hN hl => ?_) 11 0 (Nat.zero_le _) (by decide) 1000000 ls (cl_nar_0 Rn D P) (lv_sub hl [3, 2, 1, 0] rfl)
  refine lv_iload_n hx hb dX0_narrowest_64 rfl (lv_at hl 0 rfl) ?_
  exact W.iret (v := nI F) hx hb hr (fun t ht hW => ⟨_, rfl, ⟨F, rfl, hN⟩, ht⟩) (fun _ hq => by cases hq) dX0_narrowest_65
end
section
/-! X.fill -/
abbrev cl_rmF : Room := { frames := 1, cells := 0, slots := 0, locals := 24 }
theorem cl_updR {f7 : Nat → Int32} {Rn : Nat → Nat} (h7 : ∀ k, k < 121 → f7 k = nI (Rn k)) (i v : Nat) : ∀ k, k < 121 → upd f7 i (nI v) k = nI (cl_up Rn i v k) := by
  intro k hk
  unfold upd cl_up
  split
  · rfl
  · exact h7 k hk
set_option maxHeartbeats 4000000 in
set_option maxRecDepth 100000 in
theorem fl_1 {p : Program} {l : Launch} {e : Env} {R : Room} {s : State} {m : MethodId} {args : Array Value} {below : List Frame} {meth : Method} {c : Code} {cells slots : Nat} {Q : State → Prop} {dC : Nat → ClassId} {dI : Nat → Nat → Nat} {dA dZ : ClassId} {h : Nat} {q : Nat → Nat} {g : Nat → Nat → Nat} {f8 f10 : Nat → Int32} {qe : Int32} {tot w : Nat} {R0 D P d : Nat → Nat} {F y : Nat} (hT : cl_Tree R0 D P) (h10 : D 10 ≤ 10) (h8 : ∀ x, x < 11 → D x ≤ 10 → f8 x = nI (P x)) (hd : cl_Pot R0 d) (he : d 10 = D 10) (hF : ∀ i, i < D 10 → F ≤ R0 (11 * P (cl_it P i) + cl_it P i)) (hy : y < D 10) (hyF : R0 (11 * P (cl_it P y) + cl_it P y) = F) (S : CallFix p m c cX0_fill 7 s args lw_all RX0) (hK : va_K (dC, dI) vwCl (tX dA dZ) s) (hD : dX h q)
    (kk : ∀ (f7 : Nat → Int32) (Rn : Nat → Nat) (H : Heap) (locs : List Loc) (ls : Array Slot), (∀ k, k < 121 → f7 k = nI (Rn k)) → cl_Aug R0 D P d F y (D 10) Rn → va_P (dC, dI) vwCl (wX dA dZ h q g (f7, f8, qe, f10)) H → va_S (aX h q) s.heap H locs → lv_has ls 7 [(0, .ref h), (1, .int (nI tot)), (2, .int (nI w)), (3, .int (nI F))] → W p l e R s m args below meth c H locs cells slots Q (F0 m 106 ls [])) :
    ∀ n j : Nat, j ≤ D 10 → 11 ≤ j + n → ∀ (f7 : Nat → Int32) (Rn : Nat → Nat) (H : Heap) (locs : List Loc) (ls : Array Slot), (∀ k, k < 121 → f7 k = nI (Rn k)) → cl_Aug R0 D P d F y j Rn → va_P (dC, dI) vwCl (wX dA dZ h q g (f7, f8, qe, f10)) H → va_S (aX h q) s.heap H locs → lv_has ls 7 [(0, .ref h), (1, .int (nI tot)), (2, .int (nI w)), (3, .int (nI F)), (4, .int (nI (cl_it P j))), (5, .int (nI j))] → W p l e R s m args below meth c H locs cells slots Q (F0 m 39 ls []) := by
  obtain ⟨hx, hb, -, hown, hts⟩ := id S
  intro n
  induction n with
  | zero => intro j h1 h2; exact absurd h2 (by omega)
  | succ n ih =>
    intro j h1 h2 f7 Rn H locs ls h7 hA hP hS hl
    obtain ⟨hi1, hi2⟩ := cl_it_ok hT h10 j h1
    refine lv_iload hx hb dX0_fill_39 (lv_at hl 5 rfl) ?_
    refine lv_bipush (v := nI 11) hx hb dX0_fill_41 (by decide) ?_
    refine xw_icmp_ge (tgt := 106) hx hb (by omega) (by omega) dX0_fill_43 (by decide) (fun c1 => ?_) (fun c1 => ?_)
    · exact absurd c1 (by omega)
    · refine lv_iload hx hb dX0_fill_46 (lv_at hl 4 rfl) ?_
      refine lv_bipush (v := nI 9) hx hb dX0_fill_48 (by decide) ?_
      refine xw_icmp_eq (tgt := 106) hx hb (by omega) (by omega) dX0_fill_50 (by decide) (fun c2 => ?_) (fun c2 => ?_)
      · have ej : j = D 10 := by
          have := hT.1
          rw [c2] at hi2
          omega
        exact kk f7 Rn H locs ls h7 (ej ▸ hA) hP hS (lv_sub hl [0, 1, 2, 3] rfl)
      · have hj : j < D 10 := by
          rcases Nat.lt_or_ge j (D 10) with z | z
          · exact z
          · have ej : j = D 10 := by omega
            exact absurd (ej ▸ cl_it_end hT h10) c2
        obtain ⟨g1, g2, g3, g4, g5, g6, g7⟩ := cl_it_st hT h10 hj
        obtain ⟨hA2, hFR⟩ := cl_aug_1 hT h10 hd he hF hy hyF hj hA
        refine lv_aload_n hx hb dX0_fill_53 rfl (lv_at hl 0 rfl) ?_
        refine va_get (D := (dC, dI)) (ci := 0) (v := .ref (q 8)) (C := RX0) (T := TX0) (N := 11) hx hb hts in_X0 hown hK hP 0 rfl rfl 8 (by decide) (hts _ q24) (fun _ h9 => h9) rfl dX0_fill_54 ?_
        refine lv_iload hx hb dX0_fill_57 (lv_at hl 4 rfl) ?_
        refine xw_iald hx hb hK hP 9 0 rfl rfl (cl_it P j) (by omega) (by decide) (v := nI (P (cl_it P j))) (h8 _ g1 (by omega)) dX0_fill_59 ?_
        refine lv_istore (lv' := [(6, .int (nI (P (cl_it P j)))), (0, .ref h), (1, .int (nI tot)), (2, .int (nI w)), (3, .int (nI F)), (4, .int (nI (cl_it P j))), (5, .int (nI j))]) hx hb dX0_fill_60 hl (by decide) rfl (fun ls hl => ?_)
        refine lv_aload_n hx hb dX0_fill_62 rfl (lv_at hl 1 rfl) ?_
        refine va_get (D := (dC, dI)) (ci := 0) (v := .ref (q 7)) (C := RX0) (T := TX0) (N := 11) hx hb hts in_X0 hown hK hP 0 rfl rfl 7 (by decide) (hts _ q23) (fun _ h9 => h9) rfl dX0_fill_63 ?_
        refine lv_bipush (v := nI 11) hx hb dX0_fill_66 (by decide) ?_
        refine lv_iload hx hb dX0_fill_68 (lv_at hl 0 rfl) ?_
        refine lv_imul hx hb dX0_fill_70 ?_
        refine xw_e (y := nI (11 * (P (cl_it P j)))) (pk_mul _ _) ?_
        refine lv_iload hx hb dX0_fill_71 (lv_at hl 5 rfl) ?_
        refine lv_iadd hx hb dX0_fill_73 ?_
        refine xw_e (y := nI (11 * (P (cl_it P j)) + cl_it P j)) (nI_add _ _) ?_
        refine lv_dup2_11 hx hb dX0_fill_74 rfl rfl ?_
        refine xw_iald hx hb hK hP 8 0 rfl rfl (11 * (P (cl_it P j)) + cl_it P j) (by omega) (by decide) (v := nI (Rn (11 * P (cl_it P j) + cl_it P j))) (h7 _ (by omega)) dX0_fill_75 ?_
        refine lv_iload_n hx hb dX0_fill_76 rfl (lv_at hl 4 rfl) ?_
        refine lv_isub hx hb dX0_fill_77 ?_
        refine xw_e (y := nI (Rn (11 * P (cl_it P j) + cl_it P j) - F)) (pk_sub hFR) ?_
        refine xw_iast hx hb hK hP (hD _ _ _ _) hS 8 0 rfl rfl (11 * (P (cl_it P j)) + cl_it P j) (by omega) (by decide) dX0_fill_78 (fun H locs hP hS => ?_)
        have hP : va_P (dC, dI) vwCl (wX dA dZ h q g ((upd f7 (11 * (P (cl_it P j)) + cl_it P j) (nI (Rn (11 * P (cl_it P j) + cl_it P j) - F))), f8, qe, f10)) H := hP
        have h7b := cl_updR h7 (11 * P (cl_it P j) + cl_it P j) (Rn (11 * P (cl_it P j) + cl_it P j) - F)
        refine lv_aload_n hx hb dX0_fill_79 rfl (lv_at hl 1 rfl) ?_
        refine va_get (D := (dC, dI)) (ci := 0) (v := .ref (q 7)) (C := RX0) (T := TX0) (N := 11) hx hb hts in_X0 hown hK hP 0 rfl rfl 7 (by decide) (hts _ q23) (fun _ h9 => h9) rfl dX0_fill_80 ?_
        refine lv_bipush (v := nI 11) hx hb dX0_fill_83 (by decide) ?_
        refine lv_iload hx hb dX0_fill_85 (lv_at hl 5 rfl) ?_
        refine lv_imul hx hb dX0_fill_87 ?_
        refine xw_e (y := nI (11 * (cl_it P j))) (pk_mul _ _) ?_
        refine lv_iload hx hb dX0_fill_88 (lv_at hl 0 rfl) ?_
        refine lv_iadd hx hb dX0_fill_90 ?_
        refine xw_e (y := nI (11 * (cl_it P j) + P (cl_it P j))) (nI_add _ _) ?_
        refine lv_dup2_11 hx hb dX0_fill_91 rfl rfl ?_
        refine xw_iald hx hb hK hP 8 0 rfl rfl (11 * (cl_it P j) + P (cl_it P j)) (by omega) (by decide) (v := nI (cl_up Rn (11 * P (cl_it P j) + cl_it P j) (Rn (11 * P (cl_it P j) + cl_it P j) - F) (11 * cl_it P j + P (cl_it P j)))) (h7b _ (by omega)) dX0_fill_92 ?_
        refine lv_iload_n hx hb dX0_fill_93 rfl (lv_at hl 4 rfl) ?_
        refine lv_iadd hx hb dX0_fill_94 ?_
        refine xw_e (y := nI (cl_up Rn (11 * P (cl_it P j) + cl_it P j) (Rn (11 * P (cl_it P j) + cl_it P j) - F) (11 * cl_it P j + P (cl_it P j)) + F)) (nI_add _ _) ?_
        refine xw_iast hx hb hK hP (hD _ _ _ _) hS 8 0 rfl rfl (11 * (cl_it P j) + P (cl_it P j)) (by omega) (by decide) dX0_fill_95 (fun H locs hP hS => ?_)
        have hP : va_P (dC, dI) vwCl (wX dA dZ h q g ((upd (upd f7 (11 * (P (cl_it P j)) + cl_it P j) (nI (Rn (11 * P (cl_it P j) + cl_it P j) - F))) (11 * (cl_it P j) + P (cl_it P j)) (nI (cl_up Rn (11 * P (cl_it P j) + cl_it P j) (Rn (11 * P (cl_it P j) + cl_it P j) - F) (11 * cl_it P j + P (cl_it P j)) + F))), f8, qe, f10)) H := hP
        refine lv_iload hx hb dX0_fill_96 (lv_at hl 0 rfl) ?_
        refine lv_istore (lv' := [(4, .int (nI (P (cl_it P j)))), (6, .int (nI (P (cl_it P j)))), (0, .ref h), (1, .int (nI tot)), (2, .int (nI w)), (3, .int (nI F)), (5, .int (nI j))]) hx hb dX0_fill_98 hl (by decide) rfl (fun ls hl => ?_)
        refine lv_iinc (v := nI (j + 1)) (lv' := [(5, .int (nI (j + 1))), (4, .int (nI (P (cl_it P j)))), (6, .int (nI (P (cl_it P j)))), (0, .ref h), (1, .int (nI tot)), (2, .int (nI w)), (3, .int (nI F))]) hx hb dX0_fill_100 hl (k := 6) rfl (cw_i1 _) (by decide) rfl (fun ls hl => ?_)
        refine lv_goto (tgt := 39) hx hb dX0_fill_103 (by decide) ?_
        exact ih (j + 1) hj (by omega) _ _ H locs ls (cl_updR h7b (11 * cl_it P j + P (cl_it P j)) (cl_up Rn (11 * P (cl_it P j) + cl_it P j) (Rn (11 * P (cl_it P j) + cl_it P j) - F) (11 * cl_it P j + P (cl_it P j)) + F)) hA2 hP hS (lv_sub hl [3, 4, 5, 6, 1, 0] rfl)
set_option maxHeartbeats 4000000 in
set_option maxRecDepth 100000 in
theorem fl_2 {p : Program} {l : Launch} {e : Env} {s : State} {m : MethodId} {args : Array Value} {below : List Frame} {meth : Method} {c : Code} {Q : State → Prop} {dC : Nat → ClassId} {dI : Nat → Nat → Nat} {dA dZ : ClassId} {h : Nat} {q : Nat → Nat} {g : Nat → Nat → Nat} {C : Nat → Nat} (S : CallFix p m c cX0_fill 7 s args lw_all RX0) (hK : va_K (dC, dI) vwCl (tX dA dZ) s) (hD : dX h q)
    (kk : ∀ (tot : Nat) (Rn : Nat → Nat) (f7 f8 : Nat → Int32) (qe : Int32) (f10 : Nat → Int32) (H : Heap) (locs : List Loc) (ls : Array Slot), (∀ k, k < 121 → f7 k = nI (Rn k)) → cl_Done C tot Rn → va_P (dC, dI) vwCl (wX dA dZ h q g (f7, f8, qe, f10)) H → va_S (aX h q) s.heap H locs → lv_has ls 7 [(1, .int (nI tot))] → W p l e (headSpec (ws_ yX0_fill cX0_fill 7 (some .int)) cl_rmF).room s m args below meth c H locs 0 0 Q (F0 m 122 ls [])) :
    ∀ n w : Nat, w ≤ 1000 → 1001 ≤ w + n → ∀ (tot : Nat) (Rn : Nat → Nat) (f7 f8 : Nat → Int32) (qe : Int32) (f10 : Nat → Int32) (H : Heap) (locs : List Loc) (ls : Array Slot), (∀ k, k < 121 → f7 k = nI (Rn k)) → cl_Fill C w tot Rn → cl_Sea f7 9 f8 → va_P (dC, dI) vwCl (wX dA dZ h q g (f7, f8, qe, f10)) H → va_S (aX h q) s.heap H locs → lv_has ls 7 [(0, .ref h), (1, .int (nI tot)), (2, .int (nI w))] → W p l e (headSpec (ws_ yX0_fill cX0_fill 7 (some .int)) cl_rmF).room s m args below meth c H locs 0 0 Q (F0 m 10 ls []) := by
  obtain ⟨hx, hb, -, hown, hts⟩ := id S
  intro n
  induction n with
  | zero => intro w h1 h2; exact absurd h2 (by omega)
  | succ n ih =>
    intro w h1 h2 tot Rn f7 f8 qe f10 H locs ls h7 hFi hSe hP hS hl
    have hRb : ∀ k, k < 121 → Rn k ≤ 2000000 := fun k hk => hFi.le hk
    obtain ⟨D, P, hT, h8⟩ := cl_sea_tree hSe h7 hRb
    have hdone : D 10 = 12 → cl_Done C tot Rn := fun z => cl_done hFi hT z
    refine lv_iload_n hx hb dX0_fill_10 rfl (lv_at hl 2 rfl) ?_
    refine lv_sipush (v := nI 1000) hx hb dX0_fill_11 (by decide) ?_
    refine xw_icmp_ge (tgt := 122) hx hb (by omega) (by omega) dX0_fill_14 (by decide) (fun c1 => ?_) (fun c1 => ?_)
    · refine kk tot Rn f7 f8 qe f10 H locs ls h7 (hdone ?_) hP hS (lv_sub hl [1] rfl)
      rcases h8 10 (by decide) with z | ⟨z, -⟩
      · exact z.1
      · obtain ⟨d, -, -, -, hw⟩ := cl_fill_pre hFi hT z
        omega
    · refine lv_aload_n hx hb dX0_fill_17 rfl (lv_at hl 0 rfl) ?_
      refine va_get (D := (dC, dI)) (ci := 0) (v := .ref (q 8)) (C := RX0) (T := TX0) (N := 11) hx hb hts in_X0 hown hK hP 0 rfl rfl 8 (by decide) (hts _ q24) (fun _ h9 => h9) rfl dX0_fill_18 ?_
      refine lv_bipush (v := nI 10) hx hb dX0_fill_21 (by decide) ?_
      refine xw_iald hx hb hK hP 9 0 rfl rfl (10) (by omega) (by decide) (v := f8 (10)) (rfl) dX0_fill_23 ?_
      refine lv_if_lt (tgt := 122) hx hb dX0_fill_24 (by decide) (fun c2 => ?_) (fun c2 => ?_)
      · refine kk tot Rn f7 f8 qe f10 H locs ls h7 (hdone ?_) hP hS (lv_sub hl [1] rfl)
        rcases h8 10 (by decide) with z | ⟨-, z, z2⟩
        · exact z.1
        · rw [z] at c2
          exact absurd c2 (nI_pos (by omega))
      · have h10 : D 10 ≤ 10 := by
          rcases h8 10 (by decide) with z | ⟨z, -⟩
          · rw [z.2] at c2
            exact absurd (by decide) c2
          · exact z
        have h8b : ∀ x, x < 11 → D x ≤ 10 → f8 x = nI (P x) := fun x hx hx2 => by
          rcases h8 x hx with z | ⟨-, z, -⟩
          · omega
          · exact z
        obtain ⟨d, hd, he, hwT, hw⟩ := cl_fill_pre hFi hT h10
        refine lv_aload_n hx hb dX0_fill_27 rfl (lv_at hl 0 rfl) ?_
        refine cx_r (As := []) (rest := []) S (metX0_narrowest l dC dI dA dZ h q g f7 f8 qe f10 h7 hRb hT h10 h8b) (cwV 0 hts (lw_V q86 q88 qs3 q6 q89) rfl rfl rfl (by decide +kernel) ⟨Nat.le_of_ble_eq_true rfl, Nat.le_of_ble_eq_true rfl⟩) hK hP rfl hl.1 rfl (Nat.le_of_ble_eq_true rfl) dX0_fill_28 ⟨Nat.zero_le _, Nat.zero_le _⟩ (fun r hr2 => ?_)
        obtain ⟨F, rfl, hN⟩ := hr2
        obtain ⟨y, hy, hyF⟩ := cl_nar_sat hFi hT h10 hN
        refine lv_istore_n (lv' := [(3, .int (nI F)), (0, .ref h), (1, .int (nI tot)), (2, .int (nI w))]) hx hb dX0_fill_31 rfl hl (by decide) rfl (fun ls hl => ?_)
        refine lv_bipush (v := nI 10) hx hb dX0_fill_32 (by decide) ?_
        refine lv_istore (lv' := [(4, .int (nI 10)), (3, .int (nI F)), (0, .ref h), (1, .int (nI tot)), (2, .int (nI w))]) hx hb dX0_fill_34 hl (by decide) rfl (fun ls hl => ?_)
        refine lv_iconst (v := nI 0) hx hb dX0_fill_36 (by decide) ?_
        refine lv_istore (lv' := [(5, .int (nI 0)), (4, .int (nI 10)), (3, .int (nI F)), (0, .ref h), (1, .int (nI tot)), (2, .int (nI w))]) hx hb dX0_fill_37 hl (by decide) rfl (fun ls hl => ?_)
        refine fl_1 hT h10 h8b hd he hN.2.2.1 hy hyF S hK hD (fun f7 Rn2 H locs ls h7 hA hP hS hl => ?_) 11 0 (Nat.zero_le _) (by decide) f7 Rn H locs ls h7 (cl_aug_0 hT h10 hy) hP hS (lv_sub hl [3, 4, 5, 2, 1, 0] rfl)
        have hFi2 := cl_fill_1 hFi hT h10 hd he hwT hN hy hyF hA
        refine lv_iload_n hx hb dX0_fill_106 rfl (lv_at hl 1 rfl) ?_
        refine lv_iload_n hx hb dX0_fill_107 rfl (lv_at hl 3 rfl) ?_
        refine lv_iadd hx hb dX0_fill_108 ?_
        refine xw_e (y := nI (tot + F)) (nI_add _ _) ?_
        refine lv_istore_n (lv' := [(1, .int (nI (tot + F))), (0, .ref h), (2, .int (nI w)), (3, .int (nI F))]) hx hb dX0_fill_109 rfl hl (by decide) rfl (fun ls hl => ?_)
        refine lv_aload_n hx hb dX0_fill_110 rfl (lv_at hl 1 rfl) ?_
        refine lv_bipush (v := nI 9) hx hb dX0_fill_111 (by decide) ?_
        refine cx_v (As := [.int (nI 9)]) (rest := []) S (metX0_search l dC dI dA dZ h q g hD f7 f8 qe f10 9 (by decide)) (cwV 1 hts (lw_V q82 q84 qs2 q6 q85) rfl rfl rfl (by decide +kernel) ⟨Nat.le_of_ble_eq_true rfl, Nat.le_of_ble_eq_true rfl⟩) hK hP hS rfl hl.1 rfl (Nat.le_of_ble_eq_true rfl) dX0_fill_113 ⟨Nat.zero_le _, Nat.zero_le _⟩ (fun u H locs hpo hP hS => ?_)
        obtain ⟨f7u, f8, qe, f10⟩ := u
        obtain ⟨e7, hSe⟩ := hpo
        have hSe : cl_Sea f7 9 f8 := hSe
        rw [show f7u = f7 from e7] at hP
        refine lv_iinc (v := nI (w + 1)) (lv' := [(2, .int (nI (w + 1))), (1, .int (nI (tot + F))), (0, .ref h), (3, .int (nI F))]) hx hb dX0_fill_116 hl (k := 2) rfl (cw_i1 _) (by decide) rfl (fun ls hl => ?_)
        refine lv_goto (tgt := 10) hx hb dX0_fill_119 (by decide) ?_
        exact ih (w + 1) (by omega) (by omega) (tot + F) Rn2 _ f8 qe f10 H locs ls h7 hFi2 hSe hP hS (lv_sub hl [2, 1, 0] rfl)
set_option maxHeartbeats 4000000 in
set_option maxRecDepth 100000 in
/-- fill(): the most that can be sent through the network C -/
theorem metX0_fill (l : Launch) (dC : Nat → ClassId) (dI : Nat → Nat → Nat) (dA dZ : ClassId) (h : Nat) (q : Nat → Nat) (g : Nat → Nat → Nat) (hD : dX h q) (f7 f8 : Nat → Int32) (qe : Int32) (f10 : Nat → Int32) {C : Nat → Nat} (hC : cl_Cap C) (h7 : ∀ k, k < 121 → f7 k = nI (C k)) : Met l yX0_fill (ws_ yX0_fill cX0_fill 7 (some .int)) cl_rmF (pX dC dI dA dZ h q g (f7, f8, qe, f10) []) (va_Qi (fun (r : Int32) (u' : cl_U) => ∃ tot Rn, r = nI tot ∧ cl_Done C tot Rn ∧ ∀ k, k < 121 → u'.1 k = nI (Rn k)) (fun u' t => va_P (dC, dI) vwCl (wX dA dZ h q g u') t.heap) (aX h q)) 0 0 (aX h q) := by
  refine Met.ofW (cc := cX0_fill) (maxL := 7) (ret := (some .int)) (by decide) rfl ?_
  intro p e s m args below meth c s₁ B hml hv
  obtain ⟨rfl, hv⟩ := hv
  have S : CallFix p m c cX0_fill 7 s _ lw_all RX0 := ⟨B.exec, B.bytes, hml, findClass_of_methodNamed B.named, fun w hw => atoms_spec (ws := ws_ yX0_fill cX0_fill 7 (some .int)) B.pre w (List.mem_cons_of_mem _ hw)⟩
  obtain ⟨hx, hb, -, hown, hts⟩ := id S
  have hr := B.returns
  have hlocks := B.notSynchronized
  obtain ⟨hP, hK⟩ := hv
  have hS : va_S (aX h q) s.heap s.heap [] := va_S.rf
  have hl := lv_entry ([.ref h]) (n := 7) (Nat.le_of_ble_eq_true rfl)
  rw [lg_entry_eq]
  generalize (lg_sl ([.ref h]) ++ List.replicate (7 - (lg_sl ([.ref h])).length) Slot.unset).toArray = ls at hl ⊢
  have hl : lv_has ls 7 [(0, .ref h)] := hl
  refine lv_iconst (v := nI 0) hx hb dX0_fill_0 (by decide) ?_
  refine lv_istore_n (lv' := [(1, .int (nI 0)), (0, .ref h)]) hx hb dX0_fill_1 rfl hl (by decide) rfl (fun ls hl => ?_)
  refine lv_aload_n hx hb dX0_fill_2 rfl (lv_at hl 1 rfl) ?_
  refine lv_bipush (v := nI 9) hx hb dX0_fill_3 (by decide) ?_
  refine cx_v (As := [.int (nI 9)]) (rest := []) S (metX0_search l dC dI dA dZ h q g hD f7 f8 qe f10 9 (by decide)) (cwV 1 hts (lw_V q82 q84 qs2 q6 q85) rfl rfl rfl (by decide +kernel) ⟨Nat.le_of_ble_eq_true rfl, Nat.le_of_ble_eq_true rfl⟩) hK hP hS rfl hl.1 rfl (Nat.le_of_ble_eq_true rfl) dX0_fill_5 ⟨Nat.zero_le _, Nat.zero_le _⟩ (fun u H locs hpo hP hS => ?_)
  obtain ⟨f7u, f8, qe, f10⟩ := u
  obtain ⟨e7, hSe⟩ := hpo
  have hSe : cl_Sea f7 9 f8 := hSe
  rw [show f7u = f7 from e7] at hP
  refine lv_iconst (v := nI 0) hx hb dX0_fill_8 (by decide) ?_
  refine lv_istore_n (lv' := [(2, .int (nI 0)), (1, .int (nI 0)), (0, .ref h)]) hx hb dX0_fill_9 rfl hl (by decide) rfl (fun ls hl => ?_)
  refine fl_2 S hK hD (fun tot Rn f7 f8 qe f10 H locs ls h7 hDo hP hS hl => ?_) 1001 0 (by decide) (by decide) 0 C _ f8 qe f10 H locs ls h7 (cl_fill_0 hC) hSe hP hS (lv_sub hl [2, 1, 0] rfl)
  refine lv_iload_n hx hb dX0_fill_122 rfl (lv_at hl 0 rfl) ?_
  exact W.iret (v := nI tot) hx hb hr (fun t ht hW => ⟨⟨_, (f7, f8, qe, f10), rfl, ⟨tot, Rn, rfl, hDo, h7⟩, by show va_P _ _ _ t.heap; rw [ht]; exact hP⟩, hS.F ht⟩) hS.2.2 dX0_fill_123
end
section
/-! X.build, X.force -/
set_option maxHeartbeats 4000000 in
set_option maxRecDepth 100000 in
theorem bl_1 {p : Program} {l : Launch} {e : Env} {R : Room} {s : State} {m : MethodId} {args : Array Value} {below : List Frame} {meth : Method} {c : Code} {cells slots : Nat} {Q : State → Prop} {dC : Nat → ClassId} {dI : Nat → Nat → Nat} {dA dZ : ClassId} {h : Nat} {q : Nat → Nat} {g : Nat → Nat → Nat} {f8 f10 : Nat → Int32} {qe : Int32} (S : CallFix p m c cX0_build 2 s args lw_all RX0) (hK : va_K (dC, dI) vwCl (tX dA dZ) s) (hD : dX h q)
    (kk : ∀ (f7 : Nat → Int32) (H : Heap) (locs : List Loc) (ls : Array Slot), (∀ x, x < 121 → f7 x = nI 0) → va_P (dC, dI) vwCl (wX dA dZ h q g (f7, f8, qe, f10)) H → va_S (aX h q) s.heap H locs → lv_has ls 2 [(0, .ref h)] → W p l e R s m args below meth c H locs cells slots Q (F0 m 21 ls [])) :
    ∀ n i : Nat, i ≤ 121 → 122 ≤ i + n → ∀ (f7 : Nat → Int32) (H : Heap) (locs : List Loc) (ls : Array Slot), (∀ x, x < i → f7 x = nI 0) → va_P (dC, dI) vwCl (wX dA dZ h q g (f7, f8, qe, f10)) H → va_S (aX h q) s.heap H locs → lv_has ls 2 [(0, .ref h), (1, .int (nI i))] → W p l e R s m args below meth c H locs cells slots Q (F0 m 2 ls []) := by
  obtain ⟨hx, hb, -, hown, hts⟩ := id S
  intro n
  induction n with
  | zero => intro i h1 h2; exact absurd h2 (by omega)
  | succ n ih =>
    intro i h1 h2 f7 H locs ls h7 hP hS hl
    refine lv_iload_n hx hb dX0_build_2 rfl (lv_at hl 1 rfl) ?_
    refine lv_bipush (v := nI 121) hx hb dX0_build_3 (by decide) ?_
    refine xw_icmp_ge (tgt := 21) hx hb (by omega) (by omega) dX0_build_5 (by decide) (fun c1 => ?_) (fun c1 => ?_)
    · exact kk f7 H locs ls (fun x hx => h7 x (by omega)) hP hS (lv_sub hl [0] rfl)
    · refine lv_aload_n hx hb dX0_build_8 rfl (lv_at hl 0 rfl) ?_
      refine va_get (D := (dC, dI)) (ci := 0) (v := .ref (q 7)) (C := RX0) (T := TX0) (N := 11) hx hb hts in_X0 hown hK hP 0 rfl rfl 7 (by decide) (hts _ q23) (fun _ h9 => h9) rfl dX0_build_9 ?_
      refine lv_iload_n hx hb dX0_build_12 rfl (lv_at hl 1 rfl) ?_
      refine lv_iconst (v := nI 0) hx hb dX0_build_13 (by decide) ?_
      refine xw_iast hx hb hK hP (hD _ _ _ _) hS 8 0 rfl rfl (i) (by omega) (by decide) dX0_build_14 (fun H locs hP hS => ?_)
      have hP : va_P (dC, dI) vwCl (wX dA dZ h q g ((upd f7 (i) (nI 0)), f8, qe, f10)) H := hP
      refine lv_iinc (v := nI (i + 1)) (lv' := [(1, .int (nI (i + 1))), (0, .ref h)]) hx hb dX0_build_15 hl (k := 1) rfl (cw_i1 _) (by decide) rfl (fun ls hl => ?_)
      refine lv_goto (tgt := 2) hx hb dX0_build_18 (by decide) ?_
      exact ih (i + 1) (by omega) (by omega) _ H locs ls (fun x hx => by
        by_cases hxi : x = i
        · rw [hxi, pk_us]
        · rw [pk_un hxi]; exact h7 x (by omega)) hP hS (lv_sub hl [1, 0] rfl)
set_option maxHeartbeats 4000000 in
set_option maxRecDepth 100000 in
theorem bl_2 {p : Program} {l : Launch} {e : Env} {R : Room} {s : State} {m : MethodId} {args : Array Value} {below : List Frame} {meth : Method} {c : Code} {cells slots : Nat} {Q : State → Prop} {dC : Nat → ClassId} {dI : Nat → Nat → Nat} {dA dZ : ClassId} {h : Nat} {q : Nat → Nat} {g : Nat → Nat → Nat} {f8 f10 : Nat → Int32} {qe : Int32} (S : CallFix p m c cX0_build 2 s args lw_all RX0) (hK : va_K (dC, dI) vwCl (tX dA dZ) s) (hD : dX h q)
    (kk : ∀ (f7 : Nat → Int32) (H : Heap) (locs : List Loc) (ls : Array Slot), (∀ k, k < 121 → f7 k = nI (cl_bP g 9 k)) → va_P (dC, dI) vwCl (wX dA dZ h q g (f7, f8, qe, f10)) H → va_S (aX h q) s.heap H locs → lv_has ls 2 [(0, .ref h)] → W p l e R s m args below meth c H locs cells slots Q (F0 m 68 ls [])) :
    ∀ n i : Nat, i ≤ 9 → 10 ≤ i + n → ∀ (f7 : Nat → Int32) (H : Heap) (locs : List Loc) (ls : Array Slot), (∀ k, k < 121 → f7 k = nI (cl_bP g i k)) → va_P (dC, dI) vwCl (wX dA dZ h q g (f7, f8, qe, f10)) H → va_S (aX h q) s.heap H locs → lv_has ls 2 [(0, .ref h), (1, .int (nI i))] → W p l e R s m args below meth c H locs cells slots Q (F0 m 23 ls []) := by
  obtain ⟨hx, hb, -, hown, hts⟩ := id S
  intro n
  induction n with
  | zero => intro i h1 h2; exact absurd h2 (by omega)
  | succ n ih =>
    intro i h1 h2 f7 H locs ls h7 hP hS hl
    refine lv_iload_n hx hb dX0_build_23 rfl (lv_at hl 1 rfl) ?_
    refine lv_bipush (v := nI 9) hx hb dX0_build_24 (by decide) ?_
    refine xw_icmp_ge (tgt := 68) hx hb (by omega) (by omega) dX0_build_26 (by decide) (fun c1 => ?_) (fun c1 => ?_)
    · have ei : i = 9 := by omega
      exact kk f7 H locs ls (ei ▸ h7) hP hS (lv_sub hl [0] rfl)
    · refine lv_aload_n hx hb dX0_build_29 rfl (lv_at hl 0 rfl) ?_
      refine va_get (D := (dC, dI)) (ci := 0) (v := .ref (q 7)) (C := RX0) (T := TX0) (N := 11) hx hb hts in_X0 hown hK hP 0 rfl rfl 7 (by decide) (hts _ q23) (fun _ h9 => h9) rfl dX0_build_30 ?_
      refine lv_bipush (v := nI 99) hx hb dX0_build_33 (by decide) ?_
      refine lv_iload_n hx hb dX0_build_35 rfl (lv_at hl 1 rfl) ?_
      refine lv_iadd hx hb dX0_build_36 ?_
      refine xw_e (y := nI (99 + i)) (nI_add _ _) ?_
      refine lv_aload_n hx hb dX0_build_37 rfl (lv_at hl 0 rfl) ?_
      refine va_get (D := (dC, dI)) (ci := 0) (v := .ref (q 1)) (C := RX0) (T := TX0) (N := 11) hx hb hts in_X0 hown hK hP 0 rfl rfl 1 (by decide) (hts _ q17) (fun _ h9 => h9) rfl dX0_build_38 ?_
      refine lv_iload_n hx hb dX0_build_41 rfl (lv_at hl 1 rfl) ?_
      refine xw_iald hx hb hK hP 2 0 rfl rfl (i) (by omega) (by decide) (v := nI (g 1 i)) (rfl) dX0_build_42 ?_
      refine xw_iast hx hb hK hP (hD _ _ _ _) hS 8 0 rfl rfl (99 + i) (by omega) (by decide) dX0_build_43 (fun H locs hP hS => ?_)
      have hP : va_P (dC, dI) vwCl (wX dA dZ h q g ((upd f7 (99 + i) (nI (g 1 i))), f8, qe, f10)) H := hP
      refine lv_aload_n hx hb dX0_build_44 rfl (lv_at hl 0 rfl) ?_
      refine va_get (D := (dC, dI)) (ci := 0) (v := .ref (q 7)) (C := RX0) (T := TX0) (N := 11) hx hb hts in_X0 hown hK hP 0 rfl rfl 7 (by decide) (hts _ q23) (fun _ h9 => h9) rfl dX0_build_45 ?_
      refine lv_bipush (v := nI 11) hx hb dX0_build_48 (by decide) ?_
      refine lv_iload_n hx hb dX0_build_50 rfl (lv_at hl 1 rfl) ?_
      refine lv_imul hx hb dX0_build_51 ?_
      refine xw_e (y := nI (11 * i)) (pk_mul _ _) ?_
      refine lv_bipush (v := nI 10) hx hb dX0_build_52 (by decide) ?_
      refine lv_iadd hx hb dX0_build_54 ?_
      refine xw_e (y := nI (11 * i + 10)) (nI_add _ _) ?_
      refine lv_aload_n hx hb dX0_build_55 rfl (lv_at hl 0 rfl) ?_
      refine va_get (D := (dC, dI)) (ci := 0) (v := .ref (q 0)) (C := RX0) (T := TX0) (N := 11) hx hb hts in_X0 hown hK hP 0 rfl rfl 0 (by decide) (hts _ q16) (fun _ h9 => h9) rfl dX0_build_56 ?_
      refine lv_iload_n hx hb dX0_build_59 rfl (lv_at hl 1 rfl) ?_
      refine xw_iald hx hb hK hP 1 0 rfl rfl (i) (by omega) (by decide) (v := nI (g 0 i)) (rfl) dX0_build_60 ?_
      refine xw_iast hx hb hK hP (hD _ _ _ _) hS 8 0 rfl rfl (11 * i + 10) (by omega) (by decide) dX0_build_61 (fun H locs hP hS => ?_)
      have hP : va_P (dC, dI) vwCl (wX dA dZ h q g ((upd (upd f7 (99 + i) (nI (g 1 i))) (11 * i + 10) (nI (g 0 i))), f8, qe, f10)) H := hP
      refine lv_iinc (v := nI (i + 1)) (lv' := [(1, .int (nI (i + 1))), (0, .ref h)]) hx hb dX0_build_62 hl (k := 1) rfl (cw_i1 _) (by decide) rfl (fun ls hl => ?_)
      refine lv_goto (tgt := 23) hx hb dX0_build_65 (by decide) ?_
      exact ih (i + 1) (by omega) (by omega) _ H locs ls (cl_updR (cl_updR h7 (99 + i) (g 1 i)) (11 * i + 10) (g 0 i)) hP hS (lv_sub hl [1, 0] rfl)
set_option maxHeartbeats 4000000 in
set_option maxRecDepth 100000 in
theorem bl_3 {p : Program} {l : Launch} {e : Env} {R : Room} {s : State} {m : MethodId} {args : Array Value} {below : List Frame} {meth : Method} {c : Code} {cells slots : Nat} {Q : State → Prop} {dC : Nat → ClassId} {dI : Nat → Nat → Nat} {dA dZ : ClassId} {h : Nat} {q : Nat → Nat} {g : Nat → Nat → Nat} {f8 f10 : Nat → Int32} {qe : Int32} (hg : cl_Ok g) (S : CallFix p m c cX0_build 2 s args lw_all RX0) (hK : va_K (dC, dI) vwCl (tX dA dZ) s) (hD : dX h q)
    (kk : ∀ (f7 : Nat → Int32) (H : Heap) (locs : List Loc) (ls : Array Slot), (∀ k, k < 121 → f7 k = nI (cl_bT g 16 k)) → va_P (dC, dI) vwCl (wX dA dZ h q g (f7, f8, qe, f10)) H → va_S (aX h q) s.heap H locs → lv_has ls 2 [(0, .ref h)] → W p l e R s m args below meth c H locs cells slots Q (F0 m 151 ls [])) :
    ∀ n i : Nat, i ≤ 16 → 17 ≤ i + n → ∀ (f7 : Nat → Int32) (H : Heap) (locs : List Loc) (ls : Array Slot), (∀ k, k < 121 → f7 k = nI (cl_bT g i k)) → va_P (dC, dI) vwCl (wX dA dZ h q g (f7, f8, qe, f10)) H → va_S (aX h q) s.heap H locs → lv_has ls 2 [(0, .ref h), (1, .int (nI i))] → W p l e R s m args below meth c H locs cells slots Q (F0 m 70 ls []) := by
  obtain ⟨hx, hb, -, hown, hts⟩ := id S
  intro n
  induction n with
  | zero => intro i h1 h2; exact absurd h2 (by omega)
  | succ n ih =>
    intro i h1 h2 f7 H locs ls h7 hP hS hl
    obtain ⟨-, -, hg2, hgt⟩ := id hg
    have hz := hg2 i
    obtain ⟨hz3, hz4, hz5, hz6, -⟩ := hgt i
    refine lv_iload_n hx hb dX0_build_70 rfl (lv_at hl 1 rfl) ?_
    refine lv_bipush (v := nI 16) hx hb dX0_build_71 (by decide) ?_
    refine xw_icmp_ge (tgt := 151) hx hb (by omega) (by omega) dX0_build_73 (by decide) (fun c1 => ?_) (fun c1 => ?_)
    · have ei : i = 16 := by omega
      exact kk f7 H locs ls (ei ▸ h7) hP hS (lv_sub hl [0] rfl)
    · refine lv_aload_n hx hb dX0_build_76 rfl (lv_at hl 0 rfl) ?_
      refine va_get (D := (dC, dI)) (ci := 0) (v := .ref (q 2)) (C := RX0) (T := TX0) (N := 11) hx hb hts in_X0 hown hK hP 0 rfl rfl 2 (by decide) (hts _ q18) (fun _ h9 => h9) rfl dX0_build_77 ?_
      refine lv_iload_n hx hb dX0_build_80 rfl (lv_at hl 1 rfl) ?_
      refine xw_zald hx hb hK hP 3 1 rfl rfl (i) (by omega) (by decide) (v := nI (g 2 i)) (rfl) dX0_build_81 ?_
      refine xw_if_eq (tgt := 145) hx hb (by omega) dX0_build_82 (by decide) (fun c2 => ?_) (fun c2 => ?_)
      · have e2 : cl_bT g (i + 1) = cl_bT g i := if_neg (by omega)
        refine lv_iinc (v := nI (i + 1)) (lv' := [(1, .int (nI (i + 1))), (0, .ref h)]) hx hb dX0_build_145 hl (k := 1) rfl (cw_i1 _) (by decide) rfl (fun ls hl => ?_)
        refine lv_goto (tgt := 70) hx hb dX0_build_148 (by decide) ?_
        exact ih (i + 1) (by omega) (by omega) _ H locs ls (e2 ▸ h7) hP hS (lv_sub hl [1, 0] rfl)
      · have e2 : cl_bT g (i + 1) = cl_add (cl_add (cl_bT g i) (11 * g 3 i + g 4 i) (g 5 i)) (11 * g 4 i + g 3 i) (g 6 i) := if_pos (by omega)
        refine lv_aload_n hx hb dX0_build_85 rfl (lv_at hl 0 rfl) ?_
        refine va_get (D := (dC, dI)) (ci := 0) (v := .ref (q 7)) (C := RX0) (T := TX0) (N := 11) hx hb hts in_X0 hown hK hP 0 rfl rfl 7 (by decide) (hts _ q23) (fun _ h9 => h9) rfl dX0_build_86 ?_
        refine lv_bipush (v := nI 11) hx hb dX0_build_89 (by decide) ?_
        refine lv_aload_n hx hb dX0_build_91 rfl (lv_at hl 0 rfl) ?_
        refine va_get (D := (dC, dI)) (ci := 0) (v := .ref (q 3)) (C := RX0) (T := TX0) (N := 11) hx hb hts in_X0 hown hK hP 0 rfl rfl 3 (by decide) (hts _ q19) (fun _ h9 => h9) rfl dX0_build_92 ?_
        refine lv_iload_n hx hb dX0_build_95 rfl (lv_at hl 1 rfl) ?_
        refine xw_iald hx hb hK hP 4 0 rfl rfl (i) (by omega) (by decide) (v := nI (g 3 i)) (rfl) dX0_build_96 ?_
        refine lv_imul hx hb dX0_build_97 ?_
        refine xw_e (y := nI (11 * (g 3 i))) (pk_mul _ _) ?_
        refine lv_aload_n hx hb dX0_build_98 rfl (lv_at hl 0 rfl) ?_
        refine va_get (D := (dC, dI)) (ci := 0) (v := .ref (q 4)) (C := RX0) (T := TX0) (N := 11) hx hb hts in_X0 hown hK hP 0 rfl rfl 4 (by decide) (hts _ q20) (fun _ h9 => h9) rfl dX0_build_99 ?_
        refine lv_iload_n hx hb dX0_build_102 rfl (lv_at hl 1 rfl) ?_
        refine xw_iald hx hb hK hP 5 0 rfl rfl (i) (by omega) (by decide) (v := nI (g 4 i)) (rfl) dX0_build_103 ?_
        refine lv_iadd hx hb dX0_build_104 ?_
        refine xw_e (y := nI (11 * (g 3 i) + g 4 i)) (nI_add _ _) ?_
        refine lv_dup2_11 hx hb dX0_build_105 rfl rfl ?_
        refine xw_iald hx hb hK hP 8 0 rfl rfl (11 * (g 3 i) + g 4 i) (by omega) (by decide) (v := nI (cl_bT g i (11 * g 3 i + g 4 i))) (h7 _ (by omega)) dX0_build_106 ?_
        refine lv_aload_n hx hb dX0_build_107 rfl (lv_at hl 0 rfl) ?_
        refine va_get (D := (dC, dI)) (ci := 0) (v := .ref (q 5)) (C := RX0) (T := TX0) (N := 11) hx hb hts in_X0 hown hK hP 0 rfl rfl 5 (by decide) (hts _ q21) (fun _ h9 => h9) rfl dX0_build_108 ?_
        refine lv_iload_n hx hb dX0_build_111 rfl (lv_at hl 1 rfl) ?_
        refine xw_iald hx hb hK hP 6 0 rfl rfl (i) (by omega) (by decide) (v := nI (g 5 i)) (rfl) dX0_build_112 ?_
        refine lv_iadd hx hb dX0_build_113 ?_
        refine xw_e (y := nI (cl_bT g i (11 * g 3 i + g 4 i) + g 5 i)) (nI_add _ _) ?_
        refine xw_iast hx hb hK hP (hD _ _ _ _) hS 8 0 rfl rfl (11 * (g 3 i) + g 4 i) (by omega) (by decide) dX0_build_114 (fun H locs hP hS => ?_)
        have hP : va_P (dC, dI) vwCl (wX dA dZ h q g ((upd f7 (11 * (g 3 i) + g 4 i) (nI (cl_bT g i (11 * g 3 i + g 4 i) + g 5 i))), f8, qe, f10)) H := hP
        have h7b : ∀ k, k < 121 → _ = nI (cl_add (cl_bT g i) (11 * g 3 i + g 4 i) (g 5 i) k) := cl_updR h7 (11 * g 3 i + g 4 i) (cl_bT g i (11 * g 3 i + g 4 i) + g 5 i)
        refine lv_aload_n hx hb dX0_build_115 rfl (lv_at hl 0 rfl) ?_
        refine va_get (D := (dC, dI)) (ci := 0) (v := .ref (q 7)) (C := RX0) (T := TX0) (N := 11) hx hb hts in_X0 hown hK hP 0 rfl rfl 7 (by decide) (hts _ q23) (fun _ h9 => h9) rfl dX0_build_116 ?_
        refine lv_bipush (v := nI 11) hx hb dX0_build_119 (by decide) ?_
        refine lv_aload_n hx hb dX0_build_121 rfl (lv_at hl 0 rfl) ?_
        refine va_get (D := (dC, dI)) (ci := 0) (v := .ref (q 4)) (C := RX0) (T := TX0) (N := 11) hx hb hts in_X0 hown hK hP 0 rfl rfl 4 (by decide) (hts _ q20) (fun _ h9 => h9) rfl dX0_build_122 ?_
        refine lv_iload_n hx hb dX0_build_125 rfl (lv_at hl 1 rfl) ?_
        refine xw_iald hx hb hK hP 5 0 rfl rfl (i) (by omega) (by decide) (v := nI (g 4 i)) (rfl) dX0_build_126 ?_
        refine lv_imul hx hb dX0_build_127 ?_
        refine xw_e (y := nI (11 * (g 4 i))) (pk_mul _ _) ?_
        refine lv_aload_n hx hb dX0_build_128 rfl (lv_at hl 0 rfl) ?_
        refine va_get (D := (dC, dI)) (ci := 0) (v := .ref (q 3)) (C := RX0) (T := TX0) (N := 11) hx hb hts in_X0 hown hK hP 0 rfl rfl 3 (by decide) (hts _ q19) (fun _ h9 => h9) rfl dX0_build_129 ?_
        refine lv_iload_n hx hb dX0_build_132 rfl (lv_at hl 1 rfl) ?_
        refine xw_iald hx hb hK hP 4 0 rfl rfl (i) (by omega) (by decide) (v := nI (g 3 i)) (rfl) dX0_build_133 ?_
        refine lv_iadd hx hb dX0_build_134 ?_
        refine xw_e (y := nI (11 * (g 4 i) + g 3 i)) (nI_add _ _) ?_
        refine lv_dup2_11 hx hb dX0_build_135 rfl rfl ?_
        refine xw_iald hx hb hK hP 8 0 rfl rfl (11 * (g 4 i) + g 3 i) (by omega) (by decide) (v := nI (cl_add (cl_bT g i) (11 * g 3 i + g 4 i) (g 5 i) (11 * g 4 i + g 3 i))) (h7b _ (by omega)) dX0_build_136 ?_
        refine lv_aload_n hx hb dX0_build_137 rfl (lv_at hl 0 rfl) ?_
        refine va_get (D := (dC, dI)) (ci := 0) (v := .ref (q 6)) (C := RX0) (T := TX0) (N := 11) hx hb hts in_X0 hown hK hP 0 rfl rfl 6 (by decide) (hts _ q22) (fun _ h9 => h9) rfl dX0_build_138 ?_
        refine lv_iload_n hx hb dX0_build_141 rfl (lv_at hl 1 rfl) ?_
        refine xw_iald hx hb hK hP 7 0 rfl rfl (i) (by omega) (by decide) (v := nI (g 6 i)) (rfl) dX0_build_142 ?_
        refine lv_iadd hx hb dX0_build_143 ?_
        refine xw_e (y := nI (cl_add (cl_bT g i) (11 * g 3 i + g 4 i) (g 5 i) (11 * g 4 i + g 3 i) + g 6 i)) (nI_add _ _) ?_
        refine xw_iast hx hb hK hP (hD _ _ _ _) hS 8 0 rfl rfl (11 * (g 4 i) + g 3 i) (by omega) (by decide) dX0_build_144 (fun H locs hP hS => ?_)
        have hP : va_P (dC, dI) vwCl (wX dA dZ h q g ((upd (upd f7 (11 * (g 3 i) + g 4 i) (nI (cl_bT g i (11 * g 3 i + g 4 i) + g 5 i))) (11 * (g 4 i) + g 3 i) (nI (cl_add (cl_bT g i) (11 * g 3 i + g 4 i) (g 5 i) (11 * g 4 i + g 3 i) + g 6 i))), f8, qe, f10)) H := hP
        refine lv_iinc (v := nI (i + 1)) (lv' := [(1, .int (nI (i + 1))), (0, .ref h)]) hx hb dX0_build_145 hl (k := 1) rfl (cw_i1 _) (by decide) rfl (fun ls hl => ?_)
        refine lv_goto (tgt := 70) hx hb dX0_build_148 (by decide) ?_
        exact ih (i + 1) (by omega) (by omega) _ H locs ls (by rw [e2]; exact cl_updR h7b (11 * g 4 i + g 3 i) (cl_add (cl_bT g i) (11 * g 3 i + g 4 i) (g 5 i) (11 * g 4 i + g 3 i) + g 6 i)) hP hS (lv_sub hl [1, 0] rfl)
set_option maxHeartbeats 4000000 in
set_option maxRecDepth 100000 in
/-- build(): the room is the network of the state -/
theorem metX0_build (l : Launch) (dC : Nat → ClassId) (dI : Nat → Nat → Nat) (dA dZ : ClassId) (h : Nat) (q : Nat → Nat) (g : Nat → Nat → Nat) (hD : dX h q) (hg : cl_Ok g) (u : cl_U) : Met l yX0_build (ws_ yX0_build cX0_build 2 none) cl_rm0 (pX dC dI dA dZ h q g u []) (va_Qv (fun u' : cl_U => ∀ k, k < 121 → u'.1 k = nI (cl_build g k)) (fun u' t => va_P (dC, dI) vwCl (wX dA dZ h q g u') t.heap) (aX h q)) 0 0 (aX h q) := by
  obtain ⟨f7, f8, qe, f10⟩ := u
  refine Met.ofW (cc := cX0_build) (maxL := 2) (ret := none) (by decide) rfl ?_
  intro p e s m args below meth c s₁ B hml hv
  obtain ⟨rfl, hv⟩ := hv
  have S : CallFix p m c cX0_build 2 s _ lw_all RX0 := ⟨B.exec, B.bytes, hml, findClass_of_methodNamed B.named, fun w hw => atoms_spec (ws := ws_ yX0_build cX0_build 2 none) B.pre w (List.mem_cons_of_mem _ hw)⟩
  obtain ⟨hx, hb, -, hown, hts⟩ := id S
  have hr := B.returns
  have hlocks := B.notSynchronized
  obtain ⟨hP, hK⟩ := hv
  have hS : va_S (aX h q) s.heap s.heap [] := va_S.rf
  have hl := lv_entry ([.ref h]) (n := 2) (Nat.le_of_ble_eq_true rfl)
  rw [lg_entry_eq]
  generalize (lg_sl ([.ref h]) ++ List.replicate (2 - (lg_sl ([.ref h])).length) Slot.unset).toArray = ls at hl ⊢
  have hl : lv_has ls 2 [(0, .ref h)] := hl
  refine lv_iconst (v := nI 0) hx hb dX0_build_0 (by decide) ?_
  refine lv_istore_n (lv' := [(1, .int (nI 0)), (0, .ref h)]) hx hb dX0_build_1 rfl hl (by decide) rfl (fun ls hl => ?_)
  refine bl_1 S hK hD (fun f7 H locs ls h7 hP hS hl => ?_) 122 0 (by decide) (by decide) f7 s.heap [] ls (fun x hx => absurd hx (Nat.not_lt_zero x)) hP hS (lv_sub hl [1, 0] rfl)
  refine lv_iconst (v := nI 0) hx hb dX0_build_21 (by decide) ?_
  refine lv_istore_n (lv' := [(1, .int (nI 0)), (0, .ref h)]) hx hb dX0_build_22 rfl hl (by decide) rfl (fun ls hl => ?_)
  refine bl_2 S hK hD (fun f7 H locs ls h7 hP hS hl => ?_) 10 0 (by decide) (by decide) f7 H locs ls h7 hP hS (lv_sub hl [1, 0] rfl)
  refine lv_iconst (v := nI 0) hx hb dX0_build_68 (by decide) ?_
  refine lv_istore_n (lv' := [(1, .int (nI 0)), (0, .ref h)]) hx hb dX0_build_69 rfl hl (by decide) rfl (fun ls hl => ?_)
  refine bl_3 hg S hK hD (fun f7 H locs ls h7 hP hS hl => ?_) 17 0 (by decide) (by decide) f7 H locs ls h7 hP hS (lv_sub hl [1, 0] rfl)
  exact W.vret hx hb hr (fun t ht hW => ⟨⟨(f7, f8, qe, f10), rfl, h7, by show va_P _ _ _ t.heap; rw [ht]; exact hP⟩, hS.F ht⟩) hS.2.2 dX0_build_151
set_option maxHeartbeats 4000000 in
set_option maxRecDepth 100000 in
/-- force(pl, lab): the place is bound to the label -/
theorem metX0_force (l : Launch) (dC : Nat → ClassId) (dI : Nat → Nat → Nat) (dA dZ : ClassId) (h : Nat) (q : Nat → Nat) (g : Nat → Nat → Nat) (hD : dX h q) (u : cl_U) {C : Nat → Nat} (h7 : ∀ k, k < 121 → u.1 k = nI (C k)) (pl lab : Nat) (hpl : pl < 9) (hlab : lab ≤ 1) : Met l yX0_force (ws_ yX0_force cX0_force 3 none) cl_rm0 (pX dC dI dA dZ h q g u [.int (nI pl), .int (nI lab)]) (va_Qv (fun u' : cl_U => ∀ k, k < 121 → u'.1 k = nI (cl_force C pl lab k)) (fun u' t => va_P (dC, dI) vwCl (wX dA dZ h q g u') t.heap) (aX h q)) 0 0 (aX h q) := by
  obtain ⟨f7, f8, qe, f10⟩ := u
  refine Met.ofW (cc := cX0_force) (maxL := 3) (ret := none) (by decide) rfl ?_
  intro p e s m args below meth c s₁ B hml hv
  obtain ⟨rfl, hv⟩ := hv
  have S : CallFix p m c cX0_force 3 s _ lw_all RX0 := ⟨B.exec, B.bytes, hml, findClass_of_methodNamed B.named, fun w hw => atoms_spec (ws := ws_ yX0_force cX0_force 3 none) B.pre w (List.mem_cons_of_mem _ hw)⟩
  obtain ⟨hx, hb, -, hown, hts⟩ := id S
  have hr := B.returns
  have hlocks := B.notSynchronized
  obtain ⟨hP, hK⟩ := hv
  have hS : va_S (aX h q) s.heap s.heap [] := va_S.rf
  have hl := lv_entry ([.ref h, .int (nI pl), .int (nI lab)]) (n := 3) (Nat.le_of_ble_eq_true rfl)
  rw [lg_entry_eq]
  generalize (lg_sl ([.ref h, .int (nI pl), .int (nI lab)]) ++ List.replicate (3 - (lg_sl ([.ref h, .int (nI pl), .int (nI lab)])).length) Slot.unset).toArray = ls at hl ⊢
  have hl : lv_has ls 3 [(0, .ref h), (1, .int (nI pl)), (2, .int (nI lab))] := hl
  refine lv_iload_n hx hb dX0_force_0 rfl (lv_at hl 2 rfl) ?_
  refine xw_if_ne (tgt := 18) hx hb (by omega) dX0_force_1 (by decide) (fun c1 => ?_) (fun c1 => ?_)
  · have e2 : cl_force C pl lab = cl_up C (11 * pl + 10) 1000000 := if_neg c1
    refine lv_aload_n hx hb dX0_force_18 rfl (lv_at hl 0 rfl) ?_
    refine va_get (D := (dC, dI)) (ci := 0) (v := .ref (q 7)) (C := RX0) (T := TX0) (N := 11) hx hb hts in_X0 hown hK hP 0 rfl rfl 7 (by decide) (hts _ q23) (fun _ h9 => h9) rfl dX0_force_19 ?_
    refine lv_bipush (v := nI 11) hx hb dX0_force_22 (by decide) ?_
    refine lv_iload_n hx hb dX0_force_24 rfl (lv_at hl 1 rfl) ?_
    refine lv_imul hx hb dX0_force_25 ?_
    refine xw_e (y := nI (11 * pl)) (pk_mul _ _) ?_
    refine lv_bipush (v := nI 10) hx hb dX0_force_26 (by decide) ?_
    refine lv_iadd hx hb dX0_force_28 ?_
    refine xw_e (y := nI (11 * pl + 10)) (nI_add _ _) ?_
    refine lv_ldc (own := RX0) (v := 1000000) hx hb hown (hts _ q90) dX0_force_29 ?_
    refine xw_e (y := nI 1000000) rfl ?_
    refine xw_iast hx hb hK hP (hD _ _ _ _) hS 8 0 rfl rfl (11 * pl + 10) (by omega) (by decide) dX0_force_31 (fun H locs hP hS => ?_)
    have hP : va_P (dC, dI) vwCl (wX dA dZ h q g ((upd f7 (11 * pl + 10) (nI 1000000)), f8, qe, f10)) H := hP
    exact W.vret hx hb hr (fun t ht hW => ⟨⟨((upd f7 (11 * pl + 10) (nI 1000000)), f8, qe, f10), rfl, by rw [e2]; exact cl_updR h7 (11 * pl + 10) 1000000, by show va_P _ _ _ t.heap; rw [ht]; exact hP⟩, hS.F ht⟩) hS.2.2 dX0_force_32
  · have e2 : cl_force C pl lab = cl_up C (99 + pl) 1000000 := if_pos c1
    refine lv_aload_n hx hb dX0_force_4 rfl (lv_at hl 0 rfl) ?_
    refine va_get (D := (dC, dI)) (ci := 0) (v := .ref (q 7)) (C := RX0) (T := TX0) (N := 11) hx hb hts in_X0 hown hK hP 0 rfl rfl 7 (by decide) (hts _ q23) (fun _ h9 => h9) rfl dX0_force_5 ?_
    refine lv_bipush (v := nI 99) hx hb dX0_force_8 (by decide) ?_
    refine lv_iload_n hx hb dX0_force_10 rfl (lv_at hl 1 rfl) ?_
    refine lv_iadd hx hb dX0_force_11 ?_
    refine xw_e (y := nI (99 + pl)) (nI_add _ _) ?_
    refine lv_ldc (own := RX0) (v := 1000000) hx hb hown (hts _ q90) dX0_force_12 ?_
    refine xw_e (y := nI 1000000) rfl ?_
    refine xw_iast hx hb hK hP (hD _ _ _ _) hS 8 0 rfl rfl (99 + pl) (by omega) (by decide) dX0_force_14 (fun H locs hP hS => ?_)
    have hP : va_P (dC, dI) vwCl (wX dA dZ h q g ((upd f7 (99 + pl) (nI 1000000)), f8, qe, f10)) H := hP
    refine lv_goto (tgt := 32) hx hb dX0_force_15 (by decide) ?_
    exact W.vret hx hb hr (fun t ht hW => ⟨⟨((upd f7 (99 + pl) (nI 1000000)), f8, qe, f10), rfl, by rw [e2]; exact cl_updR h7 (99 + pl) 1000000, by show va_P _ _ _ t.heap; rw [ht]; exact hP⟩, hS.F ht⟩) hS.2.2 dX0_force_32
end
section
/-! what the public methods answer, told once for both sides; each is one answer alone -/
def cl_Least (g : Nat → Nat → Nat) (r : Int32) : Prop := ∃ tot, r = nI tot ∧ cl_Min (fun _ => True) (cl_El g) tot
def cl_LowS (g : Nat → Nat → Nat) (r : Int32) : Prop := ∃ o, r = nI o ∧ cl_Low (cl_El g) o
def cl_UppS (g : Nat → Nat → Nat) (r : Int32) : Prop := ∃ o, r = nI o ∧ cl_Upp (cl_El g) o
def cl_With (g : Nat → Nat → Nat) (x1 x2 r : Int32) : Prop := (¬ cl_rg 8 x1 ∧ r = -1) ∨ ∃ j tot, j ≤ 8 ∧ x1 = nI j ∧ r = nI tot ∧ cl_Min (fun l => l.testBit j = cl_b x2 0) (cl_El g) tot
def cl_Apart (g : Nat → Nat → Nat) (x1 x2 r : Int32) : Prop := (¬ (cl_rg 8 x1 ∧ cl_rg 8 x2 ∧ x1 ≠ x2) ∧ r = -1) ∨ ∃ i j tot, i ≤ 8 ∧ j ≤ 8 ∧ i ≠ j ∧ x1 = nI i ∧ x2 = nI j ∧ r = nI tot ∧ cl_Min (fun l => l.testBit i ≠ l.testBit j) (cl_El g) tot
def cl_En (g : Nat → Nat → Nat) (x r : Int32) : Prop := r = nI (cl_E g (cl_b x))
def cl_setc (g : Nat → Nat → Nat) (p z o : Nat) : Nat → Nat → Nat := fun k => if k = 0 then cl_up (g 0) p z else if k = 1 then cl_up (g 1) p o else g k
def cl_sett (g : Nat → Nat → Nat) (t i j u v : Nat) : Nat → Nat → Nat := fun k => if k = 2 then cl_up (g 2) t 1 else if k = 3 then cl_up (g 3) t i else if k = 4 then cl_up (g 4) t j else if k = 5 then cl_up (g 5) t u else if k = 6 then cl_up (g 6) t v else g k
def cl_setx (g : Nat → Nat → Nat) (t : Nat) : Nat → Nat → Nat := fun k => if k = 2 then cl_up (g 2) t 0 else g k
def cl_Cost (g : Nat → Nat → Nat) (x1 x2 x3 r : Int32) (g' : Nat → Nat → Nat) : Prop := (¬ (cl_rg 8 x1 ∧ cl_rg 100 x2 ∧ cl_rg 100 x3) ∧ r = -1 ∧ g' = g) ∨ ∃ p z o, p ≤ 8 ∧ z ≤ 100 ∧ o ≤ 100 ∧ x1 = nI p ∧ x2 = nI z ∧ x3 = nI o ∧ r = nI 0 ∧ g' = cl_setc g p z o
def cl_Tie (g : Nat → Nat → Nat) (x1 x2 x3 x4 x5 r : Int32) (g' : Nat → Nat → Nat) : Prop := (¬ (cl_rg 15 x1 ∧ cl_rg 8 x2 ∧ cl_rg 8 x3 ∧ x2 ≠ x3 ∧ cl_rg 100 x4 ∧ cl_rg 100 x5) ∧ r = -1 ∧ g' = g) ∨ ∃ t i j u v, t ≤ 15 ∧ i ≤ 8 ∧ j ≤ 8 ∧ i ≠ j ∧ u ≤ 100 ∧ v ≤ 100 ∧ x1 = nI t ∧ x2 = nI i ∧ x3 = nI j ∧ x4 = nI u ∧ x5 = nI v ∧ r = nI 0 ∧ g' = cl_sett g t i j u v
def cl_CutS (g : Nat → Nat → Nat) (x1 r : Int32) (g' : Nat → Nat → Nat) : Prop := (¬ cl_rg 15 x1 ∧ r = -1 ∧ g' = g) ∨ ∃ t, t ≤ 15 ∧ x1 = nI t ∧ r = nI (g 2 t) ∧ g' = cl_setx g t
theorem cl_nIj {a b : Nat} {n : Nat} (ha : a ≤ n) (hb : b ≤ n) (hn : n < 2 ^ 31) (h : nI a = nI b) : a = b := (nI_eq (by omega) (by omega)).mp h
theorem cl_Least_one {g : Nat → Nat → Nat} {r r' : Int32} (h : cl_Least g r) (h' : cl_Least g r') : r = r' := by
  obtain ⟨a, rfl, h1⟩ := h
  obtain ⟨b, rfl, h2⟩ := h'
  rw [cl_min_one h1 h2]
theorem cl_LowS_one {g : Nat → Nat → Nat} {r r' : Int32} (h : cl_LowS g r) (h' : cl_LowS g r') : r = r' := by
  obtain ⟨a, rfl, h1⟩ := h
  obtain ⟨b, rfl, h2⟩ := h'
  rw [cl_low_one h1 h2]
theorem cl_UppS_one {g : Nat → Nat → Nat} {r r' : Int32} (h : cl_UppS g r) (h' : cl_UppS g r') : r = r' := by
  obtain ⟨a, rfl, h1⟩ := h
  obtain ⟨b, rfl, h2⟩ := h'
  rw [cl_upp_one h1 h2]
theorem cl_With_one {g : Nat → Nat → Nat} {x1 x2 r r' : Int32} (h : cl_With g x1 x2 r) (h' : cl_With g x1 x2 r') : r = r' := by
  rcases h with ⟨a, rfl⟩ | ⟨j, t, a, b, rfl, d⟩ <;> rcases h' with ⟨a', rfl⟩ | ⟨j', t', a', b', rfl, d'⟩
  · rfl
  · exact absurd ⟨j', a', b'⟩ a
  · exact absurd ⟨j, a, b⟩ a'
  · have e : j = j' := cl_nIj a a' (by decide) (b.symm.trans b')
    subst e
    rw [cl_min_one d d']
theorem cl_Apart_one {g : Nat → Nat → Nat} {x1 x2 r r' : Int32} (h : cl_Apart g x1 x2 r) (h' : cl_Apart g x1 x2 r') : r = r' := by
  rcases h with ⟨a, rfl⟩ | ⟨i, j, t, a, b, c, e1, e2, rfl, d⟩ <;> rcases h' with ⟨a', rfl⟩ | ⟨i', j', t', a', b', c', e1', e2', rfl, d'⟩
  · rfl
  · exact absurd ⟨⟨i', a', e1'⟩, ⟨j', b', e2'⟩, fun q => c' (cl_nIj a' b' (by decide) (e1'.symm.trans (q.trans e2')))⟩ a
  · exact absurd ⟨⟨i, a, e1⟩, ⟨j, b, e2⟩, fun q => c (cl_nIj a b (by decide) (e1.symm.trans (q.trans e2)))⟩ a'
  · have e : i = i' := cl_nIj a a' (by decide) (e1.symm.trans e1')
    have f : j = j' := cl_nIj b b' (by decide) (e2.symm.trans e2')
    subst e
    subst f
    rw [cl_min_one d d']
theorem cl_En_one {g : Nat → Nat → Nat} {x r r' : Int32} (h : cl_En g x r) (h' : cl_En g x r') : r = r' := h.trans h'.symm
theorem cl_Cost_one {g g' g'' : Nat → Nat → Nat} {x1 x2 x3 r r' : Int32} (h : cl_Cost g x1 x2 x3 r g') (h' : cl_Cost g x1 x2 x3 r' g'') : r = r' ∧ g' = g'' := by
  rcases h with ⟨a, rfl, rfl⟩ | ⟨p, z, o, a1, a2, a3, e1, e2, e3, rfl, rfl⟩ <;> rcases h' with ⟨a', rfl, rfl⟩ | ⟨p', z', o', a1', a2', a3', e1', e2', e3', rfl, rfl⟩
  · exact ⟨rfl, rfl⟩
  · exact absurd ⟨⟨p', a1', e1'⟩, ⟨z', a2', e2'⟩, ⟨o', a3', e3'⟩⟩ a
  · exact absurd ⟨⟨p, a1, e1⟩, ⟨z, a2, e2⟩, ⟨o, a3, e3⟩⟩ a'
  · have f1 : p = p' := cl_nIj a1 a1' (by decide) (e1.symm.trans e1')
    have f2 : z = z' := cl_nIj a2 a2' (by decide) (e2.symm.trans e2')
    have f3 : o = o' := cl_nIj a3 a3' (by decide) (e3.symm.trans e3')
    subst f1 f2 f3
    exact ⟨rfl, rfl⟩
theorem cl_Tie_one {g g' g'' : Nat → Nat → Nat} {x1 x2 x3 x4 x5 r r' : Int32} (h : cl_Tie g x1 x2 x3 x4 x5 r g') (h' : cl_Tie g x1 x2 x3 x4 x5 r' g'') : r = r' ∧ g' = g'' := by
  rcases h with ⟨a, rfl, rfl⟩ | ⟨t, i, j, u, v, a1, a2, a3, a4, a5, a6, e1, e2, e3, e4, e5, rfl, rfl⟩ <;> rcases h' with ⟨a', rfl, rfl⟩ | ⟨t', i', j', u', v', a1', a2', a3', a4', a5', a6', e1', e2', e3', e4', e5', rfl, rfl⟩
  · exact ⟨rfl, rfl⟩
  · exact absurd ⟨⟨t', a1', e1'⟩, ⟨i', a2', e2'⟩, ⟨j', a3', e3'⟩, fun q => a4' (cl_nIj a2' a3' (by decide) (e2'.symm.trans (q.trans e3'))), ⟨u', a5', e4'⟩, ⟨v', a6', e5'⟩⟩ a
  · exact absurd ⟨⟨t, a1, e1⟩, ⟨i, a2, e2⟩, ⟨j, a3, e3⟩, fun q => a4 (cl_nIj a2 a3 (by decide) (e2.symm.trans (q.trans e3))), ⟨u, a5, e4⟩, ⟨v, a6, e5⟩⟩ a'
  · have f1 : t = t' := cl_nIj a1 a1' (by decide) (e1.symm.trans e1')
    have f2 : i = i' := cl_nIj a2 a2' (by decide) (e2.symm.trans e2')
    have f3 : j = j' := cl_nIj a3 a3' (by decide) (e3.symm.trans e3')
    have f4 : u = u' := cl_nIj a5 a5' (by decide) (e4.symm.trans e4')
    have f5 : v = v' := cl_nIj a6 a6' (by decide) (e5.symm.trans e5')
    subst f1 f2 f3 f4 f5
    exact ⟨rfl, rfl⟩
theorem cl_CutS_one {g g' g'' : Nat → Nat → Nat} {x1 r r' : Int32} (h : cl_CutS g x1 r g') (h' : cl_CutS g x1 r' g'') : r = r' ∧ g' = g'' := by
  rcases h with ⟨a, rfl, rfl⟩ | ⟨t, a1, e1, rfl, rfl⟩ <;> rcases h' with ⟨a', rfl, rfl⟩ | ⟨t', a1', e1', rfl, rfl⟩
  · exact ⟨rfl, rfl⟩
  · exact absurd ⟨t', a1', e1'⟩ a
  · exact absurd ⟨t, a1, e1⟩ a'
  · have f1 : t = t' := cl_nIj a1 a1' (by decide) (e1.symm.trans e1')
    subst f1
    exact ⟨rfl, rfl⟩
/-- the state stays good -/
theorem cl_up_le {f : Nat → Nat} {b : Nat} (h : ∀ i, f i ≤ b) (k : Nat) {v : Nat} (hv : v ≤ b) : ∀ i, cl_up f k v i ≤ b := fun i => by
  unfold cl_up
  split
  · exact hv
  · exact h i
theorem cl_Cost_ok {g g' : Nat → Nat → Nat} {x1 x2 x3 r : Int32} (hg : cl_Ok g) (h : cl_Cost g x1 x2 x3 r g') : cl_Ok g' := by
  rcases h with ⟨-, -, rfl⟩ | ⟨p, z, o, a1, a2, a3, -, -, -, -, rfl⟩
  · exact hg
  · exact ⟨cl_up_le hg.1 p a2, cl_up_le hg.2.1 p a3, hg.2.2.1, hg.2.2.2⟩
theorem cl_Tie_ok {g g' : Nat → Nat → Nat} {x1 x2 x3 x4 x5 r : Int32} (hg : cl_Ok g) (h : cl_Tie g x1 x2 x3 x4 x5 r g') : cl_Ok g' := by
  rcases h with ⟨-, -, rfl⟩ | ⟨t, i, j, u, v, a1, a2, a3, a4, a5, a6, -, -, -, -, -, -, rfl⟩
  · exact hg
  · refine ⟨hg.1, hg.2.1, cl_up_le hg.2.2.1 t (Nat.le_refl 1), fun k => ?_⟩
    have hk := hg.2.2.2 k
    show cl_up (g 3) t i k < 9 ∧ cl_up (g 4) t j k < 9 ∧ cl_up (g 5) t u k ≤ 100 ∧ cl_up (g 6) t v k ≤ 100 ∧ (cl_up (g 2) t 1 k = 1 → cl_up (g 3) t i k ≠ cl_up (g 4) t j k)
    by_cases e : k = t
    · subst e
      rw [cl_up_s, cl_up_s, cl_up_s, cl_up_s]
      exact ⟨by omega, by omega, a5, a6, fun _ => a4⟩
    · rw [cl_up_n _ _ e, cl_up_n _ _ e, cl_up_n _ _ e, cl_up_n _ _ e, cl_up_n _ _ e]
      exact hk
theorem cl_CutS_ok {g g' : Nat → Nat → Nat} {x1 r : Int32} (hg : cl_Ok g) (h : cl_CutS g x1 r g') : cl_Ok g' := by
  rcases h with ⟨-, -, rfl⟩ | ⟨t, a1, -, -, rfl⟩
  · exact hg
  · refine ⟨hg.1, hg.2.1, cl_up_le hg.2.2.1 t (Nat.zero_le 1), fun k => ?_⟩
    obtain ⟨h1, h2, h3, h4, h5⟩ := hg.2.2.2 k
    refine ⟨h1, h2, h3, h4, fun q => h5 ?_⟩
    have q : cl_up (g 2) t 0 k = 1 := q
    unfold cl_up at q
    split at q
    · omega
    · exact q
/-- bits set one by one -/
theorem cl_bit_or {o p : Nat} {Q : Nat → Prop} (h : ∀ x, o.testBit x = true ↔ (x < p ∧ Q x)) (hq : Q p) : ∀ x, (o ||| 2 ^ p).testBit x = true ↔ (x < p + 1 ∧ Q x) := by
  intro x
  rw [Nat.testBit_or, Nat.testBit_two_pow, Bool.or_eq_true, decide_eq_true_eq, h x]
  constructor
  · rintro (⟨a, b⟩ | rfl)
    · exact ⟨by omega, b⟩
    · exact ⟨by omega, hq⟩
  · rintro ⟨a, b⟩
    by_cases e : p = x
    · exact Or.inr e
    · exact Or.inl ⟨by omega, b⟩
theorem cl_bit_no {o p : Nat} {Q : Nat → Prop} (h : ∀ x, o.testBit x = true ↔ (x < p ∧ Q x)) (hq : ¬ Q p) : ∀ x, (o ||| 0).testBit x = true ↔ (x < p + 1 ∧ Q x) := by
  intro x
  rw [Nat.or_zero, h x]
  constructor
  · rintro ⟨a, b⟩
    exact ⟨by omega, b⟩
  · rintro ⟨a, b⟩
    by_cases e : p = x
    · subst e
      exact absurd b hq
    · exact ⟨by omega, b⟩
theorem cl_yes_t {n : Nat} {x r : Int32} (h : cl_yes n x r) (c : ¬ r = 0) : cl_rg n x := by
  rcases h with z | z
  · exact z.1
  · exact absurd (z.2.trans nI_0) c
theorem cl_yes_f {n : Nat} {x r : Int32} (h : cl_yes n x r) (c : r = 0) : ¬ cl_rg n x := by
  rcases h with z | z
  · exact absurd (z.2.symm.trans c) (by decide)
  · exact z.1
theorem cl_nay_f {n : Nat} {x r : Int32} (h : cl_nay n x r) (c : r = 0) : cl_rg n x := by
  rcases h with z | z
  · exact z.1
  · exact absurd (z.2.symm.trans c) (by decide)
theorem cl_nay_t {n : Nat} {x r : Int32} (h : cl_nay n x r) (c : ¬ r = 0) : ¬ cl_rg n x := by
  rcases h with z | z
  · exact absurd (z.2.trans nI_0) c
  · exact z.1
end
section
/-! X.least, lower, upper, with, apart -/
abbrev cl_rmP : Room := { frames := 2, cells := 0, slots := 0, locals := 50 }
set_option maxHeartbeats 4000000 in
set_option maxRecDepth 100000 in
theorem metX0_least (l : Launch) (dC : Nat → ClassId) (dI : Nat → Nat → Nat) (dA dZ : ClassId) (h : Nat) (q : Nat → Nat) (g : Nat → Nat → Nat) (hD : dX h q) (hg : cl_Ok g) (u : cl_U) : Met l yX0_least (ws_ yX0_least cX0_least 1 (some .int)) cl_rmP (pX dC dI dA dZ h q g u []) (va_Qi (fun (r : Int32) (_ : cl_U) => cl_Least g r) (fun u' t => va_P (dC, dI) vwCl (wX dA dZ h q g u') t.heap) (aX h q)) 0 0 (aX h q) := by
  refine Met.ofW (cc := cX0_least) (maxL := 1) (ret := (some .int)) (by decide) rfl ?_
  intro p e s m args below meth c s₁ B hml hv
  obtain ⟨rfl, hv⟩ := hv
  have S : CallFix p m c cX0_least 1 s _ lw_all RX0 := ⟨B.exec, B.bytes, hml, findClass_of_methodNamed B.named, fun w hw => atoms_spec (ws := ws_ yX0_least cX0_least 1 (some .int)) B.pre w (List.mem_cons_of_mem _ hw)⟩
  obtain ⟨hx, hb, -, hown, hts⟩ := id S
  have hr := B.returns
  have hlocks := B.notSynchronized
  obtain ⟨hP, hK⟩ := hv
  have hS : va_S (aX h q) s.heap s.heap [] := va_S.rf
  have hl := lv_entry ([.ref h]) (n := 1) (Nat.le_of_ble_eq_true rfl)
  rw [lg_entry_eq]
  generalize (lg_sl ([.ref h]) ++ List.replicate (1 - (lg_sl ([.ref h])).length) Slot.unset).toArray = ls at hl ⊢
  have hl : lv_has ls 1 [(0, .ref h)] := hl
  refine lv_aload_n hx hb dX0_least_0 rfl (lv_at hl 0 rfl) ?_
  refine cx_v (As := []) (rest := []) S (metX0_build l dC dI dA dZ h q g hD hg _) (cwV 0 hts (lw_V q74 q76 qs0 q6 q77) rfl rfl rfl (by decide +kernel) ⟨Nat.le_of_ble_eq_true rfl, Nat.le_of_ble_eq_true rfl⟩) hK hP hS rfl hl.1 rfl (Nat.le_of_ble_eq_true rfl) dX0_least_1 ⟨Nat.zero_le _, Nat.zero_le _⟩ (fun u H locs h7 hP hS => ?_)
  obtain ⟨f7, f8, qe, f10⟩ := u
  refine lv_aload_n hx hb dX0_least_4 rfl (lv_at hl 0 rfl) ?_
  refine cx_i (As := []) (rest := []) S (metX0_fill l dC dI dA dZ h q g hD f7 f8 qe f10 (cl_build_cap hg) h7) (cwV 0 hts (lw_V q78 q80 qs1 q6 q81) rfl rfl rfl (by decide +kernel) ⟨Nat.le_of_ble_eq_true rfl, Nat.le_of_ble_eq_true rfl⟩) hK hP hS rfl hl.1 rfl (Nat.le_of_ble_eq_true rfl) dX0_least_5 ⟨Nat.zero_le _, Nat.zero_le _⟩ (fun r u H locs hpo hP hS => ?_)
  obtain ⟨f7, f8, qe, f10⟩ := u
  obtain ⟨tot, Rn, rfl, hDo, h7⟩ := hpo
  exact W.iret (v := nI tot) hx hb hr (fun t ht hW => ⟨⟨_, (f7, f8, qe, f10), rfl, ⟨tot, rfl, cl_least hg hDo⟩, by show va_P _ _ _ t.heap; rw [ht]; exact hP⟩, hS.F ht⟩) hS.2.2 dX0_least_8
set_option maxHeartbeats 4000000 in
set_option maxRecDepth 100000 in
theorem lo_1 {p : Program} {l : Launch} {e : Env} {s : State} {m : MethodId} {args : Array Value} {below : List Frame} {meth : Method} {c : Code} {Q : State → Prop} {dC : Nat → ClassId} {dI : Nat → Nat → Nat} {dA dZ : ClassId} {h : Nat} {q : Nat → Nat} {g : Nat → Nat → Nat} {tot : Nat} {Rn : Nat → Nat} {f7 : Nat → Int32} (hg : cl_Ok g) (hDo : cl_Done (cl_build g) tot Rn) (h7 : ∀ k, k < 121 → f7 k = nI (Rn k)) (S : CallFix p m c cX0_lower 3 s args lw_all RX0) (hK : va_K (dC, dI) vwCl (tX dA dZ) s) (hD : dX h q)
    (kk : ∀ (o : Nat) (f8 : Nat → Int32) (qe : Int32) (f10 : Nat → Int32) (H : Heap) (locs : List Loc) (ls : Array Slot), (∀ x, o.testBit x = true ↔ (x < 9 ∧ (∀ ll, ll < 512 → cl_El g ll = tot → ll.testBit x = true))) → va_P (dC, dI) vwCl (wX dA dZ h q g (f7, f8, qe, f10)) H → va_S (aX h q) s.heap H locs → lv_has ls 3 [(1, .int (nI o))] → W p l e (headSpec (ws_ yX0_lower cX0_lower 3 (some .int)) cl_rmP).room s m args below meth c H locs 0 0 Q (F0 m 50 ls [])) :
    ∀ n i : Nat, i ≤ 9 → 10 ≤ i + n → ∀ (o : Nat) (f8 : Nat → Int32) (qe : Int32) (f10 : Nat → Int32) (H : Heap) (locs : List Loc) (ls : Array Slot), (∀ x, o.testBit x = true ↔ (x < i ∧ (∀ ll, ll < 512 → cl_El g ll = tot → ll.testBit x = true))) → va_P (dC, dI) vwCl (wX dA dZ h q g (f7, f8, qe, f10)) H → va_S (aX h q) s.heap H locs → lv_has ls 3 [(0, .ref h), (1, .int (nI o)), (2, .int (nI i))] → W p l e (headSpec (ws_ yX0_lower cX0_lower 3 (some .int)) cl_rmP).room s m args below meth c H locs 0 0 Q (F0 m 13 ls []) := by
  obtain ⟨hx, hb, -, hown, hts⟩ := id S
  intro n
  induction n with
  | zero => intro i h1 h2; exact absurd h2 (by omega)
  | succ n ih =>
    intro i h1 h2 o f8 qe f10 H locs ls ho hP hS hl
    refine lv_iload_n hx hb dX0_lower_13 rfl (lv_at hl 2 rfl) ?_
    refine lv_bipush (v := nI 9) hx hb dX0_lower_14 (by decide) ?_
    refine xw_icmp_ge (tgt := 50) hx hb (by omega) (by omega) dX0_lower_16 (by decide) (fun c1 => ?_) (fun c1 => ?_)
    · have ei : i = 9 := by omega
      exact kk o f8 qe f10 H locs ls (ei ▸ ho) hP hS (lv_sub hl [1] rfl)
    · refine lv_aload_n hx hb dX0_lower_19 rfl (lv_at hl 0 rfl) ?_
      refine lv_iload_n hx hb dX0_lower_20 rfl (lv_at hl 2 rfl) ?_
      refine cx_v (As := [.int (nI i)]) (rest := []) S (metX0_search l dC dI dA dZ h q g hD f7 f8 qe f10 i (by omega)) (cwV 1 hts (lw_V q82 q84 qs2 q6 q85) rfl rfl rfl (by decide +kernel) ⟨Nat.le_of_ble_eq_true rfl, Nat.le_of_ble_eq_true rfl⟩) hK hP hS rfl hl.1 rfl (Nat.le_of_ble_eq_true rfl) dX0_lower_21 ⟨Nat.zero_le _, Nat.zero_le _⟩ (fun u H locs hpo hP hS => ?_)
      obtain ⟨f7u, f8, qe, f10⟩ := u
      obtain ⟨e7, hSe⟩ := hpo
      have hSe : cl_Sea f7 i f8 := hSe
      rw [show f7u = f7 from e7] at hP
      obtain ⟨D, P, hT, h8⟩ := cl_sea_tree hSe h7 hDo.1
      have hlp := cl_low_p hg hDo c1 hT
      refine lv_iload_n hx hb dX0_lower_24 rfl (lv_at hl 1 rfl) ?_
      refine lv_aload_n hx hb dX0_lower_25 rfl (lv_at hl 0 rfl) ?_
      refine va_get (D := (dC, dI)) (ci := 0) (v := .ref (q 8)) (C := RX0) (T := TX0) (N := 11) hx hb hts in_X0 hown hK hP 0 rfl rfl 8 (by decide) (hts _ q24) (fun _ h9 => h9) rfl dX0_lower_26 ?_
      refine lv_bipush (v := nI 10) hx hb dX0_lower_29 (by decide) ?_
      refine xw_iald hx hb hK hP 9 0 rfl rfl (10) (by omega) (by decide) (v := f8 (10)) (rfl) dX0_lower_31 ?_
      refine lv_if_lt (tgt := 41) hx hb dX0_lower_32 (by decide) (fun c2 => ?_) (fun c2 => ?_)
      · have hn : ¬ D 10 ≤ 10 := by
          rcases h8 10 (by decide) with z | ⟨-, z, z2⟩
          · omega
          · rw [z] at c2
            exact absurd c2 (nI_pos (by omega))
        refine lv_iconst (v := nI 0) hx hb dX0_lower_41 (by decide) ?_
        refine lv_ior hx hb dX0_lower_42 ?_
        refine xw_e (y := nI (o ||| 0)) (fa_or _ _) ?_
        refine lv_istore_n (lv' := [(1, .int (nI (o ||| 0))), (0, .ref h), (2, .int (nI i))]) hx hb dX0_lower_43 rfl hl (by decide) rfl (fun ls hl => ?_)
        refine lv_iinc (v := nI (i + 1)) (lv' := [(2, .int (nI (i + 1))), (1, .int (nI (o ||| 0))), (0, .ref h)]) hx hb dX0_lower_44 hl (k := 2) rfl (cw_i1 _) (by decide) rfl (fun ls hl => ?_)
        refine lv_goto (tgt := 13) hx hb dX0_lower_47 (by decide) ?_
        exact ih (i + 1) (by omega) (by omega) _ f8 qe f10 H locs ls (cl_bit_no ho (fun z => hn (hlp.mpr z))) hP hS (lv_sub hl [2, 1, 0] rfl)
      · have hn : D 10 ≤ 10 := by
          rcases h8 10 (by decide) with z | ⟨z, -⟩
          · rw [z.2] at c2
            exact absurd (by decide) c2
          · exact z
        refine lv_iconst (v := nI 1) hx hb dX0_lower_35 (by decide) ?_
        refine lv_iload_n hx hb dX0_lower_36 rfl (lv_at hl 2 rfl) ?_
        refine lv_ishl hx hb dX0_lower_37 ?_
        refine xw_e (y := nI (2 ^ i)) (cw_shl (by omega)) ?_
        refine lv_goto (tgt := 42) hx hb dX0_lower_38 (by decide) ?_
        refine lv_ior hx hb dX0_lower_42 ?_
        refine xw_e (y := nI (o ||| 2 ^ i)) (fa_or _ _) ?_
        refine lv_istore_n (lv' := [(1, .int (nI (o ||| 2 ^ i))), (0, .ref h), (2, .int (nI i))]) hx hb dX0_lower_43 rfl hl (by decide) rfl (fun ls hl => ?_)
        refine lv_iinc (v := nI (i + 1)) (lv' := [(2, .int (nI (i + 1))), (1, .int (nI (o ||| 2 ^ i))), (0, .ref h)]) hx hb dX0_lower_44 hl (k := 2) rfl (cw_i1 _) (by decide) rfl (fun ls hl => ?_)
        refine lv_goto (tgt := 13) hx hb dX0_lower_47 (by decide) ?_
        exact ih (i + 1) (by omega) (by omega) _ f8 qe f10 H locs ls (cl_bit_or ho (hlp.mp hn)) hP hS (lv_sub hl [2, 1, 0] rfl)
set_option maxHeartbeats 4000000 in
set_option maxRecDepth 100000 in
theorem metX0_lower (l : Launch) (dC : Nat → ClassId) (dI : Nat → Nat → Nat) (dA dZ : ClassId) (h : Nat) (q : Nat → Nat) (g : Nat → Nat → Nat) (hD : dX h q) (hg : cl_Ok g) (u : cl_U) : Met l yX0_lower (ws_ yX0_lower cX0_lower 3 (some .int)) cl_rmP (pX dC dI dA dZ h q g u []) (va_Qi (fun (r : Int32) (_ : cl_U) => cl_LowS g r) (fun u' t => va_P (dC, dI) vwCl (wX dA dZ h q g u') t.heap) (aX h q)) 0 0 (aX h q) := by
  refine Met.ofW (cc := cX0_lower) (maxL := 3) (ret := (some .int)) (by decide) rfl ?_
  intro p e s m args below meth c s₁ B hml hv
  obtain ⟨rfl, hv⟩ := hv
  have S : CallFix p m c cX0_lower 3 s _ lw_all RX0 := ⟨B.exec, B.bytes, hml, findClass_of_methodNamed B.named, fun w hw => atoms_spec (ws := ws_ yX0_lower cX0_lower 3 (some .int)) B.pre w (List.mem_cons_of_mem _ hw)⟩
  obtain ⟨hx, hb, -, hown, hts⟩ := id S
  have hr := B.returns
  have hlocks := B.notSynchronized
  obtain ⟨hP, hK⟩ := hv
  have hS : va_S (aX h q) s.heap s.heap [] := va_S.rf
  have hl := lv_entry ([.ref h]) (n := 3) (Nat.le_of_ble_eq_true rfl)
  rw [lg_entry_eq]
  generalize (lg_sl ([.ref h]) ++ List.replicate (3 - (lg_sl ([.ref h])).length) Slot.unset).toArray = ls at hl ⊢
  have hl : lv_has ls 3 [(0, .ref h)] := hl
  refine lv_aload_n hx hb dX0_lower_0 rfl (lv_at hl 0 rfl) ?_
  refine cx_v (As := []) (rest := []) S (metX0_build l dC dI dA dZ h q g hD hg _) (cwV 0 hts (lw_V q74 q76 qs0 q6 q77) rfl rfl rfl (by decide +kernel) ⟨Nat.le_of_ble_eq_true rfl, Nat.le_of_ble_eq_true rfl⟩) hK hP hS rfl hl.1 rfl (Nat.le_of_ble_eq_true rfl) dX0_lower_1 ⟨Nat.zero_le _, Nat.zero_le _⟩ (fun u H locs h7 hP hS => ?_)
  obtain ⟨f7, f8, qe, f10⟩ := u
  refine lv_aload_n hx hb dX0_lower_4 rfl (lv_at hl 0 rfl) ?_
  refine cx_i (As := []) (rest := []) S (metX0_fill l dC dI dA dZ h q g hD f7 f8 qe f10 (cl_build_cap hg) h7) (cwV 0 hts (lw_V q78 q80 qs1 q6 q81) rfl rfl rfl (by decide +kernel) ⟨Nat.le_of_ble_eq_true rfl, Nat.le_of_ble_eq_true rfl⟩) hK hP hS rfl hl.1 rfl (Nat.le_of_ble_eq_true rfl) dX0_lower_5 ⟨Nat.zero_le _, Nat.zero_le _⟩ (fun r u H locs hpo hP hS => ?_)
  obtain ⟨f7, f8, qe, f10⟩ := u
  obtain ⟨tot, Rn, rfl, hDo, h7⟩ := hpo
  refine lv_pop hx hb dX0_lower_8 rfl ?_
  refine lv_iconst (v := nI 0) hx hb dX0_lower_9 (by decide) ?_
  refine lv_istore_n (lv' := [(1, .int (nI 0)), (0, .ref h)]) hx hb dX0_lower_10 rfl hl (by decide) rfl (fun ls hl => ?_)
  refine lv_iconst (v := nI 0) hx hb dX0_lower_11 (by decide) ?_
  refine lv_istore_n (lv' := [(2, .int (nI 0)), (1, .int (nI 0)), (0, .ref h)]) hx hb dX0_lower_12 rfl hl (by decide) rfl (fun ls hl => ?_)
  refine lo_1 hg hDo h7 S hK hD (fun o f8 qe f10 H locs ls ho hP hS hl => ?_) 10 0 (by decide) (by decide) 0 f8 qe f10 H locs ls (fun x => ⟨fun z => absurd z (by rw [Nat.zero_testBit]; decide), fun z => absurd z.1 (Nat.not_lt_zero x)⟩) hP hS (lv_sub hl [2, 1, 0] rfl)
  refine lv_iload_n hx hb dX0_lower_50 rfl (lv_at hl 0 rfl) ?_
  exact W.iret (v := nI o) hx hb hr (fun t ht hW => ⟨⟨_, (f7, f8, qe, f10), rfl, ⟨o, rfl, tot, cl_least hg hDo, ho⟩, by show va_P _ _ _ t.heap; rw [ht]; exact hP⟩, hS.F ht⟩) hS.2.2 dX0_lower_51
set_option maxHeartbeats 4000000 in
set_option maxRecDepth 100000 in
theorem up_1 {p : Program} {l : Launch} {e : Env} {R : Room} {s : State} {m : MethodId} {args : Array Value} {below : List Frame} {meth : Method} {c : Code} {cells slots : Nat} {Q : State → Prop} {dC : Nat → ClassId} {dI : Nat → Nat → Nat} {dA dZ : ClassId} {h : Nat} {q : Nat → Nat} {g : Nat → Nat → Nat} {tot : Nat} {Rn D P : Nat → Nat} {f7 f8 f10 : Nat → Int32} {qe : Int32} {H : Heap} {locs : List Loc} (hg : cl_Ok g) (hDo : cl_Done (cl_build g) tot Rn) (hT : cl_TreeS 9 Rn D P) (h8 : ∀ p, p < 11 → (D p = 12 ∧ f8 p = -1) ∨ (D p ≤ 10 ∧ f8 p = nI (P p) ∧ P p < 11)) (S : CallFix p m c cX0_upper 3 s args lw_all RX0) (hK : va_K (dC, dI) vwCl (tX dA dZ) s) (hP : va_P (dC, dI) vwCl (wX dA dZ h q g (f7, f8, qe, f10)) H)
    (kk : ∀ (o : Nat) (ls : Array Slot), (∀ x, o.testBit x = true ↔ (x < 9 ∧ (∃ ll, ll < 512 ∧ cl_El g ll = tot ∧ ll.testBit x = true))) → lv_has ls 3 [(1, .int (nI o))] → W p l e R s m args below meth c H locs cells slots Q (F0 m 50 ls [])) :
    ∀ n i : Nat, i ≤ 9 → 10 ≤ i + n → ∀ (o : Nat) (ls : Array Slot), (∀ x, o.testBit x = true ↔ (x < i ∧ (∃ ll, ll < 512 ∧ cl_El g ll = tot ∧ ll.testBit x = true))) → lv_has ls 3 [(0, .ref h), (1, .int (nI o)), (2, .int (nI i))] → W p l e R s m args below meth c H locs cells slots Q (F0 m 19 ls []) := by
  obtain ⟨hx, hb, -, hown, hts⟩ := id S
  intro n
  induction n with
  | zero => intro i h1 h2; exact absurd h2 (by omega)
  | succ n ih =>
    intro i h1 h2 o ls ho hl
    refine lv_iload_n hx hb dX0_upper_19 rfl (lv_at hl 2 rfl) ?_
    refine lv_bipush (v := nI 9) hx hb dX0_upper_20 (by decide) ?_
    refine xw_icmp_ge (tgt := 50) hx hb (by omega) (by omega) dX0_upper_22 (by decide) (fun c1 => ?_) (fun c1 => ?_)
    · have ei : i = 9 := by omega
      exact kk o ls (ei ▸ ho) (lv_sub hl [1] rfl)
    · have hup := cl_upp_p hg hDo c1 hT
      refine lv_iload_n hx hb dX0_upper_25 rfl (lv_at hl 1 rfl) ?_
      refine lv_aload_n hx hb dX0_upper_26 rfl (lv_at hl 0 rfl) ?_
      refine va_get (D := (dC, dI)) (ci := 0) (v := .ref (q 8)) (C := RX0) (T := TX0) (N := 11) hx hb hts in_X0 hown hK hP 0 rfl rfl 8 (by decide) (hts _ q24) (fun _ h9 => h9) rfl dX0_upper_27 ?_
      refine lv_iload_n hx hb dX0_upper_30 rfl (lv_at hl 2 rfl) ?_
      refine xw_iald hx hb hK hP 9 0 rfl rfl (i) (by omega) (by decide) (v := f8 (i)) (rfl) dX0_upper_31 ?_
      refine lv_if_ge (tgt := 41) hx hb dX0_upper_32 (by decide) (fun c2 => ?_) (fun c2 => ?_)
      · have hn : ¬ D i = 12 := by
          rcases h8 i (by omega) with z | ⟨z, -⟩
          · rw [z.2] at c2
            exact absurd c2 (by decide)
          · omega
        refine lv_iconst (v := nI 0) hx hb dX0_upper_41 (by decide) ?_
        refine lv_ior hx hb dX0_upper_42 ?_
        refine xw_e (y := nI (o ||| 0)) (fa_or _ _) ?_
        refine lv_istore_n (lv' := [(1, .int (nI (o ||| 0))), (0, .ref h), (2, .int (nI i))]) hx hb dX0_upper_43 rfl hl (by decide) rfl (fun ls hl => ?_)
        refine lv_iinc (v := nI (i + 1)) (lv' := [(2, .int (nI (i + 1))), (1, .int (nI (o ||| 0))), (0, .ref h)]) hx hb dX0_upper_44 hl (k := 2) rfl (cw_i1 _) (by decide) rfl (fun ls hl => ?_)
        refine lv_goto (tgt := 19) hx hb dX0_upper_47 (by decide) ?_
        exact ih (i + 1) (by omega) (by omega) _ ls (cl_bit_no ho (fun z => hn (hup.mpr z))) (lv_sub hl [2, 1, 0] rfl)
      · have hn : D i = 12 := by
          rcases h8 i (by omega) with z | ⟨-, z, z2⟩
          · exact z.1
          · rw [z] at c2
            exact absurd (nI_pos' (by omega)) c2
        refine lv_iconst (v := nI 1) hx hb dX0_upper_35 (by decide) ?_
        refine lv_iload_n hx hb dX0_upper_36 rfl (lv_at hl 2 rfl) ?_
        refine lv_ishl hx hb dX0_upper_37 ?_
        refine xw_e (y := nI (2 ^ i)) (cw_shl (by omega)) ?_
        refine lv_goto (tgt := 42) hx hb dX0_upper_38 (by decide) ?_
        refine lv_ior hx hb dX0_upper_42 ?_
        refine xw_e (y := nI (o ||| 2 ^ i)) (fa_or _ _) ?_
        refine lv_istore_n (lv' := [(1, .int (nI (o ||| 2 ^ i))), (0, .ref h), (2, .int (nI i))]) hx hb dX0_upper_43 rfl hl (by decide) rfl (fun ls hl => ?_)
        refine lv_iinc (v := nI (i + 1)) (lv' := [(2, .int (nI (i + 1))), (1, .int (nI (o ||| 2 ^ i))), (0, .ref h)]) hx hb dX0_upper_44 hl (k := 2) rfl (cw_i1 _) (by decide) rfl (fun ls hl => ?_)
        refine lv_goto (tgt := 19) hx hb dX0_upper_47 (by decide) ?_
        exact ih (i + 1) (by omega) (by omega) _ ls (cl_bit_or ho (hup.mp hn)) (lv_sub hl [2, 1, 0] rfl)
set_option maxHeartbeats 4000000 in
set_option maxRecDepth 100000 in
theorem metX0_upper (l : Launch) (dC : Nat → ClassId) (dI : Nat → Nat → Nat) (dA dZ : ClassId) (h : Nat) (q : Nat → Nat) (g : Nat → Nat → Nat) (hD : dX h q) (hg : cl_Ok g) (u : cl_U) : Met l yX0_upper (ws_ yX0_upper cX0_upper 3 (some .int)) cl_rmP (pX dC dI dA dZ h q g u []) (va_Qi (fun (r : Int32) (_ : cl_U) => cl_UppS g r) (fun u' t => va_P (dC, dI) vwCl (wX dA dZ h q g u') t.heap) (aX h q)) 0 0 (aX h q) := by
  refine Met.ofW (cc := cX0_upper) (maxL := 3) (ret := (some .int)) (by decide) rfl ?_
  intro p e s m args below meth c s₁ B hml hv
  obtain ⟨rfl, hv⟩ := hv
  have S : CallFix p m c cX0_upper 3 s _ lw_all RX0 := ⟨B.exec, B.bytes, hml, findClass_of_methodNamed B.named, fun w hw => atoms_spec (ws := ws_ yX0_upper cX0_upper 3 (some .int)) B.pre w (List.mem_cons_of_mem _ hw)⟩
  obtain ⟨hx, hb, -, hown, hts⟩ := id S
  have hr := B.returns
  have hlocks := B.notSynchronized
  obtain ⟨hP, hK⟩ := hv
  have hS : va_S (aX h q) s.heap s.heap [] := va_S.rf
  have hl := lv_entry ([.ref h]) (n := 3) (Nat.le_of_ble_eq_true rfl)
  rw [lg_entry_eq]
  generalize (lg_sl ([.ref h]) ++ List.replicate (3 - (lg_sl ([.ref h])).length) Slot.unset).toArray = ls at hl ⊢
  have hl : lv_has ls 3 [(0, .ref h)] := hl
  refine lv_aload_n hx hb dX0_upper_0 rfl (lv_at hl 0 rfl) ?_
  refine cx_v (As := []) (rest := []) S (metX0_build l dC dI dA dZ h q g hD hg _) (cwV 0 hts (lw_V q74 q76 qs0 q6 q77) rfl rfl rfl (by decide +kernel) ⟨Nat.le_of_ble_eq_true rfl, Nat.le_of_ble_eq_true rfl⟩) hK hP hS rfl hl.1 rfl (Nat.le_of_ble_eq_true rfl) dX0_upper_1 ⟨Nat.zero_le _, Nat.zero_le _⟩ (fun u H locs h7 hP hS => ?_)
  obtain ⟨f7, f8, qe, f10⟩ := u
  refine lv_aload_n hx hb dX0_upper_4 rfl (lv_at hl 0 rfl) ?_
  refine cx_i (As := []) (rest := []) S (metX0_fill l dC dI dA dZ h q g hD f7 f8 qe f10 (cl_build_cap hg) h7) (cwV 0 hts (lw_V q78 q80 qs1 q6 q81) rfl rfl rfl (by decide +kernel) ⟨Nat.le_of_ble_eq_true rfl, Nat.le_of_ble_eq_true rfl⟩) hK hP hS rfl hl.1 rfl (Nat.le_of_ble_eq_true rfl) dX0_upper_5 ⟨Nat.zero_le _, Nat.zero_le _⟩ (fun r u H locs hpo hP hS => ?_)
  obtain ⟨f7, f8, qe, f10⟩ := u
  obtain ⟨tot, Rn, rfl, hDo, h7⟩ := hpo
  refine lv_pop hx hb dX0_upper_8 rfl ?_
  refine lv_aload_n hx hb dX0_upper_9 rfl (lv_at hl 0 rfl) ?_
  refine lv_bipush (v := nI 9) hx hb dX0_upper_10 (by decide) ?_
  refine cx_v (As := [.int (nI 9)]) (rest := []) S (metX0_search l dC dI dA dZ h q g hD f7 f8 qe f10 9 (by decide)) (cwV 1 hts (lw_V q82 q84 qs2 q6 q85) rfl rfl rfl (by decide +kernel) ⟨Nat.le_of_ble_eq_true rfl, Nat.le_of_ble_eq_true rfl⟩) hK hP hS rfl hl.1 rfl (Nat.le_of_ble_eq_true rfl) dX0_upper_12 ⟨Nat.zero_le _, Nat.zero_le _⟩ (fun u H locs hpo hP hS => ?_)
  obtain ⟨f7u, f8, qe, f10⟩ := u
  obtain ⟨e7, hSe⟩ := hpo
  have hSe : cl_Sea f7 9 f8 := hSe
  rw [show f7u = f7 from e7] at hP
  obtain ⟨D, P, hT, h8⟩ := cl_sea_tree hSe h7 hDo.1
  refine lv_iconst (v := nI 0) hx hb dX0_upper_15 (by decide) ?_
  refine lv_istore_n (lv' := [(1, .int (nI 0)), (0, .ref h)]) hx hb dX0_upper_16 rfl hl (by decide) rfl (fun ls hl => ?_)
  refine lv_iconst (v := nI 0) hx hb dX0_upper_17 (by decide) ?_
  refine lv_istore_n (lv' := [(2, .int (nI 0)), (1, .int (nI 0)), (0, .ref h)]) hx hb dX0_upper_18 rfl hl (by decide) rfl (fun ls hl => ?_)
  refine up_1 hg hDo hT h8 S hK hP (fun o ls ho hl => ?_) 10 0 (by decide) (by decide) 0 ls (fun x => ⟨fun z => absurd z (by rw [Nat.zero_testBit]; decide), fun z => absurd z.1 (Nat.not_lt_zero x)⟩) (lv_sub hl [2, 1, 0] rfl)
  refine lv_iload_n hx hb dX0_upper_50 rfl (lv_at hl 0 rfl) ?_
  exact W.iret (v := nI o) hx hb hr (fun t ht hW => ⟨⟨_, (f7, f8, qe, f10), rfl, ⟨o, rfl, tot, cl_least hg hDo, ho⟩, by show va_P _ _ _ t.heap; rw [ht]; exact hP⟩, hS.F ht⟩) hS.2.2 dX0_upper_51
set_option maxHeartbeats 4000000 in
set_option maxRecDepth 100000 in
theorem metX0_with (l : Launch) (dC : Nat → ClassId) (dI : Nat → Nat → Nat) (dA dZ : ClassId) (h : Nat) (q : Nat → Nat) (g : Nat → Nat → Nat) (hD : dX h q) (hg : cl_Ok g) (u : cl_U) (x1 x2 : Int32) : Met l yX0_with (ws_ yX0_with cX0_with 3 (some .int)) cl_rmP (pX dC dI dA dZ h q g u [.int x1, .int x2]) (va_Qi (fun (r : Int32) (_ : cl_U) => cl_With g x1 x2 r) (fun u' t => va_P (dC, dI) vwCl (wX dA dZ h q g u') t.heap) (aX h q)) 0 0 (aX h q) := by
  refine Met.ofW (cc := cX0_with) (maxL := 3) (ret := (some .int)) (by decide) rfl ?_
  intro p e s m args below meth c s₁ B hml hv
  obtain ⟨rfl, hv⟩ := hv
  have S : CallFix p m c cX0_with 3 s _ lw_all RX0 := ⟨B.exec, B.bytes, hml, findClass_of_methodNamed B.named, fun w hw => atoms_spec (ws := ws_ yX0_with cX0_with 3 (some .int)) B.pre w (List.mem_cons_of_mem _ hw)⟩
  obtain ⟨hx, hb, -, hown, hts⟩ := id S
  have hr := B.returns
  have hlocks := B.notSynchronized
  obtain ⟨hP, hK⟩ := hv
  have hS : va_S (aX h q) s.heap s.heap [] := va_S.rf
  have hl := lv_entry ([.ref h, .int x1, .int x2]) (n := 3) (Nat.le_of_ble_eq_true rfl)
  rw [lg_entry_eq]
  generalize (lg_sl ([.ref h, .int x1, .int x2]) ++ List.replicate (3 - (lg_sl ([.ref h, .int x1, .int x2])).length) Slot.unset).toArray = ls at hl ⊢
  have hl : lv_has ls 3 [(0, .ref h), (1, .int x1), (2, .int x2)] := hl
  refine lv_iload_n hx hb dX0_with_0 rfl (lv_at hl 1 rfl) ?_
  refine cs_i (As := [.int x1]) (rest := []) S (metX0_isPlace l x1) (va_cwS 1 hts (lw_S q56 q57 q6 q58) rfl rfl rfl (by decide +kernel) ⟨Nat.le_of_ble_eq_true rfl, Nat.le_of_ble_eq_true rfl⟩) rfl hl.1 rfl (Nat.le_of_ble_eq_true rfl) dX0_with_1 ⟨Nat.zero_le _, Nat.zero_le _⟩ (fun r hr2 => ?_)
  refine lv_if_ne (tgt := 9) hx hb dX0_with_4 (by decide) (fun c1 => ?_) (fun c1 => ?_)
  · obtain ⟨j, hj, rfl⟩ := cl_yes_t hr2 c1
    refine lv_aload_n hx hb dX0_with_9 rfl (lv_at hl 0 rfl) ?_
    refine cx_v (As := []) (rest := []) S (metX0_build l dC dI dA dZ h q g hD hg _) (cwV 0 hts (lw_V q74 q76 qs0 q6 q77) rfl rfl rfl (by decide +kernel) ⟨Nat.le_of_ble_eq_true rfl, Nat.le_of_ble_eq_true rfl⟩) hK hP hS rfl hl.1 rfl (Nat.le_of_ble_eq_true rfl) dX0_with_10 ⟨Nat.zero_le _, Nat.zero_le _⟩ (fun u H locs h7 hP hS => ?_)
    obtain ⟨f7, f8, qe, f10⟩ := u
    refine lv_aload_n hx hb dX0_with_13 rfl (lv_at hl 0 rfl) ?_
    refine lv_iload_n hx hb dX0_with_14 rfl (lv_at hl 1 rfl) ?_
    refine lv_iload_n hx hb dX0_with_15 rfl (lv_at hl 2 rfl) ?_
    refine lv_iconst (v := nI 1) hx hb dX0_with_16 (by decide) ?_
    refine lv_iand hx hb dX0_with_17 ?_
    refine xw_e (y := nI (if cl_b x2 0 then 1 else 0)) (cw_and1 x2) ?_
    refine cx_v (As := [.int (nI j), .int (nI (if cl_b x2 0 then 1 else 0))]) (rest := []) S (metX0_force l dC dI dA dZ h q g hD (f7, f8, qe, f10) h7 j (if cl_b x2 0 then 1 else 0) (by omega) (by split <;> decide)) (cwV 2 hts (lw_V q103 q105 qs4 q6 q106) rfl rfl rfl (by decide +kernel) ⟨Nat.le_of_ble_eq_true rfl, Nat.le_of_ble_eq_true rfl⟩) hK hP hS rfl hl.1 rfl (Nat.le_of_ble_eq_true rfl) dX0_with_18 ⟨Nat.zero_le _, Nat.zero_le _⟩ (fun u H locs h7 hP hS => ?_)
    obtain ⟨f7, f8, qe, f10⟩ := u
    refine lv_aload_n hx hb dX0_with_21 rfl (lv_at hl 0 rfl) ?_
    refine cx_i (As := []) (rest := []) S (metX0_fill l dC dI dA dZ h q g hD f7 f8 qe f10 (cl_force_cap (cl_build_cap hg) (by omega)) h7) (cwV 0 hts (lw_V q78 q80 qs1 q6 q81) rfl rfl rfl (by decide +kernel) ⟨Nat.le_of_ble_eq_true rfl, Nat.le_of_ble_eq_true rfl⟩) hK hP hS rfl hl.1 rfl (Nat.le_of_ble_eq_true rfl) dX0_with_22 ⟨Nat.zero_le _, Nat.zero_le _⟩ (fun r u H locs hpo hP hS => ?_)
    obtain ⟨f7, f8, qe, f10⟩ := u
    obtain ⟨tot, Rn, rfl, hDo, h7⟩ := hpo
    have hw := cl_with hg (by omega) hDo
    rw [show (!decide ((if cl_b x2 0 then 1 else 0) = 0)) = cl_b x2 0 by cases cl_b x2 0 <;> rfl] at hw
    exact W.iret (v := nI tot) hx hb hr (fun t ht hW => ⟨⟨_, (f7, f8, qe, f10), rfl, Or.inr ⟨j, tot, hj, rfl, rfl, hw⟩, by show va_P _ _ _ t.heap; rw [ht]; exact hP⟩, hS.F ht⟩) hS.2.2 dX0_with_25
  · refine lv_iconst (v := -1) hx hb dX0_with_7 (by decide) ?_
    exact W.iret (v := -1) hx hb hr (fun t ht hW => ⟨⟨_, (u), rfl, Or.inl ⟨cl_yes_f hr2 c1, rfl⟩, by show va_P _ _ _ t.heap; rw [ht]; exact hP⟩, hS.F ht⟩) hS.2.2 dX0_with_8
set_option maxHeartbeats 4000000 in
set_option maxRecDepth 100000 in
theorem metX0_apart (l : Launch) (dC : Nat → ClassId) (dI : Nat → Nat → Nat) (dA dZ : ClassId) (h : Nat) (q : Nat → Nat) (g : Nat → Nat → Nat) (hD : dX h q) (hg : cl_Ok g) (u : cl_U) (x1 x2 : Int32) : Met l yX0_apart (ws_ yX0_apart cX0_apart 5 (some .int)) cl_rmP (pX dC dI dA dZ h q g u [.int x1, .int x2]) (va_Qi (fun (r : Int32) (_ : cl_U) => cl_Apart g x1 x2 r) (fun u' t => va_P (dC, dI) vwCl (wX dA dZ h q g u') t.heap) (aX h q)) 0 0 (aX h q) := by
  refine Met.ofW (cc := cX0_apart) (maxL := 5) (ret := (some .int)) (by decide) rfl ?_
  intro p e s m args below meth c s₁ B hml hv
  obtain ⟨rfl, hv⟩ := hv
  have S : CallFix p m c cX0_apart 5 s _ lw_all RX0 := ⟨B.exec, B.bytes, hml, findClass_of_methodNamed B.named, fun w hw => atoms_spec (ws := ws_ yX0_apart cX0_apart 5 (some .int)) B.pre w (List.mem_cons_of_mem _ hw)⟩
  obtain ⟨hx, hb, -, hown, hts⟩ := id S
  have hr := B.returns
  have hlocks := B.notSynchronized
  obtain ⟨hP, hK⟩ := hv
  have hS : va_S (aX h q) s.heap s.heap [] := va_S.rf
  have hl := lv_entry ([.ref h, .int x1, .int x2]) (n := 5) (Nat.le_of_ble_eq_true rfl)
  rw [lg_entry_eq]
  generalize (lg_sl ([.ref h, .int x1, .int x2]) ++ List.replicate (5 - (lg_sl ([.ref h, .int x1, .int x2])).length) Slot.unset).toArray = ls at hl ⊢
  have hl : lv_has ls 5 [(0, .ref h), (1, .int x1), (2, .int x2)] := hl
  refine lv_iload_n hx hb dX0_apart_0 rfl (lv_at hl 1 rfl) ?_
  refine cs_i (As := [.int x1]) (rest := []) S (metX0_isPlace l x1) (va_cwS 1 hts (lw_S q56 q57 q6 q58) rfl rfl rfl (by decide +kernel) ⟨Nat.le_of_ble_eq_true rfl, Nat.le_of_ble_eq_true rfl⟩) rfl hl.1 rfl (Nat.le_of_ble_eq_true rfl) dX0_apart_1 ⟨Nat.zero_le _, Nat.zero_le _⟩ (fun r hr2 => ?_)
  refine lv_if_eq (tgt := 19) hx hb dX0_apart_4 (by decide) (fun c1 => ?_) (fun c1 => ?_)
  · refine lv_iconst (v := -1) hx hb dX0_apart_19 (by decide) ?_
    exact W.iret (v := -1) hx hb hr (fun t ht hW => ⟨⟨_, (u), rfl, Or.inl ⟨fun z => cl_yes_f hr2 c1 z.1, rfl⟩, by show va_P _ _ _ t.heap; rw [ht]; exact hP⟩, hS.F ht⟩) hS.2.2 dX0_apart_20
  · refine lv_iload_n hx hb dX0_apart_7 rfl (lv_at hl 2 rfl) ?_
    refine cs_i (As := [.int x2]) (rest := []) S (metX0_isPlace l x2) (va_cwS 1 hts (lw_S q56 q57 q6 q58) rfl rfl rfl (by decide +kernel) ⟨Nat.le_of_ble_eq_true rfl, Nat.le_of_ble_eq_true rfl⟩) rfl hl.1 rfl (Nat.le_of_ble_eq_true rfl) dX0_apart_8 ⟨Nat.zero_le _, Nat.zero_le _⟩ (fun r hr3 => ?_)
    refine lv_if_eq (tgt := 19) hx hb dX0_apart_11 (by decide) (fun c2 => ?_) (fun c2 => ?_)
    · refine lv_iconst (v := -1) hx hb dX0_apart_19 (by decide) ?_
      exact W.iret (v := -1) hx hb hr (fun t ht hW => ⟨⟨_, (u), rfl, Or.inl ⟨fun z => cl_yes_f hr3 c2 z.2.1, rfl⟩, by show va_P _ _ _ t.heap; rw [ht]; exact hP⟩, hS.F ht⟩) hS.2.2 dX0_apart_20
    · refine lv_iload_n hx hb dX0_apart_14 rfl (lv_at hl 1 rfl) ?_
      refine lv_iload_n hx hb dX0_apart_15 rfl (lv_at hl 2 rfl) ?_
      refine lv_icmp_ne (tgt := 21) hx hb dX0_apart_16 (by decide) (fun c3 => ?_) (fun c3 => ?_)
      · obtain ⟨i, hi, rfl⟩ := cl_yes_t hr2 c1
        obtain ⟨j, hj, rfl⟩ := cl_yes_t hr3 c2
        have hne : i ≠ j := fun z => c3 (by rw [z])
        refine lv_aload_n hx hb dX0_apart_21 rfl (lv_at hl 0 rfl) ?_
        refine cx_v (As := []) (rest := []) S (metX0_build l dC dI dA dZ h q g hD hg _) (cwV 0 hts (lw_V q74 q76 qs0 q6 q77) rfl rfl rfl (by decide +kernel) ⟨Nat.le_of_ble_eq_true rfl, Nat.le_of_ble_eq_true rfl⟩) hK hP hS rfl hl.1 rfl (Nat.le_of_ble_eq_true rfl) dX0_apart_22 ⟨Nat.zero_le _, Nat.zero_le _⟩ (fun u H locs h7 hP hS => ?_)
        obtain ⟨f7, f8, qe, f10⟩ := u
        refine lv_aload_n hx hb dX0_apart_25 rfl (lv_at hl 0 rfl) ?_
        refine lv_iload_n hx hb dX0_apart_26 rfl (lv_at hl 1 rfl) ?_
        refine lv_iconst (v := nI 0) hx hb dX0_apart_27 (by decide) ?_
        refine cx_v (As := [.int (nI i), .int (nI 0)]) (rest := []) S (metX0_force l dC dI dA dZ h q g hD (f7, f8, qe, f10) h7 i 0 (by omega) (by decide)) (cwV 2 hts (lw_V q103 q105 qs4 q6 q106) rfl rfl rfl (by decide +kernel) ⟨Nat.le_of_ble_eq_true rfl, Nat.le_of_ble_eq_true rfl⟩) hK hP hS rfl hl.1 rfl (Nat.le_of_ble_eq_true rfl) dX0_apart_28 ⟨Nat.zero_le _, Nat.zero_le _⟩ (fun u H locs h7 hP hS => ?_)
        obtain ⟨f7, f8, qe, f10⟩ := u
        refine lv_aload_n hx hb dX0_apart_31 rfl (lv_at hl 0 rfl) ?_
        refine lv_iload_n hx hb dX0_apart_32 rfl (lv_at hl 2 rfl) ?_
        refine lv_iconst (v := nI 1) hx hb dX0_apart_33 (by decide) ?_
        refine cx_v (As := [.int (nI j), .int (nI 1)]) (rest := []) S (metX0_force l dC dI dA dZ h q g hD (f7, f8, qe, f10) h7 j 1 (by omega) (by decide)) (cwV 2 hts (lw_V q103 q105 qs4 q6 q106) rfl rfl rfl (by decide +kernel) ⟨Nat.le_of_ble_eq_true rfl, Nat.le_of_ble_eq_true rfl⟩) hK hP hS rfl hl.1 rfl (Nat.le_of_ble_eq_true rfl) dX0_apart_34 ⟨Nat.zero_le _, Nat.zero_le _⟩ (fun u H locs h7 hP hS => ?_)
        obtain ⟨f7, f8, qe, f10⟩ := u
        refine lv_aload_n hx hb dX0_apart_37 rfl (lv_at hl 0 rfl) ?_
        refine cx_i (As := []) (rest := []) S (metX0_fill l dC dI dA dZ h q g hD f7 f8 qe f10 (cl_force_cap (cl_force_cap (cl_build_cap hg) (by omega)) (by omega)) h7) (cwV 0 hts (lw_V q78 q80 qs1 q6 q81) rfl rfl rfl (by decide +kernel) ⟨Nat.le_of_ble_eq_true rfl, Nat.le_of_ble_eq_true rfl⟩) hK hP hS rfl hl.1 rfl (Nat.le_of_ble_eq_true rfl) dX0_apart_38 ⟨Nat.zero_le _, Nat.zero_le _⟩ (fun r u H locs hpo hP hS => ?_)
        obtain ⟨f7, f8, qe, f10⟩ := u
        obtain ⟨ta, Ra, rfl, hDa, h7⟩ := hpo
        refine lv_istore_n (lv' := [(3, .int (nI ta)), (0, .ref h), (1, .int (nI i)), (2, .int (nI j))]) hx hb dX0_apart_41 rfl hl (by decide) rfl (fun ls hl => ?_)
        refine lv_aload_n hx hb dX0_apart_42 rfl (lv_at hl 1 rfl) ?_
        refine cx_v (As := []) (rest := []) S (metX0_build l dC dI dA dZ h q g hD hg _) (cwV 0 hts (lw_V q74 q76 qs0 q6 q77) rfl rfl rfl (by decide +kernel) ⟨Nat.le_of_ble_eq_true rfl, Nat.le_of_ble_eq_true rfl⟩) hK hP hS rfl hl.1 rfl (Nat.le_of_ble_eq_true rfl) dX0_apart_43 ⟨Nat.zero_le _, Nat.zero_le _⟩ (fun u H locs h7 hP hS => ?_)
        obtain ⟨f7, f8, qe, f10⟩ := u
        refine lv_aload_n hx hb dX0_apart_46 rfl (lv_at hl 1 rfl) ?_
        refine lv_iload_n hx hb dX0_apart_47 rfl (lv_at hl 2 rfl) ?_
        refine lv_iconst (v := nI 1) hx hb dX0_apart_48 (by decide) ?_
        refine cx_v (As := [.int (nI i), .int (nI 1)]) (rest := []) S (metX0_force l dC dI dA dZ h q g hD (f7, f8, qe, f10) h7 i 1 (by omega) (by decide)) (cwV 2 hts (lw_V q103 q105 qs4 q6 q106) rfl rfl rfl (by decide +kernel) ⟨Nat.le_of_ble_eq_true rfl, Nat.le_of_ble_eq_true rfl⟩) hK hP hS rfl hl.1 rfl (Nat.le_of_ble_eq_true rfl) dX0_apart_49 ⟨Nat.zero_le _, Nat.zero_le _⟩ (fun u H locs h7 hP hS => ?_)
        obtain ⟨f7, f8, qe, f10⟩ := u
        refine lv_aload_n hx hb dX0_apart_52 rfl (lv_at hl 1 rfl) ?_
        refine lv_iload_n hx hb dX0_apart_53 rfl (lv_at hl 3 rfl) ?_
        refine lv_iconst (v := nI 0) hx hb dX0_apart_54 (by decide) ?_
        refine cx_v (As := [.int (nI j), .int (nI 0)]) (rest := []) S (metX0_force l dC dI dA dZ h q g hD (f7, f8, qe, f10) h7 j 0 (by omega) (by decide)) (cwV 2 hts (lw_V q103 q105 qs4 q6 q106) rfl rfl rfl (by decide +kernel) ⟨Nat.le_of_ble_eq_true rfl, Nat.le_of_ble_eq_true rfl⟩) hK hP hS rfl hl.1 rfl (Nat.le_of_ble_eq_true rfl) dX0_apart_55 ⟨Nat.zero_le _, Nat.zero_le _⟩ (fun u H locs h7 hP hS => ?_)
        obtain ⟨f7, f8, qe, f10⟩ := u
        refine lv_aload_n hx hb dX0_apart_58 rfl (lv_at hl 1 rfl) ?_
        refine cx_i (As := []) (rest := []) S (metX0_fill l dC dI dA dZ h q g hD f7 f8 qe f10 (cl_force_cap (cl_force_cap (cl_build_cap hg) (by omega)) (by omega)) h7) (cwV 0 hts (lw_V q78 q80 qs1 q6 q81) rfl rfl rfl (by decide +kernel) ⟨Nat.le_of_ble_eq_true rfl, Nat.le_of_ble_eq_true rfl⟩) hK hP hS rfl hl.1 rfl (Nat.le_of_ble_eq_true rfl) dX0_apart_59 ⟨Nat.zero_le _, Nat.zero_le _⟩ (fun r u H locs hpo hP hS => ?_)
        obtain ⟨f7, f8, qe, f10⟩ := u
        obtain ⟨tb, Rb, rfl, hDb, h7⟩ := hpo
        have hma := cl_done_lt hg (cl_with2 hg (by omega) (by omega) hne hDa)
        have hmb := cl_done_lt hg (cl_with2 hg (by omega) (by omega) hne hDb)
        have hm := cl_apart hg (by omega) (by omega) hne hDa hDb
        refine lv_istore (lv' := [(4, .int (nI tb)), (3, .int (nI ta)), (0, .ref h), (1, .int (nI i)), (2, .int (nI j))]) hx hb dX0_apart_62 hl (by decide) rfl (fun ls hl => ?_)
        refine lv_iload_n hx hb dX0_apart_64 rfl (lv_at hl 1 rfl) ?_
        refine lv_iload hx hb dX0_apart_65 (lv_at hl 0 rfl) ?_
        refine xw_icmp_ge (tgt := 74) hx hb (by omega) (by omega) dX0_apart_67 (by decide) (fun c4 => ?_) (fun c4 => ?_)
        · rw [if_neg (by omega)] at hm
          refine lv_iload hx hb dX0_apart_74 (lv_at hl 0 rfl) ?_
          exact W.iret (v := nI tb) hx hb hr (fun t ht hW => ⟨⟨_, (f7, f8, qe, f10), rfl, Or.inr ⟨i, j, tb, hi, hj, hne, rfl, rfl, rfl, hm⟩, by show va_P _ _ _ t.heap; rw [ht]; exact hP⟩, hS.F ht⟩) hS.2.2 dX0_apart_76
        · rw [if_pos c4] at hm
          refine lv_iload_n hx hb dX0_apart_70 rfl (lv_at hl 1 rfl) ?_
          refine lv_goto (tgt := 76) hx hb dX0_apart_71 (by decide) ?_
          exact W.iret (v := nI ta) hx hb hr (fun t ht hW => ⟨⟨_, (f7, f8, qe, f10), rfl, Or.inr ⟨i, j, ta, hi, hj, hne, rfl, rfl, rfl, hm⟩, by show va_P _ _ _ t.heap; rw [ht]; exact hP⟩, hS.F ht⟩) hS.2.2 dX0_apart_76
      · refine lv_iconst (v := -1) hx hb dX0_apart_19 (by decide) ?_
        exact W.iret (v := -1) hx hb hr (fun t ht hW => ⟨⟨_, (u), rfl, Or.inl ⟨fun z => z.2.2 c3, rfl⟩, by show va_P _ _ _ t.heap; rw [ht]; exact hP⟩, hS.F ht⟩) hS.2.2 dX0_apart_20
end
section
/-! X.energy -/
theorem cl_et_0 {g : Nat → Nat → Nat} {b : Nat → Bool} {t : Nat} (h : g 2 t = 0) : cl_et g b t = 0 := by
  unfold cl_et
  rw [if_neg (by omega), if_neg (by omega)]
theorem cl_et_u {g : Nat → Nat → Nat} {b : Nat → Bool} {t : Nat} (h : g 2 t ≠ 0) (h1 : g 2 t ≤ 1) (c : (if b (g 3 t) then 1 else 0) < (if b (g 4 t) then 1 else 0)) : cl_et g b t = g 5 t := by
  have e : g 2 t = 1 := by omega
  unfold cl_et
  cases hi : b (g 3 t) <;> cases hj : b (g 4 t) <;> simp [hi, hj, e] at c ⊢
theorem cl_et_v {g : Nat → Nat → Nat} {b : Nat → Bool} {t : Nat} (h : g 2 t ≠ 0) (h1 : g 2 t ≤ 1) (c : (if b (g 4 t) then 1 else 0) < (if b (g 3 t) then 1 else 0)) : cl_et g b t = g 6 t := by
  have e : g 2 t = 1 := by omega
  unfold cl_et
  cases hi : b (g 3 t) <;> cases hj : b (g 4 t) <;> simp [hi, hj, e] at c ⊢
theorem cl_et_e {g : Nat → Nat → Nat} {b : Nat → Bool} {t : Nat} (c : (if b (g 4 t) then 1 else 0) ≤ (if b (g 3 t) then 1 else 0)) (c2 : (if b (g 3 t) then 1 else 0) ≤ (if b (g 4 t) then 1 else 0)) : cl_et g b t = 0 := by
  unfold cl_et
  cases hi : b (g 3 t) <;> cases hj : b (g 4 t) <;> simp [hi, hj] at c c2 ⊢
theorem cl_bit_0 {b : Bool} (c : (if b then 1 else 0) = 0) : b = false := by
  cases b
  · rfl
  · exact absurd c (by decide)
theorem cl_bit_1 {b : Bool} (c : (if b then 1 else 0) ≠ 0) : b = true := by
  cases b
  · exact absurd rfl c
  · rfl
theorem cl_EP_s (g : Nat → Nat → Nat) (b : Nat → Bool) (n : Nat) : cl_EP g b (n + 1) = cl_EP g b n + (if b n then g 1 n else g 0 n) := rfl
theorem cl_ET_s (g : Nat → Nat → Nat) (b : Nat → Bool) (n : Nat) : cl_ET g b (n + 1) = cl_ET g b n + cl_et g b n := rfl
set_option maxHeartbeats 4000000 in
set_option maxRecDepth 100000 in
theorem en_1 {p : Program} {l : Launch} {e : Env} {R : Room} {s : State} {m : MethodId} {args : Array Value} {below : List Frame} {meth : Method} {c : Code} {cells slots : Nat} {Q : State → Prop} {dC : Nat → ClassId} {dI : Nat → Nat → Nat} {dA dZ : ClassId} {h : Nat} {q : Nat → Nat} {g : Nat → Nat → Nat} {u : cl_U} {x1 : Int32} {H : Heap} {locs : List Loc} (S : CallFix p m c cX0_energy 6 s args lw_all RX0) (hK : va_K (dC, dI) vwCl (tX dA dZ) s) (hP : va_P (dC, dI) vwCl (wX dA dZ h q g u) H)
    (kk : ∀ (sm : Nat) (ls : Array Slot), sm = cl_EP g (cl_b x1) 9 → lv_has ls 6 [(0, .ref h), (1, .int x1), (2, .int (nI sm))] → W p l e R s m args below meth c H locs cells slots Q (F0 m 42 ls [])) :
    ∀ n i : Nat, i ≤ 9 → 10 ≤ i + n → ∀ (sm : Nat) (ls : Array Slot), sm = cl_EP g (cl_b x1) i → lv_has ls 6 [(0, .ref h), (1, .int x1), (2, .int (nI sm)), (3, .int (nI i))] → W p l e R s m args below meth c H locs cells slots Q (F0 m 4 ls []) := by
  obtain ⟨hx, hb, -, hown, hts⟩ := id S
  intro n
  induction n with
  | zero => intro i h1 h2; exact absurd h2 (by omega)
  | succ n ih =>
    intro i h1 h2 sm ls hsm hl
    refine lv_iload_n hx hb dX0_energy_4 rfl (lv_at hl 3 rfl) ?_
    refine lv_bipush (v := nI 9) hx hb dX0_energy_5 (by decide) ?_
    refine xw_icmp_ge (tgt := 42) hx hb (by omega) (by omega) dX0_energy_7 (by decide) (fun c1 => ?_) (fun c1 => ?_)
    · have ei : i = 9 := by omega
      exact kk sm ls (ei ▸ hsm) (lv_sub hl [0, 1, 2] rfl)
    · refine lv_iload_n hx hb dX0_energy_10 rfl (lv_at hl 2 rfl) ?_
      refine lv_iload_n hx hb dX0_energy_11 rfl (lv_at hl 1 rfl) ?_
      refine lv_iload_n hx hb dX0_energy_12 rfl (lv_at hl 3 rfl) ?_
      refine lv_iushr hx hb dX0_energy_13 rfl ?_
      refine lv_iconst (v := nI 1) hx hb dX0_energy_14 (by decide) ?_
      refine lv_iand hx hb dX0_energy_15 ?_
      refine xw_e (y := nI (if cl_b x1 i then 1 else 0)) (cw_ush x1 (by omega)) ?_
      refine xw_if_eq (tgt := 28) hx hb (by split <;> decide) dX0_energy_16 (by decide) (fun c2 => ?_) (fun c2 => ?_)
      · have hbit := cl_bit_0 c2
        have e1 : cl_EP g (cl_b x1) (i + 1) = cl_EP g (cl_b x1) i + g 0 i := by
          rw [cl_EP_s, hbit]; rfl
        refine lv_aload_n hx hb dX0_energy_28 rfl (lv_at hl 0 rfl) ?_
        refine va_get (D := (dC, dI)) (ci := 0) (v := .ref (q 0)) (C := RX0) (T := TX0) (N := 11) hx hb hts in_X0 hown hK hP 0 rfl rfl 0 (by decide) (hts _ q16) (fun _ h9 => h9) rfl dX0_energy_29 ?_
        refine lv_iload_n hx hb dX0_energy_32 rfl (lv_at hl 3 rfl) ?_
        refine xw_iald hx hb hK hP 1 0 rfl rfl (i) (by omega) (by decide) (v := nI (g 0 i)) (rfl) dX0_energy_33 ?_
        refine lv_iadd hx hb dX0_energy_34 ?_
        refine xw_e (y := nI (sm + g 0 i)) (nI_add _ _) ?_
        refine lv_istore_n (lv' := [(2, .int (nI (sm + g 0 i))), (0, .ref h), (1, .int x1), (3, .int (nI i))]) hx hb dX0_energy_35 rfl hl (by decide) rfl (fun ls hl => ?_)
        refine lv_iinc (v := nI (i + 1)) (lv' := [(3, .int (nI (i + 1))), (2, .int (nI (sm + g 0 i))), (0, .ref h), (1, .int x1)]) hx hb dX0_energy_36 hl (k := 3) rfl (cw_i1 _) (by decide) rfl (fun ls hl => ?_)
        refine lv_goto (tgt := 4) hx hb dX0_energy_39 (by decide) ?_
        exact ih (i + 1) (by omega) (by omega) _ ls (by rw [e1, hsm]) (lv_sub hl [2, 3, 1, 0] rfl)
      · have hbit := cl_bit_1 c2
        have e1 : cl_EP g (cl_b x1) (i + 1) = cl_EP g (cl_b x1) i + g 1 i := by
          rw [cl_EP_s, hbit]; rfl
        refine lv_aload_n hx hb dX0_energy_19 rfl (lv_at hl 0 rfl) ?_
        refine va_get (D := (dC, dI)) (ci := 0) (v := .ref (q 1)) (C := RX0) (T := TX0) (N := 11) hx hb hts in_X0 hown hK hP 0 rfl rfl 1 (by decide) (hts _ q17) (fun _ h9 => h9) rfl dX0_energy_20 ?_
        refine lv_iload_n hx hb dX0_energy_23 rfl (lv_at hl 3 rfl) ?_
        refine xw_iald hx hb hK hP 2 0 rfl rfl (i) (by omega) (by decide) (v := nI (g 1 i)) (rfl) dX0_energy_24 ?_
        refine lv_goto (tgt := 34) hx hb dX0_energy_25 (by decide) ?_
        refine lv_iadd hx hb dX0_energy_34 ?_
        refine xw_e (y := nI (sm + g 1 i)) (nI_add _ _) ?_
        refine lv_istore_n (lv' := [(2, .int (nI (sm + g 1 i))), (0, .ref h), (1, .int x1), (3, .int (nI i))]) hx hb dX0_energy_35 rfl hl (by decide) rfl (fun ls hl => ?_)
        refine lv_iinc (v := nI (i + 1)) (lv' := [(3, .int (nI (i + 1))), (2, .int (nI (sm + g 1 i))), (0, .ref h), (1, .int x1)]) hx hb dX0_energy_36 hl (k := 3) rfl (cw_i1 _) (by decide) rfl (fun ls hl => ?_)
        refine lv_goto (tgt := 4) hx hb dX0_energy_39 (by decide) ?_
        exact ih (i + 1) (by omega) (by omega) _ ls (by rw [e1, hsm]) (lv_sub hl [2, 3, 1, 0] rfl)
set_option maxHeartbeats 4000000 in
set_option maxRecDepth 100000 in
theorem en_2 {p : Program} {l : Launch} {e : Env} {R : Room} {s : State} {m : MethodId} {args : Array Value} {below : List Frame} {meth : Method} {c : Code} {cells slots : Nat} {Q : State → Prop} {dC : Nat → ClassId} {dI : Nat → Nat → Nat} {dA dZ : ClassId} {h : Nat} {q : Nat → Nat} {g : Nat → Nat → Nat} {u : cl_U} {x1 : Int32} {H : Heap} {locs : List Loc} (hg : cl_Ok g) (S : CallFix p m c cX0_energy 6 s args lw_all RX0) (hK : va_K (dC, dI) vwCl (tX dA dZ) s) (hP : va_P (dC, dI) vwCl (wX dA dZ h q g u) H)
    (kk : ∀ (sm : Nat) (ls : Array Slot), sm = cl_EP g (cl_b x1) 9 + cl_ET g (cl_b x1) 16 → lv_has ls 6 [(0, .ref h), (1, .int x1), (2, .int (nI sm))] → W p l e R s m args below meth c H locs cells slots Q (F0 m 138 ls [])) :
    ∀ n i : Nat, i ≤ 16 → 17 ≤ i + n → ∀ (sm : Nat) (ls : Array Slot), sm = cl_EP g (cl_b x1) 9 + cl_ET g (cl_b x1) i → lv_has ls 6 [(0, .ref h), (1, .int x1), (2, .int (nI sm)), (3, .int (nI i))] → W p l e R s m args below meth c H locs cells slots Q (F0 m 44 ls []) := by
  obtain ⟨hx, hb, -, hown, hts⟩ := id S
  intro n
  induction n with
  | zero => intro i h1 h2; exact absurd h2 (by omega)
  | succ n ih =>
    intro i h1 h2 sm ls hsm hl
    obtain ⟨-, -, hg2, hgt⟩ := id hg
    have hz := hg2 i
    obtain ⟨hz3, hz4, hz5, hz6, -⟩ := hgt i
    have es := cl_ET_s g (cl_b x1) i
    refine lv_iload_n hx hb dX0_energy_44 rfl (lv_at hl 3 rfl) ?_
    refine lv_bipush (v := nI 16) hx hb dX0_energy_45 (by decide) ?_
    refine xw_icmp_ge (tgt := 138) hx hb (by omega) (by omega) dX0_energy_47 (by decide) (fun c1 => ?_) (fun c1 => ?_)
    · have ei : i = 16 := by omega
      exact kk sm ls (ei ▸ hsm) (lv_sub hl [0, 1, 2] rfl)
    · refine lv_iload_n hx hb dX0_energy_50 rfl (lv_at hl 1 rfl) ?_
      refine lv_aload_n hx hb dX0_energy_51 rfl (lv_at hl 0 rfl) ?_
      refine va_get (D := (dC, dI)) (ci := 0) (v := .ref (q 3)) (C := RX0) (T := TX0) (N := 11) hx hb hts in_X0 hown hK hP 0 rfl rfl 3 (by decide) (hts _ q19) (fun _ h9 => h9) rfl dX0_energy_52 ?_
      refine lv_iload_n hx hb dX0_energy_55 rfl (lv_at hl 3 rfl) ?_
      refine xw_iald hx hb hK hP 4 0 rfl rfl (i) (by omega) (by decide) (v := nI (g 3 i)) (rfl) dX0_energy_56 ?_
      refine lv_iushr hx hb dX0_energy_57 rfl ?_
      refine lv_iconst (v := nI 1) hx hb dX0_energy_58 (by decide) ?_
      refine lv_iand hx hb dX0_energy_59 ?_
      refine xw_e (y := nI (if cl_b x1 (g 3 i) then 1 else 0)) (cw_ush x1 (by omega)) ?_
      refine lv_istore (lv' := [(4, .int (nI (if cl_b x1 (g 3 i) then 1 else 0))), (0, .ref h), (1, .int x1), (2, .int (nI sm)), (3, .int (nI i))]) hx hb dX0_energy_60 hl (by decide) rfl (fun ls hl => ?_)
      refine lv_iload_n hx hb dX0_energy_62 rfl (lv_at hl 2 rfl) ?_
      refine lv_aload_n hx hb dX0_energy_63 rfl (lv_at hl 1 rfl) ?_
      refine va_get (D := (dC, dI)) (ci := 0) (v := .ref (q 4)) (C := RX0) (T := TX0) (N := 11) hx hb hts in_X0 hown hK hP 0 rfl rfl 4 (by decide) (hts _ q20) (fun _ h9 => h9) rfl dX0_energy_64 ?_
      refine lv_iload_n hx hb dX0_energy_67 rfl (lv_at hl 4 rfl) ?_
      refine xw_iald hx hb hK hP 5 0 rfl rfl (i) (by omega) (by decide) (v := nI (g 4 i)) (rfl) dX0_energy_68 ?_
      refine lv_iushr hx hb dX0_energy_69 rfl ?_
      refine lv_iconst (v := nI 1) hx hb dX0_energy_70 (by decide) ?_
      refine lv_iand hx hb dX0_energy_71 ?_
      refine xw_e (y := nI (if cl_b x1 (g 4 i) then 1 else 0)) (cw_ush x1 (by omega)) ?_
      refine lv_istore (lv' := [(5, .int (nI (if cl_b x1 (g 4 i) then 1 else 0))), (4, .int (nI (if cl_b x1 (g 3 i) then 1 else 0))), (0, .ref h), (1, .int x1), (2, .int (nI sm)), (3, .int (nI i))]) hx hb dX0_energy_72 hl (by decide) rfl (fun ls hl => ?_)
      refine lv_iload_n hx hb dX0_energy_74 rfl (lv_at hl 4 rfl) ?_
      refine lv_aload_n hx hb dX0_energy_75 rfl (lv_at hl 2 rfl) ?_
      refine va_get (D := (dC, dI)) (ci := 0) (v := .ref (q 2)) (C := RX0) (T := TX0) (N := 11) hx hb hts in_X0 hown hK hP 0 rfl rfl 2 (by decide) (hts _ q18) (fun _ h9 => h9) rfl dX0_energy_76 ?_
      refine lv_iload_n hx hb dX0_energy_79 rfl (lv_at hl 5 rfl) ?_
      refine xw_zald hx hb hK hP 3 1 rfl rfl (i) (by omega) (by decide) (v := nI (g 2 i)) (rfl) dX0_energy_80 ?_
      refine xw_if_eq (tgt := 100) hx hb (by omega) dX0_energy_81 (by decide) (fun cT => ?_) (fun cT => ?_)
      · refine lv_iconst (v := nI 0) hx hb dX0_energy_100 (by decide) ?_
        refine lv_iadd hx hb dX0_energy_101 ?_
        refine xw_e (y := nI (sm + 0)) (nI_add _ _) ?_
        refine lv_istore_n (lv' := [(2, .int (nI (sm + 0))), (5, .int (nI (if cl_b x1 (g 4 i) then 1 else 0))), (4, .int (nI (if cl_b x1 (g 3 i) then 1 else 0))), (0, .ref h), (1, .int x1), (3, .int (nI i))]) hx hb dX0_energy_102 rfl hl (by decide) rfl (fun ls hl => ?_)
        refine lv_iload_n hx hb dX0_energy_103 rfl (lv_at hl 0 rfl) ?_
        refine lv_aload_n hx hb dX0_energy_104 rfl (lv_at hl 3 rfl) ?_
        refine va_get (D := (dC, dI)) (ci := 0) (v := .ref (q 2)) (C := RX0) (T := TX0) (N := 11) hx hb hts in_X0 hown hK hP 0 rfl rfl 2 (by decide) (hts _ q18) (fun _ h9 => h9) rfl dX0_energy_105 ?_
        refine lv_iload_n hx hb dX0_energy_108 rfl (lv_at hl 5 rfl) ?_
        refine xw_zald hx hb hK hP 3 1 rfl rfl (i) (by omega) (by decide) (v := nI (g 2 i)) (rfl) dX0_energy_109 ?_
        refine xw_if_eq (tgt := 129) hx hb (by omega) dX0_energy_110 (by decide) (fun cS => ?_) (fun cS => ?_)
        · have et := cl_et_0 (b := cl_b x1) cT
          refine lv_iconst (v := nI 0) hx hb dX0_energy_129 (by decide) ?_
          refine lv_iadd hx hb dX0_energy_130 ?_
          refine xw_e (y := nI (sm + 0 + 0)) (nI_add _ _) ?_
          refine lv_istore_n (lv' := [(2, .int (nI (sm + 0 + 0))), (5, .int (nI (if cl_b x1 (g 4 i) then 1 else 0))), (4, .int (nI (if cl_b x1 (g 3 i) then 1 else 0))), (0, .ref h), (1, .int x1), (3, .int (nI i))]) hx hb dX0_energy_131 rfl hl (by decide) rfl (fun ls hl => ?_)
          refine lv_iinc (v := nI (i + 1)) (lv' := [(3, .int (nI (i + 1))), (2, .int (nI (sm + 0 + 0))), (5, .int (nI (if cl_b x1 (g 4 i) then 1 else 0))), (4, .int (nI (if cl_b x1 (g 3 i) then 1 else 0))), (0, .ref h), (1, .int x1)]) hx hb dX0_energy_132 hl (k := 5) rfl (cw_i1 _) (by decide) rfl (fun ls hl => ?_)
          refine lv_goto (tgt := 44) hx hb dX0_energy_135 (by decide) ?_
          exact ih (i + 1) (by omega) (by omega) _ ls (by rw [es, et, hsm]; omega) (lv_sub hl [4, 5, 1, 0] rfl)
        · exact absurd cT cS
      · refine lv_iload hx hb dX0_energy_84 (lv_at hl 1 rfl) ?_
        refine lv_iload hx hb dX0_energy_86 (lv_at hl 0 rfl) ?_
        refine xw_icmp_ge (tgt := 100) hx hb (by split <;> decide) (by split <;> decide) dX0_energy_88 (by decide) (fun cU => ?_) (fun cU => ?_)
        · refine lv_iconst (v := nI 0) hx hb dX0_energy_100 (by decide) ?_
          refine lv_iadd hx hb dX0_energy_101 ?_
          refine xw_e (y := nI (sm + 0)) (nI_add _ _) ?_
          refine lv_istore_n (lv' := [(2, .int (nI (sm + 0))), (5, .int (nI (if cl_b x1 (g 4 i) then 1 else 0))), (4, .int (nI (if cl_b x1 (g 3 i) then 1 else 0))), (0, .ref h), (1, .int x1), (3, .int (nI i))]) hx hb dX0_energy_102 rfl hl (by decide) rfl (fun ls hl => ?_)
          refine lv_iload_n hx hb dX0_energy_103 rfl (lv_at hl 0 rfl) ?_
          refine lv_aload_n hx hb dX0_energy_104 rfl (lv_at hl 3 rfl) ?_
          refine va_get (D := (dC, dI)) (ci := 0) (v := .ref (q 2)) (C := RX0) (T := TX0) (N := 11) hx hb hts in_X0 hown hK hP 0 rfl rfl 2 (by decide) (hts _ q18) (fun _ h9 => h9) rfl dX0_energy_105 ?_
          refine lv_iload_n hx hb dX0_energy_108 rfl (lv_at hl 5 rfl) ?_
          refine xw_zald hx hb hK hP 3 1 rfl rfl (i) (by omega) (by decide) (v := nI (g 2 i)) (rfl) dX0_energy_109 ?_
          refine xw_if_eq (tgt := 129) hx hb (by omega) dX0_energy_110 (by decide) (fun cS => ?_) (fun cS => ?_)
          · exact absurd cS cT
          · refine lv_iload hx hb dX0_energy_113 (lv_at hl 2 rfl) ?_
            refine lv_iload hx hb dX0_energy_115 (lv_at hl 1 rfl) ?_
            refine xw_icmp_le (tgt := 129) hx hb (by split <;> decide) (by split <;> decide) dX0_energy_117 (by decide) (fun cV => ?_) (fun cV => ?_)
            · have et := cl_et_e (b := cl_b x1) cU cV
              refine lv_iconst (v := nI 0) hx hb dX0_energy_129 (by decide) ?_
              refine lv_iadd hx hb dX0_energy_130 ?_
              refine xw_e (y := nI (sm + 0 + 0)) (nI_add _ _) ?_
              refine lv_istore_n (lv' := [(2, .int (nI (sm + 0 + 0))), (5, .int (nI (if cl_b x1 (g 4 i) then 1 else 0))), (4, .int (nI (if cl_b x1 (g 3 i) then 1 else 0))), (0, .ref h), (1, .int x1), (3, .int (nI i))]) hx hb dX0_energy_131 rfl hl (by decide) rfl (fun ls hl => ?_)
              refine lv_iinc (v := nI (i + 1)) (lv' := [(3, .int (nI (i + 1))), (2, .int (nI (sm + 0 + 0))), (5, .int (nI (if cl_b x1 (g 4 i) then 1 else 0))), (4, .int (nI (if cl_b x1 (g 3 i) then 1 else 0))), (0, .ref h), (1, .int x1)]) hx hb dX0_energy_132 hl (k := 5) rfl (cw_i1 _) (by decide) rfl (fun ls hl => ?_)
              refine lv_goto (tgt := 44) hx hb dX0_energy_135 (by decide) ?_
              exact ih (i + 1) (by omega) (by omega) _ ls (by rw [es, et, hsm]; omega) (lv_sub hl [4, 5, 1, 0] rfl)
            · have et := cl_et_v (b := cl_b x1) cT hz cV
              refine lv_aload_n hx hb dX0_energy_120 rfl (lv_at hl 3 rfl) ?_
              refine va_get (D := (dC, dI)) (ci := 0) (v := .ref (q 6)) (C := RX0) (T := TX0) (N := 11) hx hb hts in_X0 hown hK hP 0 rfl rfl 6 (by decide) (hts _ q22) (fun _ h9 => h9) rfl dX0_energy_121 ?_
              refine lv_iload_n hx hb dX0_energy_124 rfl (lv_at hl 5 rfl) ?_
              refine xw_iald hx hb hK hP 7 0 rfl rfl (i) (by omega) (by decide) (v := nI (g 6 i)) (rfl) dX0_energy_125 ?_
              refine lv_goto (tgt := 130) hx hb dX0_energy_126 (by decide) ?_
              refine lv_iadd hx hb dX0_energy_130 ?_
              refine xw_e (y := nI (sm + 0 + g 6 i)) (nI_add _ _) ?_
              refine lv_istore_n (lv' := [(2, .int (nI (sm + 0 + g 6 i))), (5, .int (nI (if cl_b x1 (g 4 i) then 1 else 0))), (4, .int (nI (if cl_b x1 (g 3 i) then 1 else 0))), (0, .ref h), (1, .int x1), (3, .int (nI i))]) hx hb dX0_energy_131 rfl hl (by decide) rfl (fun ls hl => ?_)
              refine lv_iinc (v := nI (i + 1)) (lv' := [(3, .int (nI (i + 1))), (2, .int (nI (sm + 0 + g 6 i))), (5, .int (nI (if cl_b x1 (g 4 i) then 1 else 0))), (4, .int (nI (if cl_b x1 (g 3 i) then 1 else 0))), (0, .ref h), (1, .int x1)]) hx hb dX0_energy_132 hl (k := 5) rfl (cw_i1 _) (by decide) rfl (fun ls hl => ?_)
              refine lv_goto (tgt := 44) hx hb dX0_energy_135 (by decide) ?_
              exact ih (i + 1) (by omega) (by omega) _ ls (by rw [es, et, hsm]; omega) (lv_sub hl [4, 5, 1, 0] rfl)
        · refine lv_aload_n hx hb dX0_energy_91 rfl (lv_at hl 2 rfl) ?_
          refine va_get (D := (dC, dI)) (ci := 0) (v := .ref (q 5)) (C := RX0) (T := TX0) (N := 11) hx hb hts in_X0 hown hK hP 0 rfl rfl 5 (by decide) (hts _ q21) (fun _ h9 => h9) rfl dX0_energy_92 ?_
          refine lv_iload_n hx hb dX0_energy_95 rfl (lv_at hl 5 rfl) ?_
          refine xw_iald hx hb hK hP 6 0 rfl rfl (i) (by omega) (by decide) (v := nI (g 5 i)) (rfl) dX0_energy_96 ?_
          refine lv_goto (tgt := 101) hx hb dX0_energy_97 (by decide) ?_
          refine lv_iadd hx hb dX0_energy_101 ?_
          refine xw_e (y := nI (sm + g 5 i)) (nI_add _ _) ?_
          refine lv_istore_n (lv' := [(2, .int (nI (sm + g 5 i))), (5, .int (nI (if cl_b x1 (g 4 i) then 1 else 0))), (4, .int (nI (if cl_b x1 (g 3 i) then 1 else 0))), (0, .ref h), (1, .int x1), (3, .int (nI i))]) hx hb dX0_energy_102 rfl hl (by decide) rfl (fun ls hl => ?_)
          refine lv_iload_n hx hb dX0_energy_103 rfl (lv_at hl 0 rfl) ?_
          refine lv_aload_n hx hb dX0_energy_104 rfl (lv_at hl 3 rfl) ?_
          refine va_get (D := (dC, dI)) (ci := 0) (v := .ref (q 2)) (C := RX0) (T := TX0) (N := 11) hx hb hts in_X0 hown hK hP 0 rfl rfl 2 (by decide) (hts _ q18) (fun _ h9 => h9) rfl dX0_energy_105 ?_
          refine lv_iload_n hx hb dX0_energy_108 rfl (lv_at hl 5 rfl) ?_
          refine xw_zald hx hb hK hP 3 1 rfl rfl (i) (by omega) (by decide) (v := nI (g 2 i)) (rfl) dX0_energy_109 ?_
          refine xw_if_eq (tgt := 129) hx hb (by omega) dX0_energy_110 (by decide) (fun cS => ?_) (fun cS => ?_)
          · exact absurd cS cT
          · refine lv_iload hx hb dX0_energy_113 (lv_at hl 2 rfl) ?_
            refine lv_iload hx hb dX0_energy_115 (lv_at hl 1 rfl) ?_
            refine xw_icmp_le (tgt := 129) hx hb (by split <;> decide) (by split <;> decide) dX0_energy_117 (by decide) (fun cV => ?_) (fun cV => ?_)
            · have et := cl_et_u (b := cl_b x1) cT hz cU
              refine lv_iconst (v := nI 0) hx hb dX0_energy_129 (by decide) ?_
              refine lv_iadd hx hb dX0_energy_130 ?_
              refine xw_e (y := nI (sm + g 5 i + 0)) (nI_add _ _) ?_
              refine lv_istore_n (lv' := [(2, .int (nI (sm + g 5 i + 0))), (5, .int (nI (if cl_b x1 (g 4 i) then 1 else 0))), (4, .int (nI (if cl_b x1 (g 3 i) then 1 else 0))), (0, .ref h), (1, .int x1), (3, .int (nI i))]) hx hb dX0_energy_131 rfl hl (by decide) rfl (fun ls hl => ?_)
              refine lv_iinc (v := nI (i + 1)) (lv' := [(3, .int (nI (i + 1))), (2, .int (nI (sm + g 5 i + 0))), (5, .int (nI (if cl_b x1 (g 4 i) then 1 else 0))), (4, .int (nI (if cl_b x1 (g 3 i) then 1 else 0))), (0, .ref h), (1, .int x1)]) hx hb dX0_energy_132 hl (k := 5) rfl (cw_i1 _) (by decide) rfl (fun ls hl => ?_)
              refine lv_goto (tgt := 44) hx hb dX0_energy_135 (by decide) ?_
              exact ih (i + 1) (by omega) (by omega) _ ls (by rw [es, et, hsm]; omega) (lv_sub hl [4, 5, 1, 0] rfl)
            · exact absurd cV (by omega)
set_option maxHeartbeats 4000000 in
set_option maxRecDepth 100000 in
theorem metX0_energy (l : Launch) (dC : Nat → ClassId) (dI : Nat → Nat → Nat) (dA dZ : ClassId) (h : Nat) (q : Nat → Nat) (g : Nat → Nat → Nat) (hg : cl_Ok g) (u : cl_U) (x1 : Int32) : Met l yX0_energy (ws_ yX0_energy cX0_energy 6 (some .int)) cl_rm0 (pX dC dI dA dZ h q g u [.int x1]) (cw_Si (cl_En g x1)) 0 0 cw_no := by
  refine Met.ofW (cc := cX0_energy) (maxL := 6) (ret := (some .int)) (by decide) rfl ?_
  intro p e s m args below meth c s₁ B hml hv
  obtain ⟨rfl, hv⟩ := hv
  have S : CallFix p m c cX0_energy 6 s _ lw_all RX0 := ⟨B.exec, B.bytes, hml, findClass_of_methodNamed B.named, fun w hw => atoms_spec (ws := ws_ yX0_energy cX0_energy 6 (some .int)) B.pre w (List.mem_cons_of_mem _ hw)⟩
  obtain ⟨hx, hb, -, hown, hts⟩ := id S
  have hr := B.returns
  have hlocks := B.notSynchronized
  obtain ⟨hP, hK⟩ := hv
  have hl := lv_entry ([.ref h, .int x1]) (n := 6) (Nat.le_of_ble_eq_true rfl)
  rw [lg_entry_eq]
  generalize (lg_sl ([.ref h, .int x1]) ++ List.replicate (6 - (lg_sl ([.ref h, .int x1])).length) Slot.unset).toArray = ls at hl ⊢
  have hl : lv_has ls 6 [(0, .ref h), (1, .int x1)] := hl
  refine lv_iconst (v := nI 0) hx hb dX0_energy_0 (by decide) ?_
  refine lv_istore_n (lv' := [(2, .int (nI 0)), (0, .ref h), (1, .int x1)]) hx hb dX0_energy_1 rfl hl (by decide) rfl (fun ls hl => ?_)
  refine lv_iconst (v := nI 0) hx hb dX0_energy_2 (by decide) ?_
  refine lv_istore_n (lv' := [(3, .int (nI 0)), (2, .int (nI 0)), (0, .ref h), (1, .int x1)]) hx hb dX0_energy_3 rfl hl (by decide) rfl (fun ls hl => ?_)
  refine en_1 S hK hP (fun sm ls hsm hl => ?_) 10 0 (by decide) (by decide) 0 ls rfl (lv_sub hl [2, 3, 1, 0] rfl)
  refine lv_iconst (v := nI 0) hx hb dX0_energy_42 (by decide) ?_
  refine lv_istore_n (lv' := [(3, .int (nI 0)), (0, .ref h), (1, .int x1), (2, .int (nI sm))]) hx hb dX0_energy_43 rfl hl (by decide) rfl (fun ls hl => ?_)
  refine en_2 hg S hK hP (fun sm ls hsm hl => ?_) 17 0 (by decide) (by decide) sm ls (by rw [hsm]; rfl) (lv_sub hl [1, 2, 3, 0] rfl)
  refine lv_iload_n hx hb dX0_energy_138 rfl (lv_at hl 2 rfl) ?_
  exact W.iret (v := nI sm) hx hb hr (fun t ht hW => ⟨_, rfl, by rw [hsm]; rfl, ht⟩) (fun _ hq => by cases hq) dX0_energy_139
end
section
/-! X.cost, tie, cut -/
abbrev cl_rmS : Room := { frames := 1, cells := 0, slots := 0, locals := 20 }
def cl_g1 (g : Nat → Nat → Nat) (k : Nat) (f : Nat → Nat) : Nat → Nat → Nat := fun k' => if k' = k then f else g k'
theorem cl_c2_0 (g : Nat → Nat → Nat) (p z : Nat) : cl_up (cl_c2 g) (2 * p) z = cl_c2 (cl_g1 g 0 (cl_up (g 0) p z)) := by
  funext i
  show (if i = 2 * p then z else if i % 2 = 0 then g 0 (i / 2) else g 1 (i / 2)) = (if i % 2 = 0 then (if i / 2 = p then z else g 0 (i / 2)) else g 1 (i / 2))
  by_cases h : i = 2 * p
  · rw [if_pos h, if_pos (by omega), if_pos (by omega)]
  · rw [if_neg h]
    by_cases h2 : i % 2 = 0
    · rw [if_pos h2, if_pos h2, if_neg (by omega)]
    · rw [if_neg h2, if_neg h2]
theorem cl_c2_1 (g : Nat → Nat → Nat) (p z : Nat) : cl_up (cl_c2 g) (2 * p + 1) z = cl_c2 (cl_g1 g 1 (cl_up (g 1) p z)) := by
  funext i
  show (if i = 2 * p + 1 then z else if i % 2 = 0 then g 0 (i / 2) else g 1 (i / 2)) = (if i % 2 = 0 then g 0 (i / 2) else (if i / 2 = p then z else g 1 (i / 2)))
  by_cases h : i = 2 * p + 1
  · rw [if_pos h, if_neg (by omega), if_pos (by omega)]
  · rw [if_neg h]
    by_cases h2 : i % 2 = 0
    · rw [if_pos h2, if_pos h2]
    · rw [if_neg h2, if_neg h2, if_neg (by omega)]
set_option maxHeartbeats 4000000 in
set_option maxRecDepth 100000 in
theorem metX0_cost (l : Launch) (dC : Nat → ClassId) (dI : Nat → Nat → Nat) (dA dZ : ClassId) (h : Nat) (q : Nat → Nat) (g : Nat → Nat → Nat) (hD : dX h q) (u : cl_U) (x1 x2 x3 : Int32) : Met l yX0_cost (ws_ yX0_cost cX0_cost 4 (some .int)) cl_rmS (pX dC dI dA dZ h q g u [.int x1, .int x2, .int x3]) (va_Qi (fun (r : Int32) (g' : Nat → Nat → Nat) => cl_Cost g x1 x2 x3 r g') (fun g' t => va_P (dC, dI) vwCl (wX dA dZ h q g' u) t.heap) (aX h q)) 0 0 (aX h q) := by
  refine Met.ofW (cc := cX0_cost) (maxL := 4) (ret := (some .int)) (by decide) rfl ?_
  intro p e s m args below meth c s₁ B hml hv
  obtain ⟨rfl, hv⟩ := hv
  have S : CallFix p m c cX0_cost 4 s _ lw_all RX0 := ⟨B.exec, B.bytes, hml, findClass_of_methodNamed B.named, fun w hw => atoms_spec (ws := ws_ yX0_cost cX0_cost 4 (some .int)) B.pre w (List.mem_cons_of_mem _ hw)⟩
  obtain ⟨hx, hb, -, hown, hts⟩ := id S
  have hr := B.returns
  have hlocks := B.notSynchronized
  obtain ⟨hP, hK⟩ := hv
  have hS : va_S (aX h q) s.heap s.heap [] := va_S.rf
  have hl := lv_entry ([.ref h, .int x1, .int x2, .int x3]) (n := 4) (Nat.le_of_ble_eq_true rfl)
  rw [lg_entry_eq]
  generalize (lg_sl ([.ref h, .int x1, .int x2, .int x3]) ++ List.replicate (4 - (lg_sl ([.ref h, .int x1, .int x2, .int x3])).length) Slot.unset).toArray = ls at hl ⊢
  have hl : lv_has ls 4 [(0, .ref h), (1, .int x1), (2, .int x2), (3, .int x3)] := hl
  refine lv_iload_n hx hb dX0_cost_0 rfl (lv_at hl 1 rfl) ?_
  refine cs_i (As := [.int x1]) (rest := []) S (metX0_isPlace l x1) (va_cwS 1 hts (lw_S q56 q57 q6 q58) rfl rfl rfl (by decide +kernel) ⟨Nat.le_of_ble_eq_true rfl, Nat.le_of_ble_eq_true rfl⟩) rfl hl.1 rfl (Nat.le_of_ble_eq_true rfl) dX0_cost_1 ⟨Nat.zero_le _, Nat.zero_le _⟩ (fun r hr1 => ?_)
  refine lv_if_eq (tgt := 21) hx hb dX0_cost_4 (by decide) (fun c1 => ?_) (fun c1 => ?_)
  · refine lv_iconst (v := -1) hx hb dX0_cost_21 (by decide) ?_
    exact W.iret (v := -1) hx hb hr (fun t ht hW => ⟨⟨_, g, rfl, Or.inl ⟨fun z => cl_yes_f hr1 c1 (z.1), rfl, rfl⟩, by show va_P _ _ _ t.heap; rw [ht]; exact hP⟩, hS.F ht⟩) hS.2.2 dX0_cost_22
  · refine lv_iload_n hx hb dX0_cost_7 rfl (lv_at hl 2 rfl) ?_
    refine cs_i (As := [.int x2]) (rest := []) S (metX0_isCost l x2) (va_cwS 1 hts (lw_S q59 q60 q6 q61) rfl rfl rfl (by decide +kernel) ⟨Nat.le_of_ble_eq_true rfl, Nat.le_of_ble_eq_true rfl⟩) rfl hl.1 rfl (Nat.le_of_ble_eq_true rfl) dX0_cost_8 ⟨Nat.zero_le _, Nat.zero_le _⟩ (fun r hr2 => ?_)
    refine lv_if_eq (tgt := 21) hx hb dX0_cost_11 (by decide) (fun c2 => ?_) (fun c2 => ?_)
    · refine lv_iconst (v := -1) hx hb dX0_cost_21 (by decide) ?_
      exact W.iret (v := -1) hx hb hr (fun t ht hW => ⟨⟨_, g, rfl, Or.inl ⟨fun z => cl_yes_f hr2 c2 (z.2.1), rfl, rfl⟩, by show va_P _ _ _ t.heap; rw [ht]; exact hP⟩, hS.F ht⟩) hS.2.2 dX0_cost_22
    · refine lv_iload_n hx hb dX0_cost_14 rfl (lv_at hl 3 rfl) ?_
      refine cs_i (As := [.int x3]) (rest := []) S (metX0_isCost l x3) (va_cwS 1 hts (lw_S q59 q60 q6 q61) rfl rfl rfl (by decide +kernel) ⟨Nat.le_of_ble_eq_true rfl, Nat.le_of_ble_eq_true rfl⟩) rfl hl.1 rfl (Nat.le_of_ble_eq_true rfl) dX0_cost_15 ⟨Nat.zero_le _, Nat.zero_le _⟩ (fun r hr3 => ?_)
      refine lv_if_ne (tgt := 23) hx hb dX0_cost_18 (by decide) (fun c3 => ?_) (fun c3 => ?_)
      · obtain ⟨pl, h1, rfl⟩ := cl_yes_t hr1 c1
        obtain ⟨z, h2, rfl⟩ := cl_yes_t hr2 c2
        obtain ⟨o, h3, rfl⟩ := cl_yes_t hr3 c3
        refine lv_aload_n hx hb dX0_cost_23 rfl (lv_at hl 0 rfl) ?_
        refine va_get (D := (dC, dI)) (ci := 0) (v := .ref (q 0)) (C := RX0) (T := TX0) (N := 11) hx hb hts in_X0 hown hK hP 0 rfl rfl 0 (by decide) (hts _ q16) (fun _ h9 => h9) rfl dX0_cost_24 ?_
        refine lv_iload_n hx hb dX0_cost_27 rfl (lv_at hl 1 rfl) ?_
        refine lv_iload_n hx hb dX0_cost_28 rfl (lv_at hl 2 rfl) ?_
        refine xw_iast hx hb hK hP (hD _ _ _ _) hS 1 0 rfl rfl (pl) (by omega) (by decide) dX0_cost_29 (fun H locs hP hS => ?_)
        rw [cw_updN] at hP
        have hP : va_P (dC, dI) vwCl (wX dA dZ h q (cl_g1 g 0 (cl_up (g 0) (pl) (z))) u) H := hP
        refine lv_aload_n hx hb dX0_cost_30 rfl (lv_at hl 0 rfl) ?_
        refine va_get (D := (dC, dI)) (ci := 0) (v := .ref (q 1)) (C := RX0) (T := TX0) (N := 11) hx hb hts in_X0 hown hK hP 0 rfl rfl 1 (by decide) (hts _ q17) (fun _ h9 => h9) rfl dX0_cost_31 ?_
        refine lv_iload_n hx hb dX0_cost_34 rfl (lv_at hl 1 rfl) ?_
        refine lv_iload_n hx hb dX0_cost_35 rfl (lv_at hl 3 rfl) ?_
        refine xw_iast hx hb hK hP (hD _ _ _ _) hS 2 0 rfl rfl (pl) (by omega) (by decide) dX0_cost_36 (fun H locs hP hS => ?_)
        rw [cw_updN] at hP
        have hP : va_P (dC, dI) vwCl (wX dA dZ h q (cl_g1 (cl_g1 g 0 (cl_up (g 0) (pl) (z))) 1 (cl_up ((cl_g1 g 0 (cl_up (g 0) (pl) (z))) 1) (pl) (o))) u) H := hP
        refine lv_iconst (v := nI 0) hx hb dX0_cost_37 (by decide) ?_
        exact W.iret (v := nI 0) hx hb hr (fun t ht hW => ⟨⟨_, (cl_setc g pl z o), rfl, Or.inr ⟨pl, z, o, h1, h2, h3, rfl, rfl, rfl, rfl, rfl⟩, by show va_P _ _ _ t.heap; rw [ht]; exact hP⟩, hS.F ht⟩) hS.2.2 dX0_cost_38
      · refine lv_iconst (v := -1) hx hb dX0_cost_21 (by decide) ?_
        exact W.iret (v := -1) hx hb hr (fun t ht hW => ⟨⟨_, g, rfl, Or.inl ⟨fun z => cl_yes_f hr3 c3 (z.2.2), rfl, rfl⟩, by show va_P _ _ _ t.heap; rw [ht]; exact hP⟩, hS.F ht⟩) hS.2.2 dX0_cost_22
set_option maxHeartbeats 4000000 in
set_option maxRecDepth 100000 in
theorem metX0_tie (l : Launch) (dC : Nat → ClassId) (dI : Nat → Nat → Nat) (dA dZ : ClassId) (h : Nat) (q : Nat → Nat) (g : Nat → Nat → Nat) (hD : dX h q) (u : cl_U) (x1 x2 x3 x4 x5 : Int32) : Met l yX0_tie (ws_ yX0_tie cX0_tie 6 (some .int)) cl_rmS (pX dC dI dA dZ h q g u [.int x1, .int x2, .int x3, .int x4, .int x5]) (va_Qi (fun (r : Int32) (g' : Nat → Nat → Nat) => cl_Tie g x1 x2 x3 x4 x5 r g') (fun g' t => va_P (dC, dI) vwCl (wX dA dZ h q g' u) t.heap) (aX h q)) 0 0 (aX h q) := by
  refine Met.ofW (cc := cX0_tie) (maxL := 6) (ret := (some .int)) (by decide) rfl ?_
  intro p e s m args below meth c s₁ B hml hv
  obtain ⟨rfl, hv⟩ := hv
  have S : CallFix p m c cX0_tie 6 s _ lw_all RX0 := ⟨B.exec, B.bytes, hml, findClass_of_methodNamed B.named, fun w hw => atoms_spec (ws := ws_ yX0_tie cX0_tie 6 (some .int)) B.pre w (List.mem_cons_of_mem _ hw)⟩
  obtain ⟨hx, hb, -, hown, hts⟩ := id S
  have hr := B.returns
  have hlocks := B.notSynchronized
  obtain ⟨hP, hK⟩ := hv
  have hS : va_S (aX h q) s.heap s.heap [] := va_S.rf
  have hl := lv_entry ([.ref h, .int x1, .int x2, .int x3, .int x4, .int x5]) (n := 6) (Nat.le_of_ble_eq_true rfl)
  rw [lg_entry_eq]
  generalize (lg_sl ([.ref h, .int x1, .int x2, .int x3, .int x4, .int x5]) ++ List.replicate (6 - (lg_sl ([.ref h, .int x1, .int x2, .int x3, .int x4, .int x5])).length) Slot.unset).toArray = ls at hl ⊢
  have hl : lv_has ls 6 [(0, .ref h), (1, .int x1), (2, .int x2), (3, .int x3), (4, .int x4), (5, .int x5)] := hl
  refine lv_iload_n hx hb dX0_tie_0 rfl (lv_at hl 1 rfl) ?_
  refine lv_if_lt (tgt := 45) hx hb dX0_tie_1 (by decide) (fun ca => ?_) (fun ca => ?_)
  · refine lv_iconst (v := -1) hx hb dX0_tie_45 (by decide) ?_
    exact W.iret (v := -1) hx hb hr (fun t ht hW => ⟨⟨_, g, rfl, Or.inl ⟨fun z => cl_rg_lt (by decide) ca z.1, rfl, rfl⟩, by show va_P _ _ _ t.heap; rw [ht]; exact hP⟩, hS.F ht⟩) hS.2.2 dX0_tie_46
  · refine lv_iload_n hx hb dX0_tie_4 rfl (lv_at hl 1 rfl) ?_
    refine lv_bipush (v := nI 15) hx hb dX0_tie_5 (by decide) ?_
    refine lv_icmp_gt (tgt := 45) hx hb dX0_tie_7 (by decide) (fun cb => ?_) (fun cb => ?_)
    · refine lv_iconst (v := -1) hx hb dX0_tie_45 (by decide) ?_
      exact W.iret (v := -1) hx hb hr (fun t ht hW => ⟨⟨_, g, rfl, Or.inl ⟨fun z => cl_rg_gt (by decide) cb z.1, rfl, rfl⟩, by show va_P _ _ _ t.heap; rw [ht]; exact hP⟩, hS.F ht⟩) hS.2.2 dX0_tie_46
    · refine lv_iload_n hx hb dX0_tie_10 rfl (lv_at hl 2 rfl) ?_
      refine cs_i (As := [.int x2]) (rest := []) S (metX0_isPlace l x2) (va_cwS 1 hts (lw_S q56 q57 q6 q58) rfl rfl rfl (by decide +kernel) ⟨Nat.le_of_ble_eq_true rfl, Nat.le_of_ble_eq_true rfl⟩) rfl hl.1 rfl (Nat.le_of_ble_eq_true rfl) dX0_tie_11 ⟨Nat.zero_le _, Nat.zero_le _⟩ (fun r hr2 => ?_)
      refine lv_if_eq (tgt := 45) hx hb dX0_tie_14 (by decide) (fun c2 => ?_) (fun c2 => ?_)
      · refine lv_iconst (v := -1) hx hb dX0_tie_45 (by decide) ?_
        exact W.iret (v := -1) hx hb hr (fun t ht hW => ⟨⟨_, g, rfl, Or.inl ⟨fun z => cl_yes_f hr2 c2 (z.2.1), rfl, rfl⟩, by show va_P _ _ _ t.heap; rw [ht]; exact hP⟩, hS.F ht⟩) hS.2.2 dX0_tie_46
      · refine lv_iload_n hx hb dX0_tie_17 rfl (lv_at hl 3 rfl) ?_
        refine cs_i (As := [.int x3]) (rest := []) S (metX0_isPlace l x3) (va_cwS 1 hts (lw_S q56 q57 q6 q58) rfl rfl rfl (by decide +kernel) ⟨Nat.le_of_ble_eq_true rfl, Nat.le_of_ble_eq_true rfl⟩) rfl hl.1 rfl (Nat.le_of_ble_eq_true rfl) dX0_tie_18 ⟨Nat.zero_le _, Nat.zero_le _⟩ (fun r hr3 => ?_)
        refine lv_if_eq (tgt := 45) hx hb dX0_tie_21 (by decide) (fun c3 => ?_) (fun c3 => ?_)
        · refine lv_iconst (v := -1) hx hb dX0_tie_45 (by decide) ?_
          exact W.iret (v := -1) hx hb hr (fun t ht hW => ⟨⟨_, g, rfl, Or.inl ⟨fun z => cl_yes_f hr3 c3 (z.2.2.1), rfl, rfl⟩, by show va_P _ _ _ t.heap; rw [ht]; exact hP⟩, hS.F ht⟩) hS.2.2 dX0_tie_46
        · refine lv_iload_n hx hb dX0_tie_24 rfl (lv_at hl 2 rfl) ?_
          refine lv_iload_n hx hb dX0_tie_25 rfl (lv_at hl 3 rfl) ?_
          refine lv_icmp_eq (tgt := 45) hx hb dX0_tie_26 (by decide) (fun ce => ?_) (fun ce => ?_)
          · refine lv_iconst (v := -1) hx hb dX0_tie_45 (by decide) ?_
            exact W.iret (v := -1) hx hb hr (fun t ht hW => ⟨⟨_, g, rfl, Or.inl ⟨fun z => z.2.2.2.1 ce, rfl, rfl⟩, by show va_P _ _ _ t.heap; rw [ht]; exact hP⟩, hS.F ht⟩) hS.2.2 dX0_tie_46
          · refine lv_iload hx hb dX0_tie_29 (lv_at hl 4 rfl) ?_
            refine cs_i (As := [.int x4]) (rest := []) S (metX0_isCost l x4) (va_cwS 1 hts (lw_S q59 q60 q6 q61) rfl rfl rfl (by decide +kernel) ⟨Nat.le_of_ble_eq_true rfl, Nat.le_of_ble_eq_true rfl⟩) rfl hl.1 rfl (Nat.le_of_ble_eq_true rfl) dX0_tie_31 ⟨Nat.zero_le _, Nat.zero_le _⟩ (fun r hr4 => ?_)
            refine lv_if_eq (tgt := 45) hx hb dX0_tie_34 (by decide) (fun c4 => ?_) (fun c4 => ?_)
            · refine lv_iconst (v := -1) hx hb dX0_tie_45 (by decide) ?_
              exact W.iret (v := -1) hx hb hr (fun t ht hW => ⟨⟨_, g, rfl, Or.inl ⟨fun z => cl_yes_f hr4 c4 (z.2.2.2.2.1), rfl, rfl⟩, by show va_P _ _ _ t.heap; rw [ht]; exact hP⟩, hS.F ht⟩) hS.2.2 dX0_tie_46
            · refine lv_iload hx hb dX0_tie_37 (lv_at hl 5 rfl) ?_
              refine cs_i (As := [.int x5]) (rest := []) S (metX0_isCost l x5) (va_cwS 1 hts (lw_S q59 q60 q6 q61) rfl rfl rfl (by decide +kernel) ⟨Nat.le_of_ble_eq_true rfl, Nat.le_of_ble_eq_true rfl⟩) rfl hl.1 rfl (Nat.le_of_ble_eq_true rfl) dX0_tie_39 ⟨Nat.zero_le _, Nat.zero_le _⟩ (fun r hr5 => ?_)
              refine lv_if_ne (tgt := 47) hx hb dX0_tie_42 (by decide) (fun c5 => ?_) (fun c5 => ?_)
              · obtain ⟨tt, h1, rfl⟩ := cl_rg_of (n := 15) (by decide) ca (fa_of_nlt cb)
                obtain ⟨i, h2, rfl⟩ := cl_yes_t hr2 c2
                obtain ⟨j, h3, rfl⟩ := cl_yes_t hr3 c3
                obtain ⟨v4, h4, rfl⟩ := cl_yes_t hr4 c4
                obtain ⟨v5, h5, rfl⟩ := cl_yes_t hr5 c5
                refine lv_aload_n hx hb dX0_tie_47 rfl (lv_at hl 0 rfl) ?_
                refine va_get (D := (dC, dI)) (ci := 0) (v := .ref (q 2)) (C := RX0) (T := TX0) (N := 11) hx hb hts in_X0 hown hK hP 0 rfl rfl 2 (by decide) (hts _ q18) (fun _ h9 => h9) rfl dX0_tie_48 ?_
                refine lv_iload_n hx hb dX0_tie_51 rfl (lv_at hl 1 rfl) ?_
                refine lv_iconst (v := nI 1) hx hb dX0_tie_52 (by decide) ?_
                refine xw_zast hx hb hK hP (hD _ _ _ _) hS 3 1 rfl rfl (tt) (by omega) (by decide) (y := nI 1) rfl dX0_tie_53 (fun H locs hP hS => ?_)
                rw [cw_updN] at hP
                have hP : va_P (dC, dI) vwCl (wX dA dZ h q (cl_g1 g 2 (cl_up (g 2) (tt) (1))) u) H := hP
                refine lv_aload_n hx hb dX0_tie_54 rfl (lv_at hl 0 rfl) ?_
                refine va_get (D := (dC, dI)) (ci := 0) (v := .ref (q 3)) (C := RX0) (T := TX0) (N := 11) hx hb hts in_X0 hown hK hP 0 rfl rfl 3 (by decide) (hts _ q19) (fun _ h9 => h9) rfl dX0_tie_55 ?_
                refine lv_iload_n hx hb dX0_tie_58 rfl (lv_at hl 1 rfl) ?_
                refine lv_iload_n hx hb dX0_tie_59 rfl (lv_at hl 2 rfl) ?_
                refine xw_iast hx hb hK hP (hD _ _ _ _) hS 4 0 rfl rfl (tt) (by omega) (by decide) dX0_tie_60 (fun H locs hP hS => ?_)
                rw [cw_updN] at hP
                have hP : va_P (dC, dI) vwCl (wX dA dZ h q (cl_g1 (cl_g1 g 2 (cl_up (g 2) (tt) (1))) 3 (cl_up ((cl_g1 g 2 (cl_up (g 2) (tt) (1))) 3) (tt) (i))) u) H := hP
                refine lv_aload_n hx hb dX0_tie_61 rfl (lv_at hl 0 rfl) ?_
                refine va_get (D := (dC, dI)) (ci := 0) (v := .ref (q 4)) (C := RX0) (T := TX0) (N := 11) hx hb hts in_X0 hown hK hP 0 rfl rfl 4 (by decide) (hts _ q20) (fun _ h9 => h9) rfl dX0_tie_62 ?_
                refine lv_iload_n hx hb dX0_tie_65 rfl (lv_at hl 1 rfl) ?_
                refine lv_iload_n hx hb dX0_tie_66 rfl (lv_at hl 3 rfl) ?_
                refine xw_iast hx hb hK hP (hD _ _ _ _) hS 5 0 rfl rfl (tt) (by omega) (by decide) dX0_tie_67 (fun H locs hP hS => ?_)
                rw [cw_updN] at hP
                have hP : va_P (dC, dI) vwCl (wX dA dZ h q (cl_g1 (cl_g1 (cl_g1 g 2 (cl_up (g 2) (tt) (1))) 3 (cl_up ((cl_g1 g 2 (cl_up (g 2) (tt) (1))) 3) (tt) (i))) 4 (cl_up ((cl_g1 (cl_g1 g 2 (cl_up (g 2) (tt) (1))) 3 (cl_up ((cl_g1 g 2 (cl_up (g 2) (tt) (1))) 3) (tt) (i))) 4) (tt) (j))) u) H := hP
                refine lv_aload_n hx hb dX0_tie_68 rfl (lv_at hl 0 rfl) ?_
                refine va_get (D := (dC, dI)) (ci := 0) (v := .ref (q 5)) (C := RX0) (T := TX0) (N := 11) hx hb hts in_X0 hown hK hP 0 rfl rfl 5 (by decide) (hts _ q21) (fun _ h9 => h9) rfl dX0_tie_69 ?_
                refine lv_iload_n hx hb dX0_tie_72 rfl (lv_at hl 1 rfl) ?_
                refine lv_iload hx hb dX0_tie_73 (lv_at hl 4 rfl) ?_
                refine xw_iast hx hb hK hP (hD _ _ _ _) hS 6 0 rfl rfl (tt) (by omega) (by decide) dX0_tie_75 (fun H locs hP hS => ?_)
                rw [cw_updN] at hP
                have hP : va_P (dC, dI) vwCl (wX dA dZ h q (cl_g1 (cl_g1 (cl_g1 (cl_g1 g 2 (cl_up (g 2) (tt) (1))) 3 (cl_up ((cl_g1 g 2 (cl_up (g 2) (tt) (1))) 3) (tt) (i))) 4 (cl_up ((cl_g1 (cl_g1 g 2 (cl_up (g 2) (tt) (1))) 3 (cl_up ((cl_g1 g 2 (cl_up (g 2) (tt) (1))) 3) (tt) (i))) 4) (tt) (j))) 5 (cl_up ((cl_g1 (cl_g1 (cl_g1 g 2 (cl_up (g 2) (tt) (1))) 3 (cl_up ((cl_g1 g 2 (cl_up (g 2) (tt) (1))) 3) (tt) (i))) 4 (cl_up ((cl_g1 (cl_g1 g 2 (cl_up (g 2) (tt) (1))) 3 (cl_up ((cl_g1 g 2 (cl_up (g 2) (tt) (1))) 3) (tt) (i))) 4) (tt) (j))) 5) (tt) (v4))) u) H := hP
                refine lv_aload_n hx hb dX0_tie_76 rfl (lv_at hl 0 rfl) ?_
                refine va_get (D := (dC, dI)) (ci := 0) (v := .ref (q 6)) (C := RX0) (T := TX0) (N := 11) hx hb hts in_X0 hown hK hP 0 rfl rfl 6 (by decide) (hts _ q22) (fun _ h9 => h9) rfl dX0_tie_77 ?_
                refine lv_iload_n hx hb dX0_tie_80 rfl (lv_at hl 1 rfl) ?_
                refine lv_iload hx hb dX0_tie_81 (lv_at hl 5 rfl) ?_
                refine xw_iast hx hb hK hP (hD _ _ _ _) hS 7 0 rfl rfl (tt) (by omega) (by decide) dX0_tie_83 (fun H locs hP hS => ?_)
                rw [cw_updN] at hP
                have hP : va_P (dC, dI) vwCl (wX dA dZ h q (cl_g1 (cl_g1 (cl_g1 (cl_g1 (cl_g1 g 2 (cl_up (g 2) (tt) (1))) 3 (cl_up ((cl_g1 g 2 (cl_up (g 2) (tt) (1))) 3) (tt) (i))) 4 (cl_up ((cl_g1 (cl_g1 g 2 (cl_up (g 2) (tt) (1))) 3 (cl_up ((cl_g1 g 2 (cl_up (g 2) (tt) (1))) 3) (tt) (i))) 4) (tt) (j))) 5 (cl_up ((cl_g1 (cl_g1 (cl_g1 g 2 (cl_up (g 2) (tt) (1))) 3 (cl_up ((cl_g1 g 2 (cl_up (g 2) (tt) (1))) 3) (tt) (i))) 4 (cl_up ((cl_g1 (cl_g1 g 2 (cl_up (g 2) (tt) (1))) 3 (cl_up ((cl_g1 g 2 (cl_up (g 2) (tt) (1))) 3) (tt) (i))) 4) (tt) (j))) 5) (tt) (v4))) 6 (cl_up ((cl_g1 (cl_g1 (cl_g1 (cl_g1 g 2 (cl_up (g 2) (tt) (1))) 3 (cl_up ((cl_g1 g 2 (cl_up (g 2) (tt) (1))) 3) (tt) (i))) 4 (cl_up ((cl_g1 (cl_g1 g 2 (cl_up (g 2) (tt) (1))) 3 (cl_up ((cl_g1 g 2 (cl_up (g 2) (tt) (1))) 3) (tt) (i))) 4) (tt) (j))) 5 (cl_up ((cl_g1 (cl_g1 (cl_g1 g 2 (cl_up (g 2) (tt) (1))) 3 (cl_up ((cl_g1 g 2 (cl_up (g 2) (tt) (1))) 3) (tt) (i))) 4 (cl_up ((cl_g1 (cl_g1 g 2 (cl_up (g 2) (tt) (1))) 3 (cl_up ((cl_g1 g 2 (cl_up (g 2) (tt) (1))) 3) (tt) (i))) 4) (tt) (j))) 5) (tt) (v4))) 6) (tt) (v5))) u) H := hP
                refine lv_iconst (v := nI 0) hx hb dX0_tie_84 (by decide) ?_
                exact W.iret (v := nI 0) hx hb hr (fun t ht hW => ⟨⟨_, (cl_sett g tt i j v4 v5), rfl, Or.inr ⟨tt, i, j, v4, v5, h1, h2, h3, fun z => ce (by rw [z]), h4, h5, rfl, rfl, rfl, rfl, rfl, rfl, rfl⟩, by show va_P _ _ _ t.heap; rw [ht]; exact hP⟩, hS.F ht⟩) hS.2.2 dX0_tie_85
              · refine lv_iconst (v := -1) hx hb dX0_tie_45 (by decide) ?_
                exact W.iret (v := -1) hx hb hr (fun t ht hW => ⟨⟨_, g, rfl, Or.inl ⟨fun z => cl_yes_f hr5 c5 (z.2.2.2.2.2), rfl, rfl⟩, by show va_P _ _ _ t.heap; rw [ht]; exact hP⟩, hS.F ht⟩) hS.2.2 dX0_tie_46
set_option maxHeartbeats 4000000 in
set_option maxRecDepth 100000 in
theorem metX0_cut (l : Launch) (dC : Nat → ClassId) (dI : Nat → Nat → Nat) (dA dZ : ClassId) (h : Nat) (q : Nat → Nat) (g : Nat → Nat → Nat) (hD : dX h q) (hg : cl_Ok g) (u : cl_U) (x1 : Int32) : Met l yX0_cut (ws_ yX0_cut cX0_cut 3 (some .int)) cl_rmS (pX dC dI dA dZ h q g u [.int x1]) (va_Qi (fun (r : Int32) (g' : Nat → Nat → Nat) => cl_CutS g x1 r g') (fun g' t => va_P (dC, dI) vwCl (wX dA dZ h q g' u) t.heap) (aX h q)) 0 0 (aX h q) := by
  refine Met.ofW (cc := cX0_cut) (maxL := 3) (ret := (some .int)) (by decide) rfl ?_
  intro p e s m args below meth c s₁ B hml hv
  obtain ⟨rfl, hv⟩ := hv
  have S : CallFix p m c cX0_cut 3 s _ lw_all RX0 := ⟨B.exec, B.bytes, hml, findClass_of_methodNamed B.named, fun w hw => atoms_spec (ws := ws_ yX0_cut cX0_cut 3 (some .int)) B.pre w (List.mem_cons_of_mem _ hw)⟩
  obtain ⟨hx, hb, -, hown, hts⟩ := id S
  have hr := B.returns
  have hlocks := B.notSynchronized
  obtain ⟨hP, hK⟩ := hv
  have hS : va_S (aX h q) s.heap s.heap [] := va_S.rf
  have hl := lv_entry ([.ref h, .int x1]) (n := 3) (Nat.le_of_ble_eq_true rfl)
  rw [lg_entry_eq]
  generalize (lg_sl ([.ref h, .int x1]) ++ List.replicate (3 - (lg_sl ([.ref h, .int x1])).length) Slot.unset).toArray = ls at hl ⊢
  have hl : lv_has ls 3 [(0, .ref h), (1, .int x1)] := hl
  refine lv_iload_n hx hb dX0_cut_0 rfl (lv_at hl 1 rfl) ?_
  refine lv_if_lt (tgt := 10) hx hb dX0_cut_1 (by decide) (fun ca => ?_) (fun ca => ?_)
  · refine lv_iconst (v := -1) hx hb dX0_cut_10 (by decide) ?_
    exact W.iret (v := -1) hx hb hr (fun t ht hW => ⟨⟨_, g, rfl, Or.inl ⟨fun z => cl_rg_lt (by decide) ca z, rfl, rfl⟩, by show va_P _ _ _ t.heap; rw [ht]; exact hP⟩, hS.F ht⟩) hS.2.2 dX0_cut_11
  · refine lv_iload_n hx hb dX0_cut_4 rfl (lv_at hl 1 rfl) ?_
    refine lv_bipush (v := nI 15) hx hb dX0_cut_5 (by decide) ?_
    refine lv_icmp_le (tgt := 12) hx hb dX0_cut_7 (by decide) (fun cb => ?_) (fun cb => ?_)
    · obtain ⟨tt, h1, rfl⟩ := cl_rg_of (n := 15) (by decide) ca cb
      have hz := hg.2.2.1 tt
      refine lv_aload_n hx hb dX0_cut_12 rfl (lv_at hl 0 rfl) ?_
      refine va_get (D := (dC, dI)) (ci := 0) (v := .ref (q 2)) (C := RX0) (T := TX0) (N := 11) hx hb hts in_X0 hown hK hP 0 rfl rfl 2 (by decide) (hts _ q18) (fun _ h9 => h9) rfl dX0_cut_13 ?_
      refine lv_iload_n hx hb dX0_cut_16 rfl (lv_at hl 1 rfl) ?_
      refine xw_zald hx hb hK hP 3 1 rfl rfl (tt) (by omega) (by decide) (v := nI (g 2 tt)) (rfl) dX0_cut_17 ?_
      refine xw_if_eq (tgt := 25) hx hb (by omega) dX0_cut_18 (by decide) (fun cc => ?_) (fun cc => ?_)
      · refine lv_iconst (v := nI 0) hx hb dX0_cut_25 (by decide) ?_
        refine lv_istore_n (lv' := [(2, .int (nI 0)), (0, .ref h), (1, .int (nI tt))]) hx hb dX0_cut_26 rfl hl (by decide) rfl (fun ls hl => ?_)
        refine lv_aload_n hx hb dX0_cut_27 rfl (lv_at hl 1 rfl) ?_
        refine va_get (D := (dC, dI)) (ci := 0) (v := .ref (q 2)) (C := RX0) (T := TX0) (N := 11) hx hb hts in_X0 hown hK hP 0 rfl rfl 2 (by decide) (hts _ q18) (fun _ h9 => h9) rfl dX0_cut_28 ?_
        refine lv_iload_n hx hb dX0_cut_31 rfl (lv_at hl 2 rfl) ?_
        refine lv_iconst (v := nI 0) hx hb dX0_cut_32 (by decide) ?_
        refine xw_zast hx hb hK hP (hD _ _ _ _) hS 3 1 rfl rfl (tt) (by omega) (by decide) (y := nI 0) rfl dX0_cut_33 (fun H locs hP hS => ?_)
        rw [cw_updN] at hP
        have hP : va_P (dC, dI) vwCl (wX dA dZ h q (cl_g1 g 2 (cl_up (g 2) (tt) (0))) u) H := hP
        refine lv_iload_n hx hb dX0_cut_34 rfl (lv_at hl 0 rfl) ?_
        exact W.iret (v := nI 0) hx hb hr (fun t ht hW => ⟨⟨_, (cl_setx g tt), rfl, Or.inr ⟨tt, h1, rfl, by rw [cc], rfl⟩, by show va_P _ _ _ t.heap; rw [ht]; exact hP⟩, hS.F ht⟩) hS.2.2 dX0_cut_35
      · refine lv_iconst (v := nI 1) hx hb dX0_cut_21 (by decide) ?_
        refine lv_goto (tgt := 26) hx hb dX0_cut_22 (by decide) ?_
        refine lv_istore_n (lv' := [(2, .int (nI 1)), (0, .ref h), (1, .int (nI tt))]) hx hb dX0_cut_26 rfl hl (by decide) rfl (fun ls hl => ?_)
        refine lv_aload_n hx hb dX0_cut_27 rfl (lv_at hl 1 rfl) ?_
        refine va_get (D := (dC, dI)) (ci := 0) (v := .ref (q 2)) (C := RX0) (T := TX0) (N := 11) hx hb hts in_X0 hown hK hP 0 rfl rfl 2 (by decide) (hts _ q18) (fun _ h9 => h9) rfl dX0_cut_28 ?_
        refine lv_iload_n hx hb dX0_cut_31 rfl (lv_at hl 2 rfl) ?_
        refine lv_iconst (v := nI 0) hx hb dX0_cut_32 (by decide) ?_
        refine xw_zast hx hb hK hP (hD _ _ _ _) hS 3 1 rfl rfl (tt) (by omega) (by decide) (y := nI 0) rfl dX0_cut_33 (fun H locs hP hS => ?_)
        rw [cw_updN] at hP
        have hP : va_P (dC, dI) vwCl (wX dA dZ h q (cl_g1 g 2 (cl_up (g 2) (tt) (0))) u) H := hP
        refine lv_iload_n hx hb dX0_cut_34 rfl (lv_at hl 0 rfl) ?_
        exact W.iret (v := nI 1) hx hb hr (fun t ht hW => ⟨⟨_, (cl_setx g tt), rfl, Or.inr ⟨tt, h1, rfl, by rw [show g 2 tt = 1 by omega], rfl⟩, by show va_P _ _ _ t.heap; rw [ht]; exact hP⟩, hS.F ht⟩) hS.2.2 dX0_cut_35
    · refine lv_iconst (v := -1) hx hb dX0_cut_10 (by decide) ?_
      exact W.iret (v := -1) hx hb hr (fun t ht hW => ⟨⟨_, g, rfl, Or.inl ⟨fun z => cl_rg_gt (by decide) (fa_of_nle cb) z, rfl, rfl⟩, by show va_P _ _ _ t.heap; rw [ht]; exact hP⟩, hS.F ht⟩) hS.2.2 dX0_cut_11
end
section
/-! M.cost, tie, cut -/
set_option maxHeartbeats 4000000 in
set_option maxRecDepth 100000 in
theorem metX1_cost (l : Launch) (dC : Nat → ClassId) (dI : Nat → Nat → Nat) (dA dZ : ClassId) (h : Nat) (q : Nat → Nat) (g : Nat → Nat → Nat) (hD : dM h q) (x1 x2 x3 : Int32) : Met l yX1_cost (ws_ yX1_cost cX1_cost 4 (some .int)) cl_rmS (pM dC dI dA dZ h q g [.int x1, .int x2, .int x3]) (va_Qi (fun (r : Int32) (g' : Nat → Nat → Nat) => cl_Cost g x1 x2 x3 r g') (fun g' t => va_P (dC, dI) vwCl (wM dA dZ h q g') t.heap) (aM h q)) 0 0 (aM h q) := by
  refine Met.ofW (cc := cX1_cost) (maxL := 4) (ret := (some .int)) (by decide) rfl ?_
  intro p e s m args below meth c s₁ B hml hv
  obtain ⟨rfl, hv⟩ := hv
  have S : CallFix p m c cX1_cost 4 s _ lw_all RX1 := ⟨B.exec, B.bytes, hml, findClass_of_methodNamed B.named, fun w hw => atoms_spec (ws := ws_ yX1_cost cX1_cost 4 (some .int)) B.pre w (List.mem_cons_of_mem _ hw)⟩
  obtain ⟨hx, hb, -, hown, hts⟩ := id S
  have hr := B.returns
  have hlocks := B.notSynchronized
  obtain ⟨hP, hK⟩ := hv
  have hS : va_S (aM h q) s.heap s.heap [] := va_S.rf
  have hl := lv_entry ([.ref h, .int x1, .int x2, .int x3]) (n := 4) (Nat.le_of_ble_eq_true rfl)
  rw [lg_entry_eq]
  generalize (lg_sl ([.ref h, .int x1, .int x2, .int x3]) ++ List.replicate (4 - (lg_sl ([.ref h, .int x1, .int x2, .int x3])).length) Slot.unset).toArray = ls at hl ⊢
  have hl : lv_has ls 4 [(0, .ref h), (1, .int x1), (2, .int x2), (3, .int x3)] := hl
  refine lv_iload_n hx hb dX1_cost_0 rfl (lv_at hl 1 rfl) ?_
  refine cs_i (As := [.int x1]) (rest := []) S (metX1_bad l x1) (va_cwS 1 hts (lw_S q144 q145 q7 q146) rfl rfl rfl (by decide +kernel) ⟨Nat.le_of_ble_eq_true rfl, Nat.le_of_ble_eq_true rfl⟩) rfl hl.1 rfl (Nat.le_of_ble_eq_true rfl) dX1_cost_1 ⟨Nat.zero_le _, Nat.zero_le _⟩ (fun r hr1 => ?_)
  refine lv_if_ne (tgt := 21) hx hb dX1_cost_4 (by decide) (fun c1 => ?_) (fun c1 => ?_)
  · refine lv_iconst (v := -1) hx hb dX1_cost_21 (by decide) ?_
    exact W.iret (v := -1) hx hb hr (fun t ht hW => ⟨⟨_, g, rfl, Or.inl ⟨fun z => cl_nay_t hr1 c1 (z.1), rfl, rfl⟩, by show va_P _ _ _ t.heap; rw [ht]; exact hP⟩, hS.F ht⟩) hS.2.2 dX1_cost_22
  · refine lv_iload_n hx hb dX1_cost_7 rfl (lv_at hl 2 rfl) ?_
    refine cs_i (As := [.int x2]) (rest := []) S (metX1_badCost l x2) (va_cwS 1 hts (lw_S q147 q148 q7 q149) rfl rfl rfl (by decide +kernel) ⟨Nat.le_of_ble_eq_true rfl, Nat.le_of_ble_eq_true rfl⟩) rfl hl.1 rfl (Nat.le_of_ble_eq_true rfl) dX1_cost_8 ⟨Nat.zero_le _, Nat.zero_le _⟩ (fun r hr2 => ?_)
    refine lv_if_ne (tgt := 21) hx hb dX1_cost_11 (by decide) (fun c2 => ?_) (fun c2 => ?_)
    · refine lv_iconst (v := -1) hx hb dX1_cost_21 (by decide) ?_
      exact W.iret (v := -1) hx hb hr (fun t ht hW => ⟨⟨_, g, rfl, Or.inl ⟨fun z => cl_nay_t hr2 c2 (z.2.1), rfl, rfl⟩, by show va_P _ _ _ t.heap; rw [ht]; exact hP⟩, hS.F ht⟩) hS.2.2 dX1_cost_22
    · refine lv_iload_n hx hb dX1_cost_14 rfl (lv_at hl 3 rfl) ?_
      refine cs_i (As := [.int x3]) (rest := []) S (metX1_badCost l x3) (va_cwS 1 hts (lw_S q147 q148 q7 q149) rfl rfl rfl (by decide +kernel) ⟨Nat.le_of_ble_eq_true rfl, Nat.le_of_ble_eq_true rfl⟩) rfl hl.1 rfl (Nat.le_of_ble_eq_true rfl) dX1_cost_15 ⟨Nat.zero_le _, Nat.zero_le _⟩ (fun r hr3 => ?_)
      refine lv_if_eq (tgt := 23) hx hb dX1_cost_18 (by decide) (fun c3 => ?_) (fun c3 => ?_)
      · obtain ⟨pl, h1, rfl⟩ := cl_nay_f hr1 c1
        obtain ⟨z, h2, rfl⟩ := cl_nay_f hr2 c2
        obtain ⟨o, h3, rfl⟩ := cl_nay_f hr3 c3
        refine lv_aload_n hx hb dX1_cost_23 rfl (lv_at hl 0 rfl) ?_
        refine va_get (D := (dC, dI)) (ci := 1) (v := .ref (q 0)) (C := RX1) (T := TX1) (N := 6) hx hb hts in_X1 hown hK hP 0 rfl rfl 0 (by decide) (hts _ q121) (fun _ h9 => h9) rfl dX1_cost_24 ?_
        refine lv_iconst (v := nI 2) hx hb dX1_cost_27 (by decide) ?_
        refine lv_iload_n hx hb dX1_cost_28 rfl (lv_at hl 1 rfl) ?_
        refine lv_imul hx hb dX1_cost_29 ?_
        refine xw_e (y := nI (2 * pl)) (pk_mul _ _) ?_
        refine lv_iload_n hx hb dX1_cost_30 rfl (lv_at hl 2 rfl) ?_
        refine xw_iast hx hb hK hP (hD _ _ _) hS 1 0 rfl rfl (2 * pl) (by omega) (by decide) dX1_cost_31 (fun H locs hP hS => ?_)
        rw [cw_updN, cl_c2_0] at hP
        have hP : va_P (dC, dI) vwCl (wM dA dZ h q (cl_g1 g 0 (cl_up (g 0) pl (z)))) H := hP
        refine lv_aload_n hx hb dX1_cost_32 rfl (lv_at hl 0 rfl) ?_
        refine va_get (D := (dC, dI)) (ci := 1) (v := .ref (q 0)) (C := RX1) (T := TX1) (N := 6) hx hb hts in_X1 hown hK hP 0 rfl rfl 0 (by decide) (hts _ q121) (fun _ h9 => h9) rfl dX1_cost_33 ?_
        refine lv_iconst (v := nI 2) hx hb dX1_cost_36 (by decide) ?_
        refine lv_iload_n hx hb dX1_cost_37 rfl (lv_at hl 1 rfl) ?_
        refine lv_imul hx hb dX1_cost_38 ?_
        refine xw_e (y := nI (2 * pl)) (pk_mul _ _) ?_
        refine lv_iconst (v := nI 1) hx hb dX1_cost_39 (by decide) ?_
        refine lv_iadd hx hb dX1_cost_40 ?_
        refine xw_e (y := nI (2 * pl + 1)) (nI_add _ _) ?_
        refine lv_iload_n hx hb dX1_cost_41 rfl (lv_at hl 3 rfl) ?_
        refine xw_iast hx hb hK hP (hD _ _ _) hS 1 0 rfl rfl (2 * pl + 1) (by omega) (by decide) dX1_cost_42 (fun H locs hP hS => ?_)
        rw [cw_updN, cl_c2_1] at hP
        have hP : va_P (dC, dI) vwCl (wM dA dZ h q (cl_g1 (cl_g1 g 0 (cl_up (g 0) pl (z))) 1 (cl_up ((cl_g1 g 0 (cl_up (g 0) pl (z))) 1) pl (o)))) H := hP
        refine lv_iconst (v := nI 0) hx hb dX1_cost_43 (by decide) ?_
        exact W.iret (v := nI 0) hx hb hr (fun t ht hW => ⟨⟨_, (cl_setc g pl z o), rfl, Or.inr ⟨pl, z, o, h1, h2, h3, rfl, rfl, rfl, rfl, rfl⟩, by show va_P _ _ _ t.heap; rw [ht]; exact hP⟩, hS.F ht⟩) hS.2.2 dX1_cost_44
      · refine lv_iconst (v := -1) hx hb dX1_cost_21 (by decide) ?_
        exact W.iret (v := -1) hx hb hr (fun t ht hW => ⟨⟨_, g, rfl, Or.inl ⟨fun z => cl_nay_t hr3 c3 (z.2.2), rfl, rfl⟩, by show va_P _ _ _ t.heap; rw [ht]; exact hP⟩, hS.F ht⟩) hS.2.2 dX1_cost_22
set_option maxHeartbeats 4000000 in
set_option maxRecDepth 100000 in
theorem metX1_tie (l : Launch) (dC : Nat → ClassId) (dI : Nat → Nat → Nat) (dA dZ : ClassId) (h : Nat) (q : Nat → Nat) (g : Nat → Nat → Nat) (hD : dM h q) (x1 x2 x3 x4 x5 : Int32) : Met l yX1_tie (ws_ yX1_tie cX1_tie 6 (some .int)) cl_rmS (pM dC dI dA dZ h q g [.int x1, .int x2, .int x3, .int x4, .int x5]) (va_Qi (fun (r : Int32) (g' : Nat → Nat → Nat) => cl_Tie g x1 x2 x3 x4 x5 r g') (fun g' t => va_P (dC, dI) vwCl (wM dA dZ h q g') t.heap) (aM h q)) 0 0 (aM h q) := by
  refine Met.ofW (cc := cX1_tie) (maxL := 6) (ret := (some .int)) (by decide) rfl ?_
  intro p e s m args below meth c s₁ B hml hv
  obtain ⟨rfl, hv⟩ := hv
  have S : CallFix p m c cX1_tie 6 s _ lw_all RX1 := ⟨B.exec, B.bytes, hml, findClass_of_methodNamed B.named, fun w hw => atoms_spec (ws := ws_ yX1_tie cX1_tie 6 (some .int)) B.pre w (List.mem_cons_of_mem _ hw)⟩
  obtain ⟨hx, hb, -, hown, hts⟩ := id S
  have hr := B.returns
  have hlocks := B.notSynchronized
  obtain ⟨hP, hK⟩ := hv
  have hS : va_S (aM h q) s.heap s.heap [] := va_S.rf
  have hl := lv_entry ([.ref h, .int x1, .int x2, .int x3, .int x4, .int x5]) (n := 6) (Nat.le_of_ble_eq_true rfl)
  rw [lg_entry_eq]
  generalize (lg_sl ([.ref h, .int x1, .int x2, .int x3, .int x4, .int x5]) ++ List.replicate (6 - (lg_sl ([.ref h, .int x1, .int x2, .int x3, .int x4, .int x5])).length) Slot.unset).toArray = ls at hl ⊢
  have hl : lv_has ls 6 [(0, .ref h), (1, .int x1), (2, .int x2), (3, .int x3), (4, .int x4), (5, .int x5)] := hl
  refine lv_iload_n hx hb dX1_tie_0 rfl (lv_at hl 1 rfl) ?_
  refine lv_if_lt (tgt := 45) hx hb dX1_tie_1 (by decide) (fun ca => ?_) (fun ca => ?_)
  · refine lv_iconst (v := -1) hx hb dX1_tie_45 (by decide) ?_
    exact W.iret (v := -1) hx hb hr (fun t ht hW => ⟨⟨_, g, rfl, Or.inl ⟨fun z => cl_rg_lt (by decide) ca z.1, rfl, rfl⟩, by show va_P _ _ _ t.heap; rw [ht]; exact hP⟩, hS.F ht⟩) hS.2.2 dX1_tie_46
  · refine lv_iload_n hx hb dX1_tie_4 rfl (lv_at hl 1 rfl) ?_
    refine lv_bipush (v := nI 15) hx hb dX1_tie_5 (by decide) ?_
    refine lv_icmp_gt (tgt := 45) hx hb dX1_tie_7 (by decide) (fun cb => ?_) (fun cb => ?_)
    · refine lv_iconst (v := -1) hx hb dX1_tie_45 (by decide) ?_
      exact W.iret (v := -1) hx hb hr (fun t ht hW => ⟨⟨_, g, rfl, Or.inl ⟨fun z => cl_rg_gt (by decide) cb z.1, rfl, rfl⟩, by show va_P _ _ _ t.heap; rw [ht]; exact hP⟩, hS.F ht⟩) hS.2.2 dX1_tie_46
    · refine lv_iload_n hx hb dX1_tie_10 rfl (lv_at hl 2 rfl) ?_
      refine cs_i (As := [.int x2]) (rest := []) S (metX1_bad l x2) (va_cwS 1 hts (lw_S q144 q145 q7 q146) rfl rfl rfl (by decide +kernel) ⟨Nat.le_of_ble_eq_true rfl, Nat.le_of_ble_eq_true rfl⟩) rfl hl.1 rfl (Nat.le_of_ble_eq_true rfl) dX1_tie_11 ⟨Nat.zero_le _, Nat.zero_le _⟩ (fun r hr2 => ?_)
      refine lv_if_ne (tgt := 45) hx hb dX1_tie_14 (by decide) (fun c2 => ?_) (fun c2 => ?_)
      · refine lv_iconst (v := -1) hx hb dX1_tie_45 (by decide) ?_
        exact W.iret (v := -1) hx hb hr (fun t ht hW => ⟨⟨_, g, rfl, Or.inl ⟨fun z => cl_nay_t hr2 c2 (z.2.1), rfl, rfl⟩, by show va_P _ _ _ t.heap; rw [ht]; exact hP⟩, hS.F ht⟩) hS.2.2 dX1_tie_46
      · refine lv_iload_n hx hb dX1_tie_17 rfl (lv_at hl 3 rfl) ?_
        refine cs_i (As := [.int x3]) (rest := []) S (metX1_bad l x3) (va_cwS 1 hts (lw_S q144 q145 q7 q146) rfl rfl rfl (by decide +kernel) ⟨Nat.le_of_ble_eq_true rfl, Nat.le_of_ble_eq_true rfl⟩) rfl hl.1 rfl (Nat.le_of_ble_eq_true rfl) dX1_tie_18 ⟨Nat.zero_le _, Nat.zero_le _⟩ (fun r hr3 => ?_)
        refine lv_if_ne (tgt := 45) hx hb dX1_tie_21 (by decide) (fun c3 => ?_) (fun c3 => ?_)
        · refine lv_iconst (v := -1) hx hb dX1_tie_45 (by decide) ?_
          exact W.iret (v := -1) hx hb hr (fun t ht hW => ⟨⟨_, g, rfl, Or.inl ⟨fun z => cl_nay_t hr3 c3 (z.2.2.1), rfl, rfl⟩, by show va_P _ _ _ t.heap; rw [ht]; exact hP⟩, hS.F ht⟩) hS.2.2 dX1_tie_46
        · refine lv_iload_n hx hb dX1_tie_24 rfl (lv_at hl 2 rfl) ?_
          refine lv_iload_n hx hb dX1_tie_25 rfl (lv_at hl 3 rfl) ?_
          refine lv_icmp_eq (tgt := 45) hx hb dX1_tie_26 (by decide) (fun ce => ?_) (fun ce => ?_)
          · refine lv_iconst (v := -1) hx hb dX1_tie_45 (by decide) ?_
            exact W.iret (v := -1) hx hb hr (fun t ht hW => ⟨⟨_, g, rfl, Or.inl ⟨fun z => z.2.2.2.1 ce, rfl, rfl⟩, by show va_P _ _ _ t.heap; rw [ht]; exact hP⟩, hS.F ht⟩) hS.2.2 dX1_tie_46
          · refine lv_iload hx hb dX1_tie_29 (lv_at hl 4 rfl) ?_
            refine cs_i (As := [.int x4]) (rest := []) S (metX1_badCost l x4) (va_cwS 1 hts (lw_S q147 q148 q7 q149) rfl rfl rfl (by decide +kernel) ⟨Nat.le_of_ble_eq_true rfl, Nat.le_of_ble_eq_true rfl⟩) rfl hl.1 rfl (Nat.le_of_ble_eq_true rfl) dX1_tie_31 ⟨Nat.zero_le _, Nat.zero_le _⟩ (fun r hr4 => ?_)
            refine lv_if_ne (tgt := 45) hx hb dX1_tie_34 (by decide) (fun c4 => ?_) (fun c4 => ?_)
            · refine lv_iconst (v := -1) hx hb dX1_tie_45 (by decide) ?_
              exact W.iret (v := -1) hx hb hr (fun t ht hW => ⟨⟨_, g, rfl, Or.inl ⟨fun z => cl_nay_t hr4 c4 (z.2.2.2.2.1), rfl, rfl⟩, by show va_P _ _ _ t.heap; rw [ht]; exact hP⟩, hS.F ht⟩) hS.2.2 dX1_tie_46
            · refine lv_iload hx hb dX1_tie_37 (lv_at hl 5 rfl) ?_
              refine cs_i (As := [.int x5]) (rest := []) S (metX1_badCost l x5) (va_cwS 1 hts (lw_S q147 q148 q7 q149) rfl rfl rfl (by decide +kernel) ⟨Nat.le_of_ble_eq_true rfl, Nat.le_of_ble_eq_true rfl⟩) rfl hl.1 rfl (Nat.le_of_ble_eq_true rfl) dX1_tie_39 ⟨Nat.zero_le _, Nat.zero_le _⟩ (fun r hr5 => ?_)
              refine lv_if_eq (tgt := 47) hx hb dX1_tie_42 (by decide) (fun c5 => ?_) (fun c5 => ?_)
              · obtain ⟨tt, h1, rfl⟩ := cl_rg_of (n := 15) (by decide) ca (fa_of_nlt cb)
                obtain ⟨i, h2, rfl⟩ := cl_nay_f hr2 c2
                obtain ⟨j, h3, rfl⟩ := cl_nay_f hr3 c3
                obtain ⟨v4, h4, rfl⟩ := cl_nay_f hr4 c4
                obtain ⟨v5, h5, rfl⟩ := cl_nay_f hr5 c5
                refine lv_aload_n hx hb dX1_tie_47 rfl (lv_at hl 0 rfl) ?_
                refine va_get (D := (dC, dI)) (ci := 1) (v := .ref (q 1)) (C := RX1) (T := TX1) (N := 6) hx hb hts in_X1 hown hK hP 0 rfl rfl 1 (by decide) (hts _ q122) (fun _ h9 => h9) rfl dX1_tie_48 ?_
                refine lv_iload_n hx hb dX1_tie_51 rfl (lv_at hl 1 rfl) ?_
                refine lv_iconst (v := nI 1) hx hb dX1_tie_52 (by decide) ?_
                refine xw_zast hx hb hK hP (hD _ _ _) hS 2 1 rfl rfl (tt) (by omega) (by decide) (y := nI 1) rfl dX1_tie_53 (fun H locs hP hS => ?_)
                rw [cw_updN] at hP
                have hP : va_P (dC, dI) vwCl (wM dA dZ h q (cl_g1 g 2 (cl_up (g 2) (tt) (1)))) H := hP
                refine lv_aload_n hx hb dX1_tie_54 rfl (lv_at hl 0 rfl) ?_
                refine va_get (D := (dC, dI)) (ci := 1) (v := .ref (q 2)) (C := RX1) (T := TX1) (N := 6) hx hb hts in_X1 hown hK hP 0 rfl rfl 2 (by decide) (hts _ q123) (fun _ h9 => h9) rfl dX1_tie_55 ?_
                refine lv_iload_n hx hb dX1_tie_58 rfl (lv_at hl 1 rfl) ?_
                refine lv_iload_n hx hb dX1_tie_59 rfl (lv_at hl 2 rfl) ?_
                refine xw_iast hx hb hK hP (hD _ _ _) hS 3 0 rfl rfl (tt) (by omega) (by decide) dX1_tie_60 (fun H locs hP hS => ?_)
                rw [cw_updN] at hP
                have hP : va_P (dC, dI) vwCl (wM dA dZ h q (cl_g1 (cl_g1 g 2 (cl_up (g 2) (tt) (1))) 3 (cl_up ((cl_g1 g 2 (cl_up (g 2) (tt) (1))) 3) (tt) (i)))) H := hP
                refine lv_aload_n hx hb dX1_tie_61 rfl (lv_at hl 0 rfl) ?_
                refine va_get (D := (dC, dI)) (ci := 1) (v := .ref (q 3)) (C := RX1) (T := TX1) (N := 6) hx hb hts in_X1 hown hK hP 0 rfl rfl 3 (by decide) (hts _ q124) (fun _ h9 => h9) rfl dX1_tie_62 ?_
                refine lv_iload_n hx hb dX1_tie_65 rfl (lv_at hl 1 rfl) ?_
                refine lv_iload_n hx hb dX1_tie_66 rfl (lv_at hl 3 rfl) ?_
                refine xw_iast hx hb hK hP (hD _ _ _) hS 4 0 rfl rfl (tt) (by omega) (by decide) dX1_tie_67 (fun H locs hP hS => ?_)
                rw [cw_updN] at hP
                have hP : va_P (dC, dI) vwCl (wM dA dZ h q (cl_g1 (cl_g1 (cl_g1 g 2 (cl_up (g 2) (tt) (1))) 3 (cl_up ((cl_g1 g 2 (cl_up (g 2) (tt) (1))) 3) (tt) (i))) 4 (cl_up ((cl_g1 (cl_g1 g 2 (cl_up (g 2) (tt) (1))) 3 (cl_up ((cl_g1 g 2 (cl_up (g 2) (tt) (1))) 3) (tt) (i))) 4) (tt) (j)))) H := hP
                refine lv_aload_n hx hb dX1_tie_68 rfl (lv_at hl 0 rfl) ?_
                refine va_get (D := (dC, dI)) (ci := 1) (v := .ref (q 4)) (C := RX1) (T := TX1) (N := 6) hx hb hts in_X1 hown hK hP 0 rfl rfl 4 (by decide) (hts _ q125) (fun _ h9 => h9) rfl dX1_tie_69 ?_
                refine lv_iload_n hx hb dX1_tie_72 rfl (lv_at hl 1 rfl) ?_
                refine lv_iload hx hb dX1_tie_73 (lv_at hl 4 rfl) ?_
                refine xw_iast hx hb hK hP (hD _ _ _) hS 5 0 rfl rfl (tt) (by omega) (by decide) dX1_tie_75 (fun H locs hP hS => ?_)
                rw [cw_updN] at hP
                have hP : va_P (dC, dI) vwCl (wM dA dZ h q (cl_g1 (cl_g1 (cl_g1 (cl_g1 g 2 (cl_up (g 2) (tt) (1))) 3 (cl_up ((cl_g1 g 2 (cl_up (g 2) (tt) (1))) 3) (tt) (i))) 4 (cl_up ((cl_g1 (cl_g1 g 2 (cl_up (g 2) (tt) (1))) 3 (cl_up ((cl_g1 g 2 (cl_up (g 2) (tt) (1))) 3) (tt) (i))) 4) (tt) (j))) 5 (cl_up ((cl_g1 (cl_g1 (cl_g1 g 2 (cl_up (g 2) (tt) (1))) 3 (cl_up ((cl_g1 g 2 (cl_up (g 2) (tt) (1))) 3) (tt) (i))) 4 (cl_up ((cl_g1 (cl_g1 g 2 (cl_up (g 2) (tt) (1))) 3 (cl_up ((cl_g1 g 2 (cl_up (g 2) (tt) (1))) 3) (tt) (i))) 4) (tt) (j))) 5) (tt) (v4)))) H := hP
                refine lv_aload_n hx hb dX1_tie_76 rfl (lv_at hl 0 rfl) ?_
                refine va_get (D := (dC, dI)) (ci := 1) (v := .ref (q 5)) (C := RX1) (T := TX1) (N := 6) hx hb hts in_X1 hown hK hP 0 rfl rfl 5 (by decide) (hts _ q126) (fun _ h9 => h9) rfl dX1_tie_77 ?_
                refine lv_iload_n hx hb dX1_tie_80 rfl (lv_at hl 1 rfl) ?_
                refine lv_iload hx hb dX1_tie_81 (lv_at hl 5 rfl) ?_
                refine xw_iast hx hb hK hP (hD _ _ _) hS 6 0 rfl rfl (tt) (by omega) (by decide) dX1_tie_83 (fun H locs hP hS => ?_)
                rw [cw_updN] at hP
                have hP : va_P (dC, dI) vwCl (wM dA dZ h q (cl_g1 (cl_g1 (cl_g1 (cl_g1 (cl_g1 g 2 (cl_up (g 2) (tt) (1))) 3 (cl_up ((cl_g1 g 2 (cl_up (g 2) (tt) (1))) 3) (tt) (i))) 4 (cl_up ((cl_g1 (cl_g1 g 2 (cl_up (g 2) (tt) (1))) 3 (cl_up ((cl_g1 g 2 (cl_up (g 2) (tt) (1))) 3) (tt) (i))) 4) (tt) (j))) 5 (cl_up ((cl_g1 (cl_g1 (cl_g1 g 2 (cl_up (g 2) (tt) (1))) 3 (cl_up ((cl_g1 g 2 (cl_up (g 2) (tt) (1))) 3) (tt) (i))) 4 (cl_up ((cl_g1 (cl_g1 g 2 (cl_up (g 2) (tt) (1))) 3 (cl_up ((cl_g1 g 2 (cl_up (g 2) (tt) (1))) 3) (tt) (i))) 4) (tt) (j))) 5) (tt) (v4))) 6 (cl_up ((cl_g1 (cl_g1 (cl_g1 (cl_g1 g 2 (cl_up (g 2) (tt) (1))) 3 (cl_up ((cl_g1 g 2 (cl_up (g 2) (tt) (1))) 3) (tt) (i))) 4 (cl_up ((cl_g1 (cl_g1 g 2 (cl_up (g 2) (tt) (1))) 3 (cl_up ((cl_g1 g 2 (cl_up (g 2) (tt) (1))) 3) (tt) (i))) 4) (tt) (j))) 5 (cl_up ((cl_g1 (cl_g1 (cl_g1 g 2 (cl_up (g 2) (tt) (1))) 3 (cl_up ((cl_g1 g 2 (cl_up (g 2) (tt) (1))) 3) (tt) (i))) 4 (cl_up ((cl_g1 (cl_g1 g 2 (cl_up (g 2) (tt) (1))) 3 (cl_up ((cl_g1 g 2 (cl_up (g 2) (tt) (1))) 3) (tt) (i))) 4) (tt) (j))) 5) (tt) (v4))) 6) (tt) (v5)))) H := hP
                refine lv_iconst (v := nI 0) hx hb dX1_tie_84 (by decide) ?_
                exact W.iret (v := nI 0) hx hb hr (fun t ht hW => ⟨⟨_, (cl_sett g tt i j v4 v5), rfl, Or.inr ⟨tt, i, j, v4, v5, h1, h2, h3, fun z => ce (by rw [z]), h4, h5, rfl, rfl, rfl, rfl, rfl, rfl, rfl⟩, by show va_P _ _ _ t.heap; rw [ht]; exact hP⟩, hS.F ht⟩) hS.2.2 dX1_tie_85
              · refine lv_iconst (v := -1) hx hb dX1_tie_45 (by decide) ?_
                exact W.iret (v := -1) hx hb hr (fun t ht hW => ⟨⟨_, g, rfl, Or.inl ⟨fun z => cl_nay_t hr5 c5 (z.2.2.2.2.2), rfl, rfl⟩, by show va_P _ _ _ t.heap; rw [ht]; exact hP⟩, hS.F ht⟩) hS.2.2 dX1_tie_46
set_option maxHeartbeats 4000000 in
set_option maxRecDepth 100000 in
theorem metX1_cut (l : Launch) (dC : Nat → ClassId) (dI : Nat → Nat → Nat) (dA dZ : ClassId) (h : Nat) (q : Nat → Nat) (g : Nat → Nat → Nat) (hD : dM h q) (hg : cl_Ok g) (x1 : Int32) : Met l yX1_cut (ws_ yX1_cut cX1_cut 3 (some .int)) cl_rmS (pM dC dI dA dZ h q g [.int x1]) (va_Qi (fun (r : Int32) (g' : Nat → Nat → Nat) => cl_CutS g x1 r g') (fun g' t => va_P (dC, dI) vwCl (wM dA dZ h q g') t.heap) (aM h q)) 0 0 (aM h q) := by
  refine Met.ofW (cc := cX1_cut) (maxL := 3) (ret := (some .int)) (by decide) rfl ?_
  intro p e s m args below meth c s₁ B hml hv
  obtain ⟨rfl, hv⟩ := hv
  have S : CallFix p m c cX1_cut 3 s _ lw_all RX1 := ⟨B.exec, B.bytes, hml, findClass_of_methodNamed B.named, fun w hw => atoms_spec (ws := ws_ yX1_cut cX1_cut 3 (some .int)) B.pre w (List.mem_cons_of_mem _ hw)⟩
  obtain ⟨hx, hb, -, hown, hts⟩ := id S
  have hr := B.returns
  have hlocks := B.notSynchronized
  obtain ⟨hP, hK⟩ := hv
  have hS : va_S (aM h q) s.heap s.heap [] := va_S.rf
  have hl := lv_entry ([.ref h, .int x1]) (n := 3) (Nat.le_of_ble_eq_true rfl)
  rw [lg_entry_eq]
  generalize (lg_sl ([.ref h, .int x1]) ++ List.replicate (3 - (lg_sl ([.ref h, .int x1])).length) Slot.unset).toArray = ls at hl ⊢
  have hl : lv_has ls 3 [(0, .ref h), (1, .int x1)] := hl
  refine lv_iload_n hx hb dX1_cut_0 rfl (lv_at hl 1 rfl) ?_
  refine lv_if_lt (tgt := 10) hx hb dX1_cut_1 (by decide) (fun ca => ?_) (fun ca => ?_)
  · refine lv_iconst (v := -1) hx hb dX1_cut_10 (by decide) ?_
    exact W.iret (v := -1) hx hb hr (fun t ht hW => ⟨⟨_, g, rfl, Or.inl ⟨fun z => cl_rg_lt (by decide) ca z, rfl, rfl⟩, by show va_P _ _ _ t.heap; rw [ht]; exact hP⟩, hS.F ht⟩) hS.2.2 dX1_cut_11
  · refine lv_iload_n hx hb dX1_cut_4 rfl (lv_at hl 1 rfl) ?_
    refine lv_bipush (v := nI 15) hx hb dX1_cut_5 (by decide) ?_
    refine lv_icmp_le (tgt := 12) hx hb dX1_cut_7 (by decide) (fun cb => ?_) (fun cb => ?_)
    · obtain ⟨tt, h1, rfl⟩ := cl_rg_of (n := 15) (by decide) ca cb
      have hz := hg.2.2.1 tt
      refine lv_aload_n hx hb dX1_cut_12 rfl (lv_at hl 0 rfl) ?_
      refine va_get (D := (dC, dI)) (ci := 1) (v := .ref (q 1)) (C := RX1) (T := TX1) (N := 6) hx hb hts in_X1 hown hK hP 0 rfl rfl 1 (by decide) (hts _ q122) (fun _ h9 => h9) rfl dX1_cut_13 ?_
      refine lv_iload_n hx hb dX1_cut_16 rfl (lv_at hl 1 rfl) ?_
      refine xw_zald hx hb hK hP 2 1 rfl rfl (tt) (by omega) (by decide) (v := nI (g 2 tt)) (rfl) dX1_cut_17 ?_
      refine lv_istore_n (lv' := [(2, .int (nI (g 2 tt))), (0, .ref h), (1, .int (nI tt))]) hx hb dX1_cut_18 rfl hl (by decide) rfl (fun ls hl => ?_)
      refine lv_aload_n hx hb dX1_cut_19 rfl (lv_at hl 1 rfl) ?_
      refine va_get (D := (dC, dI)) (ci := 1) (v := .ref (q 1)) (C := RX1) (T := TX1) (N := 6) hx hb hts in_X1 hown hK hP 0 rfl rfl 1 (by decide) (hts _ q122) (fun _ h9 => h9) rfl dX1_cut_20 ?_
      refine lv_iload_n hx hb dX1_cut_23 rfl (lv_at hl 2 rfl) ?_
      refine lv_iconst (v := nI 0) hx hb dX1_cut_24 (by decide) ?_
      refine xw_zast hx hb hK hP (hD _ _ _) hS 2 1 rfl rfl (tt) (by omega) (by decide) (y := nI 0) rfl dX1_cut_25 (fun H locs hP hS => ?_)
      rw [cw_updN] at hP
      have hP : va_P (dC, dI) vwCl (wM dA dZ h q (cl_g1 g 2 (cl_up (g 2) (tt) (0)))) H := hP
      refine lv_iload_n hx hb dX1_cut_26 rfl (lv_at hl 0 rfl) ?_
      refine xw_if_eq (tgt := 34) hx hb (by omega) dX1_cut_27 (by decide) (fun cc => ?_) (fun cc => ?_)
      · refine lv_iconst (v := nI 0) hx hb dX1_cut_34 (by decide) ?_
        exact W.iret (v := nI 0) hx hb hr (fun t ht hW => ⟨⟨_, (cl_setx g tt), rfl, Or.inr ⟨tt, h1, rfl, by rw [cc], rfl⟩, by show va_P _ _ _ t.heap; rw [ht]; exact hP⟩, hS.F ht⟩) hS.2.2 dX1_cut_35
      · refine lv_iconst (v := nI 1) hx hb dX1_cut_30 (by decide) ?_
        refine lv_goto (tgt := 35) hx hb dX1_cut_31 (by decide) ?_
        exact W.iret (v := nI 1) hx hb hr (fun t ht hW => ⟨⟨_, (cl_setx g tt), rfl, Or.inr ⟨tt, h1, rfl, by rw [show g 2 tt = 1 by omega], rfl⟩, by show va_P _ _ _ t.heap; rw [ht]; exact hP⟩, hS.F ht⟩) hS.2.2 dX1_cut_35
    · refine lv_iconst (v := -1) hx hb dX1_cut_10 (by decide) ?_
      exact W.iret (v := -1) hx hb hr (fun t ht hW => ⟨⟨_, g, rfl, Or.inl ⟨fun z => cl_rg_gt (by decide) (fa_of_nle cb) z, rfl, rfl⟩, by show va_P _ _ _ t.heap; rw [ht]; exact hP⟩, hS.F ht⟩) hS.2.2 dX1_cut_11
end
section
/-! M.energy, least, lower, upper, with, apart: they only read -/
abbrev cl_rmE : Room := { frames := 1, cells := 0, slots := 0, locals := 21 }
abbrev cl_rmL : Room := { frames := 2, cells := 0, slots := 0, locals := 46 }
abbrev cl_rmW : Room := { frames := 3, cells := 0, slots := 0, locals := 69 }
theorem cl_c2_v (g : Nat → Nat → Nat) (b : Bool) (i : Nat) : cl_c2 g (2 * i + (if b then 1 else 0)) = if b then g 1 i else g 0 i := by
  unfold cl_c2
  cases b
  · rw [if_neg Bool.false_ne_true, if_pos (by omega), if_neg Bool.false_ne_true, show (2 * i + 0) / 2 = i by omega]
  · rw [if_pos rfl, if_neg (by omega), if_pos rfl, show (2 * i + 1) / 2 = i by omega]
theorem cl_En_l {g : Nat → Nat → Nat} (hg : cl_Ok g) {l : Nat} {r : Int32} (h : cl_En g (nI l) r) : r = nI (cl_El g l) := by
  rw [show r = nI (cl_E g (cl_b (nI l))) from h, cl_E_cong hg (fun p hp => cw_bit l p (by omega))]
theorem cl_El_le {g : Nat → Nat → Nat} (hg : cl_Ok g) (l : Nat) : cl_El g l ≤ 4100 := cl_E_le hg _
/-- the best among the labellings below i with P -/
def cl_Bst (P : Nat → Prop) (f : Nat → Nat) (i m : Nat) : Prop := m ≤ 1000000 ∧ (∀ l, l < i → P l → m ≤ f l) ∧ (m = 1000000 ∨ ∃ l, l < i ∧ P l ∧ f l = m)
theorem cl_bst_0 (P : Nat → Prop) (f : Nat → Nat) : cl_Bst P f 0 1000000 := ⟨Nat.le_refl _, fun l h => absurd h (Nat.not_lt_zero l), Or.inl rfl⟩
theorem cl_bst_t {P : Nat → Prop} {f : Nat → Nat} {i m : Nat} (h : cl_Bst P f i m) (hp : P i) (hlt : f i < m) : cl_Bst P f (i + 1) (f i) := by
  obtain ⟨h1, h2, -⟩ := h
  refine ⟨by omega, fun l hl hq => ?_, Or.inr ⟨i, by omega, hp, rfl⟩⟩
  rcases Nat.lt_or_ge l i with z | z
  · have := h2 l z hq
    omega
  · rw [show l = i by omega]
    exact Nat.le_refl _
theorem cl_bst_k {P : Nat → Prop} {f : Nat → Nat} {i m : Nat} (h : cl_Bst P f i m) (hk : ¬ P i ∨ m ≤ f i) : cl_Bst P f (i + 1) m := by
  obtain ⟨h1, h2, h3⟩ := h
  refine ⟨h1, fun l hl hq => ?_, ?_⟩
  · rcases Nat.lt_or_ge l i with z | z
    · exact h2 l z hq
    · have e : l = i := by omega
      subst e
      rcases hk with y | y
      · exact absurd hq y
      · exact y
  · rcases h3 with z | ⟨l, a, b⟩
    · exact Or.inl z
    · exact Or.inr ⟨l, by omega, b⟩
theorem cl_bst_e {P : Nat → Prop} {f : Nat → Nat} {m : Nat} (h : cl_Bst P f 512 m) (hx : ∃ l, l < 512 ∧ P l ∧ f l < 1000000) : cl_Min P f m := by
  obtain ⟨h1, h2, h3⟩ := h
  rcases h3 with z | z
  · obtain ⟨l, a, b, c⟩ := hx
    have := h2 l a b
    omega
  · exact ⟨z, h2⟩
theorem cl_ite_eq {a b : Bool} (h : (if a then 1 else 0) = (if b then 1 else 0)) : a = b := by
  cases a <;> cases b
  · rfl
  · exact absurd h (by decide)
  · exact absurd h (by decide)
  · rfl
theorem cl_and_t {f : Nat → Nat} {o i m : Nat} (h : ∀ x, o.testBit x = true ↔ (x < 9 ∧ ∀ l, l < i → f l = m → l.testBit x = true)) (he : f i = m) : ∀ x, (o &&& i).testBit x = true ↔ (x < 9 ∧ ∀ l, l < i + 1 → f l = m → l.testBit x = true) := by
  intro x
  rw [Nat.testBit_and, Bool.and_eq_true, h x]
  constructor
  · rintro ⟨⟨a, b⟩, c⟩
    refine ⟨a, fun l hl hq => ?_⟩
    rcases Nat.lt_or_ge l i with z | z
    · exact b l z hq
    · rw [show l = i by omega]
      exact c
  · rintro ⟨a, b⟩
    exact ⟨⟨a, fun l hl hq => b l (by omega) hq⟩, b i (by omega) he⟩
theorem cl_and_k {f : Nat → Nat} {o i m : Nat} (h : ∀ x, o.testBit x = true ↔ (x < 9 ∧ ∀ l, l < i → f l = m → l.testBit x = true)) (he : f i ≠ m) : ∀ x, o.testBit x = true ↔ (x < 9 ∧ ∀ l, l < i + 1 → f l = m → l.testBit x = true) := by
  intro x
  rw [h x]
  constructor
  · rintro ⟨a, b⟩
    refine ⟨a, fun l hl hq => ?_⟩
    rcases Nat.lt_or_ge l i with z | z
    · exact b l z hq
    · rw [show l = i by omega] at hq
      exact absurd hq he
  · rintro ⟨a, b⟩
    exact ⟨a, fun l hl hq => b l (by omega) hq⟩
theorem cl_or_t {f : Nat → Nat} {o i m : Nat} (hi : i < 512) (h : ∀ x, o.testBit x = true ↔ (x < 9 ∧ ∃ l, l < i ∧ f l = m ∧ l.testBit x = true)) (he : f i = m) : ∀ x, (o ||| i).testBit x = true ↔ (x < 9 ∧ ∃ l, l < i + 1 ∧ f l = m ∧ l.testBit x = true) := by
  intro x
  rw [Nat.testBit_or, Bool.or_eq_true, h x]
  constructor
  · rintro (⟨a, l, b, c, d⟩ | c)
    · exact ⟨a, l, by omega, c, d⟩
    · refine ⟨?_, i, by omega, he, c⟩
      rcases Nat.lt_or_ge x 9 with z | z
      · exact z
      · have : i < 2 ^ x := Nat.lt_of_lt_of_le (show i < 2 ^ 9 from hi) (Nat.pow_le_pow_right (by decide) z)
        rw [Nat.testBit_lt_two_pow this] at c
        cases c
  · rintro ⟨a, l, b, c, d⟩
    rcases Nat.lt_or_ge l i with z | z
    · exact Or.inl ⟨a, l, z, c, d⟩
    · rw [show l = i by omega] at d
      exact Or.inr d
theorem cl_or_k {f : Nat → Nat} {o i m : Nat} (h : ∀ x, o.testBit x = true ↔ (x < 9 ∧ ∃ l, l < i ∧ f l = m ∧ l.testBit x = true)) (he : f i ≠ m) : ∀ x, o.testBit x = true ↔ (x < 9 ∧ ∃ l, l < i + 1 ∧ f l = m ∧ l.testBit x = true) := by
  intro x
  rw [h x]
  constructor
  · rintro ⟨a, l, b, c⟩
    exact ⟨a, l, by omega, c⟩
  · rintro ⟨a, l, b, c, d⟩
    rcases Nat.lt_or_ge l i with z | z
    · exact ⟨a, l, z, c, d⟩
    · rw [show l = i by omega] at c
      exact absurd c he
set_option maxHeartbeats 4000000 in
set_option maxRecDepth 100000 in
theorem em_1 {p : Program} {l : Launch} {e : Env} {s : State} {m : MethodId} {args : Array Value} {below : List Frame} {meth : Method} {c : Code} {Q : State → Prop} {dC : Nat → ClassId} {dI : Nat → Nat → Nat} {dA dZ : ClassId} {h : Nat} {q : Nat → Nat} {g : Nat → Nat → Nat} {x1 : Int32} {H : Heap} {locs : List Loc} (S : CallFix p m c cX1_energy 6 s args lw_all RX1) (hK : va_K (dC, dI) vwCl (tX dA dZ) s) (hP : va_P (dC, dI) vwCl (wM dA dZ h q g) H)
    (kk : ∀ (sm : Nat) (ls : Array Slot), sm = cl_EP g (cl_b x1) 9 → lv_has ls 6 [(0, .ref h), (1, .int x1), (2, .int (nI sm))] → W p l e (headSpec (ws_ yX1_energy cX1_energy 6 (some .int)) cl_rmE).room s m args below meth c H locs 0 0 Q (F0 m 33 ls [])) :
    ∀ n i : Nat, i ≤ 9 → 10 ≤ i + n → ∀ (sm : Nat) (ls : Array Slot), sm = cl_EP g (cl_b x1) i → lv_has ls 6 [(0, .ref h), (1, .int x1), (2, .int (nI sm)), (3, .int (nI i))] → W p l e (headSpec (ws_ yX1_energy cX1_energy 6 (some .int)) cl_rmE).room s m args below meth c H locs 0 0 Q (F0 m 4 ls []) := by
  obtain ⟨hx, hb, -, hown, hts⟩ := id S
  intro n
  induction n with
  | zero => intro i h1 h2; exact absurd h2 (by omega)
  | succ n ih =>
    intro i h1 h2 sm ls hinv hl
    refine lv_iload_n hx hb dX1_energy_4 rfl (lv_at hl 3 rfl) ?_
    refine lv_bipush (v := nI 9) hx hb dX1_energy_5 (by decide) ?_
    refine xw_icmp_ge (tgt := 33) hx hb (by omega) (by omega) dX1_energy_7 (by decide) (fun c1 => ?_) (fun c1 => ?_)
    · have ei : i = 9 := by omega
      exact kk sm ls (ei ▸ hinv) (lv_sub hl [0, 1, 2] rfl)
    · refine lv_iload_n hx hb dX1_energy_10 rfl (lv_at hl 2 rfl) ?_
      refine lv_aload_n hx hb dX1_energy_11 rfl (lv_at hl 0 rfl) ?_
      refine va_get (D := (dC, dI)) (ci := 1) (v := .ref (q 0)) (C := RX1) (T := TX1) (N := 6) hx hb hts in_X1 hown hK hP 0 rfl rfl 0 (by decide) (hts _ q121) (fun _ h9 => h9) rfl dX1_energy_12 ?_
      refine lv_iconst (v := nI 2) hx hb dX1_energy_15 (by decide) ?_
      refine lv_iload_n hx hb dX1_energy_16 rfl (lv_at hl 3 rfl) ?_
      refine lv_imul hx hb dX1_energy_17 ?_
      refine xw_e (y := nI (2 * i)) (pk_mul _ _) ?_
      refine lv_iload_n hx hb dX1_energy_18 rfl (lv_at hl 1 rfl) ?_
      refine lv_iload_n hx hb dX1_energy_19 rfl (lv_at hl 3 rfl) ?_
      refine cs_i (As := [.int x1, .int (nI i)]) (rest := [.int (nI (2 * i)), .ref (q 0), .int (nI sm)]) S (metX1_label l (x1) (i) (by omega)) (va_cwS 2 hts (lw_S q166 q167 q7 q168) rfl rfl rfl (by decide +kernel) ⟨Nat.le_of_ble_eq_true rfl, Nat.le_of_ble_eq_true rfl⟩) rfl hl.1 rfl (Nat.le_of_ble_eq_true rfl) dX1_energy_20 ⟨Nat.zero_le _, Nat.zero_le _⟩ (fun r hr2 => ?_)
      have hr2 : r = nI (if cl_b x1 i then 1 else 0) := hr2
      subst hr2
      have hix : 2 * i + (if cl_b x1 i then 1 else 0) < 18 := by split <;> omega
      have e1 := cl_EP_s g (cl_b x1) i
      refine lv_iadd hx hb dX1_energy_23 ?_
      refine xw_e (y := nI (2 * i + (if cl_b x1 i then 1 else 0))) (nI_add _ _) ?_
      refine xw_iald hx hb hK hP 1 0 rfl rfl (2 * i + (if cl_b x1 i then 1 else 0)) (hix) (by decide) (v := nI (if cl_b x1 i then g 1 i else g 0 i)) (congrArg nI (cl_c2_v g (cl_b x1 i) i)) dX1_energy_24 ?_
      refine lv_iadd hx hb dX1_energy_25 ?_
      refine xw_e (y := nI (sm + (if cl_b x1 i then g 1 i else g 0 i))) (nI_add _ _) ?_
      refine lv_istore_n (lv' := [(2, .int (nI (sm + (if cl_b x1 i then g 1 i else g 0 i)))), (0, .ref h), (1, .int x1), (3, .int (nI i))]) hx hb dX1_energy_26 rfl hl (by decide) rfl (fun ls hl => ?_)
      refine lv_iinc (v := nI (i + 1)) (lv' := [(3, .int (nI (i + 1))), (2, .int (nI (sm + (if cl_b x1 i then g 1 i else g 0 i)))), (0, .ref h), (1, .int x1)]) hx hb dX1_energy_27 hl (k := 3) rfl (cw_i1 _) (by decide) rfl (fun ls hl => ?_)
      refine lv_goto (tgt := 4) hx hb dX1_energy_30 (by decide) ?_
      exact ih (i + 1) (by omega) (by omega) _ ls (by rw [e1, hinv]) (lv_sub hl [2, 3, 1, 0] rfl)
set_option maxHeartbeats 4000000 in
set_option maxRecDepth 100000 in
theorem em_2 {p : Program} {l : Launch} {e : Env} {s : State} {m : MethodId} {args : Array Value} {below : List Frame} {meth : Method} {c : Code} {Q : State → Prop} {dC : Nat → ClassId} {dI : Nat → Nat → Nat} {dA dZ : ClassId} {h : Nat} {q : Nat → Nat} {g : Nat → Nat → Nat} {x1 : Int32} {H : Heap} {locs : List Loc} (hg : cl_Ok g) (S : CallFix p m c cX1_energy 6 s args lw_all RX1) (hK : va_K (dC, dI) vwCl (tX dA dZ) s) (hP : va_P (dC, dI) vwCl (wM dA dZ h q g) H)
    (kk : ∀ (sm : Nat) (ls : Array Slot), sm = cl_EP g (cl_b x1) 9 + cl_ET g (cl_b x1) 16 → lv_has ls 6 [(0, .ref h), (1, .int x1), (2, .int (nI sm))] → W p l e (headSpec (ws_ yX1_energy cX1_energy 6 (some .int)) cl_rmE).room s m args below meth c H locs 0 0 Q (F0 m 121 ls [])) :
    ∀ n i : Nat, i ≤ 16 → 17 ≤ i + n → ∀ (sm : Nat) (ls : Array Slot), sm = cl_EP g (cl_b x1) 9 + cl_ET g (cl_b x1) i → lv_has ls 6 [(0, .ref h), (1, .int x1), (2, .int (nI sm)), (3, .int (nI i))] → W p l e (headSpec (ws_ yX1_energy cX1_energy 6 (some .int)) cl_rmE).room s m args below meth c H locs 0 0 Q (F0 m 35 ls []) := by
  obtain ⟨hx, hb, -, hown, hts⟩ := id S
  intro n
  induction n with
  | zero => intro i h1 h2; exact absurd h2 (by omega)
  | succ n ih =>
    intro i h1 h2 sm ls hinv hl
    obtain ⟨-, -, hg2, hgt⟩ := id hg
    have hz := hg2 i
    obtain ⟨hz3, hz4, hz5, hz6, -⟩ := hgt i
    have es := cl_ET_s g (cl_b x1) i
    refine lv_iload_n hx hb dX1_energy_35 rfl (lv_at hl 3 rfl) ?_
    refine lv_bipush (v := nI 16) hx hb dX1_energy_36 (by decide) ?_
    refine xw_icmp_ge (tgt := 121) hx hb (by omega) (by omega) dX1_energy_38 (by decide) (fun c1 => ?_) (fun c1 => ?_)
    · have ei : i = 16 := by omega
      exact kk sm ls (ei ▸ hinv) (lv_sub hl [0, 1, 2] rfl)
    · refine lv_iload_n hx hb dX1_energy_41 rfl (lv_at hl 1 rfl) ?_
      refine lv_aload_n hx hb dX1_energy_42 rfl (lv_at hl 0 rfl) ?_
      refine va_get (D := (dC, dI)) (ci := 1) (v := .ref (q 2)) (C := RX1) (T := TX1) (N := 6) hx hb hts in_X1 hown hK hP 0 rfl rfl 2 (by decide) (hts _ q123) (fun _ h9 => h9) rfl dX1_energy_43 ?_
      refine lv_iload_n hx hb dX1_energy_46 rfl (lv_at hl 3 rfl) ?_
      refine xw_iald hx hb hK hP 3 0 rfl rfl (i) (by omega) (by decide) (v := nI (g 3 i)) (rfl) dX1_energy_47 ?_
      refine cs_i (As := [.int x1, .int (nI (g 3 i))]) (rest := []) S (metX1_label l (x1) (g 3 i) (by omega)) (va_cwS 2 hts (lw_S q166 q167 q7 q168) rfl rfl rfl (by decide +kernel) ⟨Nat.le_of_ble_eq_true rfl, Nat.le_of_ble_eq_true rfl⟩) rfl hl.1 rfl (Nat.le_of_ble_eq_true rfl) dX1_energy_48 ⟨Nat.zero_le _, Nat.zero_le _⟩ (fun r hr2 => ?_)
      have hr2 : r = nI (if cl_b x1 (g 3 i) then 1 else 0) := hr2
      subst hr2
      refine lv_istore (lv' := [(4, .int (nI (if cl_b x1 (g 3 i) then 1 else 0))), (0, .ref h), (1, .int x1), (2, .int (nI sm)), (3, .int (nI i))]) hx hb dX1_energy_51 hl (by decide) rfl (fun ls hl => ?_)
      refine lv_iload_n hx hb dX1_energy_53 rfl (lv_at hl 2 rfl) ?_
      refine lv_aload_n hx hb dX1_energy_54 rfl (lv_at hl 1 rfl) ?_
      refine va_get (D := (dC, dI)) (ci := 1) (v := .ref (q 3)) (C := RX1) (T := TX1) (N := 6) hx hb hts in_X1 hown hK hP 0 rfl rfl 3 (by decide) (hts _ q124) (fun _ h9 => h9) rfl dX1_energy_55 ?_
      refine lv_iload_n hx hb dX1_energy_58 rfl (lv_at hl 4 rfl) ?_
      refine xw_iald hx hb hK hP 4 0 rfl rfl (i) (by omega) (by decide) (v := nI (g 4 i)) (rfl) dX1_energy_59 ?_
      refine cs_i (As := [.int x1, .int (nI (g 4 i))]) (rest := []) S (metX1_label l (x1) (g 4 i) (by omega)) (va_cwS 2 hts (lw_S q166 q167 q7 q168) rfl rfl rfl (by decide +kernel) ⟨Nat.le_of_ble_eq_true rfl, Nat.le_of_ble_eq_true rfl⟩) rfl hl.1 rfl (Nat.le_of_ble_eq_true rfl) dX1_energy_60 ⟨Nat.zero_le _, Nat.zero_le _⟩ (fun r hr2 => ?_)
      have hr2 : r = nI (if cl_b x1 (g 4 i) then 1 else 0) := hr2
      subst hr2
      refine lv_istore (lv' := [(5, .int (nI (if cl_b x1 (g 4 i) then 1 else 0))), (4, .int (nI (if cl_b x1 (g 3 i) then 1 else 0))), (0, .ref h), (1, .int x1), (2, .int (nI sm)), (3, .int (nI i))]) hx hb dX1_energy_63 hl (by decide) rfl (fun ls hl => ?_)
      refine lv_aload_n hx hb dX1_energy_65 rfl (lv_at hl 2 rfl) ?_
      refine va_get (D := (dC, dI)) (ci := 1) (v := .ref (q 1)) (C := RX1) (T := TX1) (N := 6) hx hb hts in_X1 hown hK hP 0 rfl rfl 1 (by decide) (hts _ q122) (fun _ h9 => h9) rfl dX1_energy_66 ?_
      refine lv_iload_n hx hb dX1_energy_69 rfl (lv_at hl 5 rfl) ?_
      refine xw_zald hx hb hK hP 2 1 rfl rfl (i) (by omega) (by decide) (v := nI (g 2 i)) (rfl) dX1_energy_70 ?_
      refine xw_if_eq (tgt := 90) hx hb (by omega) dX1_energy_71 (by decide) (fun cT => ?_) (fun cT => ?_)
      · refine lv_aload_n hx hb dX1_energy_90 rfl (lv_at hl 2 rfl) ?_
        refine va_get (D := (dC, dI)) (ci := 1) (v := .ref (q 1)) (C := RX1) (T := TX1) (N := 6) hx hb hts in_X1 hown hK hP 0 rfl rfl 1 (by decide) (hts _ q122) (fun _ h9 => h9) rfl dX1_energy_91 ?_
        refine lv_iload_n hx hb dX1_energy_94 rfl (lv_at hl 5 rfl) ?_
        refine xw_zald hx hb hK hP 2 1 rfl rfl (i) (by omega) (by decide) (v := nI (g 2 i)) (rfl) dX1_energy_95 ?_
        refine xw_if_eq (tgt := 115) hx hb (by omega) dX1_energy_96 (by decide) (fun cS => ?_) (fun cS => ?_)
        · have et := cl_et_0 (b := cl_b x1) cT
          refine lv_iinc (v := nI (i + 1)) (lv' := [(3, .int (nI (i + 1))), (5, .int (nI (if cl_b x1 (g 4 i) then 1 else 0))), (4, .int (nI (if cl_b x1 (g 3 i) then 1 else 0))), (0, .ref h), (1, .int x1), (2, .int (nI sm))]) hx hb dX1_energy_115 hl (k := 5) rfl (cw_i1 _) (by decide) rfl (fun ls hl => ?_)
          refine lv_goto (tgt := 35) hx hb dX1_energy_118 (by decide) ?_
          exact ih (i + 1) (by omega) (by omega) _ ls (by rw [es, et, hinv]; omega) (lv_sub hl [3, 4, 5, 0] rfl)
        · exact absurd cT cS
      · refine lv_iload hx hb dX1_energy_74 (lv_at hl 1 rfl) ?_
        refine lv_iload hx hb dX1_energy_76 (lv_at hl 0 rfl) ?_
        refine xw_icmp_ge (tgt := 90) hx hb (by split <;> decide) (by split <;> decide) dX1_energy_78 (by decide) (fun cU => ?_) (fun cU => ?_)
        · refine lv_aload_n hx hb dX1_energy_90 rfl (lv_at hl 2 rfl) ?_
          refine va_get (D := (dC, dI)) (ci := 1) (v := .ref (q 1)) (C := RX1) (T := TX1) (N := 6) hx hb hts in_X1 hown hK hP 0 rfl rfl 1 (by decide) (hts _ q122) (fun _ h9 => h9) rfl dX1_energy_91 ?_
          refine lv_iload_n hx hb dX1_energy_94 rfl (lv_at hl 5 rfl) ?_
          refine xw_zald hx hb hK hP 2 1 rfl rfl (i) (by omega) (by decide) (v := nI (g 2 i)) (rfl) dX1_energy_95 ?_
          refine xw_if_eq (tgt := 115) hx hb (by omega) dX1_energy_96 (by decide) (fun cS => ?_) (fun cS => ?_)
          · exact absurd cS cT
          · refine lv_iload hx hb dX1_energy_99 (lv_at hl 1 rfl) ?_
            refine lv_iload hx hb dX1_energy_101 (lv_at hl 0 rfl) ?_
            refine xw_icmp_le (tgt := 115) hx hb (by split <;> decide) (by split <;> decide) dX1_energy_103 (by decide) (fun cV => ?_) (fun cV => ?_)
            · have et := cl_et_e (b := cl_b x1) cU cV
              refine lv_iinc (v := nI (i + 1)) (lv' := [(3, .int (nI (i + 1))), (5, .int (nI (if cl_b x1 (g 4 i) then 1 else 0))), (4, .int (nI (if cl_b x1 (g 3 i) then 1 else 0))), (0, .ref h), (1, .int x1), (2, .int (nI sm))]) hx hb dX1_energy_115 hl (k := 5) rfl (cw_i1 _) (by decide) rfl (fun ls hl => ?_)
              refine lv_goto (tgt := 35) hx hb dX1_energy_118 (by decide) ?_
              exact ih (i + 1) (by omega) (by omega) _ ls (by rw [es, et, hinv]; omega) (lv_sub hl [3, 4, 5, 0] rfl)
            · have et := cl_et_v (b := cl_b x1) cT hz cV
              refine lv_iload_n hx hb dX1_energy_106 rfl (lv_at hl 4 rfl) ?_
              refine lv_aload_n hx hb dX1_energy_107 rfl (lv_at hl 2 rfl) ?_
              refine va_get (D := (dC, dI)) (ci := 1) (v := .ref (q 5)) (C := RX1) (T := TX1) (N := 6) hx hb hts in_X1 hown hK hP 0 rfl rfl 5 (by decide) (hts _ q126) (fun _ h9 => h9) rfl dX1_energy_108 ?_
              refine lv_iload_n hx hb dX1_energy_111 rfl (lv_at hl 5 rfl) ?_
              refine xw_iald hx hb hK hP 6 0 rfl rfl (i) (by omega) (by decide) (v := nI (g 6 i)) (rfl) dX1_energy_112 ?_
              refine lv_iadd hx hb dX1_energy_113 ?_
              refine xw_e (y := nI (sm + g 6 i)) (nI_add _ _) ?_
              refine lv_istore_n (lv' := [(2, .int (nI (sm + g 6 i))), (5, .int (nI (if cl_b x1 (g 4 i) then 1 else 0))), (4, .int (nI (if cl_b x1 (g 3 i) then 1 else 0))), (0, .ref h), (1, .int x1), (3, .int (nI i))]) hx hb dX1_energy_114 rfl hl (by decide) rfl (fun ls hl => ?_)
              refine lv_iinc (v := nI (i + 1)) (lv' := [(3, .int (nI (i + 1))), (2, .int (nI (sm + g 6 i))), (5, .int (nI (if cl_b x1 (g 4 i) then 1 else 0))), (4, .int (nI (if cl_b x1 (g 3 i) then 1 else 0))), (0, .ref h), (1, .int x1)]) hx hb dX1_energy_115 hl (k := 5) rfl (cw_i1 _) (by decide) rfl (fun ls hl => ?_)
              refine lv_goto (tgt := 35) hx hb dX1_energy_118 (by decide) ?_
              exact ih (i + 1) (by omega) (by omega) _ ls (by rw [es, et, hinv]; omega) (lv_sub hl [4, 5, 1, 0] rfl)
        · refine lv_iload_n hx hb dX1_energy_81 rfl (lv_at hl 4 rfl) ?_
          refine lv_aload_n hx hb dX1_energy_82 rfl (lv_at hl 2 rfl) ?_
          refine va_get (D := (dC, dI)) (ci := 1) (v := .ref (q 4)) (C := RX1) (T := TX1) (N := 6) hx hb hts in_X1 hown hK hP 0 rfl rfl 4 (by decide) (hts _ q125) (fun _ h9 => h9) rfl dX1_energy_83 ?_
          refine lv_iload_n hx hb dX1_energy_86 rfl (lv_at hl 5 rfl) ?_
          refine xw_iald hx hb hK hP 5 0 rfl rfl (i) (by omega) (by decide) (v := nI (g 5 i)) (rfl) dX1_energy_87 ?_
          refine lv_iadd hx hb dX1_energy_88 ?_
          refine xw_e (y := nI (sm + g 5 i)) (nI_add _ _) ?_
          refine lv_istore_n (lv' := [(2, .int (nI (sm + g 5 i))), (5, .int (nI (if cl_b x1 (g 4 i) then 1 else 0))), (4, .int (nI (if cl_b x1 (g 3 i) then 1 else 0))), (0, .ref h), (1, .int x1), (3, .int (nI i))]) hx hb dX1_energy_89 rfl hl (by decide) rfl (fun ls hl => ?_)
          refine lv_aload_n hx hb dX1_energy_90 rfl (lv_at hl 3 rfl) ?_
          refine va_get (D := (dC, dI)) (ci := 1) (v := .ref (q 1)) (C := RX1) (T := TX1) (N := 6) hx hb hts in_X1 hown hK hP 0 rfl rfl 1 (by decide) (hts _ q122) (fun _ h9 => h9) rfl dX1_energy_91 ?_
          refine lv_iload_n hx hb dX1_energy_94 rfl (lv_at hl 5 rfl) ?_
          refine xw_zald hx hb hK hP 2 1 rfl rfl (i) (by omega) (by decide) (v := nI (g 2 i)) (rfl) dX1_energy_95 ?_
          refine xw_if_eq (tgt := 115) hx hb (by omega) dX1_energy_96 (by decide) (fun cS => ?_) (fun cS => ?_)
          · exact absurd cS cT
          · refine lv_iload hx hb dX1_energy_99 (lv_at hl 2 rfl) ?_
            refine lv_iload hx hb dX1_energy_101 (lv_at hl 1 rfl) ?_
            refine xw_icmp_le (tgt := 115) hx hb (by split <;> decide) (by split <;> decide) dX1_energy_103 (by decide) (fun cV => ?_) (fun cV => ?_)
            · have et := cl_et_u (b := cl_b x1) cT hz cU
              refine lv_iinc (v := nI (i + 1)) (lv' := [(3, .int (nI (i + 1))), (2, .int (nI (sm + g 5 i))), (5, .int (nI (if cl_b x1 (g 4 i) then 1 else 0))), (4, .int (nI (if cl_b x1 (g 3 i) then 1 else 0))), (0, .ref h), (1, .int x1)]) hx hb dX1_energy_115 hl (k := 5) rfl (cw_i1 _) (by decide) rfl (fun ls hl => ?_)
              refine lv_goto (tgt := 35) hx hb dX1_energy_118 (by decide) ?_
              exact ih (i + 1) (by omega) (by omega) _ ls (by rw [es, et, hinv]; omega) (lv_sub hl [4, 5, 1, 0] rfl)
            · exact absurd cV (by omega)
set_option maxHeartbeats 4000000 in
set_option maxRecDepth 100000 in
theorem metX1_energy (l : Launch) (dC : Nat → ClassId) (dI : Nat → Nat → Nat) (dA dZ : ClassId) (h : Nat) (q : Nat → Nat) (g : Nat → Nat → Nat) (hg : cl_Ok g) (x1 : Int32) : Met l yX1_energy (ws_ yX1_energy cX1_energy 6 (some .int)) cl_rmE (pM dC dI dA dZ h q g [.int x1]) (cw_Si (cl_En g x1)) 0 0 cw_no := by
  refine Met.ofW (cc := cX1_energy) (maxL := 6) (ret := (some .int)) (by decide) rfl ?_
  intro p e s m args below meth c s₁ B hml hv
  obtain ⟨rfl, hv⟩ := hv
  have S : CallFix p m c cX1_energy 6 s _ lw_all RX1 := ⟨B.exec, B.bytes, hml, findClass_of_methodNamed B.named, fun w hw => atoms_spec (ws := ws_ yX1_energy cX1_energy 6 (some .int)) B.pre w (List.mem_cons_of_mem _ hw)⟩
  obtain ⟨hx, hb, -, hown, hts⟩ := id S
  have hr := B.returns
  have hlocks := B.notSynchronized
  obtain ⟨hP, hK⟩ := hv
  have hl := lv_entry ([.ref h, .int x1]) (n := 6) (Nat.le_of_ble_eq_true rfl)
  rw [lg_entry_eq]
  generalize (lg_sl ([.ref h, .int x1]) ++ List.replicate (6 - (lg_sl ([.ref h, .int x1])).length) Slot.unset).toArray = ls at hl ⊢
  have hl : lv_has ls 6 [(0, .ref h), (1, .int x1)] := hl
  refine lv_iconst (v := nI 0) hx hb dX1_energy_0 (by decide) ?_
  refine lv_istore_n (lv' := [(2, .int (nI 0)), (0, .ref h), (1, .int x1)]) hx hb dX1_energy_1 rfl hl (by decide) rfl (fun ls hl => ?_)
  refine lv_iconst (v := nI 0) hx hb dX1_energy_2 (by decide) ?_
  refine lv_istore_n (lv' := [(3, .int (nI 0)), (2, .int (nI 0)), (0, .ref h), (1, .int x1)]) hx hb dX1_energy_3 rfl hl (by decide) rfl (fun ls hl => ?_)
  refine em_1 S hK hP (fun sm ls hsm hl => ?_) 10 0 (by decide) (by decide) 0 ls rfl (lv_sub hl [2, 3, 1, 0] rfl)
  refine lv_iconst (v := nI 0) hx hb dX1_energy_33 (by decide) ?_
  refine lv_istore_n (lv' := [(3, .int (nI 0)), (0, .ref h), (1, .int x1), (2, .int (nI sm))]) hx hb dX1_energy_34 rfl hl (by decide) rfl (fun ls hl => ?_)
  refine em_2 hg S hK hP (fun sm ls hsm hl => ?_) 17 0 (by decide) (by decide) sm ls (by rw [hsm]; rfl) (lv_sub hl [1, 2, 3, 0] rfl)
  refine lv_iload_n hx hb dX1_energy_121 rfl (lv_at hl 2 rfl) ?_
  exact W.iret (v := nI sm) hx hb hr (fun t ht hW => ⟨_, rfl, by rw [hsm]; rfl, ht⟩) (fun _ hq => by cases hq) dX1_energy_122
set_option maxHeartbeats 4000000 in
set_option maxRecDepth 100000 in
theorem le_1 {p : Program} {l : Launch} {e : Env} {s : State} {m : MethodId} {args : Array Value} {below : List Frame} {meth : Method} {c : Code} {Q : State → Prop} {dC : Nat → ClassId} {dI : Nat → Nat → Nat} {dA dZ : ClassId} {h : Nat} {q : Nat → Nat} {g : Nat → Nat → Nat} {H : Heap} {locs : List Loc} (hg : cl_Ok g) (S : CallFix p m c cX1_least 4 s args lw_all RX1) (hK : va_K (dC, dI) vwCl (tX dA dZ) s) (hP : va_P (dC, dI) vwCl (wM dA dZ h q g) H)
    (kk : ∀ (mm : Nat) (ls : Array Slot), cl_Bst (fun _ => True) (cl_El g) 512 mm → lv_has ls 4 [(1, .int (nI mm))] → W p l e (headSpec (ws_ yX1_least cX1_least 4 (some .int)) cl_rmL).room s m args below meth c H locs 0 0 Q (F0 m 34 ls [])) :
    ∀ n i : Nat, i ≤ 512 → 513 ≤ i + n → ∀ (mm : Nat) (ls : Array Slot), cl_Bst (fun _ => True) (cl_El g) i mm → lv_has ls 4 [(0, .ref h), (1, .int (nI mm)), (2, .int (nI i))] → W p l e (headSpec (ws_ yX1_least cX1_least 4 (some .int)) cl_rmL).room s m args below meth c H locs 0 0 Q (F0 m 8 ls []) := by
  obtain ⟨hx, hb, -, hown, hts⟩ := id S
  intro n
  induction n with
  | zero => intro i h1 h2; exact absurd h2 (by omega)
  | succ n ih =>
    intro i h1 h2 mm ls hinv hl
    have hm := hinv.1
    have hEi := cl_El_le hg i
    refine lv_iload_n hx hb dX1_least_8 rfl (lv_at hl 2 rfl) ?_
    refine lv_sipush (v := nI 512) hx hb dX1_least_9 (by decide) ?_
    refine xw_icmp_ge (tgt := 34) hx hb (by omega) (by omega) dX1_least_12 (by decide) (fun c1 => ?_) (fun c1 => ?_)
    · have ei : i = 512 := by omega
      exact kk mm ls (ei ▸ hinv) (lv_sub hl [1] rfl)
    · refine lv_aload_n hx hb dX1_least_15 rfl (lv_at hl 0 rfl) ?_
      refine lv_iload_n hx hb dX1_least_16 rfl (lv_at hl 2 rfl) ?_
      refine cm_r (As := [.int (nI i)]) (rest := []) S (metX1_energy l dC dI dA dZ h q g hg (nI i)) (cwV 1 hts (lw_V q162 q163 q164 q7 q165) rfl rfl rfl (by decide +kernel) ⟨Nat.le_of_ble_eq_true rfl, Nat.le_of_ble_eq_true rfl⟩) hK hP rfl hl.1 rfl (Nat.le_of_ble_eq_true rfl) dX1_least_17 ⟨Nat.zero_le _, Nat.zero_le _⟩ (fun r hr2 => ?_)
      have hr2 := cl_En_l hg hr2
      subst hr2
      refine lv_istore_n (lv' := [(3, .int (nI (cl_El g i))), (0, .ref h), (1, .int (nI mm)), (2, .int (nI i))]) hx hb dX1_least_20 rfl hl (by decide) rfl (fun ls hl => ?_)
      refine lv_iload_n hx hb dX1_least_21 rfl (lv_at hl 0 rfl) ?_
      refine lv_iload_n hx hb dX1_least_22 rfl (lv_at hl 2 rfl) ?_
      refine xw_icmp_ge (tgt := 28) hx hb (by omega) (by omega) dX1_least_23 (by decide) (fun c2 => ?_) (fun c2 => ?_)
      · refine lv_iinc (v := nI (i + 1)) (lv' := [(2, .int (nI (i + 1))), (3, .int (nI (cl_El g i))), (0, .ref h), (1, .int (nI mm))]) hx hb dX1_least_28 hl (k := 3) rfl (cw_i1 _) (by decide) rfl (fun ls hl => ?_)
        refine lv_goto (tgt := 8) hx hb dX1_least_31 (by decide) ?_
        exact ih (i + 1) (by omega) (by omega) _ ls (cl_bst_k hinv (Or.inr c2)) (lv_sub hl [2, 3, 0] rfl)
      · refine lv_iload_n hx hb dX1_least_26 rfl (lv_at hl 0 rfl) ?_
        refine lv_istore_n (lv' := [(1, .int (nI (cl_El g i))), (3, .int (nI (cl_El g i))), (0, .ref h), (2, .int (nI i))]) hx hb dX1_least_27 rfl hl (by decide) rfl (fun ls hl => ?_)
        refine lv_iinc (v := nI (i + 1)) (lv' := [(2, .int (nI (i + 1))), (1, .int (nI (cl_El g i))), (3, .int (nI (cl_El g i))), (0, .ref h)]) hx hb dX1_least_28 hl (k := 3) rfl (cw_i1 _) (by decide) rfl (fun ls hl => ?_)
        refine lv_goto (tgt := 8) hx hb dX1_least_31 (by decide) ?_
        exact ih (i + 1) (by omega) (by omega) _ ls (cl_bst_t hinv trivial c2) (lv_sub hl [3, 1, 0] rfl)
set_option maxHeartbeats 4000000 in
set_option maxRecDepth 100000 in
theorem metX1_least (l : Launch) (dC : Nat → ClassId) (dI : Nat → Nat → Nat) (dA dZ : ClassId) (h : Nat) (q : Nat → Nat) (g : Nat → Nat → Nat) (hg : cl_Ok g) : Met l yX1_least (ws_ yX1_least cX1_least 4 (some .int)) cl_rmL (pM dC dI dA dZ h q g []) (cw_Si (cl_Least g)) 0 0 cw_no := by
  refine Met.ofW (cc := cX1_least) (maxL := 4) (ret := (some .int)) (by decide) rfl ?_
  intro p e s m args below meth c s₁ B hml hv
  obtain ⟨rfl, hv⟩ := hv
  have S : CallFix p m c cX1_least 4 s _ lw_all RX1 := ⟨B.exec, B.bytes, hml, findClass_of_methodNamed B.named, fun w hw => atoms_spec (ws := ws_ yX1_least cX1_least 4 (some .int)) B.pre w (List.mem_cons_of_mem _ hw)⟩
  obtain ⟨hx, hb, -, hown, hts⟩ := id S
  have hr := B.returns
  have hlocks := B.notSynchronized
  obtain ⟨hP, hK⟩ := hv
  have hl := lv_entry ([.ref h]) (n := 4) (Nat.le_of_ble_eq_true rfl)
  rw [lg_entry_eq]
  generalize (lg_sl ([.ref h]) ++ List.replicate (4 - (lg_sl ([.ref h])).length) Slot.unset).toArray = ls at hl ⊢
  have hl : lv_has ls 4 [(0, .ref h)] := hl
  refine lv_aload_n hx hb dX1_least_0 rfl (lv_at hl 0 rfl) ?_
  refine lv_iconst (v := nI 0) hx hb dX1_least_1 (by decide) ?_
  refine cm_r (As := [.int (nI 0)]) (rest := []) S (metX1_energy l dC dI dA dZ h q g hg (nI 0)) (cwV 1 hts (lw_V q162 q163 q164 q7 q165) rfl rfl rfl (by decide +kernel) ⟨Nat.le_of_ble_eq_true rfl, Nat.le_of_ble_eq_true rfl⟩) hK hP rfl hl.1 rfl (Nat.le_of_ble_eq_true rfl) dX1_least_2 ⟨Nat.zero_le _, Nat.zero_le _⟩ (fun r hr2 => ?_)
  have hr2 := cl_En_l hg hr2
  subst hr2
  refine lv_istore_n (lv' := [(1, .int (nI (cl_El g 0))), (0, .ref h)]) hx hb dX1_least_5 rfl hl (by decide) rfl (fun ls hl => ?_)
  refine lv_iconst (v := nI 1) hx hb dX1_least_6 (by decide) ?_
  refine lv_istore_n (lv' := [(2, .int (nI 1)), (1, .int (nI (cl_El g 0))), (0, .ref h)]) hx hb dX1_least_7 rfl hl (by decide) rfl (fun ls hl => ?_)
  have h0 := cl_El_le hg 0
  refine le_1 hg S hK hP (fun mm ls hB hl => ?_) 512 1 (by decide) (by decide) _ ls ⟨by omega, fun l hl _ => by rw [show l = 0 by omega]; exact Nat.le_refl _, Or.inr ⟨0, by decide, trivial, rfl⟩⟩ (lv_sub hl [2, 1, 0] rfl)
  refine lv_iload_n hx hb dX1_least_34 rfl (lv_at hl 0 rfl) ?_
  exact W.iret (v := nI mm) hx hb hr (fun t ht hW => ⟨_, rfl, ⟨mm, rfl, cl_bst_e hB ⟨0, by decide, trivial, cl_E_lt hg _⟩⟩, ht⟩) (fun _ hq => by cases hq) dX1_least_35
set_option maxHeartbeats 4000000 in
set_option maxRecDepth 100000 in
theorem lw_1 {p : Program} {l : Launch} {e : Env} {s : State} {m : MethodId} {args : Array Value} {below : List Frame} {meth : Method} {c : Code} {Q : State → Prop} {dC : Nat → ClassId} {dI : Nat → Nat → Nat} {dA dZ : ClassId} {h : Nat} {q : Nat → Nat} {g : Nat → Nat → Nat} {mm : Nat} {H : Heap} {locs : List Loc} (hg : cl_Ok g) (hmm : mm ≤ 4100) (S : CallFix p m c cX1_lower 4 s args lw_all RX1) (hK : va_K (dC, dI) vwCl (tX dA dZ) s) (hP : va_P (dC, dI) vwCl (wM dA dZ h q g) H)
    (kk : ∀ (o : Nat) (ls : Array Slot), (∀ x, o.testBit x = true ↔ (x < 9 ∧ ∀ l, l < 512 → cl_El g l = mm → l.testBit x = true)) → lv_has ls 4 [(2, .int (nI o))] → W p l e (headSpec (ws_ yX1_lower cX1_lower 4 (some .int)) cl_rmW).room s m args below meth c H locs 0 0 Q (F0 m 37 ls [])) :
    ∀ n i : Nat, i ≤ 512 → 513 ≤ i + n → ∀ (o : Nat) (ls : Array Slot), (∀ x, o.testBit x = true ↔ (x < 9 ∧ ∀ l, l < i → cl_El g l = mm → l.testBit x = true)) → lv_has ls 4 [(0, .ref h), (1, .int (nI mm)), (2, .int (nI o)), (3, .int (nI i))] → W p l e (headSpec (ws_ yX1_lower cX1_lower 4 (some .int)) cl_rmW).room s m args below meth c H locs 0 0 Q (F0 m 11 ls []) := by
  obtain ⟨hx, hb, -, hown, hts⟩ := id S
  intro n
  induction n with
  | zero => intro i h1 h2; exact absurd h2 (by omega)
  | succ n ih =>
    intro i h1 h2 o ls hinv hl
    have hEi := cl_El_le hg i
    refine lv_iload_n hx hb dX1_lower_11 rfl (lv_at hl 3 rfl) ?_
    refine lv_sipush (v := nI 512) hx hb dX1_lower_12 (by decide) ?_
    refine xw_icmp_ge (tgt := 37) hx hb (by omega) (by omega) dX1_lower_15 (by decide) (fun c1 => ?_) (fun c1 => ?_)
    · have ei : i = 512 := by omega
      exact kk o ls (ei ▸ hinv) (lv_sub hl [2] rfl)
    · refine lv_aload_n hx hb dX1_lower_18 rfl (lv_at hl 0 rfl) ?_
      refine lv_iload_n hx hb dX1_lower_19 rfl (lv_at hl 3 rfl) ?_
      refine cm_r (As := [.int (nI i)]) (rest := []) S (metX1_energy l dC dI dA dZ h q g hg (nI i)) (cwV 1 hts (lw_V q162 q163 q164 q7 q165) rfl rfl rfl (by decide +kernel) ⟨Nat.le_of_ble_eq_true rfl, Nat.le_of_ble_eq_true rfl⟩) hK hP rfl hl.1 rfl (Nat.le_of_ble_eq_true rfl) dX1_lower_20 ⟨Nat.zero_le _, Nat.zero_le _⟩ (fun r hr2 => ?_)
      have hr2 := cl_En_l hg hr2
      subst hr2
      refine lv_iload_n hx hb dX1_lower_23 rfl (lv_at hl 1 rfl) ?_
      refine xw_icmp_ne (tgt := 31) hx hb (by omega) (by omega) dX1_lower_24 (by decide) (fun c2 => ?_) (fun c2 => ?_)
      · refine lv_iinc (v := nI (i + 1)) (lv' := [(3, .int (nI (i + 1))), (0, .ref h), (1, .int (nI mm)), (2, .int (nI o))]) hx hb dX1_lower_31 hl (k := 3) rfl (cw_i1 _) (by decide) rfl (fun ls hl => ?_)
        refine lv_goto (tgt := 11) hx hb dX1_lower_34 (by decide) ?_
        exact ih (i + 1) (by omega) (by omega) _ ls (cl_and_k hinv c2) (lv_sub hl [1, 2, 3, 0] rfl)
      · refine lv_iload_n hx hb dX1_lower_27 rfl (lv_at hl 2 rfl) ?_
        refine lv_iload_n hx hb dX1_lower_28 rfl (lv_at hl 3 rfl) ?_
        refine lv_iand hx hb dX1_lower_29 ?_
        refine xw_e (y := nI (o &&& i)) (fa_and _ _) ?_
        refine lv_istore_n (lv' := [(2, .int (nI (o &&& i))), (0, .ref h), (1, .int (nI mm)), (3, .int (nI i))]) hx hb dX1_lower_30 rfl hl (by decide) rfl (fun ls hl => ?_)
        refine lv_iinc (v := nI (i + 1)) (lv' := [(3, .int (nI (i + 1))), (2, .int (nI (o &&& i))), (0, .ref h), (1, .int (nI mm))]) hx hb dX1_lower_31 hl (k := 3) rfl (cw_i1 _) (by decide) rfl (fun ls hl => ?_)
        refine lv_goto (tgt := 11) hx hb dX1_lower_34 (by decide) ?_
        exact ih (i + 1) (by omega) (by omega) _ ls (cl_and_t hinv c2) (lv_sub hl [2, 3, 1, 0] rfl)
set_option maxHeartbeats 4000000 in
set_option maxRecDepth 100000 in
theorem metX1_lower (l : Launch) (dC : Nat → ClassId) (dI : Nat → Nat → Nat) (dA dZ : ClassId) (h : Nat) (q : Nat → Nat) (g : Nat → Nat → Nat) (hg : cl_Ok g) : Met l yX1_lower (ws_ yX1_lower cX1_lower 4 (some .int)) cl_rmW (pM dC dI dA dZ h q g []) (cw_Si (cl_LowS g)) 0 0 cw_no := by
  refine Met.ofW (cc := cX1_lower) (maxL := 4) (ret := (some .int)) (by decide) rfl ?_
  intro p e s m args below meth c s₁ B hml hv
  obtain ⟨rfl, hv⟩ := hv
  have S : CallFix p m c cX1_lower 4 s _ lw_all RX1 := ⟨B.exec, B.bytes, hml, findClass_of_methodNamed B.named, fun w hw => atoms_spec (ws := ws_ yX1_lower cX1_lower 4 (some .int)) B.pre w (List.mem_cons_of_mem _ hw)⟩
  obtain ⟨hx, hb, -, hown, hts⟩ := id S
  have hr := B.returns
  have hlocks := B.notSynchronized
  obtain ⟨hP, hK⟩ := hv
  have hl := lv_entry ([.ref h]) (n := 4) (Nat.le_of_ble_eq_true rfl)
  rw [lg_entry_eq]
  generalize (lg_sl ([.ref h]) ++ List.replicate (4 - (lg_sl ([.ref h])).length) Slot.unset).toArray = ls at hl ⊢
  have hl : lv_has ls 4 [(0, .ref h)] := hl
  refine lv_aload_n hx hb dX1_lower_0 rfl (lv_at hl 0 rfl) ?_
  refine cm_r (As := []) (rest := []) S (metX1_least l dC dI dA dZ h q g hg) (cwV 0 hts (lw_V q173 q159 q160 q7 q161) rfl rfl rfl (by decide +kernel) ⟨Nat.le_of_ble_eq_true rfl, Nat.le_of_ble_eq_true rfl⟩) hK hP rfl hl.1 rfl (Nat.le_of_ble_eq_true rfl) dX1_lower_1 ⟨Nat.zero_le _, Nat.zero_le _⟩ (fun r hr2 => ?_)
  obtain ⟨mm, rfl, hMn⟩ := hr2
  refine lv_istore_n (lv' := [(1, .int (nI mm)), (0, .ref h)]) hx hb dX1_lower_4 rfl hl (by decide) rfl (fun ls hl => ?_)
  refine lv_sipush (v := nI 511) hx hb dX1_lower_5 (by decide) ?_
  refine lv_istore_n (lv' := [(2, .int (nI 511)), (1, .int (nI mm)), (0, .ref h)]) hx hb dX1_lower_8 rfl hl (by decide) rfl (fun ls hl => ?_)
  refine lv_iconst (v := nI 0) hx hb dX1_lower_9 (by decide) ?_
  refine lv_istore_n (lv' := [(3, .int (nI 0)), (2, .int (nI 511)), (1, .int (nI mm)), (0, .ref h)]) hx hb dX1_lower_10 rfl hl (by decide) rfl (fun ls hl => ?_)
  refine lw_1 hg (cl_done_lt hg hMn) S hK hP (fun o ls ho hl => ?_) 513 0 (by decide) (by decide) 511 ls (fun x => by
      rw [show (511 : Nat) = 2 ^ 9 - 1 from rfl, Nat.testBit_two_pow_sub_one, decide_eq_true_eq]
      exact ⟨fun z => ⟨z, fun l hl => absurd hl (Nat.not_lt_zero l)⟩, fun z => z.1⟩) (lv_sub hl [3, 2, 1, 0] rfl)
  refine lv_iload_n hx hb dX1_lower_37 rfl (lv_at hl 0 rfl) ?_
  exact W.iret (v := nI o) hx hb hr (fun t ht hW => ⟨_, rfl, ⟨o, rfl, mm, hMn, ho⟩, ht⟩) (fun _ hq => by cases hq) dX1_lower_38
set_option maxHeartbeats 4000000 in
set_option maxRecDepth 100000 in
theorem uw_1 {p : Program} {l : Launch} {e : Env} {s : State} {m : MethodId} {args : Array Value} {below : List Frame} {meth : Method} {c : Code} {Q : State → Prop} {dC : Nat → ClassId} {dI : Nat → Nat → Nat} {dA dZ : ClassId} {h : Nat} {q : Nat → Nat} {g : Nat → Nat → Nat} {mm : Nat} {H : Heap} {locs : List Loc} (hg : cl_Ok g) (hmm : mm ≤ 4100) (S : CallFix p m c cX1_upper 4 s args lw_all RX1) (hK : va_K (dC, dI) vwCl (tX dA dZ) s) (hP : va_P (dC, dI) vwCl (wM dA dZ h q g) H)
    (kk : ∀ (o : Nat) (ls : Array Slot), (∀ x, o.testBit x = true ↔ (x < 9 ∧ ∃ l, l < 512 ∧ cl_El g l = mm ∧ l.testBit x = true)) → lv_has ls 4 [(2, .int (nI o))] → W p l e (headSpec (ws_ yX1_upper cX1_upper 4 (some .int)) cl_rmW).room s m args below meth c H locs 0 0 Q (F0 m 35 ls [])) :
    ∀ n i : Nat, i ≤ 512 → 513 ≤ i + n → ∀ (o : Nat) (ls : Array Slot), (∀ x, o.testBit x = true ↔ (x < 9 ∧ ∃ l, l < i ∧ cl_El g l = mm ∧ l.testBit x = true)) → lv_has ls 4 [(0, .ref h), (1, .int (nI mm)), (2, .int (nI o)), (3, .int (nI i))] → W p l e (headSpec (ws_ yX1_upper cX1_upper 4 (some .int)) cl_rmW).room s m args below meth c H locs 0 0 Q (F0 m 9 ls []) := by
  obtain ⟨hx, hb, -, hown, hts⟩ := id S
  intro n
  induction n with
  | zero => intro i h1 h2; exact absurd h2 (by omega)
  | succ n ih =>
    intro i h1 h2 o ls hinv hl
    have hEi := cl_El_le hg i
    refine lv_iload_n hx hb dX1_upper_9 rfl (lv_at hl 3 rfl) ?_
    refine lv_sipush (v := nI 512) hx hb dX1_upper_10 (by decide) ?_
    refine xw_icmp_ge (tgt := 35) hx hb (by omega) (by omega) dX1_upper_13 (by decide) (fun c1 => ?_) (fun c1 => ?_)
    · have ei : i = 512 := by omega
      exact kk o ls (ei ▸ hinv) (lv_sub hl [2] rfl)
    · refine lv_aload_n hx hb dX1_upper_16 rfl (lv_at hl 0 rfl) ?_
      refine lv_iload_n hx hb dX1_upper_17 rfl (lv_at hl 3 rfl) ?_
      refine cm_r (As := [.int (nI i)]) (rest := []) S (metX1_energy l dC dI dA dZ h q g hg (nI i)) (cwV 1 hts (lw_V q162 q163 q164 q7 q165) rfl rfl rfl (by decide +kernel) ⟨Nat.le_of_ble_eq_true rfl, Nat.le_of_ble_eq_true rfl⟩) hK hP rfl hl.1 rfl (Nat.le_of_ble_eq_true rfl) dX1_upper_18 ⟨Nat.zero_le _, Nat.zero_le _⟩ (fun r hr2 => ?_)
      have hr2 := cl_En_l hg hr2
      subst hr2
      refine lv_iload_n hx hb dX1_upper_21 rfl (lv_at hl 1 rfl) ?_
      refine xw_icmp_ne (tgt := 29) hx hb (by omega) (by omega) dX1_upper_22 (by decide) (fun c2 => ?_) (fun c2 => ?_)
      · refine lv_iinc (v := nI (i + 1)) (lv' := [(3, .int (nI (i + 1))), (0, .ref h), (1, .int (nI mm)), (2, .int (nI o))]) hx hb dX1_upper_29 hl (k := 3) rfl (cw_i1 _) (by decide) rfl (fun ls hl => ?_)
        refine lv_goto (tgt := 9) hx hb dX1_upper_32 (by decide) ?_
        exact ih (i + 1) (by omega) (by omega) _ ls (cl_or_k hinv c2) (lv_sub hl [1, 2, 3, 0] rfl)
      · refine lv_iload_n hx hb dX1_upper_25 rfl (lv_at hl 2 rfl) ?_
        refine lv_iload_n hx hb dX1_upper_26 rfl (lv_at hl 3 rfl) ?_
        refine lv_ior hx hb dX1_upper_27 ?_
        refine xw_e (y := nI (o ||| i)) (fa_or _ _) ?_
        refine lv_istore_n (lv' := [(2, .int (nI (o ||| i))), (0, .ref h), (1, .int (nI mm)), (3, .int (nI i))]) hx hb dX1_upper_28 rfl hl (by decide) rfl (fun ls hl => ?_)
        refine lv_iinc (v := nI (i + 1)) (lv' := [(3, .int (nI (i + 1))), (2, .int (nI (o ||| i))), (0, .ref h), (1, .int (nI mm))]) hx hb dX1_upper_29 hl (k := 3) rfl (cw_i1 _) (by decide) rfl (fun ls hl => ?_)
        refine lv_goto (tgt := 9) hx hb dX1_upper_32 (by decide) ?_
        exact ih (i + 1) (by omega) (by omega) _ ls (cl_or_t c1 hinv c2) (lv_sub hl [2, 3, 1, 0] rfl)
set_option maxHeartbeats 4000000 in
set_option maxRecDepth 100000 in
theorem metX1_upper (l : Launch) (dC : Nat → ClassId) (dI : Nat → Nat → Nat) (dA dZ : ClassId) (h : Nat) (q : Nat → Nat) (g : Nat → Nat → Nat) (hg : cl_Ok g) : Met l yX1_upper (ws_ yX1_upper cX1_upper 4 (some .int)) cl_rmW (pM dC dI dA dZ h q g []) (cw_Si (cl_UppS g)) 0 0 cw_no := by
  refine Met.ofW (cc := cX1_upper) (maxL := 4) (ret := (some .int)) (by decide) rfl ?_
  intro p e s m args below meth c s₁ B hml hv
  obtain ⟨rfl, hv⟩ := hv
  have S : CallFix p m c cX1_upper 4 s _ lw_all RX1 := ⟨B.exec, B.bytes, hml, findClass_of_methodNamed B.named, fun w hw => atoms_spec (ws := ws_ yX1_upper cX1_upper 4 (some .int)) B.pre w (List.mem_cons_of_mem _ hw)⟩
  obtain ⟨hx, hb, -, hown, hts⟩ := id S
  have hr := B.returns
  have hlocks := B.notSynchronized
  obtain ⟨hP, hK⟩ := hv
  have hl := lv_entry ([.ref h]) (n := 4) (Nat.le_of_ble_eq_true rfl)
  rw [lg_entry_eq]
  generalize (lg_sl ([.ref h]) ++ List.replicate (4 - (lg_sl ([.ref h])).length) Slot.unset).toArray = ls at hl ⊢
  have hl : lv_has ls 4 [(0, .ref h)] := hl
  refine lv_aload_n hx hb dX1_upper_0 rfl (lv_at hl 0 rfl) ?_
  refine cm_r (As := []) (rest := []) S (metX1_least l dC dI dA dZ h q g hg) (cwV 0 hts (lw_V q173 q159 q160 q7 q161) rfl rfl rfl (by decide +kernel) ⟨Nat.le_of_ble_eq_true rfl, Nat.le_of_ble_eq_true rfl⟩) hK hP rfl hl.1 rfl (Nat.le_of_ble_eq_true rfl) dX1_upper_1 ⟨Nat.zero_le _, Nat.zero_le _⟩ (fun r hr2 => ?_)
  obtain ⟨mm, rfl, hMn⟩ := hr2
  refine lv_istore_n (lv' := [(1, .int (nI mm)), (0, .ref h)]) hx hb dX1_upper_4 rfl hl (by decide) rfl (fun ls hl => ?_)
  refine lv_iconst (v := nI 0) hx hb dX1_upper_5 (by decide) ?_
  refine lv_istore_n (lv' := [(2, .int (nI 0)), (1, .int (nI mm)), (0, .ref h)]) hx hb dX1_upper_6 rfl hl (by decide) rfl (fun ls hl => ?_)
  refine lv_iconst (v := nI 0) hx hb dX1_upper_7 (by decide) ?_
  refine lv_istore_n (lv' := [(3, .int (nI 0)), (2, .int (nI 0)), (1, .int (nI mm)), (0, .ref h)]) hx hb dX1_upper_8 rfl hl (by decide) rfl (fun ls hl => ?_)
  refine uw_1 hg (cl_done_lt hg hMn) S hK hP (fun o ls ho hl => ?_) 513 0 (by decide) (by decide) 0 ls (fun x => ⟨fun z => absurd z (by rw [Nat.zero_testBit]; decide), fun ⟨_, l, z, _⟩ => absurd z (Nat.not_lt_zero l)⟩) (lv_sub hl [3, 2, 1, 0] rfl)
  refine lv_iload_n hx hb dX1_upper_35 rfl (lv_at hl 0 rfl) ?_
  exact W.iret (v := nI o) hx hb hr (fun t ht hW => ⟨_, rfl, ⟨o, rfl, mm, hMn, ho⟩, ht⟩) (fun _ hq => by cases hq) dX1_upper_36
set_option maxHeartbeats 4000000 in
set_option maxRecDepth 100000 in
theorem wi_1 {p : Program} {l : Launch} {e : Env} {s : State} {m : MethodId} {args : Array Value} {below : List Frame} {meth : Method} {c : Code} {Q : State → Prop} {dC : Nat → ClassId} {dI : Nat → Nat → Nat} {dA dZ : ClassId} {h : Nat} {q : Nat → Nat} {g : Nat → Nat → Nat} {j : Nat} {x2 : Int32} {H : Heap} {locs : List Loc} (hg : cl_Ok g) (hj : j ≤ 8) (S : CallFix p m c cX1_with 6 s args lw_all RX1) (hK : va_K (dC, dI) vwCl (tX dA dZ) s) (hP : va_P (dC, dI) vwCl (wM dA dZ h q g) H)
    (kk : ∀ (mm : Nat) (ls : Array Slot), cl_Bst (fun l => l.testBit j = cl_b x2 0) (cl_El g) 512 mm → lv_has ls 6 [(3, .int (nI mm))] → W p l e (headSpec (ws_ yX1_with cX1_with 6 (some .int)) cl_rmL).room s m args below meth c H locs 0 0 Q (F0 m 58 ls [])) :
    ∀ n i : Nat, i ≤ 512 → 513 ≤ i + n → ∀ (mm : Nat) (ls : Array Slot), cl_Bst (fun l => l.testBit j = cl_b x2 0) (cl_El g) i mm → lv_has ls 6 [(0, .ref h), (1, .int (nI j)), (2, .int x2), (3, .int (nI mm)), (4, .int (nI i))] → W p l e (headSpec (ws_ yX1_with cX1_with 6 (some .int)) cl_rmL).room s m args below meth c H locs 0 0 Q (F0 m 15 ls []) := by
  obtain ⟨hx, hb, -, hown, hts⟩ := id S
  intro n
  induction n with
  | zero => intro i h1 h2; exact absurd h2 (by omega)
  | succ n ih =>
    intro i h1 h2 mm ls hinv hl
    have hm := hinv.1
    have hEi := cl_El_le hg i
    have hcb := cw_bit i j (by omega)
    refine lv_iload hx hb dX1_with_15 (lv_at hl 4 rfl) ?_
    refine lv_sipush (v := nI 512) hx hb dX1_with_17 (by decide) ?_
    refine xw_icmp_ge (tgt := 58) hx hb (by omega) (by omega) dX1_with_20 (by decide) (fun c1 => ?_) (fun c1 => ?_)
    · have ei : i = 512 := by omega
      exact kk mm ls (ei ▸ hinv) (lv_sub hl [3] rfl)
    · refine lv_aload_n hx hb dX1_with_23 rfl (lv_at hl 0 rfl) ?_
      refine lv_iload hx hb dX1_with_24 (lv_at hl 4 rfl) ?_
      refine cm_r (As := [.int (nI i)]) (rest := []) S (metX1_energy l dC dI dA dZ h q g hg (nI i)) (cwV 1 hts (lw_V q162 q163 q164 q7 q165) rfl rfl rfl (by decide +kernel) ⟨Nat.le_of_ble_eq_true rfl, Nat.le_of_ble_eq_true rfl⟩) hK hP rfl hl.1 rfl (Nat.le_of_ble_eq_true rfl) dX1_with_26 ⟨Nat.zero_le _, Nat.zero_le _⟩ (fun r hr2 => ?_)
      have hr2 := cl_En_l hg hr2
      subst hr2
      refine lv_istore (lv' := [(5, .int (nI (cl_El g i))), (0, .ref h), (1, .int (nI j)), (2, .int x2), (3, .int (nI mm)), (4, .int (nI i))]) hx hb dX1_with_29 hl (by decide) rfl (fun ls hl => ?_)
      refine lv_iload hx hb dX1_with_31 (lv_at hl 5 rfl) ?_
      refine lv_iload_n hx hb dX1_with_33 rfl (lv_at hl 2 rfl) ?_
      refine cs_i (As := [.int (nI i), .int (nI j)]) (rest := []) S (metX1_label l (nI i) (j) (by omega)) (va_cwS 2 hts (lw_S q166 q167 q7 q168) rfl rfl rfl (by decide +kernel) ⟨Nat.le_of_ble_eq_true rfl, Nat.le_of_ble_eq_true rfl⟩) rfl hl.1 rfl (Nat.le_of_ble_eq_true rfl) dX1_with_34 ⟨Nat.zero_le _, Nat.zero_le _⟩ (fun r hr2 => ?_)
      have hr2 : r = nI (if cl_b (nI i) j then 1 else 0) := hr2
      subst hr2
      refine lv_iload_n hx hb dX1_with_37 rfl (lv_at hl 3 rfl) ?_
      refine lv_iconst (v := nI 1) hx hb dX1_with_38 (by decide) ?_
      refine lv_iand hx hb dX1_with_39 ?_
      refine xw_e (y := nI (if cl_b x2 0 then 1 else 0)) (cw_and1 x2) ?_
      refine xw_icmp_ne (tgt := 52) hx hb (by split <;> decide) (by split <;> decide) dX1_with_40 (by decide) (fun c2 => ?_) (fun c2 => ?_)
      · refine lv_iinc (v := nI (i + 1)) (lv' := [(4, .int (nI (i + 1))), (5, .int (nI (cl_El g i))), (0, .ref h), (1, .int (nI j)), (2, .int x2), (3, .int (nI mm))]) hx hb dX1_with_52 hl (k := 5) rfl (cw_i1 _) (by decide) rfl (fun ls hl => ?_)
        refine lv_goto (tgt := 15) hx hb dX1_with_55 (by decide) ?_
        exact ih (i + 1) (by omega) (by omega) _ ls (cl_bst_k hinv (Or.inl (fun z => c2 (by rw [hcb, show i.testBit j = cl_b x2 0 from z])))) (lv_sub hl [2, 3, 4, 5, 0] rfl)
      · have hPi : i.testBit j = cl_b x2 0 := by rw [← hcb]; exact cl_ite_eq c2
        refine lv_iload hx hb dX1_with_43 (lv_at hl 0 rfl) ?_
        refine lv_iload_n hx hb dX1_with_45 rfl (lv_at hl 4 rfl) ?_
        refine xw_icmp_ge (tgt := 52) hx hb (by omega) (by omega) dX1_with_46 (by decide) (fun c3 => ?_) (fun c3 => ?_)
        · refine lv_iinc (v := nI (i + 1)) (lv' := [(4, .int (nI (i + 1))), (5, .int (nI (cl_El g i))), (0, .ref h), (1, .int (nI j)), (2, .int x2), (3, .int (nI mm))]) hx hb dX1_with_52 hl (k := 5) rfl (cw_i1 _) (by decide) rfl (fun ls hl => ?_)
          refine lv_goto (tgt := 15) hx hb dX1_with_55 (by decide) ?_
          exact ih (i + 1) (by omega) (by omega) _ ls (cl_bst_k hinv (Or.inr c3)) (lv_sub hl [2, 3, 4, 5, 0] rfl)
        · refine lv_iload hx hb dX1_with_49 (lv_at hl 0 rfl) ?_
          refine lv_istore_n (lv' := [(3, .int (nI (cl_El g i))), (5, .int (nI (cl_El g i))), (0, .ref h), (1, .int (nI j)), (2, .int x2), (4, .int (nI i))]) hx hb dX1_with_51 rfl hl (by decide) rfl (fun ls hl => ?_)
          refine lv_iinc (v := nI (i + 1)) (lv' := [(4, .int (nI (i + 1))), (3, .int (nI (cl_El g i))), (5, .int (nI (cl_El g i))), (0, .ref h), (1, .int (nI j)), (2, .int x2)]) hx hb dX1_with_52 hl (k := 5) rfl (cw_i1 _) (by decide) rfl (fun ls hl => ?_)
          refine lv_goto (tgt := 15) hx hb dX1_with_55 (by decide) ?_
          exact ih (i + 1) (by omega) (by omega) _ ls (cl_bst_t hinv hPi c3) (lv_sub hl [3, 4, 5, 1, 0] rfl)
set_option maxHeartbeats 4000000 in
set_option maxRecDepth 100000 in
theorem metX1_with (l : Launch) (dC : Nat → ClassId) (dI : Nat → Nat → Nat) (dA dZ : ClassId) (h : Nat) (q : Nat → Nat) (g : Nat → Nat → Nat) (hg : cl_Ok g) (x1 x2 : Int32) : Met l yX1_with (ws_ yX1_with cX1_with 6 (some .int)) cl_rmL (pM dC dI dA dZ h q g [.int x1, .int x2]) (cw_Si (cl_With g x1 x2)) 0 0 cw_no := by
  refine Met.ofW (cc := cX1_with) (maxL := 6) (ret := (some .int)) (by decide) rfl ?_
  intro p e s m args below meth c s₁ B hml hv
  obtain ⟨rfl, hv⟩ := hv
  have S : CallFix p m c cX1_with 6 s _ lw_all RX1 := ⟨B.exec, B.bytes, hml, findClass_of_methodNamed B.named, fun w hw => atoms_spec (ws := ws_ yX1_with cX1_with 6 (some .int)) B.pre w (List.mem_cons_of_mem _ hw)⟩
  obtain ⟨hx, hb, -, hown, hts⟩ := id S
  have hr := B.returns
  have hlocks := B.notSynchronized
  obtain ⟨hP, hK⟩ := hv
  have hl := lv_entry ([.ref h, .int x1, .int x2]) (n := 6) (Nat.le_of_ble_eq_true rfl)
  rw [lg_entry_eq]
  generalize (lg_sl ([.ref h, .int x1, .int x2]) ++ List.replicate (6 - (lg_sl ([.ref h, .int x1, .int x2])).length) Slot.unset).toArray = ls at hl ⊢
  have hl : lv_has ls 6 [(0, .ref h), (1, .int x1), (2, .int x2)] := hl
  refine lv_iload_n hx hb dX1_with_0 rfl (lv_at hl 1 rfl) ?_
  refine cs_i (As := [.int x1]) (rest := []) S (metX1_bad l x1) (va_cwS 1 hts (lw_S q144 q145 q7 q146) rfl rfl rfl (by decide +kernel) ⟨Nat.le_of_ble_eq_true rfl, Nat.le_of_ble_eq_true rfl⟩) rfl hl.1 rfl (Nat.le_of_ble_eq_true rfl) dX1_with_1 ⟨Nat.zero_le _, Nat.zero_le _⟩ (fun r hr2 => ?_)
  refine lv_if_eq (tgt := 9) hx hb dX1_with_4 (by decide) (fun c1 => ?_) (fun c1 => ?_)
  · obtain ⟨j, hj, rfl⟩ := cl_nay_f hr2 c1
    refine lv_ldc (own := RX1) (v := 1000000) hx hb hown (hts _ q182) dX1_with_9 ?_
    refine xw_e (y := nI 1000000) rfl ?_
    refine lv_istore_n (lv' := [(3, .int (nI 1000000)), (0, .ref h), (1, .int (nI j)), (2, .int x2)]) hx hb dX1_with_11 rfl hl (by decide) rfl (fun ls hl => ?_)
    refine lv_iconst (v := nI 0) hx hb dX1_with_12 (by decide) ?_
    refine lv_istore (lv' := [(4, .int (nI 0)), (3, .int (nI 1000000)), (0, .ref h), (1, .int (nI j)), (2, .int x2)]) hx hb dX1_with_13 hl (by decide) rfl (fun ls hl => ?_)
    refine wi_1 hg hj S hK hP (fun mm ls hB hl => ?_) 513 0 (by decide) (by decide) 1000000 ls (cl_bst_0 _ _) (lv_sub hl [2, 3, 4, 1, 0] rfl)
    refine lv_iload_n hx hb dX1_with_58 rfl (lv_at hl 0 rfl) ?_
    obtain ⟨l0, hl0, hl1⟩ := cl_lab_ex j (by omega) (cl_b x2 0)
    exact W.iret (v := nI mm) hx hb hr (fun t ht hW => ⟨_, rfl, Or.inr ⟨j, mm, hj, rfl, rfl, cl_bst_e hB ⟨l0, hl0, hl1, cl_E_lt hg _⟩⟩, ht⟩) (fun _ hq => by cases hq) dX1_with_59
  · refine lv_iconst (v := -1) hx hb dX1_with_7 (by decide) ?_
    exact W.iret (v := -1) hx hb hr (fun t ht hW => ⟨_, rfl, Or.inl ⟨cl_nay_t hr2 c1, rfl⟩, ht⟩) (fun _ hq => by cases hq) dX1_with_8
set_option maxHeartbeats 4000000 in
set_option maxRecDepth 100000 in
theorem ap_1 {p : Program} {l : Launch} {e : Env} {s : State} {m : MethodId} {args : Array Value} {below : List Frame} {meth : Method} {c : Code} {Q : State → Prop} {dC : Nat → ClassId} {dI : Nat → Nat → Nat} {dA dZ : ClassId} {h : Nat} {q : Nat → Nat} {g : Nat → Nat → Nat} {a b : Nat} {H : Heap} {locs : List Loc} (hg : cl_Ok g) (ha : a ≤ 8) (hb9 : b ≤ 8) (S : CallFix p m c cX1_apart 6 s args lw_all RX1) (hK : va_K (dC, dI) vwCl (tX dA dZ) s) (hP : va_P (dC, dI) vwCl (wM dA dZ h q g) H)
    (kk : ∀ (mm : Nat) (ls : Array Slot), cl_Bst (fun l => l.testBit a ≠ l.testBit b) (cl_El g) 512 mm → lv_has ls 6 [(3, .int (nI mm))] → W p l e (headSpec (ws_ yX1_apart cX1_apart 6 (some .int)) cl_rmL).room s m args below meth c H locs 0 0 Q (F0 m 73 ls [])) :
    ∀ n i : Nat, i ≤ 512 → 513 ≤ i + n → ∀ (mm : Nat) (ls : Array Slot), cl_Bst (fun l => l.testBit a ≠ l.testBit b) (cl_El g) i mm → lv_has ls 6 [(0, .ref h), (1, .int (nI a)), (2, .int (nI b)), (3, .int (nI mm)), (4, .int (nI i))] → W p l e (headSpec (ws_ yX1_apart cX1_apart 6 (some .int)) cl_rmL).room s m args below meth c H locs 0 0 Q (F0 m 27 ls []) := by
  obtain ⟨hx, hb, -, hown, hts⟩ := id S
  intro n
  induction n with
  | zero => intro i h1 h2; exact absurd h2 (by omega)
  | succ n ih =>
    intro i h1 h2 mm ls hinv hl
    have hm := hinv.1
    have hEi := cl_El_le hg i
    have hca := cw_bit i a (by omega)
    have hcb := cw_bit i b (by omega)
    refine lv_iload hx hb dX1_apart_27 (lv_at hl 4 rfl) ?_
    refine lv_sipush (v := nI 512) hx hb dX1_apart_29 (by decide) ?_
    refine xw_icmp_ge (tgt := 73) hx hb (by omega) (by omega) dX1_apart_32 (by decide) (fun c1 => ?_) (fun c1 => ?_)
    · have ei : i = 512 := by omega
      exact kk mm ls (ei ▸ hinv) (lv_sub hl [3] rfl)
    · refine lv_aload_n hx hb dX1_apart_35 rfl (lv_at hl 0 rfl) ?_
      refine lv_iload hx hb dX1_apart_36 (lv_at hl 4 rfl) ?_
      refine cm_r (As := [.int (nI i)]) (rest := []) S (metX1_energy l dC dI dA dZ h q g hg (nI i)) (cwV 1 hts (lw_V q162 q163 q164 q7 q165) rfl rfl rfl (by decide +kernel) ⟨Nat.le_of_ble_eq_true rfl, Nat.le_of_ble_eq_true rfl⟩) hK hP rfl hl.1 rfl (Nat.le_of_ble_eq_true rfl) dX1_apart_38 ⟨Nat.zero_le _, Nat.zero_le _⟩ (fun r hr2 => ?_)
      have hr2 := cl_En_l hg hr2
      subst hr2
      refine lv_istore (lv' := [(5, .int (nI (cl_El g i))), (0, .ref h), (1, .int (nI a)), (2, .int (nI b)), (3, .int (nI mm)), (4, .int (nI i))]) hx hb dX1_apart_41 hl (by decide) rfl (fun ls hl => ?_)
      refine lv_iload hx hb dX1_apart_43 (lv_at hl 5 rfl) ?_
      refine lv_iload_n hx hb dX1_apart_45 rfl (lv_at hl 2 rfl) ?_
      refine cs_i (As := [.int (nI i), .int (nI a)]) (rest := []) S (metX1_label l (nI i) (a) (by omega)) (va_cwS 2 hts (lw_S q166 q167 q7 q168) rfl rfl rfl (by decide +kernel) ⟨Nat.le_of_ble_eq_true rfl, Nat.le_of_ble_eq_true rfl⟩) rfl hl.1 rfl (Nat.le_of_ble_eq_true rfl) dX1_apart_46 ⟨Nat.zero_le _, Nat.zero_le _⟩ (fun r hr2 => ?_)
      have hr2 : r = nI (if cl_b (nI i) a then 1 else 0) := hr2
      subst hr2
      refine lv_iload hx hb dX1_apart_49 (lv_at hl 5 rfl) ?_
      refine lv_iload_n hx hb dX1_apart_51 rfl (lv_at hl 3 rfl) ?_
      refine cs_i (As := [.int (nI i), .int (nI b)]) (rest := [.int (nI (if cl_b (nI i) a then 1 else 0))]) S (metX1_label l (nI i) (b) (by omega)) (va_cwS 2 hts (lw_S q166 q167 q7 q168) rfl rfl rfl (by decide +kernel) ⟨Nat.le_of_ble_eq_true rfl, Nat.le_of_ble_eq_true rfl⟩) rfl hl.1 rfl (Nat.le_of_ble_eq_true rfl) dX1_apart_52 ⟨Nat.zero_le _, Nat.zero_le _⟩ (fun r hr2 => ?_)
      have hr2 : r = nI (if cl_b (nI i) b then 1 else 0) := hr2
      subst hr2
      refine xw_icmp_eq (tgt := 67) hx hb (by split <;> decide) (by split <;> decide) dX1_apart_55 (by decide) (fun c2 => ?_) (fun c2 => ?_)
      · refine lv_iinc (v := nI (i + 1)) (lv' := [(4, .int (nI (i + 1))), (5, .int (nI (cl_El g i))), (0, .ref h), (1, .int (nI a)), (2, .int (nI b)), (3, .int (nI mm))]) hx hb dX1_apart_67 hl (k := 5) rfl (cw_i1 _) (by decide) rfl (fun ls hl => ?_)
        refine lv_goto (tgt := 27) hx hb dX1_apart_70 (by decide) ?_
        exact ih (i + 1) (by omega) (by omega) _ ls (cl_bst_k hinv (Or.inl (fun z => z (by rw [← hca, ← hcb]; exact cl_ite_eq c2)))) (lv_sub hl [2, 3, 4, 5, 0] rfl)
      · have hPi : i.testBit a ≠ i.testBit b := fun z => c2 (by rw [hca, hcb, z])
        refine lv_iload hx hb dX1_apart_58 (lv_at hl 0 rfl) ?_
        refine lv_iload_n hx hb dX1_apart_60 rfl (lv_at hl 4 rfl) ?_
        refine xw_icmp_ge (tgt := 67) hx hb (by omega) (by omega) dX1_apart_61 (by decide) (fun c3 => ?_) (fun c3 => ?_)
        · refine lv_iinc (v := nI (i + 1)) (lv' := [(4, .int (nI (i + 1))), (5, .int (nI (cl_El g i))), (0, .ref h), (1, .int (nI a)), (2, .int (nI b)), (3, .int (nI mm))]) hx hb dX1_apart_67 hl (k := 5) rfl (cw_i1 _) (by decide) rfl (fun ls hl => ?_)
          refine lv_goto (tgt := 27) hx hb dX1_apart_70 (by decide) ?_
          exact ih (i + 1) (by omega) (by omega) _ ls (cl_bst_k hinv (Or.inr c3)) (lv_sub hl [2, 3, 4, 5, 0] rfl)
        · refine lv_iload hx hb dX1_apart_64 (lv_at hl 0 rfl) ?_
          refine lv_istore_n (lv' := [(3, .int (nI (cl_El g i))), (5, .int (nI (cl_El g i))), (0, .ref h), (1, .int (nI a)), (2, .int (nI b)), (4, .int (nI i))]) hx hb dX1_apart_66 rfl hl (by decide) rfl (fun ls hl => ?_)
          refine lv_iinc (v := nI (i + 1)) (lv' := [(4, .int (nI (i + 1))), (3, .int (nI (cl_El g i))), (5, .int (nI (cl_El g i))), (0, .ref h), (1, .int (nI a)), (2, .int (nI b))]) hx hb dX1_apart_67 hl (k := 5) rfl (cw_i1 _) (by decide) rfl (fun ls hl => ?_)
          refine lv_goto (tgt := 27) hx hb dX1_apart_70 (by decide) ?_
          exact ih (i + 1) (by omega) (by omega) _ ls (cl_bst_t hinv hPi c3) (lv_sub hl [3, 4, 5, 1, 0] rfl)
set_option maxHeartbeats 4000000 in
set_option maxRecDepth 100000 in
theorem metX1_apart (l : Launch) (dC : Nat → ClassId) (dI : Nat → Nat → Nat) (dA dZ : ClassId) (h : Nat) (q : Nat → Nat) (g : Nat → Nat → Nat) (hg : cl_Ok g) (x1 x2 : Int32) : Met l yX1_apart (ws_ yX1_apart cX1_apart 6 (some .int)) cl_rmL (pM dC dI dA dZ h q g [.int x1, .int x2]) (cw_Si (cl_Apart g x1 x2)) 0 0 cw_no := by
  refine Met.ofW (cc := cX1_apart) (maxL := 6) (ret := (some .int)) (by decide) rfl ?_
  intro p e s m args below meth c s₁ B hml hv
  obtain ⟨rfl, hv⟩ := hv
  have S : CallFix p m c cX1_apart 6 s _ lw_all RX1 := ⟨B.exec, B.bytes, hml, findClass_of_methodNamed B.named, fun w hw => atoms_spec (ws := ws_ yX1_apart cX1_apart 6 (some .int)) B.pre w (List.mem_cons_of_mem _ hw)⟩
  obtain ⟨hx, hb, -, hown, hts⟩ := id S
  have hr := B.returns
  have hlocks := B.notSynchronized
  obtain ⟨hP, hK⟩ := hv
  have hl := lv_entry ([.ref h, .int x1, .int x2]) (n := 6) (Nat.le_of_ble_eq_true rfl)
  rw [lg_entry_eq]
  generalize (lg_sl ([.ref h, .int x1, .int x2]) ++ List.replicate (6 - (lg_sl ([.ref h, .int x1, .int x2])).length) Slot.unset).toArray = ls at hl ⊢
  have hl : lv_has ls 6 [(0, .ref h), (1, .int x1), (2, .int x2)] := hl
  refine lv_iload_n hx hb dX1_apart_0 rfl (lv_at hl 1 rfl) ?_
  refine cs_i (As := [.int x1]) (rest := []) S (metX1_bad l x1) (va_cwS 1 hts (lw_S q144 q145 q7 q146) rfl rfl rfl (by decide +kernel) ⟨Nat.le_of_ble_eq_true rfl, Nat.le_of_ble_eq_true rfl⟩) rfl hl.1 rfl (Nat.le_of_ble_eq_true rfl) dX1_apart_1 ⟨Nat.zero_le _, Nat.zero_le _⟩ (fun r hr2 => ?_)
  refine lv_if_ne (tgt := 19) hx hb dX1_apart_4 (by decide) (fun c1 => ?_) (fun c1 => ?_)
  · refine lv_iconst (v := -1) hx hb dX1_apart_19 (by decide) ?_
    exact W.iret (v := -1) hx hb hr (fun t ht hW => ⟨_, rfl, Or.inl ⟨fun z => cl_nay_t hr2 c1 z.1, rfl⟩, ht⟩) (fun _ hq => by cases hq) dX1_apart_20
  · refine lv_iload_n hx hb dX1_apart_7 rfl (lv_at hl 2 rfl) ?_
    refine cs_i (As := [.int x2]) (rest := []) S (metX1_bad l x2) (va_cwS 1 hts (lw_S q144 q145 q7 q146) rfl rfl rfl (by decide +kernel) ⟨Nat.le_of_ble_eq_true rfl, Nat.le_of_ble_eq_true rfl⟩) rfl hl.1 rfl (Nat.le_of_ble_eq_true rfl) dX1_apart_8 ⟨Nat.zero_le _, Nat.zero_le _⟩ (fun r hr3 => ?_)
    refine lv_if_ne (tgt := 19) hx hb dX1_apart_11 (by decide) (fun c2 => ?_) (fun c2 => ?_)
    · refine lv_iconst (v := -1) hx hb dX1_apart_19 (by decide) ?_
      exact W.iret (v := -1) hx hb hr (fun t ht hW => ⟨_, rfl, Or.inl ⟨fun z => cl_nay_t hr3 c2 z.2.1, rfl⟩, ht⟩) (fun _ hq => by cases hq) dX1_apart_20
    · refine lv_iload_n hx hb dX1_apart_14 rfl (lv_at hl 1 rfl) ?_
      refine lv_iload_n hx hb dX1_apart_15 rfl (lv_at hl 2 rfl) ?_
      refine lv_icmp_ne (tgt := 21) hx hb dX1_apart_16 (by decide) (fun c3 => ?_) (fun c3 => ?_)
      · obtain ⟨i, hi, rfl⟩ := cl_nay_f hr2 c1
        obtain ⟨j, hj, rfl⟩ := cl_nay_f hr3 c2
        have hne : i ≠ j := fun z => c3 (by rw [z])
        refine lv_ldc (own := RX1) (v := 1000000) hx hb hown (hts _ q182) dX1_apart_21 ?_
        refine xw_e (y := nI 1000000) rfl ?_
        refine lv_istore_n (lv' := [(3, .int (nI 1000000)), (0, .ref h), (1, .int (nI i)), (2, .int (nI j))]) hx hb dX1_apart_23 rfl hl (by decide) rfl (fun ls hl => ?_)
        refine lv_iconst (v := nI 0) hx hb dX1_apart_24 (by decide) ?_
        refine lv_istore (lv' := [(4, .int (nI 0)), (3, .int (nI 1000000)), (0, .ref h), (1, .int (nI i)), (2, .int (nI j))]) hx hb dX1_apart_25 hl (by decide) rfl (fun ls hl => ?_)
        refine ap_1 hg hi hj S hK hP (fun mm ls hB hl => ?_) 513 0 (by decide) (by decide) 1000000 ls (cl_bst_0 _ _) (lv_sub hl [2, 3, 4, 1, 0] rfl)
        refine lv_iload_n hx hb dX1_apart_73 rfl (lv_at hl 0 rfl) ?_
        obtain ⟨l0, hl0, hl1, hl2⟩ := cl_lab_ex2 (i := i) (j := j) (by omega) (by omega) hne false true
        exact W.iret (v := nI mm) hx hb hr (fun t ht hW => ⟨_, rfl, Or.inr ⟨i, j, mm, hi, hj, hne, rfl, rfl, rfl, cl_bst_e hB ⟨l0, hl0, by rw [hl1, hl2]; decide, cl_E_lt hg _⟩⟩, ht⟩) (fun _ hq => by cases hq) dX1_apart_74
      · refine lv_iconst (v := -1) hx hb dX1_apart_19 (by decide) ?_
        exact W.iret (v := -1) hx hb hr (fun t ht hW => ⟨_, rfl, Or.inl ⟨fun z => z.2.2 c3, rfl⟩, ht⟩) (fun _ hq => by cases hq) dX1_apart_20
end
section
/-! the constructors -/
def aN (h sz : Nat) : Nat → Prop := fun a => a = h ∨ sz ≤ a
abbrev cl_u0 : cl_U := (fun _ => nI 0, fun _ => nI 0, nI 0, fun _ => nI 0)
theorem cw_one {D : va_G} {cl : List vw_C} {tys : List (ClassId × FieldType)} {U : State} {c1 c2 : ClassId} (hK : va_K D cl tys U) (i j : Nat) (h1 : tys[i]? = some (c1, .int)) (h2 : tys[j]? = some (c2, .int)) : c1 = c2 := by
  have a : U.vm.findClass ("[" ++ FieldType.int.toString) = some c1 := (hK.2 i _ h1).2
  have b : U.vm.findClass ("[" ++ FieldType.int.toString) = some c2 := (hK.2 j _ h2).2
  exact Option.some.inj (a.symm.trans b)
theorem cw_D1 {h sz : Nat} {e : va_E} : va_D (aN h sz) [(h, e)] := by
  have key : ∀ (k : Nat) (z : Nat × va_E), [(h, e)][k]? = some z → k = 0 ∧ z.1 = h := by
    intro k z hz
    have hk : k < 1 := (List.getElem?_eq_some_iff.mp hz).1
    have : k = 0 := by omega
    subst this
    cases hz
    exact ⟨rfl, rfl⟩
  refine ⟨fun i j p q hi hj _ => ?_, fun k z hz => Or.inl (key k z hz).2⟩
  rw [(key i p hi).1, (key j q hj).1]
abbrev cl_rmI0 : Room := { frames := 1, cells := 10, slots := 241, locals := 12 }
abbrev cl_fX0 : List Value := [.null, .null, .null, .null, .null, .null, .null, .null, .null, .int (nI 0), .null]
set_option maxHeartbeats 4000000 in
set_option maxRecDepth 100000 in
theorem metX0_init (l : Launch) (dC : Nat → ClassId) (dI : Nat → Nat → Nat) (h sz : Nat) : Met l yX0_init (ws_ yX0_init cX0_init 1 none) cl_rmI0 (va_Pc [.ref h] (fun U => U.heap.size = sz ∧ va_P (dC, dI) vwCl [(h, .inr (0, cl_fX0))] U.heap ∧ va_K (dC, dI) vwCl [] U)) (va_Qv (fun _ : ClassId × ClassId × (Nat → Nat) => True) (fun v t => va_P (dC, dI) vwCl (wX v.1 v.2.1 h v.2.2 (fun _ _ => 0) cl_u0) t.heap ∧ va_K (dC, dI) vwCl (tX v.1 v.2.1) t ∧ va_D (aN h sz) (wX v.1 v.2.1 h v.2.2 (fun _ _ => 0) cl_u0)) (aN h sz)) 10 241 (aN h sz) := by
  refine Met.ofW (cc := cX0_init) (maxL := 1) (ret := none) (by decide) rfl ?_
  intro p e s m args below meth c s₁ B hml hv
  obtain ⟨rfl, hv⟩ := hv
  have S : CallFix p m c cX0_init 1 s _ lw_all RX0 := ⟨B.exec, B.bytes, hml, findClass_of_methodNamed B.named, fun w hw => atoms_spec (ws := ws_ yX0_init cX0_init 1 none) B.pre w (List.mem_cons_of_mem _ hw)⟩
  obtain ⟨hx, hb, -, hown, hts⟩ := id S
  have hr := B.returns
  have hlocks := B.notSynchronized
  obtain ⟨rfl, hP, hK⟩ := hv
  have hin : meth.name = "<init>" := (name_of_methodNamed B.named B.method).1
  have hS : va_S (aN h s.heap.size) s.heap s.heap [] := va_S.rf
  have hA : ∀ a : Nat, s.heap.size ≤ a → aN h s.heap.size a := fun a z => Or.inr z
  have hD : va_D (aN h s.heap.size) [(h, .inr (0, cl_fX0))] := cw_D1
  have hl := lv_entry ([.ref h]) (n := 1) (Nat.le_of_ble_eq_true rfl)
  rw [lg_entry_eq]
  generalize (lg_sl ([.ref h]) ++ List.replicate (1 - (lg_sl ([.ref h])).length) Slot.unset).toArray = ls at hl ⊢
  have hl : lv_has ls 1 [(0, .ref h)] := hl
  refine lv_aload_n hx hb dX0_init_0 rfl (lv_at hl 0 rfl) ?_
  refine W.objInit hx hb hown (hts _ q13) (hts _ q14) (hts _ q15) rfl (by rw [hml]; exact hl.1) rfl dX0_init_1 (Nat.le_of_ble_eq_true rfl) (Nat.le_of_ble_eq_true rfl) ?_
  refine W.eq (g2 := F0 m 4 ls []) rfl ?_
  refine lv_aload_n hx hb dX0_init_4 rfl (lv_at hl 0 rfl) ?_
  refine lv_bipush (v := nI 9) hx hb dX0_init_5 (by decide) ?_
  refine va_newa (atype := .int) (ty := .int) (a0 := (9, .inl (fun _ => nI 0))) (N' := 9) hx hb (hts _ q50) rfl hK hP hD hS hA (fun _ => rfl) (by decide) (by decide) (by decide) (Nat.le_of_ble_eq_true rfl) (Nat.le_of_ble_eq_true rfl) dX0_init_7 (fun q0 dA H hK hP hD hS => ?_)
  have hP : va_P (dC, dI) vwCl [(h, .inr (0, [.null, .null, .null, .null, .null, .null, .null, .null, .null, .int (nI 0), .null])), (q0, .inl (dA, 9, .inl (fun _ => nI 0)))] H := hP
  have hD : va_D (aN h s.heap.size) [(h, .inr (0, [.null, .null, .null, .null, .null, .null, .null, .null, .null, .int (nI 0), .null])), (q0, .inl (dA, 9, .inl (fun _ => nI 0)))] := hD
  refine va_putF (D := (dC, dI)) (ci := 0) (v := .ref q0) (ty := .array .int) (C := RX0) (T := TX0) (N := 11) hx hb hts in_X0 tyX0 tyX0_ok nmX0 hown hK hP hD hS 0 rfl rfl 0 (by decide) (hts _ q16) (fun _ h9 => h9) rfl hin rfl (by decide +kernel) rfl rfl (Nat.le_of_ble_eq_true rfl) dX0_init_9 (fun H locs hP hD hS => ?_)
  have hP : va_P (dC, dI) vwCl [(h, .inr (0, [.ref q0, .null, .null, .null, .null, .null, .null, .null, .null, .int (nI 0), .null])), (q0, .inl (dA, 9, .inl (fun _ => nI 0)))] H := hP
  have hD : va_D (aN h s.heap.size) [(h, .inr (0, [.ref q0, .null, .null, .null, .null, .null, .null, .null, .null, .int (nI 0), .null])), (q0, .inl (dA, 9, .inl (fun _ => nI 0)))] := hD
  refine lv_aload_n hx hb dX0_init_12 rfl (lv_at hl 0 rfl) ?_
  refine lv_bipush (v := nI 9) hx hb dX0_init_13 (by decide) ?_
  refine va_newa (atype := .int) (ty := .int) (a0 := (9, .inl (fun _ => nI 0))) (N' := 9) hx hb (hts _ q50) rfl hK hP hD hS hA (fun _ => rfl) (by decide) (by decide) (by decide) (Nat.le_of_ble_eq_true rfl) (Nat.le_of_ble_eq_true rfl) dX0_init_15 (fun q1 cA H hK hP hD hS => ?_)
  have ec := cw_one hK 0 1 rfl rfl
  subst ec
  have hK := hK.sub (tys' := [(dA, .int)]) [0] rfl
  have hP : va_P (dC, dI) vwCl [(h, .inr (0, [.ref q0, .null, .null, .null, .null, .null, .null, .null, .null, .int (nI 0), .null])), (q0, .inl (dA, 9, .inl (fun _ => nI 0))), (q1, .inl (dA, 9, .inl (fun _ => nI 0)))] H := hP
  have hD : va_D (aN h s.heap.size) [(h, .inr (0, [.ref q0, .null, .null, .null, .null, .null, .null, .null, .null, .int (nI 0), .null])), (q0, .inl (dA, 9, .inl (fun _ => nI 0))), (q1, .inl (dA, 9, .inl (fun _ => nI 0)))] := hD
  refine va_putF (D := (dC, dI)) (ci := 0) (v := .ref q1) (ty := .array .int) (C := RX0) (T := TX0) (N := 11) hx hb hts in_X0 tyX0 tyX0_ok nmX0 hown hK hP hD hS 0 rfl rfl 1 (by decide) (hts _ q17) (fun _ h9 => h9) rfl hin rfl (by decide +kernel) rfl rfl (Nat.le_of_ble_eq_true rfl) dX0_init_17 (fun H locs hP hD hS => ?_)
  have hP : va_P (dC, dI) vwCl [(h, .inr (0, [.ref q0, .ref q1, .null, .null, .null, .null, .null, .null, .null, .int (nI 0), .null])), (q0, .inl (dA, 9, .inl (fun _ => nI 0))), (q1, .inl (dA, 9, .inl (fun _ => nI 0)))] H := hP
  have hD : va_D (aN h s.heap.size) [(h, .inr (0, [.ref q0, .ref q1, .null, .null, .null, .null, .null, .null, .null, .int (nI 0), .null])), (q0, .inl (dA, 9, .inl (fun _ => nI 0))), (q1, .inl (dA, 9, .inl (fun _ => nI 0)))] := hD
  refine lv_aload_n hx hb dX0_init_20 rfl (lv_at hl 0 rfl) ?_
  refine lv_bipush (v := nI 16) hx hb dX0_init_21 (by decide) ?_
  refine va_newa (atype := .boolean) (ty := .boolean) (a0 := (16, .inl (fun _ => nI 0))) (N' := 16) hx hb (hts _ q51) rfl hK hP hD hS hA (fun _ => rfl) (by decide) (by decide) (by decide) (Nat.le_of_ble_eq_true rfl) (Nat.le_of_ble_eq_true rfl) dX0_init_23 (fun q2 dZ H hK hP hD hS => ?_)
  have hP : va_P (dC, dI) vwCl [(h, .inr (0, [.ref q0, .ref q1, .null, .null, .null, .null, .null, .null, .null, .int (nI 0), .null])), (q0, .inl (dA, 9, .inl (fun _ => nI 0))), (q1, .inl (dA, 9, .inl (fun _ => nI 0))), (q2, .inl (dZ, 16, .inl (fun _ => nI 0)))] H := hP
  have hD : va_D (aN h s.heap.size) [(h, .inr (0, [.ref q0, .ref q1, .null, .null, .null, .null, .null, .null, .null, .int (nI 0), .null])), (q0, .inl (dA, 9, .inl (fun _ => nI 0))), (q1, .inl (dA, 9, .inl (fun _ => nI 0))), (q2, .inl (dZ, 16, .inl (fun _ => nI 0)))] := hD
  refine va_putF (D := (dC, dI)) (ci := 0) (v := .ref q2) (ty := .array .boolean) (C := RX0) (T := TX0) (N := 11) hx hb hts in_X0 tyX0 tyX0_ok nmX0 hown hK hP hD hS 0 rfl rfl 2 (by decide) (hts _ q18) (fun _ h9 => h9) rfl hin rfl (by decide +kernel) rfl rfl (Nat.le_of_ble_eq_true rfl) dX0_init_25 (fun H locs hP hD hS => ?_)
  have hP : va_P (dC, dI) vwCl [(h, .inr (0, [.ref q0, .ref q1, .ref q2, .null, .null, .null, .null, .null, .null, .int (nI 0), .null])), (q0, .inl (dA, 9, .inl (fun _ => nI 0))), (q1, .inl (dA, 9, .inl (fun _ => nI 0))), (q2, .inl (dZ, 16, .inl (fun _ => nI 0)))] H := hP
  have hD : va_D (aN h s.heap.size) [(h, .inr (0, [.ref q0, .ref q1, .ref q2, .null, .null, .null, .null, .null, .null, .int (nI 0), .null])), (q0, .inl (dA, 9, .inl (fun _ => nI 0))), (q1, .inl (dA, 9, .inl (fun _ => nI 0))), (q2, .inl (dZ, 16, .inl (fun _ => nI 0)))] := hD
  refine lv_aload_n hx hb dX0_init_28 rfl (lv_at hl 0 rfl) ?_
  refine lv_bipush (v := nI 16) hx hb dX0_init_29 (by decide) ?_
  refine va_newa (atype := .int) (ty := .int) (a0 := (16, .inl (fun _ => nI 0))) (N' := 16) hx hb (hts _ q50) rfl hK hP hD hS hA (fun _ => rfl) (by decide) (by decide) (by decide) (Nat.le_of_ble_eq_true rfl) (Nat.le_of_ble_eq_true rfl) dX0_init_31 (fun q3 cA H hK hP hD hS => ?_)
  have ec := cw_one hK 0 2 rfl rfl
  subst ec
  have hK := hK.sub (tys' := [(dA, .int), (dZ, .boolean)]) [0, 1] rfl
  have hP : va_P (dC, dI) vwCl [(h, .inr (0, [.ref q0, .ref q1, .ref q2, .null, .null, .null, .null, .null, .null, .int (nI 0), .null])), (q0, .inl (dA, 9, .inl (fun _ => nI 0))), (q1, .inl (dA, 9, .inl (fun _ => nI 0))), (q2, .inl (dZ, 16, .inl (fun _ => nI 0))), (q3, .inl (dA, 16, .inl (fun _ => nI 0)))] H := hP
  have hD : va_D (aN h s.heap.size) [(h, .inr (0, [.ref q0, .ref q1, .ref q2, .null, .null, .null, .null, .null, .null, .int (nI 0), .null])), (q0, .inl (dA, 9, .inl (fun _ => nI 0))), (q1, .inl (dA, 9, .inl (fun _ => nI 0))), (q2, .inl (dZ, 16, .inl (fun _ => nI 0))), (q3, .inl (dA, 16, .inl (fun _ => nI 0)))] := hD
  refine va_putF (D := (dC, dI)) (ci := 0) (v := .ref q3) (ty := .array .int) (C := RX0) (T := TX0) (N := 11) hx hb hts in_X0 tyX0 tyX0_ok nmX0 hown hK hP hD hS 0 rfl rfl 3 (by decide) (hts _ q19) (fun _ h9 => h9) rfl hin rfl (by decide +kernel) rfl rfl (Nat.le_of_ble_eq_true rfl) dX0_init_33 (fun H locs hP hD hS => ?_)
  have hP : va_P (dC, dI) vwCl [(h, .inr (0, [.ref q0, .ref q1, .ref q2, .ref q3, .null, .null, .null, .null, .null, .int (nI 0), .null])), (q0, .inl (dA, 9, .inl (fun _ => nI 0))), (q1, .inl (dA, 9, .inl (fun _ => nI 0))), (q2, .inl (dZ, 16, .inl (fun _ => nI 0))), (q3, .inl (dA, 16, .inl (fun _ => nI 0)))] H := hP
  have hD : va_D (aN h s.heap.size) [(h, .inr (0, [.ref q0, .ref q1, .ref q2, .ref q3, .null, .null, .null, .null, .null, .int (nI 0), .null])), (q0, .inl (dA, 9, .inl (fun _ => nI 0))), (q1, .inl (dA, 9, .inl (fun _ => nI 0))), (q2, .inl (dZ, 16, .inl (fun _ => nI 0))), (q3, .inl (dA, 16, .inl (fun _ => nI 0)))] := hD
  refine lv_aload_n hx hb dX0_init_36 rfl (lv_at hl 0 rfl) ?_
  refine lv_bipush (v := nI 16) hx hb dX0_init_37 (by decide) ?_
  refine va_newa (atype := .int) (ty := .int) (a0 := (16, .inl (fun _ => nI 0))) (N' := 16) hx hb (hts _ q50) rfl hK hP hD hS hA (fun _ => rfl) (by decide) (by decide) (by decide) (Nat.le_of_ble_eq_true rfl) (Nat.le_of_ble_eq_true rfl) dX0_init_39 (fun q4 cA H hK hP hD hS => ?_)
  have ec := cw_one hK 0 2 rfl rfl
  subst ec
  have hK := hK.sub (tys' := [(dA, .int), (dZ, .boolean)]) [0, 1] rfl
  have hP : va_P (dC, dI) vwCl [(h, .inr (0, [.ref q0, .ref q1, .ref q2, .ref q3, .null, .null, .null, .null, .null, .int (nI 0), .null])), (q0, .inl (dA, 9, .inl (fun _ => nI 0))), (q1, .inl (dA, 9, .inl (fun _ => nI 0))), (q2, .inl (dZ, 16, .inl (fun _ => nI 0))), (q3, .inl (dA, 16, .inl (fun _ => nI 0))), (q4, .inl (dA, 16, .inl (fun _ => nI 0)))] H := hP
  have hD : va_D (aN h s.heap.size) [(h, .inr (0, [.ref q0, .ref q1, .ref q2, .ref q3, .null, .null, .null, .null, .null, .int (nI 0), .null])), (q0, .inl (dA, 9, .inl (fun _ => nI 0))), (q1, .inl (dA, 9, .inl (fun _ => nI 0))), (q2, .inl (dZ, 16, .inl (fun _ => nI 0))), (q3, .inl (dA, 16, .inl (fun _ => nI 0))), (q4, .inl (dA, 16, .inl (fun _ => nI 0)))] := hD
  refine va_putF (D := (dC, dI)) (ci := 0) (v := .ref q4) (ty := .array .int) (C := RX0) (T := TX0) (N := 11) hx hb hts in_X0 tyX0 tyX0_ok nmX0 hown hK hP hD hS 0 rfl rfl 4 (by decide) (hts _ q20) (fun _ h9 => h9) rfl hin rfl (by decide +kernel) rfl rfl (Nat.le_of_ble_eq_true rfl) dX0_init_41 (fun H locs hP hD hS => ?_)
  have hP : va_P (dC, dI) vwCl [(h, .inr (0, [.ref q0, .ref q1, .ref q2, .ref q3, .ref q4, .null, .null, .null, .null, .int (nI 0), .null])), (q0, .inl (dA, 9, .inl (fun _ => nI 0))), (q1, .inl (dA, 9, .inl (fun _ => nI 0))), (q2, .inl (dZ, 16, .inl (fun _ => nI 0))), (q3, .inl (dA, 16, .inl (fun _ => nI 0))), (q4, .inl (dA, 16, .inl (fun _ => nI 0)))] H := hP
  have hD : va_D (aN h s.heap.size) [(h, .inr (0, [.ref q0, .ref q1, .ref q2, .ref q3, .ref q4, .null, .null, .null, .null, .int (nI 0), .null])), (q0, .inl (dA, 9, .inl (fun _ => nI 0))), (q1, .inl (dA, 9, .inl (fun _ => nI 0))), (q2, .inl (dZ, 16, .inl (fun _ => nI 0))), (q3, .inl (dA, 16, .inl (fun _ => nI 0))), (q4, .inl (dA, 16, .inl (fun _ => nI 0)))] := hD
  refine lv_aload_n hx hb dX0_init_44 rfl (lv_at hl 0 rfl) ?_
  refine lv_bipush (v := nI 16) hx hb dX0_init_45 (by decide) ?_
  refine va_newa (atype := .int) (ty := .int) (a0 := (16, .inl (fun _ => nI 0))) (N' := 16) hx hb (hts _ q50) rfl hK hP hD hS hA (fun _ => rfl) (by decide) (by decide) (by decide) (Nat.le_of_ble_eq_true rfl) (Nat.le_of_ble_eq_true rfl) dX0_init_47 (fun q5 cA H hK hP hD hS => ?_)
  have ec := cw_one hK 0 2 rfl rfl
  subst ec
  have hK := hK.sub (tys' := [(dA, .int), (dZ, .boolean)]) [0, 1] rfl
  have hP : va_P (dC, dI) vwCl [(h, .inr (0, [.ref q0, .ref q1, .ref q2, .ref q3, .ref q4, .null, .null, .null, .null, .int (nI 0), .null])), (q0, .inl (dA, 9, .inl (fun _ => nI 0))), (q1, .inl (dA, 9, .inl (fun _ => nI 0))), (q2, .inl (dZ, 16, .inl (fun _ => nI 0))), (q3, .inl (dA, 16, .inl (fun _ => nI 0))), (q4, .inl (dA, 16, .inl (fun _ => nI 0))), (q5, .inl (dA, 16, .inl (fun _ => nI 0)))] H := hP
  have hD : va_D (aN h s.heap.size) [(h, .inr (0, [.ref q0, .ref q1, .ref q2, .ref q3, .ref q4, .null, .null, .null, .null, .int (nI 0), .null])), (q0, .inl (dA, 9, .inl (fun _ => nI 0))), (q1, .inl (dA, 9, .inl (fun _ => nI 0))), (q2, .inl (dZ, 16, .inl (fun _ => nI 0))), (q3, .inl (dA, 16, .inl (fun _ => nI 0))), (q4, .inl (dA, 16, .inl (fun _ => nI 0))), (q5, .inl (dA, 16, .inl (fun _ => nI 0)))] := hD
  refine va_putF (D := (dC, dI)) (ci := 0) (v := .ref q5) (ty := .array .int) (C := RX0) (T := TX0) (N := 11) hx hb hts in_X0 tyX0 tyX0_ok nmX0 hown hK hP hD hS 0 rfl rfl 5 (by decide) (hts _ q21) (fun _ h9 => h9) rfl hin rfl (by decide +kernel) rfl rfl (Nat.le_of_ble_eq_true rfl) dX0_init_49 (fun H locs hP hD hS => ?_)
  have hP : va_P (dC, dI) vwCl [(h, .inr (0, [.ref q0, .ref q1, .ref q2, .ref q3, .ref q4, .ref q5, .null, .null, .null, .int (nI 0), .null])), (q0, .inl (dA, 9, .inl (fun _ => nI 0))), (q1, .inl (dA, 9, .inl (fun _ => nI 0))), (q2, .inl (dZ, 16, .inl (fun _ => nI 0))), (q3, .inl (dA, 16, .inl (fun _ => nI 0))), (q4, .inl (dA, 16, .inl (fun _ => nI 0))), (q5, .inl (dA, 16, .inl (fun _ => nI 0)))] H := hP
  have hD : va_D (aN h s.heap.size) [(h, .inr (0, [.ref q0, .ref q1, .ref q2, .ref q3, .ref q4, .ref q5, .null, .null, .null, .int (nI 0), .null])), (q0, .inl (dA, 9, .inl (fun _ => nI 0))), (q1, .inl (dA, 9, .inl (fun _ => nI 0))), (q2, .inl (dZ, 16, .inl (fun _ => nI 0))), (q3, .inl (dA, 16, .inl (fun _ => nI 0))), (q4, .inl (dA, 16, .inl (fun _ => nI 0))), (q5, .inl (dA, 16, .inl (fun _ => nI 0)))] := hD
  refine lv_aload_n hx hb dX0_init_52 rfl (lv_at hl 0 rfl) ?_
  refine lv_bipush (v := nI 16) hx hb dX0_init_53 (by decide) ?_
  refine va_newa (atype := .int) (ty := .int) (a0 := (16, .inl (fun _ => nI 0))) (N' := 16) hx hb (hts _ q50) rfl hK hP hD hS hA (fun _ => rfl) (by decide) (by decide) (by decide) (Nat.le_of_ble_eq_true rfl) (Nat.le_of_ble_eq_true rfl) dX0_init_55 (fun q6 cA H hK hP hD hS => ?_)
  have ec := cw_one hK 0 2 rfl rfl
  subst ec
  have hK := hK.sub (tys' := [(dA, .int), (dZ, .boolean)]) [0, 1] rfl
  have hP : va_P (dC, dI) vwCl [(h, .inr (0, [.ref q0, .ref q1, .ref q2, .ref q3, .ref q4, .ref q5, .null, .null, .null, .int (nI 0), .null])), (q0, .inl (dA, 9, .inl (fun _ => nI 0))), (q1, .inl (dA, 9, .inl (fun _ => nI 0))), (q2, .inl (dZ, 16, .inl (fun _ => nI 0))), (q3, .inl (dA, 16, .inl (fun _ => nI 0))), (q4, .inl (dA, 16, .inl (fun _ => nI 0))), (q5, .inl (dA, 16, .inl (fun _ => nI 0))), (q6, .inl (dA, 16, .inl (fun _ => nI 0)))] H := hP
  have hD : va_D (aN h s.heap.size) [(h, .inr (0, [.ref q0, .ref q1, .ref q2, .ref q3, .ref q4, .ref q5, .null, .null, .null, .int (nI 0), .null])), (q0, .inl (dA, 9, .inl (fun _ => nI 0))), (q1, .inl (dA, 9, .inl (fun _ => nI 0))), (q2, .inl (dZ, 16, .inl (fun _ => nI 0))), (q3, .inl (dA, 16, .inl (fun _ => nI 0))), (q4, .inl (dA, 16, .inl (fun _ => nI 0))), (q5, .inl (dA, 16, .inl (fun _ => nI 0))), (q6, .inl (dA, 16, .inl (fun _ => nI 0)))] := hD
  refine va_putF (D := (dC, dI)) (ci := 0) (v := .ref q6) (ty := .array .int) (C := RX0) (T := TX0) (N := 11) hx hb hts in_X0 tyX0 tyX0_ok nmX0 hown hK hP hD hS 0 rfl rfl 6 (by decide) (hts _ q22) (fun _ h9 => h9) rfl hin rfl (by decide +kernel) rfl rfl (Nat.le_of_ble_eq_true rfl) dX0_init_57 (fun H locs hP hD hS => ?_)
  have hP : va_P (dC, dI) vwCl [(h, .inr (0, [.ref q0, .ref q1, .ref q2, .ref q3, .ref q4, .ref q5, .ref q6, .null, .null, .int (nI 0), .null])), (q0, .inl (dA, 9, .inl (fun _ => nI 0))), (q1, .inl (dA, 9, .inl (fun _ => nI 0))), (q2, .inl (dZ, 16, .inl (fun _ => nI 0))), (q3, .inl (dA, 16, .inl (fun _ => nI 0))), (q4, .inl (dA, 16, .inl (fun _ => nI 0))), (q5, .inl (dA, 16, .inl (fun _ => nI 0))), (q6, .inl (dA, 16, .inl (fun _ => nI 0)))] H := hP
  have hD : va_D (aN h s.heap.size) [(h, .inr (0, [.ref q0, .ref q1, .ref q2, .ref q3, .ref q4, .ref q5, .ref q6, .null, .null, .int (nI 0), .null])), (q0, .inl (dA, 9, .inl (fun _ => nI 0))), (q1, .inl (dA, 9, .inl (fun _ => nI 0))), (q2, .inl (dZ, 16, .inl (fun _ => nI 0))), (q3, .inl (dA, 16, .inl (fun _ => nI 0))), (q4, .inl (dA, 16, .inl (fun _ => nI 0))), (q5, .inl (dA, 16, .inl (fun _ => nI 0))), (q6, .inl (dA, 16, .inl (fun _ => nI 0)))] := hD
  refine lv_aload_n hx hb dX0_init_60 rfl (lv_at hl 0 rfl) ?_
  refine lv_bipush (v := nI 121) hx hb dX0_init_61 (by decide) ?_
  refine va_newa (atype := .int) (ty := .int) (a0 := (121, .inl (fun _ => nI 0))) (N' := 121) hx hb (hts _ q50) rfl hK hP hD hS hA (fun _ => rfl) (by decide) (by decide) (by decide) (Nat.le_of_ble_eq_true rfl) (Nat.le_of_ble_eq_true rfl) dX0_init_63 (fun q7 cA H hK hP hD hS => ?_)
  have ec := cw_one hK 0 2 rfl rfl
  subst ec
  have hK := hK.sub (tys' := [(dA, .int), (dZ, .boolean)]) [0, 1] rfl
  have hP : va_P (dC, dI) vwCl [(h, .inr (0, [.ref q0, .ref q1, .ref q2, .ref q3, .ref q4, .ref q5, .ref q6, .null, .null, .int (nI 0), .null])), (q0, .inl (dA, 9, .inl (fun _ => nI 0))), (q1, .inl (dA, 9, .inl (fun _ => nI 0))), (q2, .inl (dZ, 16, .inl (fun _ => nI 0))), (q3, .inl (dA, 16, .inl (fun _ => nI 0))), (q4, .inl (dA, 16, .inl (fun _ => nI 0))), (q5, .inl (dA, 16, .inl (fun _ => nI 0))), (q6, .inl (dA, 16, .inl (fun _ => nI 0))), (q7, .inl (dA, 121, .inl (fun _ => nI 0)))] H := hP
  have hD : va_D (aN h s.heap.size) [(h, .inr (0, [.ref q0, .ref q1, .ref q2, .ref q3, .ref q4, .ref q5, .ref q6, .null, .null, .int (nI 0), .null])), (q0, .inl (dA, 9, .inl (fun _ => nI 0))), (q1, .inl (dA, 9, .inl (fun _ => nI 0))), (q2, .inl (dZ, 16, .inl (fun _ => nI 0))), (q3, .inl (dA, 16, .inl (fun _ => nI 0))), (q4, .inl (dA, 16, .inl (fun _ => nI 0))), (q5, .inl (dA, 16, .inl (fun _ => nI 0))), (q6, .inl (dA, 16, .inl (fun _ => nI 0))), (q7, .inl (dA, 121, .inl (fun _ => nI 0)))] := hD
  refine va_putF (D := (dC, dI)) (ci := 0) (v := .ref q7) (ty := .array .int) (C := RX0) (T := TX0) (N := 11) hx hb hts in_X0 tyX0 tyX0_ok nmX0 hown hK hP hD hS 0 rfl rfl 7 (by decide) (hts _ q23) (fun _ h9 => h9) rfl hin rfl (by decide +kernel) rfl rfl (Nat.le_of_ble_eq_true rfl) dX0_init_65 (fun H locs hP hD hS => ?_)
  have hP : va_P (dC, dI) vwCl [(h, .inr (0, [.ref q0, .ref q1, .ref q2, .ref q3, .ref q4, .ref q5, .ref q6, .ref q7, .null, .int (nI 0), .null])), (q0, .inl (dA, 9, .inl (fun _ => nI 0))), (q1, .inl (dA, 9, .inl (fun _ => nI 0))), (q2, .inl (dZ, 16, .inl (fun _ => nI 0))), (q3, .inl (dA, 16, .inl (fun _ => nI 0))), (q4, .inl (dA, 16, .inl (fun _ => nI 0))), (q5, .inl (dA, 16, .inl (fun _ => nI 0))), (q6, .inl (dA, 16, .inl (fun _ => nI 0))), (q7, .inl (dA, 121, .inl (fun _ => nI 0)))] H := hP
  have hD : va_D (aN h s.heap.size) [(h, .inr (0, [.ref q0, .ref q1, .ref q2, .ref q3, .ref q4, .ref q5, .ref q6, .ref q7, .null, .int (nI 0), .null])), (q0, .inl (dA, 9, .inl (fun _ => nI 0))), (q1, .inl (dA, 9, .inl (fun _ => nI 0))), (q2, .inl (dZ, 16, .inl (fun _ => nI 0))), (q3, .inl (dA, 16, .inl (fun _ => nI 0))), (q4, .inl (dA, 16, .inl (fun _ => nI 0))), (q5, .inl (dA, 16, .inl (fun _ => nI 0))), (q6, .inl (dA, 16, .inl (fun _ => nI 0))), (q7, .inl (dA, 121, .inl (fun _ => nI 0)))] := hD
  refine lv_aload_n hx hb dX0_init_68 rfl (lv_at hl 0 rfl) ?_
  refine lv_bipush (v := nI 11) hx hb dX0_init_69 (by decide) ?_
  refine va_newa (atype := .int) (ty := .int) (a0 := (11, .inl (fun _ => nI 0))) (N' := 11) hx hb (hts _ q50) rfl hK hP hD hS hA (fun _ => rfl) (by decide) (by decide) (by decide) (Nat.le_of_ble_eq_true rfl) (Nat.le_of_ble_eq_true rfl) dX0_init_71 (fun q8 cA H hK hP hD hS => ?_)
  have ec := cw_one hK 0 2 rfl rfl
  subst ec
  have hK := hK.sub (tys' := [(dA, .int), (dZ, .boolean)]) [0, 1] rfl
  have hP : va_P (dC, dI) vwCl [(h, .inr (0, [.ref q0, .ref q1, .ref q2, .ref q3, .ref q4, .ref q5, .ref q6, .ref q7, .null, .int (nI 0), .null])), (q0, .inl (dA, 9, .inl (fun _ => nI 0))), (q1, .inl (dA, 9, .inl (fun _ => nI 0))), (q2, .inl (dZ, 16, .inl (fun _ => nI 0))), (q3, .inl (dA, 16, .inl (fun _ => nI 0))), (q4, .inl (dA, 16, .inl (fun _ => nI 0))), (q5, .inl (dA, 16, .inl (fun _ => nI 0))), (q6, .inl (dA, 16, .inl (fun _ => nI 0))), (q7, .inl (dA, 121, .inl (fun _ => nI 0))), (q8, .inl (dA, 11, .inl (fun _ => nI 0)))] H := hP
  have hD : va_D (aN h s.heap.size) [(h, .inr (0, [.ref q0, .ref q1, .ref q2, .ref q3, .ref q4, .ref q5, .ref q6, .ref q7, .null, .int (nI 0), .null])), (q0, .inl (dA, 9, .inl (fun _ => nI 0))), (q1, .inl (dA, 9, .inl (fun _ => nI 0))), (q2, .inl (dZ, 16, .inl (fun _ => nI 0))), (q3, .inl (dA, 16, .inl (fun _ => nI 0))), (q4, .inl (dA, 16, .inl (fun _ => nI 0))), (q5, .inl (dA, 16, .inl (fun _ => nI 0))), (q6, .inl (dA, 16, .inl (fun _ => nI 0))), (q7, .inl (dA, 121, .inl (fun _ => nI 0))), (q8, .inl (dA, 11, .inl (fun _ => nI 0)))] := hD
  refine va_putF (D := (dC, dI)) (ci := 0) (v := .ref q8) (ty := .array .int) (C := RX0) (T := TX0) (N := 11) hx hb hts in_X0 tyX0 tyX0_ok nmX0 hown hK hP hD hS 0 rfl rfl 8 (by decide) (hts _ q24) (fun _ h9 => h9) rfl hin rfl (by decide +kernel) rfl rfl (Nat.le_of_ble_eq_true rfl) dX0_init_73 (fun H locs hP hD hS => ?_)
  have hP : va_P (dC, dI) vwCl [(h, .inr (0, [.ref q0, .ref q1, .ref q2, .ref q3, .ref q4, .ref q5, .ref q6, .ref q7, .ref q8, .int (nI 0), .null])), (q0, .inl (dA, 9, .inl (fun _ => nI 0))), (q1, .inl (dA, 9, .inl (fun _ => nI 0))), (q2, .inl (dZ, 16, .inl (fun _ => nI 0))), (q3, .inl (dA, 16, .inl (fun _ => nI 0))), (q4, .inl (dA, 16, .inl (fun _ => nI 0))), (q5, .inl (dA, 16, .inl (fun _ => nI 0))), (q6, .inl (dA, 16, .inl (fun _ => nI 0))), (q7, .inl (dA, 121, .inl (fun _ => nI 0))), (q8, .inl (dA, 11, .inl (fun _ => nI 0)))] H := hP
  have hD : va_D (aN h s.heap.size) [(h, .inr (0, [.ref q0, .ref q1, .ref q2, .ref q3, .ref q4, .ref q5, .ref q6, .ref q7, .ref q8, .int (nI 0), .null])), (q0, .inl (dA, 9, .inl (fun _ => nI 0))), (q1, .inl (dA, 9, .inl (fun _ => nI 0))), (q2, .inl (dZ, 16, .inl (fun _ => nI 0))), (q3, .inl (dA, 16, .inl (fun _ => nI 0))), (q4, .inl (dA, 16, .inl (fun _ => nI 0))), (q5, .inl (dA, 16, .inl (fun _ => nI 0))), (q6, .inl (dA, 16, .inl (fun _ => nI 0))), (q7, .inl (dA, 121, .inl (fun _ => nI 0))), (q8, .inl (dA, 11, .inl (fun _ => nI 0)))] := hD
  refine lv_aload_n hx hb dX0_init_76 rfl (lv_at hl 0 rfl) ?_
  refine lv_bipush (v := nI 11) hx hb dX0_init_77 (by decide) ?_
  refine va_newa (atype := .int) (ty := .int) (a0 := (11, .inl (fun _ => nI 0))) (N' := 11) hx hb (hts _ q50) rfl hK hP hD hS hA (fun _ => rfl) (by decide) (by decide) (by decide) (Nat.le_of_ble_eq_true rfl) (Nat.le_of_ble_eq_true rfl) dX0_init_79 (fun q9 cA H hK hP hD hS => ?_)
  have ec := cw_one hK 0 2 rfl rfl
  subst ec
  have hK := hK.sub (tys' := [(dA, .int), (dZ, .boolean)]) [0, 1] rfl
  have hP : va_P (dC, dI) vwCl [(h, .inr (0, [.ref q0, .ref q1, .ref q2, .ref q3, .ref q4, .ref q5, .ref q6, .ref q7, .ref q8, .int (nI 0), .null])), (q0, .inl (dA, 9, .inl (fun _ => nI 0))), (q1, .inl (dA, 9, .inl (fun _ => nI 0))), (q2, .inl (dZ, 16, .inl (fun _ => nI 0))), (q3, .inl (dA, 16, .inl (fun _ => nI 0))), (q4, .inl (dA, 16, .inl (fun _ => nI 0))), (q5, .inl (dA, 16, .inl (fun _ => nI 0))), (q6, .inl (dA, 16, .inl (fun _ => nI 0))), (q7, .inl (dA, 121, .inl (fun _ => nI 0))), (q8, .inl (dA, 11, .inl (fun _ => nI 0))), (q9, .inl (dA, 11, .inl (fun _ => nI 0)))] H := hP
  have hD : va_D (aN h s.heap.size) [(h, .inr (0, [.ref q0, .ref q1, .ref q2, .ref q3, .ref q4, .ref q5, .ref q6, .ref q7, .ref q8, .int (nI 0), .null])), (q0, .inl (dA, 9, .inl (fun _ => nI 0))), (q1, .inl (dA, 9, .inl (fun _ => nI 0))), (q2, .inl (dZ, 16, .inl (fun _ => nI 0))), (q3, .inl (dA, 16, .inl (fun _ => nI 0))), (q4, .inl (dA, 16, .inl (fun _ => nI 0))), (q5, .inl (dA, 16, .inl (fun _ => nI 0))), (q6, .inl (dA, 16, .inl (fun _ => nI 0))), (q7, .inl (dA, 121, .inl (fun _ => nI 0))), (q8, .inl (dA, 11, .inl (fun _ => nI 0))), (q9, .inl (dA, 11, .inl (fun _ => nI 0)))] := hD
  refine va_putF (D := (dC, dI)) (ci := 0) (v := .ref q9) (ty := .array .int) (C := RX0) (T := TX0) (N := 11) hx hb hts in_X0 tyX0 tyX0_ok nmX0 hown hK hP hD hS 0 rfl rfl 10 (by decide) (hts _ q26) (fun _ h9 => h9) rfl hin rfl (by decide +kernel) rfl rfl (Nat.le_of_ble_eq_true rfl) dX0_init_81 (fun H locs hP hD hS => ?_)
  have hP : va_P (dC, dI) vwCl [(h, .inr (0, [.ref q0, .ref q1, .ref q2, .ref q3, .ref q4, .ref q5, .ref q6, .ref q7, .ref q8, .int (nI 0), .ref q9])), (q0, .inl (dA, 9, .inl (fun _ => nI 0))), (q1, .inl (dA, 9, .inl (fun _ => nI 0))), (q2, .inl (dZ, 16, .inl (fun _ => nI 0))), (q3, .inl (dA, 16, .inl (fun _ => nI 0))), (q4, .inl (dA, 16, .inl (fun _ => nI 0))), (q5, .inl (dA, 16, .inl (fun _ => nI 0))), (q6, .inl (dA, 16, .inl (fun _ => nI 0))), (q7, .inl (dA, 121, .inl (fun _ => nI 0))), (q8, .inl (dA, 11, .inl (fun _ => nI 0))), (q9, .inl (dA, 11, .inl (fun _ => nI 0)))] H := hP
  have hD : va_D (aN h s.heap.size) [(h, .inr (0, [.ref q0, .ref q1, .ref q2, .ref q3, .ref q4, .ref q5, .ref q6, .ref q7, .ref q8, .int (nI 0), .ref q9])), (q0, .inl (dA, 9, .inl (fun _ => nI 0))), (q1, .inl (dA, 9, .inl (fun _ => nI 0))), (q2, .inl (dZ, 16, .inl (fun _ => nI 0))), (q3, .inl (dA, 16, .inl (fun _ => nI 0))), (q4, .inl (dA, 16, .inl (fun _ => nI 0))), (q5, .inl (dA, 16, .inl (fun _ => nI 0))), (q6, .inl (dA, 16, .inl (fun _ => nI 0))), (q7, .inl (dA, 121, .inl (fun _ => nI 0))), (q8, .inl (dA, 11, .inl (fun _ => nI 0))), (q9, .inl (dA, 11, .inl (fun _ => nI 0)))] := hD
  have hK := hK.sub (tys' := tX dA dZ) [0, 1] rfl
  have hP : va_P (dC, dI) vwCl (wX dA dZ h (fun k => ([q0, q1, q2, q3, q4, q5, q6, q7, q8, q9] : List Nat).getD k 0) (fun _ _ => 0) cl_u0) H := by exact hP
  have hD : va_D (aN h s.heap.size) (wX dA dZ h (fun k => ([q0, q1, q2, q3, q4, q5, q6, q7, q8, q9] : List Nat).getD k 0) (fun _ _ => 0) cl_u0) := by exact hD
  refine W.widen (k := 10) (n := 241) (by decide) (by decide) ?_
  exact W.vret hx hb hr (fun t ht hW => ⟨⟨(dA, dZ, (fun k => ([q0, q1, q2, q3, q4, q5, q6, q7, q8, q9] : List Nat).getD k 0)), rfl, trivial, by show va_P _ _ _ t.heap; rw [ht]; exact hP, va_K.moved hW.alike hK, hD⟩, hS.F ht⟩) hS.2.2 dX0_init_84
abbrev cl_rmI1 : Room := { frames := 1, cells := 6, slots := 98, locals := 12 }
abbrev cl_fX1 : List Value := [.null, .null, .null, .null, .null, .null]
set_option maxHeartbeats 4000000 in
set_option maxRecDepth 100000 in
theorem metX1_init (l : Launch) (dC : Nat → ClassId) (dI : Nat → Nat → Nat) (h sz : Nat) : Met l yX1_init (ws_ yX1_init cX1_init 1 none) cl_rmI1 (va_Pc [.ref h] (fun U => U.heap.size = sz ∧ va_P (dC, dI) vwCl [(h, .inr (1, cl_fX1))] U.heap ∧ va_K (dC, dI) vwCl [] U)) (va_Qv (fun _ : ClassId × ClassId × (Nat → Nat) => True) (fun v t => va_P (dC, dI) vwCl (wM v.1 v.2.1 h v.2.2 (fun _ _ => 0)) t.heap ∧ va_K (dC, dI) vwCl (tX v.1 v.2.1) t ∧ va_D (aN h sz) (wM v.1 v.2.1 h v.2.2 (fun _ _ => 0))) (aN h sz)) 6 98 (aN h sz) := by
  refine Met.ofW (cc := cX1_init) (maxL := 1) (ret := none) (by decide) rfl ?_
  intro p e s m args below meth c s₁ B hml hv
  obtain ⟨rfl, hv⟩ := hv
  have S : CallFix p m c cX1_init 1 s _ lw_all RX1 := ⟨B.exec, B.bytes, hml, findClass_of_methodNamed B.named, fun w hw => atoms_spec (ws := ws_ yX1_init cX1_init 1 none) B.pre w (List.mem_cons_of_mem _ hw)⟩
  obtain ⟨hx, hb, -, hown, hts⟩ := id S
  have hr := B.returns
  have hlocks := B.notSynchronized
  obtain ⟨rfl, hP, hK⟩ := hv
  have hin : meth.name = "<init>" := (name_of_methodNamed B.named B.method).1
  have hS : va_S (aN h s.heap.size) s.heap s.heap [] := va_S.rf
  have hA : ∀ a : Nat, s.heap.size ≤ a → aN h s.heap.size a := fun a z => Or.inr z
  have hD : va_D (aN h s.heap.size) [(h, .inr (1, cl_fX1))] := cw_D1
  have hl := lv_entry ([.ref h]) (n := 1) (Nat.le_of_ble_eq_true rfl)
  rw [lg_entry_eq]
  generalize (lg_sl ([.ref h]) ++ List.replicate (1 - (lg_sl ([.ref h])).length) Slot.unset).toArray = ls at hl ⊢
  have hl : lv_has ls 1 [(0, .ref h)] := hl
  refine lv_aload_n hx hb dX1_init_0 rfl (lv_at hl 0 rfl) ?_
  refine W.objInit hx hb hown (hts _ q120) (hts _ q14) (hts _ q15) rfl (by rw [hml]; exact hl.1) rfl dX1_init_1 (Nat.le_of_ble_eq_true rfl) (Nat.le_of_ble_eq_true rfl) ?_
  refine W.eq (g2 := F0 m 4 ls []) rfl ?_
  refine lv_aload_n hx hb dX1_init_4 rfl (lv_at hl 0 rfl) ?_
  refine lv_bipush (v := nI 18) hx hb dX1_init_5 (by decide) ?_
  refine va_newa (atype := .int) (ty := .int) (a0 := (18, .inl (fun _ => nI 0))) (N' := 18) hx hb (hts _ q50) rfl hK hP hD hS hA (fun _ => rfl) (by decide) (by decide) (by decide) (Nat.le_of_ble_eq_true rfl) (Nat.le_of_ble_eq_true rfl) dX1_init_7 (fun q0 dA H hK hP hD hS => ?_)
  have hP : va_P (dC, dI) vwCl [(h, .inr (1, [.null, .null, .null, .null, .null, .null])), (q0, .inl (dA, 18, .inl (fun _ => nI 0)))] H := hP
  have hD : va_D (aN h s.heap.size) [(h, .inr (1, [.null, .null, .null, .null, .null, .null])), (q0, .inl (dA, 18, .inl (fun _ => nI 0)))] := hD
  refine va_putF (D := (dC, dI)) (ci := 1) (v := .ref q0) (ty := .array .int) (C := RX1) (T := TX1) (N := 6) hx hb hts in_X1 tyX1 tyX1_ok nmX1 hown hK hP hD hS 0 rfl rfl 0 (by decide) (hts _ q121) (fun _ h9 => h9) rfl hin rfl (by decide +kernel) rfl rfl (Nat.le_of_ble_eq_true rfl) dX1_init_9 (fun H locs hP hD hS => ?_)
  have hP : va_P (dC, dI) vwCl [(h, .inr (1, [.ref q0, .null, .null, .null, .null, .null])), (q0, .inl (dA, 18, .inl (fun _ => nI 0)))] H := hP
  have hD : va_D (aN h s.heap.size) [(h, .inr (1, [.ref q0, .null, .null, .null, .null, .null])), (q0, .inl (dA, 18, .inl (fun _ => nI 0)))] := hD
  refine lv_aload_n hx hb dX1_init_12 rfl (lv_at hl 0 rfl) ?_
  refine lv_bipush (v := nI 16) hx hb dX1_init_13 (by decide) ?_
  refine va_newa (atype := .boolean) (ty := .boolean) (a0 := (16, .inl (fun _ => nI 0))) (N' := 16) hx hb (hts _ q51) rfl hK hP hD hS hA (fun _ => rfl) (by decide) (by decide) (by decide) (Nat.le_of_ble_eq_true rfl) (Nat.le_of_ble_eq_true rfl) dX1_init_15 (fun q1 dZ H hK hP hD hS => ?_)
  have hP : va_P (dC, dI) vwCl [(h, .inr (1, [.ref q0, .null, .null, .null, .null, .null])), (q0, .inl (dA, 18, .inl (fun _ => nI 0))), (q1, .inl (dZ, 16, .inl (fun _ => nI 0)))] H := hP
  have hD : va_D (aN h s.heap.size) [(h, .inr (1, [.ref q0, .null, .null, .null, .null, .null])), (q0, .inl (dA, 18, .inl (fun _ => nI 0))), (q1, .inl (dZ, 16, .inl (fun _ => nI 0)))] := hD
  refine va_putF (D := (dC, dI)) (ci := 1) (v := .ref q1) (ty := .array .boolean) (C := RX1) (T := TX1) (N := 6) hx hb hts in_X1 tyX1 tyX1_ok nmX1 hown hK hP hD hS 0 rfl rfl 1 (by decide) (hts _ q122) (fun _ h9 => h9) rfl hin rfl (by decide +kernel) rfl rfl (Nat.le_of_ble_eq_true rfl) dX1_init_17 (fun H locs hP hD hS => ?_)
  have hP : va_P (dC, dI) vwCl [(h, .inr (1, [.ref q0, .ref q1, .null, .null, .null, .null])), (q0, .inl (dA, 18, .inl (fun _ => nI 0))), (q1, .inl (dZ, 16, .inl (fun _ => nI 0)))] H := hP
  have hD : va_D (aN h s.heap.size) [(h, .inr (1, [.ref q0, .ref q1, .null, .null, .null, .null])), (q0, .inl (dA, 18, .inl (fun _ => nI 0))), (q1, .inl (dZ, 16, .inl (fun _ => nI 0)))] := hD
  refine lv_aload_n hx hb dX1_init_20 rfl (lv_at hl 0 rfl) ?_
  refine lv_bipush (v := nI 16) hx hb dX1_init_21 (by decide) ?_
  refine va_newa (atype := .int) (ty := .int) (a0 := (16, .inl (fun _ => nI 0))) (N' := 16) hx hb (hts _ q50) rfl hK hP hD hS hA (fun _ => rfl) (by decide) (by decide) (by decide) (Nat.le_of_ble_eq_true rfl) (Nat.le_of_ble_eq_true rfl) dX1_init_23 (fun q2 cA H hK hP hD hS => ?_)
  have ec := cw_one hK 0 2 rfl rfl
  subst ec
  have hK := hK.sub (tys' := [(dA, .int), (dZ, .boolean)]) [0, 1] rfl
  have hP : va_P (dC, dI) vwCl [(h, .inr (1, [.ref q0, .ref q1, .null, .null, .null, .null])), (q0, .inl (dA, 18, .inl (fun _ => nI 0))), (q1, .inl (dZ, 16, .inl (fun _ => nI 0))), (q2, .inl (dA, 16, .inl (fun _ => nI 0)))] H := hP
  have hD : va_D (aN h s.heap.size) [(h, .inr (1, [.ref q0, .ref q1, .null, .null, .null, .null])), (q0, .inl (dA, 18, .inl (fun _ => nI 0))), (q1, .inl (dZ, 16, .inl (fun _ => nI 0))), (q2, .inl (dA, 16, .inl (fun _ => nI 0)))] := hD
  refine va_putF (D := (dC, dI)) (ci := 1) (v := .ref q2) (ty := .array .int) (C := RX1) (T := TX1) (N := 6) hx hb hts in_X1 tyX1 tyX1_ok nmX1 hown hK hP hD hS 0 rfl rfl 2 (by decide) (hts _ q123) (fun _ h9 => h9) rfl hin rfl (by decide +kernel) rfl rfl (Nat.le_of_ble_eq_true rfl) dX1_init_25 (fun H locs hP hD hS => ?_)
  have hP : va_P (dC, dI) vwCl [(h, .inr (1, [.ref q0, .ref q1, .ref q2, .null, .null, .null])), (q0, .inl (dA, 18, .inl (fun _ => nI 0))), (q1, .inl (dZ, 16, .inl (fun _ => nI 0))), (q2, .inl (dA, 16, .inl (fun _ => nI 0)))] H := hP
  have hD : va_D (aN h s.heap.size) [(h, .inr (1, [.ref q0, .ref q1, .ref q2, .null, .null, .null])), (q0, .inl (dA, 18, .inl (fun _ => nI 0))), (q1, .inl (dZ, 16, .inl (fun _ => nI 0))), (q2, .inl (dA, 16, .inl (fun _ => nI 0)))] := hD
  refine lv_aload_n hx hb dX1_init_28 rfl (lv_at hl 0 rfl) ?_
  refine lv_bipush (v := nI 16) hx hb dX1_init_29 (by decide) ?_
  refine va_newa (atype := .int) (ty := .int) (a0 := (16, .inl (fun _ => nI 0))) (N' := 16) hx hb (hts _ q50) rfl hK hP hD hS hA (fun _ => rfl) (by decide) (by decide) (by decide) (Nat.le_of_ble_eq_true rfl) (Nat.le_of_ble_eq_true rfl) dX1_init_31 (fun q3 cA H hK hP hD hS => ?_)
  have ec := cw_one hK 0 2 rfl rfl
  subst ec
  have hK := hK.sub (tys' := [(dA, .int), (dZ, .boolean)]) [0, 1] rfl
  have hP : va_P (dC, dI) vwCl [(h, .inr (1, [.ref q0, .ref q1, .ref q2, .null, .null, .null])), (q0, .inl (dA, 18, .inl (fun _ => nI 0))), (q1, .inl (dZ, 16, .inl (fun _ => nI 0))), (q2, .inl (dA, 16, .inl (fun _ => nI 0))), (q3, .inl (dA, 16, .inl (fun _ => nI 0)))] H := hP
  have hD : va_D (aN h s.heap.size) [(h, .inr (1, [.ref q0, .ref q1, .ref q2, .null, .null, .null])), (q0, .inl (dA, 18, .inl (fun _ => nI 0))), (q1, .inl (dZ, 16, .inl (fun _ => nI 0))), (q2, .inl (dA, 16, .inl (fun _ => nI 0))), (q3, .inl (dA, 16, .inl (fun _ => nI 0)))] := hD
  refine va_putF (D := (dC, dI)) (ci := 1) (v := .ref q3) (ty := .array .int) (C := RX1) (T := TX1) (N := 6) hx hb hts in_X1 tyX1 tyX1_ok nmX1 hown hK hP hD hS 0 rfl rfl 3 (by decide) (hts _ q124) (fun _ h9 => h9) rfl hin rfl (by decide +kernel) rfl rfl (Nat.le_of_ble_eq_true rfl) dX1_init_33 (fun H locs hP hD hS => ?_)
  have hP : va_P (dC, dI) vwCl [(h, .inr (1, [.ref q0, .ref q1, .ref q2, .ref q3, .null, .null])), (q0, .inl (dA, 18, .inl (fun _ => nI 0))), (q1, .inl (dZ, 16, .inl (fun _ => nI 0))), (q2, .inl (dA, 16, .inl (fun _ => nI 0))), (q3, .inl (dA, 16, .inl (fun _ => nI 0)))] H := hP
  have hD : va_D (aN h s.heap.size) [(h, .inr (1, [.ref q0, .ref q1, .ref q2, .ref q3, .null, .null])), (q0, .inl (dA, 18, .inl (fun _ => nI 0))), (q1, .inl (dZ, 16, .inl (fun _ => nI 0))), (q2, .inl (dA, 16, .inl (fun _ => nI 0))), (q3, .inl (dA, 16, .inl (fun _ => nI 0)))] := hD
  refine lv_aload_n hx hb dX1_init_36 rfl (lv_at hl 0 rfl) ?_
  refine lv_bipush (v := nI 16) hx hb dX1_init_37 (by decide) ?_
  refine va_newa (atype := .int) (ty := .int) (a0 := (16, .inl (fun _ => nI 0))) (N' := 16) hx hb (hts _ q50) rfl hK hP hD hS hA (fun _ => rfl) (by decide) (by decide) (by decide) (Nat.le_of_ble_eq_true rfl) (Nat.le_of_ble_eq_true rfl) dX1_init_39 (fun q4 cA H hK hP hD hS => ?_)
  have ec := cw_one hK 0 2 rfl rfl
  subst ec
  have hK := hK.sub (tys' := [(dA, .int), (dZ, .boolean)]) [0, 1] rfl
  have hP : va_P (dC, dI) vwCl [(h, .inr (1, [.ref q0, .ref q1, .ref q2, .ref q3, .null, .null])), (q0, .inl (dA, 18, .inl (fun _ => nI 0))), (q1, .inl (dZ, 16, .inl (fun _ => nI 0))), (q2, .inl (dA, 16, .inl (fun _ => nI 0))), (q3, .inl (dA, 16, .inl (fun _ => nI 0))), (q4, .inl (dA, 16, .inl (fun _ => nI 0)))] H := hP
  have hD : va_D (aN h s.heap.size) [(h, .inr (1, [.ref q0, .ref q1, .ref q2, .ref q3, .null, .null])), (q0, .inl (dA, 18, .inl (fun _ => nI 0))), (q1, .inl (dZ, 16, .inl (fun _ => nI 0))), (q2, .inl (dA, 16, .inl (fun _ => nI 0))), (q3, .inl (dA, 16, .inl (fun _ => nI 0))), (q4, .inl (dA, 16, .inl (fun _ => nI 0)))] := hD
  refine va_putF (D := (dC, dI)) (ci := 1) (v := .ref q4) (ty := .array .int) (C := RX1) (T := TX1) (N := 6) hx hb hts in_X1 tyX1 tyX1_ok nmX1 hown hK hP hD hS 0 rfl rfl 4 (by decide) (hts _ q125) (fun _ h9 => h9) rfl hin rfl (by decide +kernel) rfl rfl (Nat.le_of_ble_eq_true rfl) dX1_init_41 (fun H locs hP hD hS => ?_)
  have hP : va_P (dC, dI) vwCl [(h, .inr (1, [.ref q0, .ref q1, .ref q2, .ref q3, .ref q4, .null])), (q0, .inl (dA, 18, .inl (fun _ => nI 0))), (q1, .inl (dZ, 16, .inl (fun _ => nI 0))), (q2, .inl (dA, 16, .inl (fun _ => nI 0))), (q3, .inl (dA, 16, .inl (fun _ => nI 0))), (q4, .inl (dA, 16, .inl (fun _ => nI 0)))] H := hP
  have hD : va_D (aN h s.heap.size) [(h, .inr (1, [.ref q0, .ref q1, .ref q2, .ref q3, .ref q4, .null])), (q0, .inl (dA, 18, .inl (fun _ => nI 0))), (q1, .inl (dZ, 16, .inl (fun _ => nI 0))), (q2, .inl (dA, 16, .inl (fun _ => nI 0))), (q3, .inl (dA, 16, .inl (fun _ => nI 0))), (q4, .inl (dA, 16, .inl (fun _ => nI 0)))] := hD
  refine lv_aload_n hx hb dX1_init_44 rfl (lv_at hl 0 rfl) ?_
  refine lv_bipush (v := nI 16) hx hb dX1_init_45 (by decide) ?_
  refine va_newa (atype := .int) (ty := .int) (a0 := (16, .inl (fun _ => nI 0))) (N' := 16) hx hb (hts _ q50) rfl hK hP hD hS hA (fun _ => rfl) (by decide) (by decide) (by decide) (Nat.le_of_ble_eq_true rfl) (Nat.le_of_ble_eq_true rfl) dX1_init_47 (fun q5 cA H hK hP hD hS => ?_)
  have ec := cw_one hK 0 2 rfl rfl
  subst ec
  have hK := hK.sub (tys' := [(dA, .int), (dZ, .boolean)]) [0, 1] rfl
  have hP : va_P (dC, dI) vwCl [(h, .inr (1, [.ref q0, .ref q1, .ref q2, .ref q3, .ref q4, .null])), (q0, .inl (dA, 18, .inl (fun _ => nI 0))), (q1, .inl (dZ, 16, .inl (fun _ => nI 0))), (q2, .inl (dA, 16, .inl (fun _ => nI 0))), (q3, .inl (dA, 16, .inl (fun _ => nI 0))), (q4, .inl (dA, 16, .inl (fun _ => nI 0))), (q5, .inl (dA, 16, .inl (fun _ => nI 0)))] H := hP
  have hD : va_D (aN h s.heap.size) [(h, .inr (1, [.ref q0, .ref q1, .ref q2, .ref q3, .ref q4, .null])), (q0, .inl (dA, 18, .inl (fun _ => nI 0))), (q1, .inl (dZ, 16, .inl (fun _ => nI 0))), (q2, .inl (dA, 16, .inl (fun _ => nI 0))), (q3, .inl (dA, 16, .inl (fun _ => nI 0))), (q4, .inl (dA, 16, .inl (fun _ => nI 0))), (q5, .inl (dA, 16, .inl (fun _ => nI 0)))] := hD
  refine va_putF (D := (dC, dI)) (ci := 1) (v := .ref q5) (ty := .array .int) (C := RX1) (T := TX1) (N := 6) hx hb hts in_X1 tyX1 tyX1_ok nmX1 hown hK hP hD hS 0 rfl rfl 5 (by decide) (hts _ q126) (fun _ h9 => h9) rfl hin rfl (by decide +kernel) rfl rfl (Nat.le_of_ble_eq_true rfl) dX1_init_49 (fun H locs hP hD hS => ?_)
  have hP : va_P (dC, dI) vwCl [(h, .inr (1, [.ref q0, .ref q1, .ref q2, .ref q3, .ref q4, .ref q5])), (q0, .inl (dA, 18, .inl (fun _ => nI 0))), (q1, .inl (dZ, 16, .inl (fun _ => nI 0))), (q2, .inl (dA, 16, .inl (fun _ => nI 0))), (q3, .inl (dA, 16, .inl (fun _ => nI 0))), (q4, .inl (dA, 16, .inl (fun _ => nI 0))), (q5, .inl (dA, 16, .inl (fun _ => nI 0)))] H := hP
  have hD : va_D (aN h s.heap.size) [(h, .inr (1, [.ref q0, .ref q1, .ref q2, .ref q3, .ref q4, .ref q5])), (q0, .inl (dA, 18, .inl (fun _ => nI 0))), (q1, .inl (dZ, 16, .inl (fun _ => nI 0))), (q2, .inl (dA, 16, .inl (fun _ => nI 0))), (q3, .inl (dA, 16, .inl (fun _ => nI 0))), (q4, .inl (dA, 16, .inl (fun _ => nI 0))), (q5, .inl (dA, 16, .inl (fun _ => nI 0)))] := hD
  have hK := hK.sub (tys' := tX dA dZ) [0, 1] rfl
  have ec2 : (fun i => nI (cl_c2 (fun _ _ => 0) i)) = (fun _ => nI 0) := by
    funext i
    unfold cl_c2
    split <;> rfl
  have hP : va_P (dC, dI) vwCl (wM dA dZ h (fun k => ([q0, q1, q2, q3, q4, q5] : List Nat).getD k 0) (fun _ _ => 0)) H := by unfold wM; rw [ec2]; exact hP
  have hD : va_D (aN h s.heap.size) (wM dA dZ h (fun k => ([q0, q1, q2, q3, q4, q5] : List Nat).getD k 0) (fun _ _ => 0)) := by unfold wM; rw [ec2]; exact hD
  refine W.widen (k := 6) (n := 98) (by decide) (by decide) ?_
  exact W.vret hx hb hr (fun t ht hW => ⟨⟨(dA, dZ, (fun k => ([q0, q1, q2, q3, q4, q5] : List Nat).getD k 0)), rfl, trivial, by show va_P _ _ _ t.heap; rw [ht]; exact hP, va_K.moved hW.alike hK, hD⟩, hS.F ht⟩) hS.2.2 dX1_init_52
end
section
set_option maxRecDepth 100000
-- ===== end of PART A; then your names; then what follows =====
/-! THE CLAIM OUT OF ONE WALK OF THE LAW'S BODY. Your part is whole_start (and what it stands on); all else here is the same for every law, but numbers. -/
def R_law : String := "CutLabelsLaw"
def lw_P (b : Addr) (xs : List Int32) (args : Array Value) (s : State) : Prop := args = #[.ref b] ∧ s.IntsAt b xs ∧ xs.length ≤ 384 ∧ (Jvm.Cond.and given_1 narrow_1).before args s = true
def lw_Q (_ : Array Value) (s : State) (o : Outcome) (t : State) : Prop := o = .returned (some (.int 1)) ∧ Framed s o t [] 600000 7290000
def lw_Z (below : List Frame) (a : Array Value) (s : State) : State → Prop := fun t => ∃ o, t.status = .running ∧ Ended t below o ∧ lw_Q a s o t
/-- the law's own end, with 1 on the stack, nothing written that was there before, its room as the claim has it -/
theorem lw_ret {p : Program} {l : Launch} {e : Env} {s : State} {m : MethodId} {below : List Frame} {meth : Method} {c : Code} {b : Nat} (hx : p.tables.exec = Jvm.exec) (hb : c.code = code) (hr : meth.sig.returnType = ret) (hlocks : meth.locks = false) {pc : Nat} {H : Heap} {ls : Array Slot} (hdg : decode code pc = .ok (.ireturn, 1)) : W p l e room_1 s m #[Value.ref b] below meth c H [] 600000 7290000 (lw_Z below #[Value.ref b] s) (F0 m pc ls [.int 1]) := by
  intro T hT X
  obtain ⟨fs, hret, hrun, hended, hW, hframe⟩ := X.leave (v := some (.int 1)) (hlocks := hlocks) (fun h => by rw [hr] at h; cases h)
  have hmeth' : T.vm.method? m = some meth := X.method'
  refine ⟨T.setFrames fs, ?_, .returned (some (.int 1)), hrun, hended, rfl, ⟨_, rfl⟩, hW, hframe⟩
  jvm_step X.here [X.here.top, hx, hb, hdg, hmeth', hr, ret, narrow_b1]
  (try refine ⟨rfl, ?_⟩); (try refine ⟨rfl, ?_⟩)
  first | (intro acts; rw [hret _ acts rfl rfl rfl]) | rw [hret _ _ rfl rfl rfl]
  exact Steps.refl _
/-- what holds at the law's entry: the machine, the code, the tables' words (any of lw_tbl by 'hts w (by decide +kernel)'), the script of L ints xs at the cell b, what the Statement gives of the start (any of its parts by flat_of_before) -/
def lw_At (p : Program) (s : State) (m : MethodId) (meth : Method) (c : Code) (b L : Nat) (xs : Nat → Int32) : Prop :=
  p.tables.exec = Jvm.exec ∧ c.code = code ∧ meth.sig.returnType = ret ∧ c.maxLocals = 4 ∧ s.vm.findClass R_law = some m.cls ∧ (∀ w ∈ lw_tbl, w.before #[Value.ref b] s = true) ∧ va_X b L xs s s.heap ∧ b < s.heap.size ∧ meth.locks = false ∧ (Jvm.Cond.and given_1 narrow_1).before #[Value.ref b] s = true
end
section
/-! rows of the law: the script, calls beside another world; cells apart -/
set_option maxRecDepth 100000
section CLW
variable {p : Program} {l : Launch} {e : Env} {R : Room} {s : State} {m : MethodId} {args : Array Value} {below : List Frame} {meth : Method} {c : Code} {H : Heap} {locs : List Loc} {cells slots : Nat} {Q : State → Prop}
variable {cc : ByteArray} {pc : Nat} {ls : Array Slot} {rest st0 : List Value} {D : va_G} {cl : List vw_C} {A : Nat → Prop} {H0 : Heap}
theorem xw_sld (hexec : p.tables.exec = Jvm.exec) (hb : c.code = cc) {b L : Nat} {xs : Nat → Int32} (hX : va_X b L xs s H0) (hbl : b < H0.size) (hbA : ¬ A b) (hS : va_S A H0 H locs) (j : Nat) (hj : j < L) (hL : L < 2 ^ 31) (hdg : decode cc pc = .ok (.iaload, 1))
    (kk : W p l e R s m args below meth c H locs cells slots Q (F0 m (pc + 1) ls (.int (xs j) :: rest))) : W p l e R s m args below meth c H locs cells slots Q (F0 m pc ls (.int (nI j) :: .ref b :: rest)) := by
  refine va_sld hexec hb hX hbl hbA hS (vp_in_nI hj hL) hdg ?_
  rw [nI_clamp (Nat.lt_trans hj hL)]
  exact kk
variable {y : MethodName} {bytes : ByteArray} {maxL nL n index : Nat} {ret : Option FieldType} {rm : Room} {As : List Value} {own C : String} {b : Addr}
theorem cl_call {Sx : Type} {post : Int32 → Sx → Prop} {wf : Sx → va_W} {A1 : Nat → Prop} {Pc : Array Value → State → Prop} {w2 : va_W} (S : CallFix p m c cc nL s args lw_all own) (hM : Met l y (ws_ y bytes maxL ret) rm Pc (va_Qi post (fun v t => va_P D cl (wf v) t.heap) A1) 0 0 A1) (cw : CallW R s args own C index y bytes maxL ret (ws_ y bytes maxL ret) rm 0 0 n) (hp : PreV s H C b Pc As)
    (hA : ∀ a, A1 a → A a) (hS : va_S A H0 H locs) (hP2 : va_P D cl w2 H) (hap : ∀ (k : Nat) (z : Nat × va_E), w2[k]? = some z → ¬ A1 z.1) (hn : As.length = n) (hsize : ls.size = nL) (hst : st0 = As.reverse ++ .ref b :: rest) (hW : (rest.map fun v => v.category).sum ≤ 8) (hdg : decode cc pc = .ok (.invokevirtual index, 3)) (hf : cells ≤ R.cells ∧ slots ≤ R.slots)
    (kk : ∀ (r : Int32) (v : Sx) (H1 : Heap) (locs1 : List Loc), post r v → va_P D cl (wf v) H1 → va_P D cl w2 H1 → va_S A H0 H1 locs1 → W p l e R s m args below meth c H1 locs1 cells slots Q (F0 m (pc + 3) ls (.int r :: rest))) : W p l e R s m args below meth c H locs cells slots Q (F0 m pc ls st0) :=
  va_calli (va_runV (As := As) (rest := rest) S hM cw hp rfl hn hsize hst (lv_room hW) hdg hf) hS (fun a _ z => hA a z) hA (fun r v t H1 locs1 ht _ hpo hB _ hk hS1 => kk r v H1 locs1 hpo (ht ▸ hB) (hP2.kept (fun k z hz => hk z.1 ((hP2 k z hz).lt) (hap k z hz))) hS1)
theorem cw_preX {dC : Nat → ClassId} {dI : Nat → Nat → Nat} {dA dZ : ClassId} {h : Nat} {q : Nat → Nat} {g : Nat → Nat → Nat} {u : cl_U} (hK : va_K (dC, dI) vwCl (tX dA dZ) s) (hP : va_P (dC, dI) vwCl (wX dA dZ h q g u) H) : PreV s H RX0 h (pX dC dI dA dZ h q g u As) As :=
  ⟨pX_blind, va_recv hK hP (ci := 0) (q0 := 0) rfl rfl, fun U hU hW => ⟨rfl, by rw [hU]; exact hP, va_K.moved hW.alike hK⟩⟩
theorem cw_preM {dC : Nat → ClassId} {dI : Nat → Nat → Nat} {dA dZ : ClassId} {h : Nat} {q : Nat → Nat} {g : Nat → Nat → Nat} (hK : va_K (dC, dI) vwCl (tX dA dZ) s) (hP : va_P (dC, dI) vwCl (wM dA dZ h q g) H) : PreV s H RX1 h (pM dC dI dA dZ h q g As) As :=
  ⟨pM_blind, va_recv hK hP (ci := 1) (q0 := 0) rfl rfl, fun U hU hW => ⟨rfl, by rw [hU]; exact hP, va_K.moved hW.alike hK⟩⟩
end CLW
theorem cw_Dcong {A B : Nat → Prop} {ws ws' : va_W} (hm : ws.map Prod.fst = ws'.map Prod.fst) (hB : ∀ (k : Nat) (z : Nat × va_E), ws'[k]? = some z → B z.1) (h : va_D A ws) : va_D B ws' := by
  have key : ∀ (k : Nat) (z : Nat × va_E), ws'[k]? = some z → ∃ z0, ws[k]? = some z0 ∧ z0.1 = z.1 := by
    intro k z hz
    have h1 : (ws'.map Prod.fst)[k]? = some z.1 := by rw [List.getElem?_map, hz]; rfl
    rw [← hm, List.getElem?_map] at h1
    cases hw : ws[k]? with
    | none => rw [hw] at h1; cases h1
    | some z0 => rw [hw] at h1; exact ⟨z0, rfl, Option.some.inj h1⟩
  refine ⟨fun i j x y hi hj hxy => ?_, hB⟩
  obtain ⟨x0, a1, a2⟩ := key i x hi
  obtain ⟨y0, b1, b2⟩ := key j y hj
  exact h.1 i j x0 y0 a1 b1 (a2.trans (hxy.trans b2.symm))
theorem cw_aX {B : Nat → Prop} {dA dZ : ClassId} {h : Nat} {q : Nat → Nat} {g : Nat → Nat → Nat} {u : cl_U} (hB : ∀ (k : Nat) (z : Nat × va_E), (wX dA dZ h q g u)[k]? = some z → B z.1) : ∀ a, aX h q a → B a := by
  intro a ha
  rcases ha with rfl | ⟨k, hk, rfl⟩
  · exact hB 0 _ rfl
  · rcases (show k = 0 ∨ k = 1 ∨ k = 2 ∨ k = 3 ∨ k = 4 ∨ k = 5 ∨ k = 6 ∨ k = 7 ∨ k = 8 ∨ k = 9 by omega) with rfl | rfl | rfl | rfl | rfl | rfl | rfl | rfl | rfl | rfl
    · exact hB 1 _ rfl
    · exact hB 2 _ rfl
    · exact hB 3 _ rfl
    · exact hB 4 _ rfl
    · exact hB 5 _ rfl
    · exact hB 6 _ rfl
    · exact hB 7 _ rfl
    · exact hB 8 _ rfl
    · exact hB 9 _ rfl
    · exact hB 10 _ rfl
theorem cw_aM {B : Nat → Prop} {dA dZ : ClassId} {h : Nat} {q : Nat → Nat} {g : Nat → Nat → Nat} (hB : ∀ (k : Nat) (z : Nat × va_E), (wM dA dZ h q g)[k]? = some z → B z.1) : ∀ a, aM h q a → B a := by
  intro a ha
  rcases ha with rfl | ⟨k, hk, rfl⟩
  · exact hB 0 _ rfl
  · rcases (show k = 0 ∨ k = 1 ∨ k = 2 ∨ k = 3 ∨ k = 4 ∨ k = 5 by omega) with rfl | rfl | rfl | rfl | rfl | rfl
    · exact hB 1 _ rfl
    · exact hB 2 _ rfl
    · exact hB 3 _ rfl
    · exact hB 4 _ rfl
    · exact hB 5 _ rfl
    · exact hB 6 _ rfl
theorem cw_inX {dA dZ : ClassId} {h : Nat} {q : Nat → Nat} {g : Nat → Nat → Nat} {u : cl_U} : ∀ (k : Nat) (z : Nat × va_E), (wX dA dZ h q g u)[k]? = some z → aX h q z.1 := by
  intro k z hz
  have hk : k < 11 := (List.getElem?_eq_some_iff.mp hz).1
  rcases (show k = 0 ∨ k = 1 ∨ k = 2 ∨ k = 3 ∨ k = 4 ∨ k = 5 ∨ k = 6 ∨ k = 7 ∨ k = 8 ∨ k = 9 ∨ k = 10 by omega) with rfl | rfl | rfl | rfl | rfl | rfl | rfl | rfl | rfl | rfl | rfl <;> cases hz
  · exact Or.inl rfl
  all_goals exact Or.inr ⟨_, by decide, rfl⟩
theorem cw_inM {dA dZ : ClassId} {h : Nat} {q : Nat → Nat} {g : Nat → Nat → Nat} : ∀ (k : Nat) (z : Nat × va_E), (wM dA dZ h q g)[k]? = some z → aM h q z.1 := by
  intro k z hz
  have hk : k < 7 := (List.getElem?_eq_some_iff.mp hz).1
  rcases (show k = 0 ∨ k = 1 ∨ k = 2 ∨ k = 3 ∨ k = 4 ∨ k = 5 ∨ k = 6 by omega) with rfl | rfl | rfl | rfl | rfl | rfl | rfl <;> cases hz
  · exact Or.inl rfl
  all_goals exact Or.inr ⟨_, by decide, rfl⟩
theorem cw_dX {A : Nat → Prop} {dA dZ : ClassId} {h : Nat} {q : Nat → Nat} {g : Nat → Nat → Nat} {u : cl_U} (hD : va_D A (wX dA dZ h q g u)) : dX h q := fun _ _ _ _ => cw_Dcong (ws := wX dA dZ h q g u) rfl cw_inX hD
theorem cw_dM {A : Nat → Prop} {dA dZ : ClassId} {h : Nat} {q : Nat → Nat} {g : Nat → Nat → Nat} (hD : va_D A (wM dA dZ h q g)) : dM h q := fun _ _ _ => cw_Dcong (ws := wM dA dZ h q g) rfl cw_inM hD
theorem cw_gt6 {L i : Nat} (hL : L < 2 ^ 30) (hi : i < 2 ^ 30) : nI L - nI 6 < nI i ↔ L < i + 6 := by
  rw [Int32.lt_iff_toInt_lt, pk_sub_toInt hL (by decide), nI_toInt (by omega)]
  omega
/-- what stays through the law's loop: the two objects' cells are apart and new, their classes known -/
def lw_I (dC : Nat → ClassId) (dI : Nat → Nat → Nat) (s : State) (ox om : Nat) (qx qm : Nat → Nat) (dA dZ dB dY : ClassId) : Prop := dX ox qx ∧ dM om qm ∧ (∀ a, aX ox qx a → aM om qm a → False) ∧ (∀ a, aX ox qx a → s.heap.size ≤ a) ∧ (∀ a, aM om qm a → s.heap.size ≤ a) ∧ va_K (dC, dI) vwCl (tX dA dZ) s ∧ va_K (dC, dI) vwCl (tX dB dY) s
end
section
/-! the law: its loop, its start -/
set_option maxRecDepth 100000
set_option maxHeartbeats 4000000 in
set_option maxRecDepth 100000 in
theorem law_loop {p : Program} {l : Launch} {e : Env} {s : State} {m : MethodId} {below : List Frame} {meth : Method} {c : Code} {b L : Nat} {xs : Nat → Int32} {dC : Nat → ClassId} {dI : Nat → Nat → Nat} {ox om : Nat} {qx qm : Nat → Nat} {dA dZ dB dY : ClassId} (hL : L ≤ 384) (C0 : lw_At p s m meth c b L xs) (hI : lw_I dC dI s ox om qx qm dA dZ dB dY) :
    ∀ n i : Nat, i ≤ L → L + 1 ≤ i + n → ∀ (g : Nat → Nat → Nat) (u : cl_U) (H : Heap) (locs : List Loc) (ls : Array Slot), cl_Ok g → va_P (dC, dI) vwCl (wX dA dZ ox qx g u) H → va_P (dC, dI) vwCl (wM dB dY om qm g) H → va_S (fun a : Nat => s.heap.size ≤ a) s.heap H locs → lv_has ls 4 [(0, .ref b), (1, .ref ox), (2, .ref om), (3, .int (nI i))] → W p l e room_1 s m #[Value.ref b] below meth c H locs 600000 7290000 (lw_Z below #[Value.ref b] s) (F0 m 18 ls []) := by
  obtain ⟨hx, hb, hr, hml, hown, htb, hX, hbl, hlocks, hgv⟩ := id C0
  obtain ⟨hDX, hDM, hap, hXA, hMA, hKX, hKM⟩ := id hI
  have hts : ∀ w ∈ lw_all, w.before #[Value.ref b] s = true := fun w hw => htb w (lw_all_tbl hw)
  have S : CallFix p m c cL_law 4 s #[Value.ref b] lw_all R_law := ⟨hx, hb, hml, hown, hts⟩
  have hbA : ¬ (fun a : Nat => s.heap.size ≤ a) b := Nat.not_le.mpr hbl
  have hapX : ∀ (g : Nat → Nat → Nat) (k : Nat) (z : Nat × va_E), (wM dB dY om qm g)[k]? = some z → ¬ aX ox qx z.1 := fun g k z hz a => hap z.1 a (cw_inM k z hz)
  have hapM : ∀ (g : Nat → Nat → Nat) (u : cl_U) (k : Nat) (z : Nat × va_E), (wX dA dZ ox qx g u)[k]? = some z → ¬ aM om qm z.1 := fun g u k z hz a => hap z.1 (cw_inX k z hz) a
  intro n
  induction n with
  | zero => intro i h1 h2; exact absurd h2 (by omega)
  | succ n ih =>
    intro i h1 h2 g u H locs ls hg hPX hPM hS hl
    refine lv_iload_n hx hb dL_law_18 rfl (lv_at hl 3 rfl) ?_
    refine lv_aload_n hx hb dL_law_19 rfl (lv_at hl 0 rfl) ?_
    refine va_slen hx hb hX hbl hbA hS dL_law_20 ?_
    refine lv_bipush (v := nI 6) hx hb dL_law_21 (by decide) ?_
    refine lv_isub hx hb dL_law_23 ?_
    refine lv_icmp_gt (tgt := 347) hx hb dL_law_24 (by decide) (fun c1 => ?_) (fun c1 => ?_)
    · refine va_forget (fun a ha => hS.2.2 a ha) ?_
      refine lv_iconst (v := nI 1) hx hb dL_law_347 (by decide) ?_
      exact lw_ret hx hb hr hlocks dL_law_348
    · have hi6 : i + 6 ≤ L := Nat.le_of_not_lt (fun z => c1 ((cw_gt6 (by omega) (by omega)).mpr z))
      refine lv_aload_n hx hb dL_law_27 rfl (lv_at hl 0 rfl) ?_
      refine lv_iload_n hx hb dL_law_28 rfl (lv_at hl 3 rfl) ?_
      refine xw_sld hx hb hX hbl hbA hS (i) (by omega) (by omega) dL_law_29 ?_
      refine lv_bipush (v := nI 15) hx hb dL_law_30 (by decide) ?_
      obtain ⟨sw, hsw, esw⟩ := pk_andE (xs i) (m := nI 15) 4 (by decide)
      refine lv_iand hx hb dL_law_32 ?_
      refine xw_e (y := nI sw) (esw) ?_
      rcases Nat.lt_or_ge sw 9 with hs9 | hs9
      · rcases (show sw = 0 ∨ sw = 1 ∨ sw = 2 ∨ sw = 3 ∨ sw = 4 ∨ sw = 5 ∨ sw = 6 ∨ sw = 7 ∨ sw = 8 by omega) with rfl | rfl | rfl | rfl | rfl | rfl | rfl | rfl | rfl
        · refine lv_tableIn (off := 51) (tgt := 84) hx hb dL_law_33 (by decide) (by decide) rfl (by decide) ?_
          refine lv_aload_n hx hb dL_law_84 rfl (lv_at hl 1 rfl) ?_
          refine lv_aload_n hx hb dL_law_85 rfl (lv_at hl 0 rfl) ?_
          refine lv_iload_n hx hb dL_law_86 rfl (lv_at hl 3 rfl) ?_
          refine lv_iconst (v := nI 1) hx hb dL_law_87 (by decide) ?_
          refine lv_iadd hx hb dL_law_88 ?_
          refine xw_e (y := nI (i + 1)) (nI_add _ _) ?_
          refine xw_sld hx hb hX hbl hbA hS (i + 1) (by omega) (by omega) dL_law_89 ?_
          refine lv_aload_n hx hb dL_law_90 rfl (lv_at hl 0 rfl) ?_
          refine lv_iload_n hx hb dL_law_91 rfl (lv_at hl 3 rfl) ?_
          refine lv_iconst (v := nI 2) hx hb dL_law_92 (by decide) ?_
          refine lv_iadd hx hb dL_law_93 ?_
          refine xw_e (y := nI (i + 2)) (nI_add _ _) ?_
          refine xw_sld hx hb hX hbl hbA hS (i + 2) (by omega) (by omega) dL_law_94 ?_
          refine lv_aload_n hx hb dL_law_95 rfl (lv_at hl 0 rfl) ?_
          refine lv_iload_n hx hb dL_law_96 rfl (lv_at hl 3 rfl) ?_
          refine lv_iconst (v := nI 3) hx hb dL_law_97 (by decide) ?_
          refine lv_iadd hx hb dL_law_98 ?_
          refine xw_e (y := nI (i + 3)) (nI_add _ _) ?_
          refine xw_sld hx hb hX hbl hbA hS (i + 3) (by omega) (by omega) dL_law_99 ?_
          refine cl_call (As := [.int (xs (i + 1)), .int (xs (i + 2)), .int (xs (i + 3))]) (rest := []) S (metX0_cost l dC dI dA dZ ox qx g hDX u (xs (i + 1)) (xs (i + 2)) (xs (i + 3))) (cwV 3 hts (lw_V q52 q53 q54 q6 q55) rfl rfl rfl (by decide +kernel) ⟨Nat.le_of_ble_eq_true rfl, Nat.le_of_ble_eq_true rfl⟩) (cw_preX hKX hPX) hXA hS hPM (hapX g) rfl hl.1 rfl (Nat.le_of_ble_eq_true rfl) dL_law_100 ⟨Nat.le_of_ble_eq_true rfl, Nat.le_of_ble_eq_true rfl⟩ (fun r1 g1 H locs hp1 hPX hPM hS => ?_)
          refine lv_aload_n hx hb dL_law_103 rfl (lv_at hl 2 rfl) ?_
          refine lv_aload_n hx hb dL_law_104 rfl (lv_at hl 0 rfl) ?_
          refine lv_iload_n hx hb dL_law_105 rfl (lv_at hl 3 rfl) ?_
          refine lv_iconst (v := nI 1) hx hb dL_law_106 (by decide) ?_
          refine lv_iadd hx hb dL_law_107 ?_
          refine xw_e (y := nI (i + 1)) (nI_add _ _) ?_
          refine xw_sld hx hb hX hbl hbA hS (i + 1) (by omega) (by omega) dL_law_108 ?_
          refine lv_aload_n hx hb dL_law_109 rfl (lv_at hl 0 rfl) ?_
          refine lv_iload_n hx hb dL_law_110 rfl (lv_at hl 3 rfl) ?_
          refine lv_iconst (v := nI 2) hx hb dL_law_111 (by decide) ?_
          refine lv_iadd hx hb dL_law_112 ?_
          refine xw_e (y := nI (i + 2)) (nI_add _ _) ?_
          refine xw_sld hx hb hX hbl hbA hS (i + 2) (by omega) (by omega) dL_law_113 ?_
          refine lv_aload_n hx hb dL_law_114 rfl (lv_at hl 0 rfl) ?_
          refine lv_iload_n hx hb dL_law_115 rfl (lv_at hl 3 rfl) ?_
          refine lv_iconst (v := nI 3) hx hb dL_law_116 (by decide) ?_
          refine lv_iadd hx hb dL_law_117 ?_
          refine xw_e (y := nI (i + 3)) (nI_add _ _) ?_
          refine xw_sld hx hb hX hbl hbA hS (i + 3) (by omega) (by omega) dL_law_118 ?_
          refine cl_call (As := [.int (xs (i + 1)), .int (xs (i + 2)), .int (xs (i + 3))]) (rest := [.int r1]) S (metX1_cost l dC dI dB dY om qm g hDM (xs (i + 1)) (xs (i + 2)) (xs (i + 3))) (cwV 3 hts (lw_V q140 q141 q142 q7 q143) rfl rfl rfl (by decide +kernel) ⟨Nat.le_of_ble_eq_true rfl, Nat.le_of_ble_eq_true rfl⟩) (cw_preM hKM hPM) hMA hS hPX (hapM g1 u) rfl hl.1 rfl (Nat.le_of_ble_eq_true rfl) dL_law_119 ⟨Nat.le_of_ble_eq_true rfl, Nat.le_of_ble_eq_true rfl⟩ (fun r2 g2 H locs hp2 hPM hPX hS => ?_)
          obtain ⟨e1, e2⟩ := cl_Cost_one hp1 hp2
          subst e2
          have hg2 := cl_Cost_ok hg hp1
          refine lv_icmp_eq (tgt := 341) hx hb dL_law_122 (by decide) (fun c2 => ?_) (fun c2 => ?_)
          · refine lv_iinc (v := nI (i + 6)) (lv' := [(3, .int (nI (i + 6))), (0, .ref b), (1, .ref ox), (2, .ref om)]) hx hb dL_law_341 hl (k := 3) rfl (cw_i6 _) (by decide) rfl (fun ls hl => ?_)
            refine lv_goto (tgt := 18) hx hb dL_law_344 (by decide) ?_
            exact ih (i + 6) (by omega) (by omega) _ u H locs ls hg2 hPX hPM hS (lv_sub hl [1, 2, 3, 0] rfl)
          · exact absurd e1 c2
        · refine lv_tableIn (off := 94) (tgt := 127) hx hb dL_law_33 (by decide) (by decide) rfl (by decide) ?_
          refine lv_aload_n hx hb dL_law_127 rfl (lv_at hl 1 rfl) ?_
          refine lv_aload_n hx hb dL_law_128 rfl (lv_at hl 0 rfl) ?_
          refine lv_iload_n hx hb dL_law_129 rfl (lv_at hl 3 rfl) ?_
          refine lv_iconst (v := nI 1) hx hb dL_law_130 (by decide) ?_
          refine lv_iadd hx hb dL_law_131 ?_
          refine xw_e (y := nI (i + 1)) (nI_add _ _) ?_
          refine xw_sld hx hb hX hbl hbA hS (i + 1) (by omega) (by omega) dL_law_132 ?_
          refine lv_aload_n hx hb dL_law_133 rfl (lv_at hl 0 rfl) ?_
          refine lv_iload_n hx hb dL_law_134 rfl (lv_at hl 3 rfl) ?_
          refine lv_iconst (v := nI 2) hx hb dL_law_135 (by decide) ?_
          refine lv_iadd hx hb dL_law_136 ?_
          refine xw_e (y := nI (i + 2)) (nI_add _ _) ?_
          refine xw_sld hx hb hX hbl hbA hS (i + 2) (by omega) (by omega) dL_law_137 ?_
          refine lv_aload_n hx hb dL_law_138 rfl (lv_at hl 0 rfl) ?_
          refine lv_iload_n hx hb dL_law_139 rfl (lv_at hl 3 rfl) ?_
          refine lv_iconst (v := nI 3) hx hb dL_law_140 (by decide) ?_
          refine lv_iadd hx hb dL_law_141 ?_
          refine xw_e (y := nI (i + 3)) (nI_add _ _) ?_
          refine xw_sld hx hb hX hbl hbA hS (i + 3) (by omega) (by omega) dL_law_142 ?_
          refine lv_aload_n hx hb dL_law_143 rfl (lv_at hl 0 rfl) ?_
          refine lv_iload_n hx hb dL_law_144 rfl (lv_at hl 3 rfl) ?_
          refine lv_iconst (v := nI 4) hx hb dL_law_145 (by decide) ?_
          refine lv_iadd hx hb dL_law_146 ?_
          refine xw_e (y := nI (i + 4)) (nI_add _ _) ?_
          refine xw_sld hx hb hX hbl hbA hS (i + 4) (by omega) (by omega) dL_law_147 ?_
          refine lv_aload_n hx hb dL_law_148 rfl (lv_at hl 0 rfl) ?_
          refine lv_iload_n hx hb dL_law_149 rfl (lv_at hl 3 rfl) ?_
          refine lv_iconst (v := nI 5) hx hb dL_law_150 (by decide) ?_
          refine lv_iadd hx hb dL_law_151 ?_
          refine xw_e (y := nI (i + 5)) (nI_add _ _) ?_
          refine xw_sld hx hb hX hbl hbA hS (i + 5) (by omega) (by omega) dL_law_152 ?_
          refine cl_call (As := [.int (xs (i + 1)), .int (xs (i + 2)), .int (xs (i + 3)), .int (xs (i + 4)), .int (xs (i + 5))]) (rest := []) S (metX0_tie l dC dI dA dZ ox qx g hDX u (xs (i + 1)) (xs (i + 2)) (xs (i + 3)) (xs (i + 4)) (xs (i + 5))) (cwV 5 hts (lw_V q62 q63 q64 q6 q65) rfl rfl rfl (by decide +kernel) ⟨Nat.le_of_ble_eq_true rfl, Nat.le_of_ble_eq_true rfl⟩) (cw_preX hKX hPX) hXA hS hPM (hapX g) rfl hl.1 rfl (Nat.le_of_ble_eq_true rfl) dL_law_153 ⟨Nat.le_of_ble_eq_true rfl, Nat.le_of_ble_eq_true rfl⟩ (fun r1 g1 H locs hp1 hPX hPM hS => ?_)
          refine lv_aload_n hx hb dL_law_156 rfl (lv_at hl 2 rfl) ?_
          refine lv_aload_n hx hb dL_law_157 rfl (lv_at hl 0 rfl) ?_
          refine lv_iload_n hx hb dL_law_158 rfl (lv_at hl 3 rfl) ?_
          refine lv_iconst (v := nI 1) hx hb dL_law_159 (by decide) ?_
          refine lv_iadd hx hb dL_law_160 ?_
          refine xw_e (y := nI (i + 1)) (nI_add _ _) ?_
          refine xw_sld hx hb hX hbl hbA hS (i + 1) (by omega) (by omega) dL_law_161 ?_
          refine lv_aload_n hx hb dL_law_162 rfl (lv_at hl 0 rfl) ?_
          refine lv_iload_n hx hb dL_law_163 rfl (lv_at hl 3 rfl) ?_
          refine lv_iconst (v := nI 2) hx hb dL_law_164 (by decide) ?_
          refine lv_iadd hx hb dL_law_165 ?_
          refine xw_e (y := nI (i + 2)) (nI_add _ _) ?_
          refine xw_sld hx hb hX hbl hbA hS (i + 2) (by omega) (by omega) dL_law_166 ?_
          refine lv_aload_n hx hb dL_law_167 rfl (lv_at hl 0 rfl) ?_
          refine lv_iload_n hx hb dL_law_168 rfl (lv_at hl 3 rfl) ?_
          refine lv_iconst (v := nI 3) hx hb dL_law_169 (by decide) ?_
          refine lv_iadd hx hb dL_law_170 ?_
          refine xw_e (y := nI (i + 3)) (nI_add _ _) ?_
          refine xw_sld hx hb hX hbl hbA hS (i + 3) (by omega) (by omega) dL_law_171 ?_
          refine lv_aload_n hx hb dL_law_172 rfl (lv_at hl 0 rfl) ?_
          refine lv_iload_n hx hb dL_law_173 rfl (lv_at hl 3 rfl) ?_
          refine lv_iconst (v := nI 4) hx hb dL_law_174 (by decide) ?_
          refine lv_iadd hx hb dL_law_175 ?_
          refine xw_e (y := nI (i + 4)) (nI_add _ _) ?_
          refine xw_sld hx hb hX hbl hbA hS (i + 4) (by omega) (by omega) dL_law_176 ?_
          refine lv_aload_n hx hb dL_law_177 rfl (lv_at hl 0 rfl) ?_
          refine lv_iload_n hx hb dL_law_178 rfl (lv_at hl 3 rfl) ?_
          refine lv_iconst (v := nI 5) hx hb dL_law_179 (by decide) ?_
          refine lv_iadd hx hb dL_law_180 ?_
          refine xw_e (y := nI (i + 5)) (nI_add _ _) ?_
          refine xw_sld hx hb hX hbl hbA hS (i + 5) (by omega) (by omega) dL_law_181 ?_
          refine cl_call (As := [.int (xs (i + 1)), .int (xs (i + 2)), .int (xs (i + 3)), .int (xs (i + 4)), .int (xs (i + 5))]) (rest := [.int r1]) S (metX1_tie l dC dI dB dY om qm g hDM (xs (i + 1)) (xs (i + 2)) (xs (i + 3)) (xs (i + 4)) (xs (i + 5))) (cwV 5 hts (lw_V q150 q151 q152 q7 q153) rfl rfl rfl (by decide +kernel) ⟨Nat.le_of_ble_eq_true rfl, Nat.le_of_ble_eq_true rfl⟩) (cw_preM hKM hPM) hMA hS hPX (hapM g1 u) rfl hl.1 rfl (Nat.le_of_ble_eq_true rfl) dL_law_182 ⟨Nat.le_of_ble_eq_true rfl, Nat.le_of_ble_eq_true rfl⟩ (fun r2 g2 H locs hp2 hPM hPX hS => ?_)
          obtain ⟨e1, e2⟩ := cl_Tie_one hp1 hp2
          subst e2
          have hg2 := cl_Tie_ok hg hp1
          refine lv_icmp_eq (tgt := 341) hx hb dL_law_185 (by decide) (fun c2 => ?_) (fun c2 => ?_)
          · refine lv_iinc (v := nI (i + 6)) (lv' := [(3, .int (nI (i + 6))), (0, .ref b), (1, .ref ox), (2, .ref om)]) hx hb dL_law_341 hl (k := 3) rfl (cw_i6 _) (by decide) rfl (fun ls hl => ?_)
            refine lv_goto (tgt := 18) hx hb dL_law_344 (by decide) ?_
            exact ih (i + 6) (by omega) (by omega) _ u H locs ls hg2 hPX hPM hS (lv_sub hl [1, 2, 3, 0] rfl)
          · exact absurd e1 c2
        · refine lv_tableIn (off := 157) (tgt := 190) hx hb dL_law_33 (by decide) (by decide) rfl (by decide) ?_
          refine lv_aload_n hx hb dL_law_190 rfl (lv_at hl 1 rfl) ?_
          refine lv_aload_n hx hb dL_law_191 rfl (lv_at hl 0 rfl) ?_
          refine lv_iload_n hx hb dL_law_192 rfl (lv_at hl 3 rfl) ?_
          refine lv_iconst (v := nI 1) hx hb dL_law_193 (by decide) ?_
          refine lv_iadd hx hb dL_law_194 ?_
          refine xw_e (y := nI (i + 1)) (nI_add _ _) ?_
          refine xw_sld hx hb hX hbl hbA hS (i + 1) (by omega) (by omega) dL_law_195 ?_
          refine cl_call (As := [.int (xs (i + 1))]) (rest := []) S (metX0_cut l dC dI dA dZ ox qx g hDX hg u (xs (i + 1))) (cwV 1 hts (lw_V q66 q67 q68 q6 q69) rfl rfl rfl (by decide +kernel) ⟨Nat.le_of_ble_eq_true rfl, Nat.le_of_ble_eq_true rfl⟩) (cw_preX hKX hPX) hXA hS hPM (hapX g) rfl hl.1 rfl (Nat.le_of_ble_eq_true rfl) dL_law_196 ⟨Nat.le_of_ble_eq_true rfl, Nat.le_of_ble_eq_true rfl⟩ (fun r1 g1 H locs hp1 hPX hPM hS => ?_)
          refine lv_aload_n hx hb dL_law_199 rfl (lv_at hl 2 rfl) ?_
          refine lv_aload_n hx hb dL_law_200 rfl (lv_at hl 0 rfl) ?_
          refine lv_iload_n hx hb dL_law_201 rfl (lv_at hl 3 rfl) ?_
          refine lv_iconst (v := nI 1) hx hb dL_law_202 (by decide) ?_
          refine lv_iadd hx hb dL_law_203 ?_
          refine xw_e (y := nI (i + 1)) (nI_add _ _) ?_
          refine xw_sld hx hb hX hbl hbA hS (i + 1) (by omega) (by omega) dL_law_204 ?_
          refine cl_call (As := [.int (xs (i + 1))]) (rest := [.int r1]) S (metX1_cut l dC dI dB dY om qm g hDM hg (xs (i + 1))) (cwV 1 hts (lw_V q154 q155 q156 q7 q157) rfl rfl rfl (by decide +kernel) ⟨Nat.le_of_ble_eq_true rfl, Nat.le_of_ble_eq_true rfl⟩) (cw_preM hKM hPM) hMA hS hPX (hapM g1 u) rfl hl.1 rfl (Nat.le_of_ble_eq_true rfl) dL_law_205 ⟨Nat.le_of_ble_eq_true rfl, Nat.le_of_ble_eq_true rfl⟩ (fun r2 g2 H locs hp2 hPM hPX hS => ?_)
          obtain ⟨e1, e2⟩ := cl_CutS_one hp1 hp2
          subst e2
          have hg2 := cl_CutS_ok hg hp1
          refine lv_icmp_eq (tgt := 341) hx hb dL_law_208 (by decide) (fun c2 => ?_) (fun c2 => ?_)
          · refine lv_iinc (v := nI (i + 6)) (lv' := [(3, .int (nI (i + 6))), (0, .ref b), (1, .ref ox), (2, .ref om)]) hx hb dL_law_341 hl (k := 3) rfl (cw_i6 _) (by decide) rfl (fun ls hl => ?_)
            refine lv_goto (tgt := 18) hx hb dL_law_344 (by decide) ?_
            exact ih (i + 6) (by omega) (by omega) _ u H locs ls hg2 hPX hPM hS (lv_sub hl [1, 2, 3, 0] rfl)
          · exact absurd e1 c2
        · refine lv_tableIn (off := 180) (tgt := 213) hx hb dL_law_33 (by decide) (by decide) rfl (by decide) ?_
          refine lv_aload_n hx hb dL_law_213 rfl (lv_at hl 1 rfl) ?_
          refine cl_call (As := []) (rest := []) S (metX0_least l dC dI dA dZ ox qx g hDX hg u ) (cwV 0 hts (lw_V q70 q71 q72 q6 q73) rfl rfl rfl (by decide +kernel) ⟨Nat.le_of_ble_eq_true rfl, Nat.le_of_ble_eq_true rfl⟩) (cw_preX hKX hPX) hXA hS hPM (hapX g) rfl hl.1 rfl (Nat.le_of_ble_eq_true rfl) dL_law_214 ⟨Nat.le_of_ble_eq_true rfl, Nat.le_of_ble_eq_true rfl⟩ (fun r1 u H locs hp1 hPX hPM hS => ?_)
          refine lv_aload_n hx hb dL_law_217 rfl (lv_at hl 2 rfl) ?_
          refine cm_r (As := []) (rest := [.int r1]) S (metX1_least l dC dI dB dY om qm g hg ) (cwV 0 hts (lw_V q158 q159 q160 q7 q161) rfl rfl rfl (by decide +kernel) ⟨Nat.le_of_ble_eq_true rfl, Nat.le_of_ble_eq_true rfl⟩) hKM hPM rfl hl.1 rfl (Nat.le_of_ble_eq_true rfl) dL_law_218 ⟨Nat.le_of_ble_eq_true rfl, Nat.le_of_ble_eq_true rfl⟩ (fun r2 hp2 => ?_)
          have e1 := cl_Least_one hp1 hp2
          refine lv_icmp_eq (tgt := 341) hx hb dL_law_221 (by decide) (fun c2 => ?_) (fun c2 => ?_)
          · refine lv_iinc (v := nI (i + 6)) (lv' := [(3, .int (nI (i + 6))), (0, .ref b), (1, .ref ox), (2, .ref om)]) hx hb dL_law_341 hl (k := 3) rfl (cw_i6 _) (by decide) rfl (fun ls hl => ?_)
            refine lv_goto (tgt := 18) hx hb dL_law_344 (by decide) ?_
            exact ih (i + 6) (by omega) (by omega) g u H locs ls hg hPX hPM hS (lv_sub hl [1, 2, 3, 0] rfl)
          · exact absurd e1 c2
        · refine lv_tableIn (off := 193) (tgt := 226) hx hb dL_law_33 (by decide) (by decide) rfl (by decide) ?_
          refine lv_aload_n hx hb dL_law_226 rfl (lv_at hl 1 rfl) ?_
          refine cl_call (As := []) (rest := []) S (metX0_lower l dC dI dA dZ ox qx g hDX hg u ) (cwV 0 hts (lw_V q91 q92 q93 q6 q94) rfl rfl rfl (by decide +kernel) ⟨Nat.le_of_ble_eq_true rfl, Nat.le_of_ble_eq_true rfl⟩) (cw_preX hKX hPX) hXA hS hPM (hapX g) rfl hl.1 rfl (Nat.le_of_ble_eq_true rfl) dL_law_227 ⟨Nat.le_of_ble_eq_true rfl, Nat.le_of_ble_eq_true rfl⟩ (fun r1 u H locs hp1 hPX hPM hS => ?_)
          refine lv_aload_n hx hb dL_law_230 rfl (lv_at hl 2 rfl) ?_
          refine cm_r (As := []) (rest := [.int r1]) S (metX1_lower l dC dI dB dY om qm g hg ) (cwV 0 hts (lw_V q169 q170 q171 q7 q172) rfl rfl rfl (by decide +kernel) ⟨Nat.le_of_ble_eq_true rfl, Nat.le_of_ble_eq_true rfl⟩) hKM hPM rfl hl.1 rfl (Nat.le_of_ble_eq_true rfl) dL_law_231 ⟨Nat.le_of_ble_eq_true rfl, Nat.le_of_ble_eq_true rfl⟩ (fun r2 hp2 => ?_)
          have e1 := cl_LowS_one hp1 hp2
          refine lv_icmp_eq (tgt := 341) hx hb dL_law_234 (by decide) (fun c2 => ?_) (fun c2 => ?_)
          · refine lv_iinc (v := nI (i + 6)) (lv' := [(3, .int (nI (i + 6))), (0, .ref b), (1, .ref ox), (2, .ref om)]) hx hb dL_law_341 hl (k := 3) rfl (cw_i6 _) (by decide) rfl (fun ls hl => ?_)
            refine lv_goto (tgt := 18) hx hb dL_law_344 (by decide) ?_
            exact ih (i + 6) (by omega) (by omega) g u H locs ls hg hPX hPM hS (lv_sub hl [1, 2, 3, 0] rfl)
          · exact absurd e1 c2
        · refine lv_tableIn (off := 206) (tgt := 239) hx hb dL_law_33 (by decide) (by decide) rfl (by decide) ?_
          refine lv_aload_n hx hb dL_law_239 rfl (lv_at hl 1 rfl) ?_
          refine cl_call (As := []) (rest := []) S (metX0_upper l dC dI dA dZ ox qx g hDX hg u ) (cwV 0 hts (lw_V q95 q96 q97 q6 q98) rfl rfl rfl (by decide +kernel) ⟨Nat.le_of_ble_eq_true rfl, Nat.le_of_ble_eq_true rfl⟩) (cw_preX hKX hPX) hXA hS hPM (hapX g) rfl hl.1 rfl (Nat.le_of_ble_eq_true rfl) dL_law_240 ⟨Nat.le_of_ble_eq_true rfl, Nat.le_of_ble_eq_true rfl⟩ (fun r1 u H locs hp1 hPX hPM hS => ?_)
          refine lv_aload_n hx hb dL_law_243 rfl (lv_at hl 2 rfl) ?_
          refine cm_r (As := []) (rest := [.int r1]) S (metX1_upper l dC dI dB dY om qm g hg ) (cwV 0 hts (lw_V q174 q175 q176 q7 q177) rfl rfl rfl (by decide +kernel) ⟨Nat.le_of_ble_eq_true rfl, Nat.le_of_ble_eq_true rfl⟩) hKM hPM rfl hl.1 rfl (Nat.le_of_ble_eq_true rfl) dL_law_244 ⟨Nat.le_of_ble_eq_true rfl, Nat.le_of_ble_eq_true rfl⟩ (fun r2 hp2 => ?_)
          have e1 := cl_UppS_one hp1 hp2
          refine lv_icmp_eq (tgt := 341) hx hb dL_law_247 (by decide) (fun c2 => ?_) (fun c2 => ?_)
          · refine lv_iinc (v := nI (i + 6)) (lv' := [(3, .int (nI (i + 6))), (0, .ref b), (1, .ref ox), (2, .ref om)]) hx hb dL_law_341 hl (k := 3) rfl (cw_i6 _) (by decide) rfl (fun ls hl => ?_)
            refine lv_goto (tgt := 18) hx hb dL_law_344 (by decide) ?_
            exact ih (i + 6) (by omega) (by omega) g u H locs ls hg hPX hPM hS (lv_sub hl [1, 2, 3, 0] rfl)
          · exact absurd e1 c2
        · refine lv_tableIn (off := 219) (tgt := 252) hx hb dL_law_33 (by decide) (by decide) rfl (by decide) ?_
          refine lv_aload_n hx hb dL_law_252 rfl (lv_at hl 1 rfl) ?_
          refine lv_aload_n hx hb dL_law_253 rfl (lv_at hl 0 rfl) ?_
          refine lv_iload_n hx hb dL_law_254 rfl (lv_at hl 3 rfl) ?_
          refine lv_iconst (v := nI 1) hx hb dL_law_255 (by decide) ?_
          refine lv_iadd hx hb dL_law_256 ?_
          refine xw_e (y := nI (i + 1)) (nI_add _ _) ?_
          refine xw_sld hx hb hX hbl hbA hS (i + 1) (by omega) (by omega) dL_law_257 ?_
          refine lv_aload_n hx hb dL_law_258 rfl (lv_at hl 0 rfl) ?_
          refine lv_iload_n hx hb dL_law_259 rfl (lv_at hl 3 rfl) ?_
          refine lv_iconst (v := nI 2) hx hb dL_law_260 (by decide) ?_
          refine lv_iadd hx hb dL_law_261 ?_
          refine xw_e (y := nI (i + 2)) (nI_add _ _) ?_
          refine xw_sld hx hb hX hbl hbA hS (i + 2) (by omega) (by omega) dL_law_262 ?_
          refine cl_call (As := [.int (xs (i + 1)), .int (xs (i + 2))]) (rest := []) S (metX0_with l dC dI dA dZ ox qx g hDX hg u (xs (i + 1)) (xs (i + 2))) (cwV 2 hts (lw_V q99 q100 q101 q6 q102) rfl rfl rfl (by decide +kernel) ⟨Nat.le_of_ble_eq_true rfl, Nat.le_of_ble_eq_true rfl⟩) (cw_preX hKX hPX) hXA hS hPM (hapX g) rfl hl.1 rfl (Nat.le_of_ble_eq_true rfl) dL_law_263 ⟨Nat.le_of_ble_eq_true rfl, Nat.le_of_ble_eq_true rfl⟩ (fun r1 u H locs hp1 hPX hPM hS => ?_)
          refine lv_aload_n hx hb dL_law_266 rfl (lv_at hl 2 rfl) ?_
          refine lv_aload_n hx hb dL_law_267 rfl (lv_at hl 0 rfl) ?_
          refine lv_iload_n hx hb dL_law_268 rfl (lv_at hl 3 rfl) ?_
          refine lv_iconst (v := nI 1) hx hb dL_law_269 (by decide) ?_
          refine lv_iadd hx hb dL_law_270 ?_
          refine xw_e (y := nI (i + 1)) (nI_add _ _) ?_
          refine xw_sld hx hb hX hbl hbA hS (i + 1) (by omega) (by omega) dL_law_271 ?_
          refine lv_aload_n hx hb dL_law_272 rfl (lv_at hl 0 rfl) ?_
          refine lv_iload_n hx hb dL_law_273 rfl (lv_at hl 3 rfl) ?_
          refine lv_iconst (v := nI 2) hx hb dL_law_274 (by decide) ?_
          refine lv_iadd hx hb dL_law_275 ?_
          refine xw_e (y := nI (i + 2)) (nI_add _ _) ?_
          refine xw_sld hx hb hX hbl hbA hS (i + 2) (by omega) (by omega) dL_law_276 ?_
          refine cm_r (As := [.int (xs (i + 1)), .int (xs (i + 2))]) (rest := [.int r1]) S (metX1_with l dC dI dB dY om qm g hg (xs (i + 1)) (xs (i + 2))) (cwV 2 hts (lw_V q178 q179 q180 q7 q181) rfl rfl rfl (by decide +kernel) ⟨Nat.le_of_ble_eq_true rfl, Nat.le_of_ble_eq_true rfl⟩) hKM hPM rfl hl.1 rfl (Nat.le_of_ble_eq_true rfl) dL_law_277 ⟨Nat.le_of_ble_eq_true rfl, Nat.le_of_ble_eq_true rfl⟩ (fun r2 hp2 => ?_)
          have e1 := cl_With_one hp1 hp2
          refine lv_icmp_eq (tgt := 341) hx hb dL_law_280 (by decide) (fun c2 => ?_) (fun c2 => ?_)
          · refine lv_iinc (v := nI (i + 6)) (lv' := [(3, .int (nI (i + 6))), (0, .ref b), (1, .ref ox), (2, .ref om)]) hx hb dL_law_341 hl (k := 3) rfl (cw_i6 _) (by decide) rfl (fun ls hl => ?_)
            refine lv_goto (tgt := 18) hx hb dL_law_344 (by decide) ?_
            exact ih (i + 6) (by omega) (by omega) g u H locs ls hg hPX hPM hS (lv_sub hl [1, 2, 3, 0] rfl)
          · exact absurd e1 c2
        · refine lv_tableIn (off := 252) (tgt := 285) hx hb dL_law_33 (by decide) (by decide) rfl (by decide) ?_
          refine lv_aload_n hx hb dL_law_285 rfl (lv_at hl 1 rfl) ?_
          refine lv_aload_n hx hb dL_law_286 rfl (lv_at hl 0 rfl) ?_
          refine lv_iload_n hx hb dL_law_287 rfl (lv_at hl 3 rfl) ?_
          refine lv_iconst (v := nI 1) hx hb dL_law_288 (by decide) ?_
          refine lv_iadd hx hb dL_law_289 ?_
          refine xw_e (y := nI (i + 1)) (nI_add _ _) ?_
          refine xw_sld hx hb hX hbl hbA hS (i + 1) (by omega) (by omega) dL_law_290 ?_
          refine lv_aload_n hx hb dL_law_291 rfl (lv_at hl 0 rfl) ?_
          refine lv_iload_n hx hb dL_law_292 rfl (lv_at hl 3 rfl) ?_
          refine lv_iconst (v := nI 2) hx hb dL_law_293 (by decide) ?_
          refine lv_iadd hx hb dL_law_294 ?_
          refine xw_e (y := nI (i + 2)) (nI_add _ _) ?_
          refine xw_sld hx hb hX hbl hbA hS (i + 2) (by omega) (by omega) dL_law_295 ?_
          refine cl_call (As := [.int (xs (i + 1)), .int (xs (i + 2))]) (rest := []) S (metX0_apart l dC dI dA dZ ox qx g hDX hg u (xs (i + 1)) (xs (i + 2))) (cwV 2 hts (lw_V q107 q108 q109 q6 q110) rfl rfl rfl (by decide +kernel) ⟨Nat.le_of_ble_eq_true rfl, Nat.le_of_ble_eq_true rfl⟩) (cw_preX hKX hPX) hXA hS hPM (hapX g) rfl hl.1 rfl (Nat.le_of_ble_eq_true rfl) dL_law_296 ⟨Nat.le_of_ble_eq_true rfl, Nat.le_of_ble_eq_true rfl⟩ (fun r1 u H locs hp1 hPX hPM hS => ?_)
          refine lv_aload_n hx hb dL_law_299 rfl (lv_at hl 2 rfl) ?_
          refine lv_aload_n hx hb dL_law_300 rfl (lv_at hl 0 rfl) ?_
          refine lv_iload_n hx hb dL_law_301 rfl (lv_at hl 3 rfl) ?_
          refine lv_iconst (v := nI 1) hx hb dL_law_302 (by decide) ?_
          refine lv_iadd hx hb dL_law_303 ?_
          refine xw_e (y := nI (i + 1)) (nI_add _ _) ?_
          refine xw_sld hx hb hX hbl hbA hS (i + 1) (by omega) (by omega) dL_law_304 ?_
          refine lv_aload_n hx hb dL_law_305 rfl (lv_at hl 0 rfl) ?_
          refine lv_iload_n hx hb dL_law_306 rfl (lv_at hl 3 rfl) ?_
          refine lv_iconst (v := nI 2) hx hb dL_law_307 (by decide) ?_
          refine lv_iadd hx hb dL_law_308 ?_
          refine xw_e (y := nI (i + 2)) (nI_add _ _) ?_
          refine xw_sld hx hb hX hbl hbA hS (i + 2) (by omega) (by omega) dL_law_309 ?_
          refine cm_r (As := [.int (xs (i + 1)), .int (xs (i + 2))]) (rest := [.int r1]) S (metX1_apart l dC dI dB dY om qm g hg (xs (i + 1)) (xs (i + 2))) (cwV 2 hts (lw_V q183 q184 q185 q7 q186) rfl rfl rfl (by decide +kernel) ⟨Nat.le_of_ble_eq_true rfl, Nat.le_of_ble_eq_true rfl⟩) hKM hPM rfl hl.1 rfl (Nat.le_of_ble_eq_true rfl) dL_law_310 ⟨Nat.le_of_ble_eq_true rfl, Nat.le_of_ble_eq_true rfl⟩ (fun r2 hp2 => ?_)
          have e1 := cl_Apart_one hp1 hp2
          refine lv_icmp_eq (tgt := 341) hx hb dL_law_313 (by decide) (fun c2 => ?_) (fun c2 => ?_)
          · refine lv_iinc (v := nI (i + 6)) (lv' := [(3, .int (nI (i + 6))), (0, .ref b), (1, .ref ox), (2, .ref om)]) hx hb dL_law_341 hl (k := 3) rfl (cw_i6 _) (by decide) rfl (fun ls hl => ?_)
            refine lv_goto (tgt := 18) hx hb dL_law_344 (by decide) ?_
            exact ih (i + 6) (by omega) (by omega) g u H locs ls hg hPX hPM hS (lv_sub hl [1, 2, 3, 0] rfl)
          · exact absurd e1 c2
        · refine lv_tableIn (off := 285) (tgt := 318) hx hb dL_law_33 (by decide) (by decide) rfl (by decide) ?_
          refine lv_aload_n hx hb dL_law_318 rfl (lv_at hl 1 rfl) ?_
          refine lv_aload_n hx hb dL_law_319 rfl (lv_at hl 0 rfl) ?_
          refine lv_iload_n hx hb dL_law_320 rfl (lv_at hl 3 rfl) ?_
          refine lv_iconst (v := nI 1) hx hb dL_law_321 (by decide) ?_
          refine lv_iadd hx hb dL_law_322 ?_
          refine xw_e (y := nI (i + 1)) (nI_add _ _) ?_
          refine xw_sld hx hb hX hbl hbA hS (i + 1) (by omega) (by omega) dL_law_323 ?_
          refine cx_r (As := [.int (xs (i + 1))]) (rest := []) S (metX0_energy l dC dI dA dZ ox qx g hg u (xs (i + 1))) (cwV 1 hts (lw_V q111 q112 q113 q6 q114) rfl rfl rfl (by decide +kernel) ⟨Nat.le_of_ble_eq_true rfl, Nat.le_of_ble_eq_true rfl⟩) hKX hPX rfl hl.1 rfl (Nat.le_of_ble_eq_true rfl) dL_law_324 ⟨Nat.le_of_ble_eq_true rfl, Nat.le_of_ble_eq_true rfl⟩ (fun r1 hp1 => ?_)
          refine lv_aload_n hx hb dL_law_327 rfl (lv_at hl 2 rfl) ?_
          refine lv_aload_n hx hb dL_law_328 rfl (lv_at hl 0 rfl) ?_
          refine lv_iload_n hx hb dL_law_329 rfl (lv_at hl 3 rfl) ?_
          refine lv_iconst (v := nI 1) hx hb dL_law_330 (by decide) ?_
          refine lv_iadd hx hb dL_law_331 ?_
          refine xw_e (y := nI (i + 1)) (nI_add _ _) ?_
          refine xw_sld hx hb hX hbl hbA hS (i + 1) (by omega) (by omega) dL_law_332 ?_
          refine cm_r (As := [.int (xs (i + 1))]) (rest := [.int r1]) S (metX1_energy l dC dI dB dY om qm g hg (xs (i + 1))) (cwV 1 hts (lw_V q187 q163 q164 q7 q165) rfl rfl rfl (by decide +kernel) ⟨Nat.le_of_ble_eq_true rfl, Nat.le_of_ble_eq_true rfl⟩) hKM hPM rfl hl.1 rfl (Nat.le_of_ble_eq_true rfl) dL_law_333 ⟨Nat.le_of_ble_eq_true rfl, Nat.le_of_ble_eq_true rfl⟩ (fun r2 hp2 => ?_)
          have e1 := cl_En_one hp1 hp2
          refine lv_icmp_eq (tgt := 341) hx hb dL_law_336 (by decide) (fun c2 => ?_) (fun c2 => ?_)
          · refine lv_iinc (v := nI (i + 6)) (lv' := [(3, .int (nI (i + 6))), (0, .ref b), (1, .ref ox), (2, .ref om)]) hx hb dL_law_341 hl (k := 3) rfl (cw_i6 _) (by decide) rfl (fun ls hl => ?_)
            refine lv_goto (tgt := 18) hx hb dL_law_344 (by decide) ?_
            exact ih (i + 6) (by omega) (by omega) g u H locs ls hg hPX hPM hS (lv_sub hl [1, 2, 3, 0] rfl)
          · exact absurd e1 c2
      · refine lv_tableOut (tgt := 341) hx hb dL_law_33 (Or.inr (by rw [nI_toInt (by omega)]; omega)) (by decide) ?_
        refine lv_iinc (v := nI (i + 6)) (lv' := [(3, .int (nI (i + 6))), (0, .ref b), (1, .ref ox), (2, .ref om)]) hx hb dL_law_341 hl (k := 3) rfl (cw_i6 _) (by decide) rfl (fun ls hl => ?_)
        refine lv_goto (tgt := 18) hx hb dL_law_344 (by decide) ?_
        exact ih (i + 6) (by omega) (by omega) g u H locs ls hg hPX hPM hS (lv_sub hl [1, 2, 3, 0] rfl)
set_option maxHeartbeats 4000000 in
set_option maxRecDepth 100000 in
/-- THE LAW, from its entry -/
theorem whole_start {p : Program} {e : Env} {s : State} {m : MethodId} {below : List Frame} {meth : Method} {c : Code} (l : Launch) {b L : Nat} {xs : Nat → Int32} (hL : L ≤ 384) (C0 : lw_At p s m meth c b L xs) : W p l e room_1 s m #[Value.ref b] below meth c s.heap [] 0 0 (lw_Z below #[Value.ref b] s) (entryFrame m ([Value.ref b] : List Value).toArray 4) := by
  obtain ⟨hx, hb, hr, hml, hown, htb, hX, hbl, hlocks, hgv⟩ := id C0
  have hts : ∀ w ∈ lw_all, w.before #[Value.ref b] s = true := fun w hw => htb w (lw_all_tbl hw)
  have S : CallFix p m c cL_law 4 s #[Value.ref b] lw_all R_law := ⟨hx, hb, hml, hown, hts⟩
  have hA : ∀ a : Nat, s.heap.size ≤ a → (fun a : Nat => s.heap.size ≤ a) a := fun _ z => z
  obtain ⟨c0, iS0, hKn0⟩ := u_known (C := RX0) (T := TX0) (N := 11) (n := 11) hts in_X0 (hts _ q9)
  obtain ⟨c1, iS1, hKn1⟩ := u_known (C := RX1) (T := TX1) (N := 6) (n := 6) hts in_X1 (hts _ q116)
  obtain ⟨dC, dI, hKc⟩ : ∃ (dC : Nat → ClassId) (dI : Nat → Nat → Nat), ∀ (k : Nat) (q : vw_C), vwCl[k]? = some q → u_Kn s q.1 q.2.1 q.2.2 (dC k) (dI k) := by
    refine ⟨fun k => if k = 0 then c0 else c1, fun k => if k = 0 then iS0 else iS1, ?_⟩
    intro k q hq
    match k, hq with
    | 0, hq => cases hq; exact hKn0
    | 1, hq => cases hq; exact hKn1
    | k + 2, hq => simp [vwCl] at hq
  have hS : va_S (fun a : Nat => s.heap.size ≤ a) s.heap s.heap [] := va_S.rf
  have hK : va_K (dC, dI) vwCl [] s := ⟨hKc, fun k q hq => by simp at hq⟩
  have hP : va_P (dC, dI) vwCl [] s.heap := fun k q hq => by simp at hq
  have hD : va_D (fun a : Nat => s.heap.size ≤ a) [] := ⟨fun i j p q hq => by simp at hq, fun k q hq => by simp at hq⟩
  have hl := lv_entry ([.ref b]) (n := 4) (Nat.le_of_ble_eq_true rfl)
  rw [lg_entry_eq]
  generalize (lg_sl ([.ref b]) ++ List.replicate (4 - (lg_sl ([.ref b])).length) Slot.unset).toArray = ls at hl ⊢
  have hl : lv_has ls 4 [(0, .ref b)] := hl
  refine va_new (ci := 0) (fs := cl_fX0) (C := RX0) (T := TX0) (N := 11) hx hb hts in_X0 tyX0 tyX0_ok hown (hts _ q8) (hts _ q9) (hts _ q6) hK hP hD hS hA rfl (fun j hj => by rcases (show j = 0 ∨ j = 1 ∨ j = 2 ∨ j = 3 ∨ j = 4 ∨ j = 5 ∨ j = 6 ∨ j = 7 ∨ j = 8 ∨ j = 9 ∨ j = 10 by omega) with rfl | rfl | rfl | rfl | rfl | rfl | rfl | rfl | rfl | rfl | rfl <;> rfl) (Nat.le_of_ble_eq_true rfl) (Nat.le_of_ble_eq_true rfl) dL_law_0 (fun ox H hP hD hS => ?_)
  have hPo : va_P (dC, dI) vwCl [(ox, .inr (0, cl_fX0))] H := hP
  have hoA : s.heap.size ≤ ox := hD.2 0 (ox, .inr (0, cl_fX0)) rfl
  refine lv_dup hx hb dL_law_3 rfl ?_
  have hAN : ∀ a, aN ox H.size a → s.heap.size ≤ a := fun a z => by
    rcases z with rfl | z
    · exact hoA
    · exact Nat.le_trans hS.1 z
  refine va_callv (va_runI (As := []) (rest := [.ref ox]) S (metX0_init l dC dI ox H.size) (cwI 0 hts (lw_meth q12) rfl rfl rfl (hts _ q6) (hts _ q10) (hts _ q11) rfl (by decide +kernel) ⟨Nat.le_of_ble_eq_true rfl, Nat.le_of_ble_eq_true rfl⟩) ⟨fun a U f mk z => ⟨z.1, z.2.1, z.2.2.1, va_K.moved (u := U) (U := U.calling f mk a) (Vm.Alike.refl U.vm) z.2.2.2⟩, fun U hU hW => ⟨rfl, by rw [hU], by rw [hU]; exact hPo, va_K.moved hW.alike hK⟩⟩ rfl rfl hl.1 rfl (lv_room (Nat.le_of_ble_eq_true rfl)) dL_law_4 ⟨Nat.le_of_ble_eq_true rfl, Nat.le_of_ble_eq_true rfl⟩) hS (fun a _ z => hAN a z) hAN (fun v t H1 locs ht hvm _ hB hz hk hS => ?_)
  obtain ⟨dA, dZ, qx⟩ := v
  obtain ⟨hPX, hKX, hDX0⟩ := hB
  rw [ht] at hPX
  have hKX := va_K.moved hvm.symm hKX
  have hPX : va_P (dC, dI) vwCl (wX dA dZ ox qx (fun _ _ => 0) cl_u0) H1 := hPX
  have hDX0 : va_D (aN ox H.size) (wX dA dZ ox qx (fun _ _ => 0) cl_u0) := hDX0
  have hDX : va_D (fun a : Nat => s.heap.size ≤ a) (wX dA dZ ox qx (fun _ _ => 0) cl_u0) := hDX0.weaken (fun k z _ a => hAN z.1 a)
  have hXA : ∀ a, aX ox qx a → s.heap.size ≤ a := cw_aX hDX.2
  clear hz hk hAN hPo hoA hP hD
  refine lv_astore_n (lv' := [(1, .ref ox), (0, .ref b)]) hx hb dL_law_7 rfl hl (by decide) rfl (fun ls hl => ?_)
  refine va_new (ci := 1) (fs := cl_fX1) (C := RX1) (T := TX1) (N := 6) hx hb hts in_X1 tyX1 tyX1_ok hown (hts _ q115) (hts _ q116) (hts _ q7) hK hPX hDX hS hA rfl (fun j hj => by rcases (show j = 0 ∨ j = 1 ∨ j = 2 ∨ j = 3 ∨ j = 4 ∨ j = 5 by omega) with rfl | rfl | rfl | rfl | rfl | rfl <;> rfl) (Nat.le_of_ble_eq_true rfl) (Nat.le_of_ble_eq_true rfl) dL_law_8 (fun om H hP hD hS => ?_)
  have hPX := hP.sub (ws' := wX dA dZ ox qx (fun _ _ => 0) cl_u0) [0, 1, 2, 3, 4, 5, 6, 7, 8, 9, 10] rfl
  have hPo := hP.sub (ws' := [(om, .inr (1, cl_fX1))]) [11] rfl
  have hoA : s.heap.size ≤ om := hD.2 11 (om, .inr (1, cl_fX1)) rfl
  have hne : ∀ a, aX ox qx a → a ≠ om := cw_aX (dA := dA) (dZ := dZ) (g := fun _ _ => 0) (u := cl_u0) (fun k z hz q => by
    have hk : k < 11 := (List.getElem?_eq_some_iff.mp hz).1
    have := hD.1 k 11 z (om, .inr (1, cl_fX1)) (by rw [List.getElem?_append_left hk]; exact hz) rfl q
    omega)
  have hlt : ∀ a, aX ox qx a → a < H.size := cw_aX (fun k z hz => (hPX k z hz).lt)
  refine lv_dup hx hb dL_law_11 rfl ?_
  have hAN : ∀ a, aN om H.size a → s.heap.size ≤ a := fun a z => by
    rcases z with rfl | z
    · exact hoA
    · exact Nat.le_trans hS.1 z
  refine va_callv (va_runI (As := []) (rest := [.ref om]) S (metX1_init l dC dI om H.size) (cwI 0 hts (lw_meth q119) rfl rfl rfl (hts _ q7) (hts _ q117) (hts _ q118) rfl (by decide +kernel) ⟨Nat.le_of_ble_eq_true rfl, Nat.le_of_ble_eq_true rfl⟩) ⟨fun a U f mk z => ⟨z.1, z.2.1, z.2.2.1, va_K.moved (u := U) (U := U.calling f mk a) (Vm.Alike.refl U.vm) z.2.2.2⟩, fun U hU hW => ⟨rfl, by rw [hU], by rw [hU]; exact hPo, va_K.moved hW.alike hK⟩⟩ rfl rfl hl.1 rfl (lv_room (Nat.le_of_ble_eq_true rfl)) dL_law_12 ⟨Nat.le_of_ble_eq_true rfl, Nat.le_of_ble_eq_true rfl⟩) hS (fun a _ z => hAN a z) hAN (fun v t H1 locs ht hvm _ hB hz hk hS => ?_)
  obtain ⟨dB, dY, qm⟩ := v
  obtain ⟨hPM, hKM, hDM0⟩ := hB
  rw [ht] at hPM
  have hKM := va_K.moved hvm.symm hKM
  have hPM : va_P (dC, dI) vwCl (wM dB dY om qm (fun _ _ => 0)) H1 := hPM
  have hDM0 : va_D (aN om H.size) (wM dB dY om qm (fun _ _ => 0)) := hDM0
  have hMN : ∀ a, aM om qm a → aN om H.size a := cw_aM hDM0.2
  have hnA : ∀ a, aX ox qx a → ¬ aN om H.size a := fun a z y => by
    rcases y with y | y
    · exact hne a z y
    · exact absurd (hlt a z) (Nat.not_lt.mpr y)
  have hPX := hPX.kept (fun k z hz => hk z.1 (hlt z.1 (cw_inX k z hz)) (hnA z.1 (cw_inX k z hz)))
  have hI : lw_I dC dI s ox om qx qm dA dZ dB dY := ⟨cw_dX hDX, cw_dM hDM0, fun a x y => hnA a x (hMN a y), hXA, fun a y => hAN a (hMN a y), hKX, hKM⟩
  refine W.widen (k := 600000) (n := 7290000) (Nat.le_of_ble_eq_true rfl) (Nat.le_of_ble_eq_true rfl) ?_
  refine lv_astore_n (lv' := [(2, .ref om), (1, .ref ox), (0, .ref b)]) hx hb dL_law_15 rfl hl (by decide) rfl (fun ls hl => ?_)
  refine lv_iconst (v := nI 0) hx hb dL_law_16 (by decide) ?_
  refine lv_istore_n (lv' := [(3, .int (nI 0)), (2, .ref om), (1, .ref ox), (0, .ref b)]) hx hb dL_law_17 rfl hl (by decide) rfl (fun ls hl => ?_)
  exact law_loop hL C0 hI (L + 1) 0 (Nat.zero_le L) (by omega) (fun _ _ => 0) cl_u0 H1 locs ls ⟨fun _ => Nat.zero_le _, fun _ => Nat.zero_le _, fun _ => Nat.zero_le _, fun _ => ⟨Nat.zero_lt_succ 8, Nat.zero_lt_succ 8, Nat.zero_le _, Nat.zero_le _, fun z => absurd z Nat.zero_ne_one⟩⟩ hPX hPM hS (lv_sub hl [3, 2, 1, 0] rfl)
end
section
set_option maxRecDepth 100000
-- ===== YOUR PART ENDS =====
set_option maxHeartbeats 4000000 in
theorem lw_walk (l : Launch) (b : Addr) (xs : List Int32) : MetFree l x (headSpec (Jvm.Cond.code x code maxLocals ret :: tables_1) room_1) (lw_P b xs) (fun _ _ _ _ _ => True) lw_Q := by
  refine MetFree.of_bodyS (code := code) (maxLocals := maxLocals) (ret := ret) (by decide) ?_ ?_
  · intro args s m h hn
    obtain ⟨meth, c, h1, h2, h3, h4, h5, h6, -, -⟩ := Cond.code_spec hn (atoms_spec (ws := Jvm.Cond.code x code maxLocals ret :: tables_1) h _ List.mem_cons_self)
    exact ⟨meth, c, h1, h2, h3, h4, h5, h6⟩
  · intro p e s m args below meth c s₁ B hml0 hP _
    obtain ⟨rfl, hx, hbd, hgv⟩ := hP
    obtain ⟨scr, harrAt, hlist, hof, hsmall⟩ := hx
    obtain ⟨hcb, hkn, -, -⟩ := State.arrayAt?_spec harrAt
    have hown : s.vm.findClass R_law = some m.cls := findClass_of_methodNamed B.named
    have hts0 : ∀ c ∈ (Jvm.Cond.code x code maxLocals ret :: tables_1), c.before #[Value.ref b] s = true := atoms_spec (ws := Jvm.Cond.code x code maxLocals ret :: tables_1) B.pre
    have hts : ∀ w ∈ lw_tbl, w.before #[Value.ref b] s = true := k2_hts_sels lw_privs (fun w hw => hts0 w (List.mem_cons_of_mem _ hw)) lw_privs_ok
    have hml : c.maxLocals = 4 := B.maxLocals_eq (hts0 _ List.mem_cons_self)
    have X₀ : Stand p l e room_1 s m #[Value.ref b] below meth c s₁ [] 0 0 := Stand.of_body B
    have hh0 : s₁.heap = s.heap := by rw [B.state]; rfl
    have hsz : scr.slots.size = xs.length := by rw [← Array.length_toList, hlist, List.length_map]
    have hval : ∀ j : Nat, j < xs.length → scr.slots[j]? = some (.int (xs.getD j 0)) := fun j hj => by
      rw [← Array.getElem?_toList, hlist]
      simp [hj]
    have hbl : b < s.heap.size := (Array.getElem?_eq_some_iff.mp hcb).1
    have hX : va_X b xs.length (fun j => xs.getD j 0) s s.heap := ⟨scr, hcb, hof, hkn, hsz, hval⟩
    have K : W p l e room_1 s m #[Value.ref b] below meth c s₁.heap [] 0 0 (lw_Z below #[Value.ref b] s) (entryFrame m ([Value.ref b] : List Value).toArray 4) := by
      rw [hh0]
      exact whole_start l hbd ⟨B.exec, B.bytes, B.returns, hml, hown, hts, hX, hbl, B.notSynchronized, hgv⟩
    obtain ⟨t, a1, o, b1, b2, b3⟩ := K s₁ rfl X₀
    exact ⟨t, o, a1, b1, b2, b3⟩
theorem lw_pre_spec {args : Array Value} {s : State} (h : (Jvm.Cond.and given_1 narrow_1).before args s = true) (hr : rest_1_c.before args s = true) : ∃ (b : Addr) (xs : List Int32), lw_P b xs args s := by
  have hs := flat_of_before _ h
  have hq := flat_of_before _ hr
  have hc : (Cond.count 1).before args s = true := hs _ (by decide +kernel)
  have harr : (Cond.arrayOf (.arg 0) .int).before args s = true := hs _ (by decide +kernel)
  have hle : (Cond.le (.length (.arg 0)) (.int 384)).before args s = true := hs _ (by decide +kernel)
  have hlen : (Cond.isInt (.length (.arg 0))).before args s = true := hq _ (by decide +kernel)
  have hall : (Cond.all (.arg 0) (.isInt (.elem (.arg 0) (.index 0)))).before args s = true := hq _ (by decide +kernel)
  obtain ⟨b, xs, hb, hx⟩ := State.ints_of_pre rfl harr hlen hall
  have hsm : xs.length < 2 ^ 31 := hx.choose_spec.2.2.2
  have hev : (Term.length (.arg 0)).eval args s none [] s = some (.int xs.length.toInt32) := hx.length_eval hb
  have hv := Cond.le_ints hev (show (Term.int 384).eval args s none [] s = some (.int 384) from rfl)
  have hd : xs.length.toInt32 ≤ 384 := by
    simpa [Cond.before, Cond.holds, hv] using hle
  have hN : xs.length ≤ 384 := (Int32.ofNat_le_ofNat hsm (by decide)).mp (show Int32.ofNat xs.length ≤ Int32.ofNat 384 from hd)
  exact ⟨b, xs, Cond.one_arg hc (show args[0]? = some (.ref b) from hb), hx, hN, h⟩
theorem lw_comes (l : Launch) : Comes l x (Jvm.Cond.code x code maxLocals ret :: tables_1) room_1 (fun tb e args s => Calls_1 tb e args s ∧ rest_1 tb e args s ∧ Pre_1 tb e args s)
    (fun _ _ args s o t => lw_Q args s o t) := by
  intro p e ha hc hk s m args below hf hfit hheap happ hpre
  obtain ⟨b, xs, hP⟩ := lw_pre_spec hpre.2.2 hpre.2.1
  obtain ⟨k, o, h1, h2, h3, hQ⟩ := lw_walk l b xs p e ha hc hk s m args below hf ((Spec.applies_iff_loose hf).mp happ).1 hP trivial
  exact ⟨k, o, h1, h2, h3, hQ⟩
theorem lw_frame {s t : State} {o : Outcome} {args : Array Value} (h : Framed s o t [] 600000 7290000) :
    Framed s o t (fieldLocs frame_1_writes args s ++ arrayLocs frame_1_arrays args s ++ staticLocs frame_1_statics s) 600000 7290000 := h
theorem lw_limb (L : Cond) (hL : ∀ (args : Array Value) (s t : State), L.after args s (.returned (some (.int 1))) t = true) :
    ArmFor flags0 classFile x code maxLocals ret World_1 tables_1 room_1 Calls_1 rest_1 Pre_1
      (fun tb e a s o t => postC L tb e a s o t ∧ Framed s o t (fieldLocs frame_1_writes a s ++ arrayLocs frame_1_arrays a s ++ staticLocs frame_1_statics s) 600000 7290000) := by
  intro l _ _ _ p e ha hc hk s m args below hf hfit hheap happ hpre
  obtain ⟨k, o, h1, h2, h3, rfl, hF⟩ := lw_comes l p e ha hc hk s m args below hf hfit hheap happ hpre
  exact ⟨k, _, h1, h2, h3, hL args s _, lw_frame hF⟩
theorem i_vc : Claimed_1_1 ∧ Claimed_1_2 := ⟨lw_limb limb_1_1 (fun args s t => by simp [limb_1_1, Cond.after, Cond.holds, Cond.value]), lw_limb limb_1_2 (fun args s t => Cond.after_iff.mpr (by
  first | (rw [show limb_1_2 = Cond.eq .result (.int 1) from rfl, Cond.eq_ints (x := 1) (y := 1) rfl rfl]; simp; done) | (simp [limb_1_2, Cond.value, Term.eval]; done)))⟩
end
