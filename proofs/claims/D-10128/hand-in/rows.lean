section
/-- an int and a long by its value; a boolean -/
def dx_I (z : Int) : Int32 := Int32.ofInt z
def dx_J (z : Int) : Int64 := Int64.ofInt z
def dx_B (b : Bool) : Int32 := match b with
  | true => 1
  | false => 0
theorem dx_iT {z : Int} (h : -2147483648 ≤ z ∧ z < 2147483648) : (dx_I z).toInt = z := Int32.toInt_ofInt_of_le (by omega) (by omega)
theorem dx_jT {z : Int} (h : -9223372036854775808 ≤ z ∧ z < 9223372036854775808) : (dx_J z).toInt = z := Int64.toInt_ofInt_of_le (by omega) (by omega)
theorem dx_iE (x : Int32) : x = dx_I x.toInt := (Int32.ofInt_toInt x).symm
theorem dx_iB (x : Int32) : -2147483648 ≤ x.toInt ∧ x.toInt < 2147483648 := by
  have h1 := Int32.le_toInt x
  have h2 := Int32.toInt_lt x
  omega
theorem dx_nI (n : Nat) : nI n = dx_I (n : Int) := Int32.ofInt_eq_ofNat.symm
theorem dx_lN (n : Nat) : lN n = dx_J (n : Int) := Int64.ofInt_eq_ofNat.symm
theorem dx_iadd (a b : Int) : dx_I a + dx_I b = dx_I (a + b) := (Int32.ofInt_add a b).symm
theorem dx_isub (a b : Int) : dx_I a - dx_I b = dx_I (a - b) := (Int32.ofInt_sub a b).symm
theorem dx_jadd (a b : Int) : dx_J a + dx_J b = dx_J (a + b) := (Int64.ofInt_add a b).symm
theorem dx_jsub (a b : Int) : dx_J a - dx_J b = dx_J (a - b) := (Int64.ofInt_sub a b).symm
theorem dx_jmul (a b : Int) : dx_J a * dx_J b = dx_J (a * b) := (Int64.ofInt_mul a b).symm
theorem dx_jneg (a : Int) : -dx_J a = dx_J (-a) := (Int64.ofInt_neg a).symm
theorem dx_ineg (a : Int) : -dx_I a = dx_I (-a) := (Int32.ofInt_neg a).symm
theorem dx_i64 {z : Int} (h : -2147483648 ≤ z ∧ z < 2147483648) : (dx_I z).toInt64 = dx_J z := by
  rw [← Int64.ofInt_int32ToInt, dx_iT h]; rfl
theorem dx_j32 (z : Int) : (dx_J z).toInt32 = dx_I z := Int64.toInt32_ofInt
theorem dx_i8 {z : Int} (h : -128 ≤ z ∧ z < 128) : (dx_I z).toInt8.toInt32 = dx_I z := by
  show (Int32.ofInt z).toInt8.toInt32 = Int32.ofInt z
  rw [Int32.toInt8_ofInt, ← Int32.ofInt_int8ToInt, Int8.toInt_ofInt_of_le (by omega) (by omega)]
theorem dx_jdiv {a b : Int} (ha : -9223372036854775808 ≤ a ∧ a < 9223372036854775808) (hb : -9223372036854775808 ≤ b ∧ b < 9223372036854775808) : dx_J a / dx_J b = dx_J (a.tdiv b) := by
  refine (Int64.ofInt_tdiv ?_ ?_ ?_ ?_).symm
  · rw [Int64.toInt_minValue]; omega
  · rw [Int64.toInt_maxValue]; omega
  · rw [Int64.toInt_minValue]; omega
  · rw [Int64.toInt_maxValue]; omega
theorem dx_ileI {a b : Int} (ha : -2147483648 ≤ a ∧ a < 2147483648) (hb : -2147483648 ≤ b ∧ b < 2147483648) : dx_I a ≤ dx_I b ↔ a ≤ b := by
  rw [Int32.le_iff_toInt_le, dx_iT ha, dx_iT hb]
theorem dx_iltI {a b : Int} (ha : -2147483648 ≤ a ∧ a < 2147483648) (hb : -2147483648 ≤ b ∧ b < 2147483648) : dx_I a < dx_I b ↔ a < b := by
  rw [Int32.lt_iff_toInt_lt, dx_iT ha, dx_iT hb]
theorem dx_ieqI {a b : Int} (ha : -2147483648 ≤ a ∧ a < 2147483648) (hb : -2147483648 ≤ b ∧ b < 2147483648) : dx_I a = dx_I b ↔ a = b := by
  rw [← Int32.toInt_inj, dx_iT ha, dx_iT hb]
theorem dx_jleI {a b : Int} (ha : -9223372036854775808 ≤ a ∧ a < 9223372036854775808) (hb : -9223372036854775808 ≤ b ∧ b < 9223372036854775808) : dx_J a ≤ dx_J b ↔ a ≤ b := by
  rw [Int64.le_iff_toInt_le, dx_jT ha, dx_jT hb]
theorem dx_jltI {a b : Int} (ha : -9223372036854775808 ≤ a ∧ a < 9223372036854775808) (hb : -9223372036854775808 ≤ b ∧ b < 9223372036854775808) : dx_J a < dx_J b ↔ a < b := by
  rw [Int64.lt_iff_toInt_lt, dx_jT ha, dx_jT hb]
theorem dx_jeqI {a b : Int} (ha : -9223372036854775808 ≤ a ∧ a < 9223372036854775808) (hb : -9223372036854775808 ≤ b ∧ b < 9223372036854775808) : dx_J a = dx_J b ↔ a = b := by
  rw [← Int64.toInt_inj, dx_jT ha, dx_jT hb]
/-- branches by value: ints -/
theorem dx_ile {x y : Int32} {A B : Prop} (a b : Int) (f : a ≤ b → A) (g : b < a → B) (hx : x = dx_I a := by first | rfl | exact dx_nI _ | decide) (hy : y = dx_I b := by first | rfl | exact dx_nI _ | decide)
    (ha : -2147483648 ≤ a ∧ a < 2147483648 := by omega) (hb : -2147483648 ≤ b ∧ b < 2147483648 := by omega) : (x ≤ y → A) ∧ (¬ x ≤ y → B) := by
  subst hx; subst hy
  exact ek_if (dx_ileI ha hb) f (fun h => g (by omega))
theorem dx_ilt {x y : Int32} {A B : Prop} (a b : Int) (f : a < b → A) (g : b ≤ a → B) (hx : x = dx_I a := by first | rfl | exact dx_nI _ | decide) (hy : y = dx_I b := by first | rfl | exact dx_nI _ | decide)
    (ha : -2147483648 ≤ a ∧ a < 2147483648 := by omega) (hb : -2147483648 ≤ b ∧ b < 2147483648 := by omega) : (x < y → A) ∧ (¬ x < y → B) := by
  subst hx; subst hy
  exact ek_if (dx_iltI ha hb) f (fun h => g (by omega))
theorem dx_ieq {x y : Int32} {A B : Prop} (a b : Int) (f : a = b → A) (g : a ≠ b → B) (hx : x = dx_I a := by first | rfl | exact dx_nI _ | decide) (hy : y = dx_I b := by first | rfl | exact dx_nI _ | decide)
    (ha : -2147483648 ≤ a ∧ a < 2147483648 := by omega) (hb : -2147483648 ≤ b ∧ b < 2147483648 := by omega) : (x = y → A) ∧ (¬ x = y → B) := by
  subst hx; subst hy
  exact ek_if (dx_ieqI ha hb) f g
/-- branches by value: longs -/
theorem dx_jle {x y : Int64} {A B : Prop} (a b : Int) (f : a ≤ b → A) (g : b < a → B) (hx : x = dx_J a := by first | rfl | exact dx_lN _ | decide) (hy : y = dx_J b := by first | rfl | exact dx_lN _ | decide)
    (ha : -9223372036854775808 ≤ a ∧ a < 9223372036854775808 := by omega) (hb : -9223372036854775808 ≤ b ∧ b < 9223372036854775808 := by omega) : (x ≤ y → A) ∧ (¬ x ≤ y → B) := by
  subst hx; subst hy
  exact ek_if (dx_jleI ha hb) f (fun h => g (by omega))
theorem dx_jlt {x y : Int64} {A B : Prop} (a b : Int) (f : a < b → A) (g : b ≤ a → B) (hx : x = dx_J a := by first | rfl | exact dx_lN _ | decide) (hy : y = dx_J b := by first | rfl | exact dx_lN _ | decide)
    (ha : -9223372036854775808 ≤ a ∧ a < 9223372036854775808 := by omega) (hb : -9223372036854775808 ≤ b ∧ b < 9223372036854775808 := by omega) : (x < y → A) ∧ (¬ x < y → B) := by
  subst hx; subst hy
  exact ek_if (dx_jltI ha hb) f (fun h => g (by omega))
theorem dx_jeq {x y : Int64} {A B : Prop} (a b : Int) (f : a = b → A) (g : a ≠ b → B) (hx : x = dx_J a := by first | rfl | exact dx_lN _ | decide) (hy : y = dx_J b := by first | rfl | exact dx_lN _ | decide)
    (ha : -9223372036854775808 ≤ a ∧ a < 9223372036854775808 := by omega) (hb : -9223372036854775808 ≤ b ∧ b < 9223372036854775808 := by omega) : (x = y → A) ∧ (¬ x = y → B) := by
  subst hx; subst hy
  exact ek_if (dx_jeqI ha hb) f g
/-- branches by value: longs that are naturals -/
theorem dx_lt {x y : Int64} {A B : Prop} (a b : Nat) (f : a < b → A) (g : b ≤ a → B) (hx : x = lN a := by first | rfl | decide) (hy : y = lN b := by first | rfl | decide)
    (ha : a < 9223372036854775808 := by omega) (hb : b < 9223372036854775808 := by omega) : (x < y → A) ∧ (¬ x < y → B) := by
  subst hx; subst hy
  exact ek_if (pk_lLT (by omega) (by omega)) f (fun h => g (by omega))
theorem dx_le {x y : Int64} {A B : Prop} (a b : Nat) (f : a ≤ b → A) (g : b < a → B) (hx : x = lN a := by first | rfl | decide) (hy : y = lN b := by first | rfl | decide)
    (ha : a < 9223372036854775808 := by omega) (hb : b < 9223372036854775808 := by omega) : (x ≤ y → A) ∧ (¬ x ≤ y → B) := by
  subst hx; subst hy
  exact ek_if (pk_lLE (by omega) (by omega)) f (fun h => g (by omega))
theorem dx_eq {x y : Int64} {A B : Prop} (a b : Nat) (f : a = b → A) (g : a ≠ b → B) (hx : x = lN a := by first | rfl | decide) (hy : y = lN b := by first | rfl | decide)
    (ha : a < 9223372036854775808 := by omega) (hb : b < 9223372036854775808 := by omega) : (x = y → A) ∧ (¬ x = y → B) := by
  subst hx; subst hy
  exact ek_if (pk_lEQ (by omega) (by omega)) f g
theorem dx_b0 {b : Bool} {A B : Prop} (f : b = false → A) (g : b = true → B) : (dx_B b = 0 → A) ∧ (¬ dx_B b = 0 → B) := by
  cases b
  · exact br_t rfl (f rfl)
  · exact br_f (by decide) (g rfl)
theorem dx_nb (b : Bool) : narrow .boolean (.int (dx_B b)) = .int (dx_B b) := by cases b <;> rfl
theorem dx_fb (b : Bool) : fits .boolean (.int (dx_B b)) = true := by cases b <;> rfl
/-- powers of ten -/
theorem dx_pw {a b : Nat} (h : a ≤ b) : 10 ^ a ≤ 10 ^ b := Nat.pow_le_pow_right (by decide) h
theorem dx_pp (a : Nat) : 0 < 10 ^ a := Nat.pow_pos (by decide)
theorem dx_p18 {k : Nat} (h : k < 19) : 10 ^ k ≤ 1000000000000000000 := dx_pw (b := 18) (by omega)
theorem dx_p7 {k : Nat} (h : k ≤ 7) : 10 ^ k ≤ 10000000 := dx_pw (b := 7) h
theorem dx_lt_of {a b : Nat} (h : 10 ^ a < 10 ^ b) : a < b := by
  rcases Nat.lt_or_ge a b with z | z
  · exact z
  · exact absurd (dx_pw z) (by omega)
theorem dx_ps (k : Nat) : 10 ^ (k + 1) = 10 * 10 ^ k := by rw [Nat.pow_succ, Nat.mul_comm]
theorem dx_pq {k : Nat} (h : 1 ≤ k) : 10 ^ k = 10 * 10 ^ (k - 1) := by
  obtain ⟨j, rfl⟩ : ∃ j, k = j + 1 := ⟨k - 1, by omega⟩
  rw [dx_ps]; rfl
theorem dx_pa {a b c : Nat} (h : a + b = c) : 10 ^ a * 10 ^ b = 10 ^ c := by rw [← Nat.pow_add, h]
/-- the tens -/
def dx_T (a3 : Nat → Int64) : Prop := ∀ k, k < 19 → a3 k = lN (10 ^ k)
theorem dx_tn {a3 : Nat → Int64} (h : dx_T a3) {k : Nat} (hk : k < 19) : a3 (nI k).toNatClampNeg = lN (10 ^ k) := by
  rw [nI_clamp (by omega)]; exact h k hk
theorem dx_ta {a3 : Nat → Int64} (h : dx_T a3) {x : Int32} (k : Nat) (hk : k < 19) (hx : x = nI k) : a3 x.toNatClampNeg = lN (10 ^ k) := by
  subst hx; exact dx_tn h hk
/-- the number without its sign -/
theorem dx_abs {z : Int} (h : 0 ≤ z) : dx_J z = lN z.natAbs := by
  rw [dx_lN]; congr 1; omega
theorem dx_absn {z : Int} (h : z < 0) : -dx_J z = lN z.natAbs := by
  rw [dx_jneg, dx_lN]; congr 1; omega
theorem dx_lg (a b : Int) : a < b ∨ b ≤ a := by omega
theorem dx_jdivN {a : Int} {T : Nat} (ha : -9223372036854775808 ≤ a ∧ a < 9223372036854775808) (hT : T ≤ 1000000000000000000) : dx_J a / lN T = dx_J (a.tdiv (T : Int)) := by
  rw [dx_lN]
  exact dx_jdiv ha (by omega)
end
section
theorem dx_l0 {k : Nat} (hk : k < 19) : ¬ lN (10 ^ k) = 0 := by
  intro h
  have h1 := dx_p18 hk
  have h2 := dx_pp k
  have h3 := (pk_lEQ (a := 10 ^ k) (b := 0) (by omega) (by decide)).mp h
  omega
theorem dx_take {post : St2 → Prop} {pr md ra ng : Int32} {mg : Int64} {sc mo : Int32} {a1 a2 : Nat → Int32} {a3 : Nat → Int64} {x : Int64} {s : Int32} (z : Int) (hx : x = dx_J z) (hz : -9223372036854775807 ≤ z ∧ z < 9223372036854775808)
    (H : post (pr, md, ra, dx_B (decide (z < 0)), lN z.natAbs, s, 0, a1, a2, a3)) : wpX_take post (pr, md, ra, ng, mg, sc, mo, a1, a2, a3) x s := by
  subst hx
  unfold wpX_take
  dsimp only
  refine dx_jle 0 z (fun h => ?_) (fun h => ?_)
  · rw [show decide (z < 0) = false from decide_eq_false (by omega), ← dx_abs h] at H
    exact ⟨rfl, rfl, br_t rfl H⟩
  · rw [show decide (z < 0) = true from decide_eq_true h, ← dx_absn h] at H
    exact ⟨rfl, rfl, br_f (by decide) H⟩
theorem dx_dig (m : Nat) (hm : m < 9223372036854775808) : ∃ k : Nat, 1 ≤ k ∧ k ≤ 19 ∧ m < 10 ^ k ∧ (1 < k → 10 ^ (k - 1) ≤ m) ∧
    ∀ (post : Int32 → Prop) (pr md ra ng : Int32) (mg : Int64) (sc mo : Int32) (a1 a2 : Nat → Int32) (a3 : Nat → Int64), dx_T a3 → post (nI k) → wpX_digitsOf post (pr, md, ra, ng, mg, sc, mo, a1, a2, a3) (lN m) := by
  obtain ⟨k, ⟨hk1, hk⟩, hl⟩ := pk_least (fun k => 1 ≤ k ∧ m < 10 ^ k) ⟨19, by decide, Nat.lt_of_lt_of_le hm (by decide)⟩
  have hk19 : k ≤ 19 := by
    rcases Nat.lt_or_ge 19 k with z | z
    · exact absurd ⟨by decide, Nat.lt_of_lt_of_le hm (by decide)⟩ (hl 19 z)
    · exact z
  refine ⟨k, hk1, hk19, hk, fun h => ?_, fun post pr md ra ng mg sc mo a1 a2 a3 ht H => ?_⟩
  · rcases Nat.lt_or_ge m (10 ^ (k - 1)) with z | z
    · exact absurd ⟨by omega, z⟩ (hl (k - 1) (by omega))
    · exact z
  · refine pk_loop (σ := Unit) (fun n i _ => wX_digitsOf_2 post (lN m) pr md ra ng mg sc mo a1 a2 a3 n (nI i)) (fun i _ => 1 ≤ i) k 1 () hk1 (Nat.le_refl 1) ?_ ?_
    · intro n _ _
      refine pk_le 19 k (fun _ => H) (fun z => ⟨pk_in k 19 z, br_t ?_ H⟩)
      rw [dx_tn ht z]
      have h1 := dx_p18 z
      exact (pk_lLT (by omega) (by omega)).mpr hk
    · intro n i _ hi h1 hw
      refine pk_le 19 i (fun z => absurd z (by omega)) (fun z => ⟨pk_in i 19 z, br_f ?_ (nm_r (nI_1 i) (hw () (by omega)))⟩)
      rw [dx_tn ht z]
      have h2 := dx_p18 z
      intro h3
      exact hl i hi ⟨h1, (pk_lLT (by omega) (by omega)).mp h3⟩
/-- sumFar -/
theorem dx_far94 (far part fs : Int) (r g : Bool) (hf : 10000000000000000 ≤ far.natAbs ∧ far.natAbs < 1000000000000000000) (hp : part.natAbs ≤ 100000000000000) :
    ∃ (b : Bool) (m : Nat) (w : Bool), m < 1100000000000000000 ∧ 10000000 ≤ m ∧ ∀ (post : St2 → Prop) (pr md ra ng : Int32) (mg : Int64) (sc mo : Int32) (a1 a2 : Nat → Int32) (a3 : Nat → Int64), post (pr, md, ra, dx_B b, lN m, dx_I fs, dx_B w, a1, a2, a3) →
      wX_sumFar_94 post (dx_J far) (dx_I fs) (dx_J part) (dx_B r) (dx_B g) pr md ra ng mg sc mo a1 a2 a3 := by
  cases r
  · refine ⟨decide (far + part < 0), (far + part).natAbs, false, by omega, by omega, fun post pr md ra ng mg sc mo a1 a2 a3 h => dx_take (far + part) (dx_jadd _ _) (by omega) ?_⟩
    exact br_t rfl h
  · cases g
    · refine ⟨decide (far + part < 0), (far + part).natAbs, true, by omega, by omega, fun post pr md ra ng mg sc mo a1 a2 a3 h => dx_take (far + part) (dx_jadd _ _) (by omega) ?_⟩
      exact br_f (by decide) (br_t rfl h)
    · refine ⟨decide (far + part < 0), (far + part).natAbs - 1, true, by omega, by omega, fun post pr md ra ng mg sc mo a1 a2 a3 h => dx_take (far + part) (dx_jadd _ _) (by omega) ?_⟩
      exact br_f (by decide) (br_f (by decide) (nm_r (lN_sub (b := 1) (by omega)) h))
theorem dx_far62 (far near part fs : Int) (r : Bool) (hf : 10000000000000000 ≤ far.natAbs ∧ far.natAbs < 1000000000000000000) (hn : near.natAbs < 100000000000000) (hp : part.natAbs ≤ 100000000000000) :
    ∃ (b : Bool) (m : Nat) (w : Bool), m < 1100000000000000000 ∧ 10000000 ≤ m ∧ ∀ (post : St2 → Prop) (pr md ra ng : Int32) (mg : Int64) (sc mo : Int32) (a1 a2 : Nat → Int32) (a3 : Nat → Int64), post (pr, md, ra, dx_B b, lN m, dx_I fs, dx_B w, a1, a2, a3) →
      wX_sumFar_62 post (dx_J far) (dx_J near) (dx_I fs) (dx_J part) (dx_B r) pr md ra ng mg sc mo a1 a2 a3 := by
  rcases dx_lg far 0 with hf0 | hf0
  · rcases dx_lg near 0 with hn0 | hn0
    · obtain ⟨b, m, w, h1, h2, H⟩ := dx_far94 far part fs r false hf hp
      exact ⟨b, m, w, h1, h2, fun post pr md ra ng mg sc mo a1 a2 a3 h => dx_jle 0 far (fun z => absurd z (by omega)) (fun _ => dx_jle 0 near (fun z => absurd z (by omega)) (fun _ => br_t rfl (H _ _ _ _ _ _ _ _ _ _ _ h)))⟩
    · obtain ⟨b, m, w, h1, h2, H⟩ := dx_far94 far part fs r true hf hp
      exact ⟨b, m, w, h1, h2, fun post pr md ra ng mg sc mo a1 a2 a3 h => dx_jle 0 far (fun z => absurd z (by omega)) (fun _ => dx_jle 0 near (fun _ => br_f (by decide) (H _ _ _ _ _ _ _ _ _ _ _ h)) (fun z => absurd z (by omega)))⟩
  · rcases dx_lg near 0 with hn0 | hn0
    · obtain ⟨b, m, w, h1, h2, H⟩ := dx_far94 far part fs r true hf hp
      exact ⟨b, m, w, h1, h2, fun post pr md ra ng mg sc mo a1 a2 a3 h => dx_jle 0 far (fun _ => dx_jle 0 near (fun z => absurd z (by omega)) (fun _ => br_f (by decide) (H _ _ _ _ _ _ _ _ _ _ _ h))) (fun z => absurd z (by omega))⟩
    · obtain ⟨b, m, w, h1, h2, H⟩ := dx_far94 far part fs r false hf hp
      exact ⟨b, m, w, h1, h2, fun post pr md ra ng mg sc mo a1 a2 a3 h => dx_jle 0 far (fun _ => dx_jle 0 near (fun _ => br_t rfl (H _ _ _ _ _ _ _ _ _ _ _ h)) (fun z => absurd z (by omega))) (fun z => absurd z (by omega))⟩
theorem dx_far (far near fs pl : Int) (hf : 10000000000000000 ≤ far.natAbs ∧ far.natAbs < 1000000000000000000) (hn : near.natAbs < 100000000000000) (hp : 0 ≤ pl ∧ pl < 1000) :
    ∃ (b : Bool) (m : Nat) (w : Bool), m < 1100000000000000000 ∧ 10000000 ≤ m ∧ ∀ (post : St2 → Prop) (pr md ra ng : Int32) (mg : Int64) (sc mo : Int32) (a1 a2 : Nat → Int32) (a3 : Nat → Int64), dx_T a3 → post (pr, md, ra, dx_B b, lN m, dx_I fs, dx_B w, a1, a2, a3) →
      wpX_sumFar post (pr, md, ra, ng, mg, sc, mo, a1, a2, a3) (dx_J far) (dx_J near) (dx_I fs) (dx_I pl) := by
  rcases dx_lg 18 pl with hq | hq
  · obtain ⟨b, m, w, h1, h2, H⟩ := dx_far62 far near 0 fs (decide (near ≠ 0)) hf hn (by decide)
    refine ⟨b, m, w, h1, h2, fun post pr md ra ng mg sc mo a1 a2 a3 ht h => dx_ile pl 18 (fun z => absurd z (by omega)) (fun _ => dx_ile pl 18 (fun z => absurd z (by omega)) (fun _ => dx_jeq near 0 (fun z => ?_) (fun z => ?_)))⟩
    · rw [show decide (near ≠ 0) = false from decide_eq_false (fun q => q z)] at H
      exact H _ _ _ _ _ _ _ _ _ _ _ h
    · rw [show decide (near ≠ 0) = true from decide_eq_true z] at H
      exact H _ _ _ _ _ _ _ _ _ _ _ h
  · obtain ⟨k, hk⟩ : ∃ k : Nat, pl = k := ⟨pl.toNat, by omega⟩
    subst hk
    have hk : k < 19 := by omega
    have hk' := dx_p18 hk
    have e2 : dx_J near / lN (10 ^ k) = dx_J (near.tdiv ((10 ^ k : Nat) : Int)) := dx_jdivN (by omega) hk'
    have hpt := Int.natAbs_tdiv_le_natAbs near ((10 ^ k : Nat) : Int)
    obtain ⟨b, m, w, h1, h2, H⟩ := dx_far62 far near (near.tdiv ((10 ^ k : Nat) : Int)) fs (decide (¬ dx_J near - dx_J (near.tdiv ((10 ^ k : Nat) : Int)) * lN (10 ^ k) = 0)) hf hn (by omega)
    refine ⟨b, m, w, h1, h2, fun post pr md ra ng mg sc mo a1 a2 a3 ht h => ?_⟩
    rw [← dx_nI]
    unfold wpX_sumFar wX_sumFar_20
    dsimp only
    rw [dx_tn ht hk, e2]
    refine pk_le k 18 (fun _ => ⟨pk_in k 19 hk, dx_l0 hk, pk_le k 18 (fun _ => ⟨pk_in k 19 hk, dx_l0 hk, br_c (fun z => ?_) (fun z => ?_)⟩) (fun z => absurd z (by omega))⟩) (fun z => absurd z (by omega))
    · rw [show decide (¬ dx_J near - dx_J (near.tdiv ((10 ^ k : Nat) : Int)) * lN (10 ^ k) = 0) = false from decide_eq_false (fun q => q z)] at H
      exact H _ _ _ _ _ _ _ _ _ _ _ h
    · rw [show decide (¬ dx_J near - dx_J (near.tdiv ((10 ^ k : Nat) : Int)) * lN (10 ^ k) = 0) = true from decide_eq_true z] at H
      exact H _ _ _ _ _ _ _ _ _ _ _ h
/-- sum -/
def dx_N (b : Bool) (m : Nat) (V : Int) : Prop := b = decide (V < 0) ∧ m = V.natAbs
theorem dx_mulN (x : Int) (k : Nat) : dx_J x * lN (10 ^ k) = dx_J (x * ((10 ^ k : Nat) : Int)) := by rw [dx_lN, dx_jmul]
theorem dx_absM (x : Int) (k : Nat) : (x * ((10 ^ k : Nat) : Int)).natAbs = x.natAbs * 10 ^ k := by rw [Int.natAbs_mul, Int.natAbs_natCast]
theorem dx_s79 (big small bs ss : Int) (hb : big.natAbs < 100000000000000) (hs : small.natAbs < 100000000000000) (h1 : ss ≤ bs) (h2 : -200 ≤ ss ∧ bs ≤ 200) :
    ∃ (b : Bool) (m : Nat) (s : Int) (w : Bool), m < 1200000000000000000 ∧ (-300 ≤ s ∧ s ≤ 300) ∧ (w = true → 10000000 ≤ m) ∧
      (big.natAbs < 10000000 → (bs = ss → dx_N b m (big + small)) ∧ (bs = ss + 1 → dx_N b m (10 * big + small))) ∧
      ∀ (post : St2 → Prop) (pr md ra ng : Int32) (mg : Int64) (sc mo : Int32) (a1 a2 : Nat → Int32) (a3 : Nat → Int64), dx_T a3 → post (pr, md, ra, dx_B b, lN m, dx_I s, dx_B w, a1, a2, a3) →
      wX_sum_79 post (dx_J big) (dx_J small) (dx_I bs) (dx_I ss) (dx_I (bs - ss)) (lN big.natAbs) pr md ra ng mg sc mo a1 a2 a3 := by
  obtain ⟨k, k1, k2, k3, k4, D⟩ := dx_dig big.natAbs (by omega)
  by_cases hz : big = 0
  · refine ⟨decide (small < 0), small.natAbs, ss, false, by omega, by omega, fun h => absurd h (by decide), fun _ => ⟨fun _ => ?_, fun _ => ?_⟩, fun post pr md ra ng mg sc mo a1 a2 a3 ht h => D _ _ _ _ _ _ _ _ _ _ _ ht ?_⟩
    · rw [hz, Int.zero_add]; exact ⟨rfl, rfl⟩
    · rw [hz, Int.mul_zero, Int.zero_add]; exact ⟨rfl, rfl⟩
    · exact dx_jeq big 0 (fun _ => dx_take small rfl (by omega) h) (fun z => absurd hz z)
  · have k5 : 10 ^ (k - 1) ≤ big.natAbs := by
      rcases Nat.lt_or_ge 1 k with z | z
      · exact k4 z
      · rw [show k - 1 = 0 by omega]; show 1 ≤ _; omega
    have k6 : k ≤ 14 := by
      have : k - 1 < 14 := dx_lt_of (Nat.lt_of_le_of_lt k5 hb)
      omega
    obtain ⟨j, hj⟩ : ∃ j : Nat, bs - ss = j := ⟨(bs - ss).toNat, by omega⟩
    by_cases hkj : k + j ≤ 18
    · have e1 : big.natAbs * 10 ^ j < 10 ^ 18 := by
        have t1 : big.natAbs * 10 ^ j < 10 ^ k * 10 ^ j := (Nat.mul_lt_mul_right (dx_pp j)).mpr k3
        rw [dx_pa rfl] at t1
        exact Nat.lt_of_lt_of_le t1 (dx_pw hkj)
      have e2 := dx_absM big j
      have e3 : (10 : Nat) ^ 18 = 1000000000000000000 := rfl
      refine ⟨decide (big * ((10 ^ j : Nat) : Int) + small < 0), (big * ((10 ^ j : Nat) : Int) + small).natAbs, ss, false, by omega, by omega, fun h => absurd h (by decide), fun _ => ⟨fun z => ?_, fun z => ?_⟩, fun post pr md ra ng mg sc mo a1 a2 a3 ht h => D _ _ _ _ _ _ _ _ _ _ _ ht ?_⟩
      · have j0 : j = 0 := by omega
        subst j0
        rw [show ((10 ^ 0 : Nat) : Int) = 1 from rfl, Int.mul_one]; exact ⟨rfl, rfl⟩
      · have j1 : j = 1 := by omega
        subst j1
        rw [show ((10 ^ 1 : Nat) : Int) = 10 from rfl, Int.mul_comm big 10]; exact ⟨rfl, rfl⟩
      · rw [hj]
        refine dx_jeq big 0 (fun z => absurd z hz) (fun _ => dx_ilt 18 ((k : Int) + j) (fun z => absurd z (by omega)) (fun _ => ⟨?_, ?_⟩) (hy := by rw [dx_nI]; exact dx_iadd _ _))
        · rw [← dx_nI]; exact pk_in j 19 (by omega)
        · rw [← dx_nI, dx_tn ht (by omega), dx_mulN, dx_jadd]
          exact dx_take _ rfl (by omega) h
    · have hu : 17 - k < 19 := by omega
      have e2 := dx_absM big (17 - k)
      have e3 : big.natAbs * 10 ^ (17 - k) < 10 ^ 17 := by
        have t1 : big.natAbs * 10 ^ (17 - k) < 10 ^ k * 10 ^ (17 - k) := (Nat.mul_lt_mul_right (dx_pp _)).mpr k3
        rw [dx_pa (show k + (17 - k) = 17 by omega)] at t1
        exact t1
      have e4 : 10 ^ 16 ≤ big.natAbs * 10 ^ (17 - k) := by
        have t1 : 10 ^ (k - 1) * 10 ^ (17 - k) ≤ big.natAbs * 10 ^ (17 - k) := Nat.mul_le_mul_right _ k5
        rw [dx_pa (show k - 1 + (17 - k) = 16 by omega)] at t1
        exact t1
      have e5 : (10 : Nat) ^ 17 = 100000000000000000 := rfl
      have e6 : (10 : Nat) ^ 16 = 10000000000000000 := rfl
      obtain ⟨b, m, w, m1, m2, F⟩ := dx_far (big * ((10 ^ (17 - k) : Nat) : Int)) small (bs - ((17 - k : Nat) : Int)) ((j : Int) - ((17 - k : Nat) : Int)) (by omega) hs (by omega)
      refine ⟨b, m, bs - ((17 - k : Nat) : Int), w, by omega, by omega, fun _ => m2, fun hb7 => ?_, fun post pr md ra ng mg sc mo a1 a2 a3 ht h => D _ _ _ _ _ _ _ _ _ _ _ ht ?_⟩
      · have : k - 1 < 7 := dx_lt_of (Nat.lt_of_le_of_lt k5 hb7)
        exact ⟨fun z => absurd z (by omega), fun z => absurd z (by omega)⟩
      · rw [hj]
        refine dx_jeq big 0 (fun z => absurd z hz) (fun _ => dx_ilt 18 ((k : Int) + j) (fun _ => nm_r (pk_sub (a := 17) (b := k) (by omega)) ⟨pk_in (17 - k) 19 hu, ?_⟩) (fun z => absurd z (by omega)) (hy := by rw [dx_nI]; exact dx_iadd _ _))
        rw [dx_tn ht hu, dx_mulN, dx_nI, dx_isub, dx_isub]
        exact F _ _ _ _ _ _ _ _ _ _ _ ht h
theorem dx_s54 (big small bs ss : Int) (hb : big.natAbs < 100000000000000) (hs : small.natAbs < 100000000000000) (h1 : ss ≤ bs) (h2 : -200 ≤ ss ∧ bs ≤ 200) :
    ∃ (b : Bool) (m : Nat) (s : Int) (w : Bool), m < 1200000000000000000 ∧ (-300 ≤ s ∧ s ≤ 300) ∧ (w = true → 10000000 ≤ m) ∧
      (big.natAbs < 10000000 → (bs = ss → dx_N b m (big + small)) ∧ (bs = ss + 1 → dx_N b m (10 * big + small))) ∧
      ∀ (post : St2 → Prop) (pr md ra ng : Int32) (mg : Int64) (sc mo : Int32) (a1 a2 : Nat → Int32) (a3 : Nat → Int64), dx_T a3 → post (pr, md, ra, dx_B b, lN m, dx_I s, dx_B w, a1, a2, a3) →
      wX_sum_54 post (dx_J big) (dx_J small) (dx_I bs) (dx_I ss) pr md ra ng mg sc mo a1 a2 a3 := by
  obtain ⟨b, m, s, w, m1, m2, m3, m4, F⟩ := dx_s79 big small bs ss hb hs h1 h2
  refine ⟨b, m, s, w, m1, m2, m3, m4, fun post pr md ra ng mg sc mo a1 a2 a3 ht h => nm_r (dx_isub bs ss) (dx_jle 0 big (fun z => ?_) (fun z => ?_))⟩
  · have t := F post pr md ra ng mg sc mo a1 a2 a3 ht h
    rw [← dx_abs z] at t
    exact t
  · have t := F post pr md ra ng mg sc mo a1 a2 a3 ht h
    rw [← dx_absn z] at t
    exact t
theorem dx_sum (x y ex ey : Int) (hx : x.natAbs < 100000000000000) (hy : y.natAbs < 100000000000000) (h1 : -200 ≤ ex ∧ ex ≤ 200) (h2 : -200 ≤ ey ∧ ey ≤ 200) :
    ∃ (b : Bool) (m : Nat) (s : Int) (w : Bool), m < 1200000000000000000 ∧ (-300 ≤ s ∧ s ≤ 300) ∧ (w = true → 10000000 ≤ m) ∧
      (x.natAbs < 10000000 → y.natAbs < 10000000 → (ex = ey → dx_N b m (x + y)) ∧ (ex = ey + 1 → dx_N b m (10 * x + y)) ∧ (ey = ex + 1 → dx_N b m (x + 10 * y))) ∧
      ∀ (post : St2 → Prop) (pr md ra ng : Int32) (mg : Int64) (sc mo : Int32) (a1 a2 : Nat → Int32) (a3 : Nat → Int64), dx_T a3 → post (pr, md, ra, dx_B b, lN m, dx_I s, dx_B w, a1, a2, a3) →
      wpX_sum post (pr, md, ra, ng, mg, sc, mo, a1, a2, a3) (dx_J x) (dx_I ex) (dx_J y) (dx_I ey) := by
  rcases dx_lg ex ey with q | q
  · obtain ⟨b, m, s, w, m1, m2, m3, m4, F⟩ := dx_s54 y x ey ex hy hx (by omega) (by omega)
    refine ⟨b, m, s, w, m1, m2, m3, fun _ z => ⟨fun t => absurd t (by omega), fun t => absurd t (by omega), fun t => ?_⟩, fun post pr md ra ng mg sc mo a1 a2 a3 ht h => ?_⟩
    · rw [Int.add_comm]; exact (m4 z).2 t
    · exact dx_ilt ex ey (fun _ => dx_ilt ex ey (fun _ => dx_ilt ex ey (fun _ => dx_ilt ex ey (fun _ => F _ _ _ _ _ _ _ _ _ _ _ ht h) (fun z => absurd z (by omega))) (fun z => absurd z (by omega))) (fun z => absurd z (by omega))) (fun z => absurd z (by omega))
  · obtain ⟨b, m, s, w, m1, m2, m3, m4, F⟩ := dx_s54 x y ex ey hx hy (by omega) (by omega)
    refine ⟨b, m, s, w, m1, m2, m3, fun z _ => ⟨fun t => (m4 z).1 t, fun t => (m4 z).2 t, fun t => absurd t (by omega)⟩, fun post pr md ra ng mg sc mo a1 a2 a3 ht h => ?_⟩
    exact dx_ilt ex ey (fun z => absurd z (by omega)) (fun _ => dx_ilt ex ey (fun z => absurd z (by omega)) (fun _ => dx_ilt ex ey (fun z => absurd z (by omega)) (fun _ => dx_ilt ex ey (fun z => absurd z (by omega)) (fun _ => F _ _ _ _ _ _ _ _ _ _ _ ht h))))
end
section
theorem dx_takeN {post : St2 → Prop} {pr md ra ng : Int32} {mg : Int64} {sc mo : Int32} {a1 a2 : Nat → Int32} {a3 : Nat → Int64} {s : Int32} (q : Nat) (hq : q < 9223372036854775808) (H : post (pr, md, ra, dx_B false, lN q, s, 0, a1, a2, a3)) : wpX_take post (pr, md, ra, ng, mg, sc, mo, a1, a2, a3) (lN q) s := by
  refine dx_take (q : Int) (dx_lN q) (by omega) ?_
  rw [show decide ((q : Int) < 0) = false from decide_eq_false (by omega), Int.natAbs_natCast]
  exact H
/-- divide -/
theorem dx_d81 (x y : Int) (n : Nat) (w : Bool) (hx : x.natAbs < 100000000000000) (hy : y.natAbs < 100000000000000) (hn : n < 9223372036854775808) :
    ∃ b : Bool, ∀ (post : St2 → Prop) (pr md ra ng : Int32) (mg : Int64) (sc mo : Int32) (a1 a2 : Nat → Int32) (a3 : Nat → Int64), post (pr, md, ra, dx_B b, mg, sc, dx_B w, a1, a2, a3) → wX_divide_81 post (dx_J x) (dx_J y) (lN n) (dx_B w) pr md ra ng mg sc mo a1 a2 a3 := by
  rcases dx_lg x 0 with x0 | x0
  · rcases dx_lg y 0 with y0 | y0
    · exact ⟨false, fun post pr md ra ng mg sc mo a1 a2 a3 h => ⟨dx_nb w, dx_fb w, dx_jle 0 x (fun z => absurd z (by omega)) (fun _ => dx_jle 0 y (fun z => absurd z (by omega)) (fun _ => br_t rfl h))⟩⟩
    · by_cases hz : n = 0
      · exact ⟨false, fun post pr md ra ng mg sc mo a1 a2 a3 h => ⟨dx_nb w, dx_fb w, dx_jle 0 x (fun z => absurd z (by omega)) (fun _ => dx_jle 0 y (fun _ => br_f (by decide) (dx_eq n 0 (fun _ => h) (fun z => absurd hz z))) (fun z => absurd z (by omega)))⟩⟩
      · exact ⟨true, fun post pr md ra ng mg sc mo a1 a2 a3 h => ⟨dx_nb w, dx_fb w, dx_jle 0 x (fun z => absurd z (by omega)) (fun _ => dx_jle 0 y (fun _ => br_f (by decide) (dx_eq n 0 (fun z => absurd z hz) (fun _ => h))) (fun z => absurd z (by omega)))⟩⟩
  · rcases dx_lg y 0 with y0 | y0
    · by_cases hz : n = 0
      · exact ⟨false, fun post pr md ra ng mg sc mo a1 a2 a3 h => ⟨dx_nb w, dx_fb w, dx_jle 0 x (fun _ => dx_jle 0 y (fun z => absurd z (by omega)) (fun _ => br_f (by decide) (dx_eq n 0 (fun _ => h) (fun z => absurd hz z)))) (fun z => absurd z (by omega))⟩⟩
      · exact ⟨true, fun post pr md ra ng mg sc mo a1 a2 a3 h => ⟨dx_nb w, dx_fb w, dx_jle 0 x (fun _ => dx_jle 0 y (fun z => absurd z (by omega)) (fun _ => br_f (by decide) (dx_eq n 0 (fun z => absurd z hz) (fun _ => h)))) (fun z => absurd z (by omega))⟩⟩
    · exact ⟨false, fun post pr md ra ng mg sc mo a1 a2 a3 h => ⟨dx_nb w, dx_fb w, dx_jle 0 x (fun _ => dx_jle 0 y (fun _ => br_t rfl h) (fun z => absurd z (by omega))) (fun z => absurd z (by omega))⟩⟩
theorem dx_d26 (x y wn : Int) (hx : x.natAbs < 10000000) (hy : y.natAbs < 10000000) (hy0 : y ≠ 0) (hw : -100 ≤ wn ∧ wn ≤ 100) :
    ∃ (b : Bool) (m : Nat) (s : Int) (w : Bool), m < 1200000000000000000 ∧ (-300 ≤ s ∧ s ≤ 300) ∧ (w = true → 10000000 ≤ m) ∧
      ∀ (post : St2 → Prop) (pr md ra ng : Int32) (mg : Int64) (sc mo : Int32) (a1 a2 : Nat → Int32) (a3 : Nat → Int64), dx_T a3 → post (pr, md, ra, dx_B b, lN m, dx_I s, dx_B w, a1, a2, a3) →
      wX_divide_26 post (dx_J x) (dx_J y) (dx_I wn) (lN x.natAbs) (lN y.natAbs) pr md ra ng mg sc mo a1 a2 a3 := by
  obtain ⟨k, k1, k2, k3, k4, D⟩ := dx_dig x.natAbs (by omega)
  have k6 : k ≤ 7 := by
    rcases Nat.lt_or_ge 1 k with z | z
    · have : k - 1 < 7 := dx_lt_of (Nat.lt_of_le_of_lt (k4 z) hx)
      omega
    · omega
  have hu : 18 - k < 19 := by omega
  have e1 : x.natAbs * 10 ^ (18 - k) < 10 ^ 18 := by
    have t1 : x.natAbs * 10 ^ (18 - k) < 10 ^ k * 10 ^ (18 - k) := (Nat.mul_lt_mul_right (dx_pp _)).mpr k3
    rw [dx_pa (show k + (18 - k) = 18 by omega)] at t1
    exact t1
  have e2 : x ≠ 0 → 10 ^ 17 ≤ x.natAbs * 10 ^ (18 - k) := by
    intro h0
    have k5 : 10 ^ (k - 1) ≤ x.natAbs := by
      rcases Nat.lt_or_ge 1 k with z | z
      · exact k4 z
      · rw [show k - 1 = 0 by omega]; show 1 ≤ _; omega
    have t1 : 10 ^ (k - 1) * 10 ^ (18 - k) ≤ x.natAbs * 10 ^ (18 - k) := Nat.mul_le_mul_right _ k5
    rw [dx_pa (show k - 1 + (18 - k) = 17 by omega)] at t1
    exact t1
  have e0 : x = 0 → x.natAbs * 10 ^ (18 - k) = 0 := fun h => by rw [h]; exact Nat.zero_mul _
  generalize hS : x.natAbs * 10 ^ (18 - k) = S at e1 e2 e0
  have e5 : (10 : Nat) ^ 17 = 100000000000000000 := rfl
  have e6 : (10 : Nat) ^ 18 = 1000000000000000000 := rfl
  have hyp : 0 < y.natAbs := by omega
  have q1 : S / y.natAbs ≤ S := Nat.div_le_self _ _
  have q2 : x ≠ 0 → 10000000 ≤ S / y.natAbs := by
    intro h0
    have t := e2 h0
    refine (Nat.le_div_iff_mul_le hyp).mpr ?_
    have t2 : 10000000 * y.natAbs ≤ 10000000 * 10000000 := Nat.mul_le_mul_left _ (by omega)
    omega
  have q3 : S % y.natAbs ≠ 0 → x ≠ 0 := by
    intro h0 h1
    rw [e0 h1, Nat.zero_mod] at h0
    exact h0 rfl
  have ld : ¬ lN y.natAbs = 0 := fun h => by
    have t := (pk_lEQ (a := y.natAbs) (b := 0) (by omega) (by decide)).mp h
    omega
  obtain ⟨b, B⟩ := dx_d81 x y x.natAbs (decide (S % y.natAbs ≠ 0)) (by omega) (by omega) (by omega)
  refine ⟨b, S / y.natAbs, wn - ((18 - k : Nat) : Int), decide (S % y.natAbs ≠ 0), by omega, by omega, fun h => q2 (q3 (of_decide_eq_true h)), fun post pr md ra ng mg sc mo a1 a2 a3 ht h => D _ _ _ _ _ _ _ _ _ _ _ ht ?_⟩
  refine nm_r (pk_sub (a := 18) (b := k) (by omega)) ⟨pk_in (18 - k) 19 hu, nm_r (e' := lN S) ?_ ⟨ld, ?_⟩⟩
  · rw [dx_tn ht hu, lN_mul, hS]
  · rw [pk_lRem (a := S) (by omega) hyp (by omega), pk_lDiv (a := S) (by omega) hyp (by omega), dx_nI, dx_isub]
    refine dx_takeN (S / y.natAbs) (by omega) ⟨ld, ?_⟩
    refine dx_eq (S % y.natAbs) 0 (fun z => ?_) (fun z => ?_) (ha := by have := Nat.mod_lt S hyp; omega)
    · rw [show decide (S % y.natAbs ≠ 0) = false from decide_eq_false (fun q => q z)] at B h
      exact B _ _ _ _ _ _ _ _ _ _ _ h
    · rw [show decide (S % y.natAbs ≠ 0) = true from decide_eq_true z] at B h
      exact B _ _ _ _ _ _ _ _ _ _ _ h
theorem dx_divide (x y wn : Int) (hx : x.natAbs < 10000000) (hy : y.natAbs < 10000000) (hy0 : y ≠ 0) (hw : -100 ≤ wn ∧ wn ≤ 100) :
    ∃ (b : Bool) (m : Nat) (s : Int) (w : Bool), m < 1200000000000000000 ∧ (-300 ≤ s ∧ s ≤ 300) ∧ (w = true → 10000000 ≤ m) ∧
      ∀ (post : St2 → Prop) (pr md ra ng : Int32) (mg : Int64) (sc mo : Int32) (a1 a2 : Nat → Int32) (a3 : Nat → Int64), dx_T a3 → post (pr, md, ra, dx_B b, lN m, dx_I s, dx_B w, a1, a2, a3) →
      wpX_divide post (pr, md, ra, ng, mg, sc, mo, a1, a2, a3) (dx_J x) (dx_J y) (dx_I wn) := by
  obtain ⟨b, m, s, w, m1, m2, m3, F⟩ := dx_d26 x y wn hx hy hy0 hw
  refine ⟨b, m, s, w, m1, m2, m3, fun post pr md ra ng mg sc mo a1 a2 a3 ht h => ?_⟩
  have t := F post pr md ra ng mg sc mo a1 a2 a3 ht h
  refine dx_jle 0 x (fun z => ?_) (fun z => ?_)
  · rw [← dx_abs z] at t
    refine dx_jle 0 y (fun z => ?_) (fun z => ?_)
    · rw [← dx_abs z] at t; exact t
    · rw [← dx_absn z] at t; exact t
  · rw [← dx_absn z] at t
    refine dx_jle 0 y (fun z => ?_) (fun z => ?_)
    · rw [← dx_abs z] at t; exact t
    · rw [← dx_absn z] at t; exact t
/-- store, halfOf, goesUp -/
def dx_s (b : Bool) (c : Nat) : Int := match b with
  | true => -(c : Int)
  | false => (c : Int)
theorem dx_store {post : St2 → Prop} {pr md ra mo : Int32} {a1 a2 : Nat → Int32} {a3 : Nat → Int64} (d c : Nat) (b : Bool) (e : Int) (hd : d < 6) (he : -128 ≤ e ∧ e < 128)
    (H : post (pr, md, ra, dx_B b, lN c, dx_I e, mo, upd a1 d (dx_I (dx_s b c)), upd a2 d (dx_I e), a3)) : wpX_store post (pr, md, ra, dx_B b, lN c, dx_I e, mo, a1, a2, a3) (nI d) := by
  have hc : (nI d).toNatClampNeg = d := nI_clamp (by omega)
  cases b
  · exact br_t rfl ⟨pk_in d 6 hd, nm_r (by rw [hc, dx_lN, dx_j32]; rfl) ⟨pk_in d 6 hd, nm_r (by rw [hc, dx_i8 he]) H⟩⟩
  · exact br_f (by decide) ⟨pk_in d 6 hd, nm_r (by rw [hc, dx_lN, dx_jneg, dx_j32]; rfl) ⟨pk_in d 6 hd, nm_r (by rw [hc, dx_i8 he]) H⟩⟩
theorem dx_half {post : Int32 → Prop} {pr md ra ng : Int32} {mg : Int64} {sc mo : Int32} {a1 a2 : Nat → Int32} {a3 : Nat → Int64} {x y : Int64} (H : ∀ r, post r) : wpX_halfOf post (pr, md, ra, ng, mg, sc, mo, a1, a2, a3) x y :=
  br_c (fun _ => H _) (fun _ => nm_e (br_c (fun _ => br_c (fun _ => H _) (fun _ => H _)) (fun _ => br_c (fun _ => H _) (fun _ => H _))))
theorem dx_goes {post : Int32 → Prop} {pr md ra : Int32} {mg : Int64} {sc mo : Int32} {a1 a2 : Nat → Int32} {a3 : Nat → Int64} (b : Bool) {K : Int64} {h : Int32}
    (H : ∀ up : Bool, (md = 4 → up = b) → (md = 5 → up = !b) → post (dx_B up)) : wpX_goesUp post (pr, md, ra, dx_B b, mg, sc, mo, a1, a2, a3) K h := by
  refine br_c (fun e => H false (fun z => absurd (e.symm.trans z) (by decide)) (fun z => absurd (e.symm.trans z) (by decide))) (fun _ => br_c (fun e => H true (fun z => absurd (e.symm.trans z) (by decide)) (fun z => absurd (e.symm.trans z) (by decide))) (fun _ => br_c (fun e => ⟨dx_nb b, H b (fun _ => rfl) (fun z => absurd (e.symm.trans z) (by decide))⟩) (fun n4 => br_c (fun e => dx_b0 (fun hb => H true (fun z => absurd z n4) (fun _ => by rw [hb]; rfl)) (fun hb => H false (fun z => absurd z n4) (fun _ => by rw [hb]; rfl))) (fun n5 => ?_))))
  have H' : ∀ up : Bool, post (dx_B up) := fun up => H up (fun z => absurd z n4) (fun z => absurd z n5)
  exact br_c (fun _ => br_c (fun _ => br_c (fun _ => H' false) (fun _ => H' true)) (fun _ => br_c (fun _ => H' true) (fun _ => H' false))) (fun _ => br_c (fun _ => H' false) (fun _ => H' true))
/-- dropDigits -/
theorem dx_dr64 {post : Int32 → St2 → Prop} {pr md ra : Int32} {mg : Int64} {sc : Int32} {a1 a2 : Nat → Int32} {a3 : Nat → Int64} {un : Int64} (q r : Nat) (b w : Bool) (hr : r < 9223372036854775808)
    (H1 : r = 0 → w = false → post 2 (pr, md, ra, dx_B b, lN q, sc, 0, a1, a2, a3))
    (H2 : ¬ (r = 0 ∧ w = false) → ∀ up : Bool, (md = 4 → up = b) → (md = 5 → up = !b) → post 3 (pr, md, ra, dx_B b, lN (q + up.toNat), sc, 0, a1, a2, a3)) :
    wX_dropDigits_64 post un (lN q) (lN r) pr md ra (dx_B b) mg sc (dx_B w) a1 a2 a3 := by
  have J : ¬ (r = 0 ∧ w = false) → wX_dropDigits_84 post un (lN q) (lN r) pr md ra (dx_B b) mg sc (dx_B w) a1 a2 a3 := by
    intro hn
    refine br_t rfl (dx_half (fun h => dx_goes b (fun up h4 h5 => ?_)))
    have t := H2 hn up h4 h5
    cases up
    · exact br_t rfl (br_t rfl t)
    · exact br_f (by decide) (nm_r (lN_1 q) (br_t rfl t))
  exact dx_eq r 0 (fun z => dx_b0 (fun hw => br_f (by decide) (br_f (by decide) (H1 z hw))) (fun hw => J (fun t => by rw [hw] at t; exact absurd t.2 (by decide)))) (fun z => J (fun t => z t.1))
theorem dx_drop {post : Int32 → St2 → Prop} {pr md ra : Int32} {a1 a2 : Nat → Int32} {a3 : Nat → Int64} (m cnt : Nat) (s : Int) (b w : Bool) (ht : dx_T a3) (hm : m < 9223372036854775808) (hc : cnt ≤ 18 ∨ (m < 10 ^ 18 ∧ cnt < 1000))
    (H1 : m % 10 ^ cnt = 0 → w = false → post 2 (pr, md, ra, dx_B b, lN (m / 10 ^ cnt), dx_I (s + cnt), 0, a1, a2, a3))
    (H2 : ¬ (m % 10 ^ cnt = 0 ∧ w = false) → ∀ up : Bool, (md = 4 → up = b) → (md = 5 → up = !b) → post 3 (pr, md, ra, dx_B b, lN (m / 10 ^ cnt + up.toNat), dx_I (s + cnt), 0, a1, a2, a3)) :
    wpX_dropDigits post (pr, md, ra, dx_B b, lN m, dx_I s, dx_B w, a1, a2, a3) (nI cnt) := by
  refine nm_r (e' := dx_I (s + cnt)) (by rw [dx_nI, dx_iadd]) ?_
  rcases Nat.lt_or_ge 18 cnt with hq | hq
  · have hm' : m < 10 ^ cnt := Nat.lt_of_lt_of_le (by omega) (dx_pw (show 18 ≤ cnt by omega))
    rw [Nat.div_eq_of_lt hm', Nat.mod_eq_of_lt hm'] at H2
    rw [Nat.div_eq_of_lt hm', Nat.mod_eq_of_lt hm'] at H1
    exact pk_le cnt 18 (fun z => absurd z (by omega)) (fun _ => br_t rfl (br_t rfl (dx_dr64 0 m b w hm H1 H2)))
  · refine pk_le cnt 18 (fun _ => ⟨pk_in cnt 19 (by omega), ?_⟩) (fun z => absurd z (by omega))
    have hk : cnt < 19 := by omega
    have h18 := dx_p18 hk
    have hpp := dx_pp cnt
    rw [dx_tn ht hk]
    refine br_f (dx_l0 hk) ⟨dx_l0 hk, br_f (dx_l0 hk) ⟨dx_l0 hk, ?_⟩⟩
    rw [pk_lDiv (by omega) hpp (by omega)]
    have e : lN m - lN (m / 10 ^ cnt) * lN (10 ^ cnt) = lN (m % 10 ^ cnt) := by
      rw [← pk_lDiv (by omega) hpp (by omega)]
      exact pk_lRem (by omega) hpp (by omega)
    rw [e]
    exact dx_dr64 _ _ b w (by have := Nat.mod_lt m hpp; omega) H1 H2
/-- approach -/
theorem dx_ap2 (p : Nat) (wn : Int) (hp : p ≤ 7) (hw : -200 ≤ wn ∧ wn ≤ 200) : ∀ (n x m : Nat) (s : Int), p - x ≤ n → 1 ≤ x → x ≤ 19 → 0 < m → m < 10 ^ x → m < 9223372036854775808 → (-1000 + n ≤ s ∧ s ≤ 1000) →
    ∃ (m' : Nat) (s' : Int), 0 < m' ∧ m' < 9223372036854775808 ∧ (-1000 ≤ s' ∧ s' ≤ 1000) ∧ ∀ (post : St2 → Prop) (md ra ng mo : Int32) (a1 a2 : Nat → Int32) (a3 : Nat → Int64), post (nI p, md, ra, ng, lN m', dx_I s', mo, a1, a2, a3) →
      ∃ fu, wX_approach_66 post (dx_I wn) (nI p) md ra ng mo a1 a2 a3 fu (nI x) (lN m) (dx_I s) := by
  intro n
  induction n with
  | zero =>
    intro x m s h1 h2 h3 h4 h5 h6 h7
    exact ⟨m, s, h4, h6, by omega, fun post md ra ng mo a1 a2 a3 h => ⟨1, dx_ile s wn (fun _ => h) (fun _ => pk_le p x (fun _ => h) (fun z => absurd z (by omega)))⟩⟩
  | succ n ih =>
    intro x m s h1 h2 h3 h4 h5 h6 h7
    by_cases hc : s ≤ wn ∨ p ≤ x
    · exact ⟨m, s, h4, h6, by omega, fun post md ra ng mo a1 a2 a3 h => ⟨1, dx_ile s wn (fun _ => h) (fun _ => pk_le p x (fun _ => h) (fun z => absurd z (by omega)))⟩⟩
    · have hx := dx_p7 (show x ≤ 7 by omega)
      obtain ⟨m', s', g1, g2, g3, F⟩ := ih (x + 1) (m * 10) (s - 1) (by omega) (by omega) (by omega) (by omega) (by rw [dx_ps]; omega) (by omega) (by omega)
      refine ⟨m', s', g1, g2, g3, fun post md ra ng mo a1 a2 a3 h => ?_⟩
      obtain ⟨fu, g⟩ := F _ _ _ _ _ _ _ _ h
      exact ⟨fu + 1, dx_ile s wn (fun z => absurd z (by omega)) (fun _ => pk_le p x (fun z => absurd z (by omega)) (fun _ => nm_r (lN_mul m 10) (nm_r (dx_isub s 1) (nm_r (nI_1 x) g))))⟩
theorem dx_ap1 (p : Nat) (wn : Int) (hp : p ≤ 7) (hw : -200 ≤ wn ∧ wn ≤ 200) : ∀ (n x m : Nat) (s : Int), x ≤ n → 1 ≤ x → x ≤ 19 → 0 < m → m < 10 ^ x → m < 9223372036854775808 → (-900 ≤ s ∧ s + x ≤ 900) →
    ∃ (m' : Nat) (s' : Int), 0 < m' ∧ m' < 9223372036854775808 ∧ (-1000 ≤ s' ∧ s' ≤ 1000) ∧ ∀ (post : St2 → Prop) (md ra ng mo : Int32) (a1 a2 : Nat → Int32) (a3 : Nat → Int64), post (nI p, md, ra, ng, lN m', dx_I s', mo, a1, a2, a3) →
      ∃ fu, wX_approach_9 post (dx_I wn) (nI p) md ra ng mo a1 a2 a3 fu (nI x) (lN m) (dx_I s) := by
  intro n
  induction n with
  | zero => intro x m s h1 h2; omega
  | succ n ih =>
    intro x m s h1 h2 h3 h4 h5 h6 h7
    have e : lN m - lN m / 10 * 10 = lN (m % 10) := pk_lRem (b := 10) (by omega) (by decide) (by decide)
    by_cases hc : m % 10 = 0 ∧ (s < wn ∨ p < x)
    · obtain ⟨y, rfl⟩ : ∃ y, x = y + 1 := ⟨x - 1, by omega⟩
      have hy : 1 ≤ y := by
        rcases Nat.lt_or_ge 0 y with z | z
        · exact z
        · rw [show y = 0 by omega] at h5
          have : m < 10 := h5
          omega
      rw [dx_ps] at h5
      obtain ⟨m', s', g1, g2, g3, F⟩ := ih y (m / 10) (s + 1) (by omega) hy (by omega) (by omega) (by omega) (by omega) (by omega)
      refine ⟨m', s', g1, g2, g3, fun post md ra ng mo a1 a2 a3 h => ?_⟩
      obtain ⟨fu, g⟩ := F _ _ _ _ _ _ _ _ h
      have st : wX_approach_38 post (wX_approach_9 post (dx_I wn) (nI p) md ra ng mo a1 a2 a3 fu) (dx_I wn) (nI (y + 1)) (nI p) md ra ng (lN m) (dx_I s) mo a1 a2 a3 :=
        ⟨by decide, nm_r (pk_lDiv (b := 10) (by omega) (by decide) (by decide)) (nm_r (dx_iadd s 1) (nm_r (pk_m1 y) g))⟩
      exact ⟨fu + 1, by decide, dx_eq (m % 10) 0 (fun _ => dx_ilt s wn (fun _ => st) (fun _ => pk_le (y + 1) p (fun z => absurd z (by omega)) (fun _ => st))) (fun z => absurd hc.1 z) (hx := e)⟩
    · obtain ⟨m', s', g1, g2, g3, F⟩ := dx_ap2 p wn hp hw 7 x m s (by omega) h2 h3 h4 h5 h6 (by omega)
      refine ⟨m', s', g1, g2, g3, fun post md ra ng mo a1 a2 a3 h => ?_⟩
      have g := F _ _ _ _ _ _ _ _ h
      exact ⟨1, by decide, dx_eq (m % 10) 0 (fun _ => dx_ilt s wn (fun z => absurd z (by omega)) (fun _ => pk_le x p (fun _ => g) (fun z => absurd z (by omega)))) (fun _ => g) (hx := e)⟩
theorem dx_approach (p m : Nat) (s wn : Int) (hp : p ≤ 7) (hm : 0 < m) (hm2 : m < 9223372036854775808) (hs : -300 ≤ s ∧ s ≤ 300) (hw : -200 ≤ wn ∧ wn ≤ 200) :
    ∃ (m' : Nat) (s' : Int), 0 < m' ∧ m' < 9223372036854775808 ∧ (-1000 ≤ s' ∧ s' ≤ 1000) ∧ ∀ (post : St2 → Prop) (md ra ng mo : Int32) (a1 a2 : Nat → Int32) (a3 : Nat → Int64), dx_T a3 → post (nI p, md, ra, ng, lN m', dx_I s', mo, a1, a2, a3) →
      wpX_approach post (nI p, md, ra, ng, lN m, dx_I s, mo, a1, a2, a3) (dx_I wn) := by
  obtain ⟨k, k1, k2, k3, k4, D⟩ := dx_dig m hm2
  obtain ⟨m', s', g1, g2, g3, F⟩ := dx_ap1 p wn hp hw k k m s (Nat.le_refl k) k1 k2 hm k3 hm2 (by omega)
  exact ⟨m', s', g1, g2, g3, fun post md ra ng mo a1 a2 a3 ht h => D _ _ _ _ _ _ _ _ _ _ _ ht (F _ _ _ _ _ _ _ _ h)⟩
end
section
/-- finish -/
def dx_Q (post : Int32 → St2 → Prop) (f : Int32) (p : Nat) (md : Int32) (a1 a2 : Nat → Int32) (a3 : Nat → Int64) : Prop := ∀ (ra ng : Int32) (mg : Int64) (sc mo : Int32), post f (nI p, md, ra, ng, mg, sc, mo, a1, a2, a3)
def dx_F (post : Int32 → St2 → Prop) (f : Int32) (p : Nat) (md : Int32) (d : Nat) (z e : Int) (a1 a2 : Nat → Int32) (a3 : Nat → Int64) : Prop :=
  (-20 ≤ e ∧ e ≤ 20 → dx_Q post f p md (upd a1 d (dx_I z)) (upd a2 d (dx_I e)) a3) ∧ (¬ (-20 ≤ e ∧ e ≤ 20) → dx_Q post 8 p md a1 a2 a3)
theorem dx_f155 {post : Int32 → St2 → Prop} {md ra mo : Int32} {a1 a2 : Nat → Int32} {a3 : Nat → Int64} {f : Int32} {p d c : Nat} {b : Bool} {e : Int} (hd : d < 6) (he : -2000 ≤ e ∧ e ≤ 2000)
    (H : dx_F post f p md d (dx_s b c) e a1 a2 a3) : wX_finish_155 post (nI d) f (nI p) md ra (dx_B b) (lN c) (dx_I e) mo a1 a2 a3 :=
  dx_ilt e (-20) (fun z => fun r hr => H.2 (by omega) _ _ _ _ _) (fun z => dx_ile e 20 (fun z2 => dx_store d c b e hd (by omega) (fun r hr => H.1 ⟨z, z2⟩ _ _ _ _ _)) (fun z2 => fun r hr => H.2 (by omega) _ _ _ _ _))
theorem dx_f143 {post : Int32 → St2 → Prop} {md ra mo : Int32} {a1 a2 : Nat → Int32} {a3 : Nat → Int64} {p d c : Nat} {b : Bool} {e : Int} (f f' : Int32) (wn : Int) (h1 : e ≤ wn → f = f') (h2 : wn < e → f ||| 2 = f') (hd : d < 6) (he : -2000 ≤ e ∧ e ≤ 2000) (hw : -200 ≤ wn ∧ wn ≤ 200)
    (H : dx_F post f' p md d (dx_s b c) e a1 a2 a3) : wX_finish_143 post (nI d) (dx_I wn) f (nI p) md ra (dx_B b) (lN c) (dx_I e) mo a1 a2 a3 :=
  dx_ile e wn (fun z => by rw [h1 z]; exact dx_f155 hd he H) (fun z => nm_r (h2 z) (dx_f155 hd he H))
def dx_c (p K : Nat) (up : Bool) : Nat := if K + up.toNat = 10 ^ p then 10 ^ (p - 1) else K + up.toNat
def dx_e (p K : Nat) (e : Int) (up : Bool) : Int := if K + up.toNat = 10 ^ p then e + 1 else e
theorem dx_f73 (p m : Nat) (s wn : Int) (b w : Bool) (hp : 3 ≤ p ∧ p ≤ 7) (hm : 0 < m) (hm2 : m < 9223372036854775808) (hs : -1000 ≤ s ∧ s ≤ 1000) (hwn : -200 ≤ wn ∧ wn ≤ 200) :
    (∃ (f : Int32) (c : Nat) (e : Int), (f = 0 ∨ f = 2) ∧ 0 < c ∧ c < 10 ^ p ∧ (-1900 ≤ e ∧ e ≤ 1900) ∧ ∀ (post : Int32 → St2 → Prop) (d : Nat) (md ra : Int32) (a1 a2 : Nat → Int32) (a3 : Nat → Int64), d < 6 → dx_T a3 → dx_F post f p md d (dx_s b c) e a1 a2 a3 →
      wX_finish_73 post (nI d) (dx_I wn) 0 (nI p) md ra (dx_B b) (lN m) (dx_I s) (dx_B w) a1 a2 a3) ∨
    (∃ (K : Nat) (e : Int), 10 ^ (p - 1) ≤ K ∧ K < 10 ^ p ∧ (-1900 ≤ e ∧ e ≤ 1900) ∧ ∀ (post : Int32 → St2 → Prop) (d : Nat) (md ra : Int32) (a1 a2 : Nat → Int32) (a3 : Nat → Int64), d < 6 → dx_T a3 →
      (∀ up : Bool, (md = 4 → up = b) → (md = 5 → up = !b) → dx_F post 3 p md d (dx_s b (dx_c p K up)) (dx_e p K e up) a1 a2 a3) →
      wX_finish_73 post (nI d) (dx_I wn) 0 (nI p) md ra (dx_B b) (lN m) (dx_I s) (dx_B w) a1 a2 a3) := by
  obtain ⟨k, k1, k2, k3, k4, D⟩ := dx_dig m hm2
  have hp7 := dx_p7 hp.2
  have hpq := dx_pq (show 1 ≤ p by omega)
  rcases Nat.lt_or_ge p k with hk | hk
  · have hcp := dx_pp (k - p)
    have q1 : m / 10 ^ (k - p) < 10 ^ p := by
      refine Nat.div_lt_of_lt_mul ?_
      rw [dx_pa (show k - p + p = k by omega)]
      exact k3
    have q2 : 10 ^ (p - 1) ≤ m / 10 ^ (k - p) := by
      refine (Nat.le_div_iff_mul_le hcp).mpr ?_
      rw [dx_pa (show p - 1 + (k - p) = k - 1 by omega)]
      exact k4 (by omega)
    by_cases hx : m % 10 ^ (k - p) = 0 ∧ w = false
    · refine Or.inl ⟨2, m / 10 ^ (k - p), s + ((k - p : Nat) : Int), Or.inr rfl, Nat.lt_of_lt_of_le (dx_pp _) q2, q1, by omega, fun post d md ra a1 a2 a3 hd ht H => D _ _ _ _ _ _ _ _ _ _ _ ht ?_⟩
      refine pk_le k p (fun z => absurd z (by omega)) (fun _ => ?_)
      rw [pk_sub (by omega)]
      refine dx_drop m (k - p) s b w ht hm2 (Or.inl (by omega)) (fun _ _ => ⟨pk_in p 19 (by omega), ?_⟩) (fun hn => absurd hx hn)
      exact dx_eq (m / 10 ^ (k - p)) (10 ^ p) (fun z => absurd z (by omega)) (fun _ => dx_f143 2 2 wn (fun _ => rfl) (fun _ => by decide) hd (by omega) hwn H) (hy := dx_tn ht (by omega))
    · refine Or.inr ⟨m / 10 ^ (k - p), s + ((k - p : Nat) : Int), q2, q1, by omega, fun post d md ra a1 a2 a3 hd ht H => D _ _ _ _ _ _ _ _ _ _ _ ht ?_⟩
      refine pk_le k p (fun z => absurd z (by omega)) (fun _ => ?_)
      rw [pk_sub (by omega)]
      refine dx_drop m (k - p) s b w ht hm2 (Or.inl (by omega)) (fun h1 h2 => absurd ⟨h1, h2⟩ hx) (fun _ up h4 h5 => ⟨pk_in p 19 (by omega), ?_⟩)
      have t := H up h4 h5
      have hu : up.toNat ≤ 1 := Bool.toNat_le up
      unfold dx_c dx_e at t
      refine dx_eq (m / 10 ^ (k - p) + up.toNat) (10 ^ p) (fun z => ⟨by decide, nm_r (e' := lN (10 ^ (p - 1))) ?_ (nm_r (dx_iadd _ 1) ?_)⟩) (fun z => ?_) (hy := dx_tn ht (by omega))
      · rw [z, hpq]
        have e := pk_lDiv (a := 10 * 10 ^ (p - 1)) (b := 10) (by omega) (by decide) (by decide)
        rw [Nat.mul_div_cancel_left _ (by decide)] at e
        exact e
      · rw [if_pos z, if_pos z] at t
        exact dx_f143 3 3 wn (fun _ => rfl) (fun _ => by decide) hd (by omega) hwn t
      · rw [if_neg z, if_neg z] at t
        exact dx_f143 3 3 wn (fun _ => rfl) (fun _ => by decide) hd (by omega) hwn t
  · refine Or.inl ⟨if s ≤ wn then 0 else 2, m, s, ?_, hm, Nat.lt_of_lt_of_le k3 (dx_pw hk), by omega, fun post d md ra a1 a2 a3 hd ht H => D _ _ _ _ _ _ _ _ _ _ _ ht (pk_le k p (fun _ => dx_f143 0 _ wn (fun z => (if_pos z).symm) (fun z => ?_) hd (by omega) hwn H) (fun z => absurd z (by omega)))⟩
    · by_cases z : s ≤ wn
      · exact Or.inl (if_pos z)
      · exact Or.inr (if_neg z)
    · rw [if_neg (by omega)]; decide
theorem dx_fin (p m : Nat) (s wn : Int) (b w : Bool) (hp : 3 ≤ p ∧ p ≤ 7) (hm : m < 1200000000000000000) (hw : w = true → 10000000 ≤ m) (hs : -300 ≤ s ∧ s ≤ 300) (hwn : -200 ≤ wn ∧ wn ≤ 200) :
    (∃ (f : Int32) (z e : Int), (f = 0 ∨ f = 2) ∧ z.natAbs < 10 ^ p ∧ (-1900 ≤ e ∧ e ≤ 1900) ∧ (z = 0 ↔ m = 0) ∧ (z < 0 ↔ m ≠ 0 ∧ b = true) ∧ (m = 0 → -20 ≤ e ∧ e ≤ 20) ∧
      ∀ (post : Int32 → St2 → Prop) (d : Nat) (md ra : Int32) (a1 a2 : Nat → Int32) (a3 : Nat → Int64), d < 6 → dx_T a3 → dx_F post f p md d z e a1 a2 a3 →
      wpX_finish post (nI p, md, ra, dx_B b, lN m, dx_I s, dx_B w, a1, a2, a3) (nI d) (dx_I wn)) ∨
    (∃ (K : Nat) (e : Int), m ≠ 0 ∧ 10 ^ (p - 1) ≤ K ∧ K < 10 ^ p ∧ (-1900 ≤ e ∧ e ≤ 1900) ∧ ∀ (post : Int32 → St2 → Prop) (d : Nat) (md ra : Int32) (a1 a2 : Nat → Int32) (a3 : Nat → Int64), d < 6 → dx_T a3 →
      (∀ up : Bool, (md = 4 → up = b) → (md = 5 → up = !b) → dx_F post 3 p md d (dx_s b (dx_c p K up)) (dx_e p K e up) a1 a2 a3) →
      wpX_finish post (nI p, md, ra, dx_B b, lN m, dx_I s, dx_B w, a1, a2, a3) (nI d) (dx_I wn)) := by
  by_cases h0 : m = 0
  · have hw0 : w = false := by
      cases w
      · rfl
      · exact absurd (hw rfl) (by omega)
    subst h0
    subst hw0
    have pz := dx_pp p
    have C : ∀ e : Int, -20 ≤ e → e ≤ 20 → (∀ (post : Int32 → St2 → Prop) (d : Nat) (md ra : Int32) (a1 a2 : Nat → Int32) (a3 : Nat → Int64), wX_finish_45 post (nI d) (dx_I e) (nI p) md ra 0 (lN 0) (dx_I s) (dx_B false) a1 a2 a3 →
        wpX_finish post (nI p, md, ra, dx_B b, lN 0, dx_I s, dx_B false, a1, a2, a3) (nI d) (dx_I wn)) →
        (∃ (f : Int32) (z e : Int), (f = 0 ∨ f = 2) ∧ z.natAbs < 10 ^ p ∧ (-1900 ≤ e ∧ e ≤ 1900) ∧ (z = 0 ↔ (0 : Nat) = 0) ∧ (z < 0 ↔ (0 : Nat) ≠ 0 ∧ b = true) ∧ ((0 : Nat) = 0 → -20 ≤ e ∧ e ≤ 20) ∧
      ∀ (post : Int32 → St2 → Prop) (d : Nat) (md ra : Int32) (a1 a2 : Nat → Int32) (a3 : Nat → Int64), d < 6 → dx_T a3 → dx_F post f p md d z e a1 a2 a3 →
      wpX_finish post (nI p, md, ra, dx_B b, lN 0, dx_I s, dx_B false, a1, a2, a3) (nI d) (dx_I wn)) := by
      intro e e1 e2 h
      refine ⟨0, 0, e, Or.inl rfl, pz, by omega, ⟨fun _ => rfl, fun _ => rfl⟩, ⟨fun t => absurd t (by omega), fun t => absurd rfl t.1⟩, fun _ => ⟨e1, e2⟩, fun post d md ra a1 a2 a3 hd ht H => h post d md ra a1 a2 a3 ?_⟩
      exact dx_store d 0 false e hd (by omega) (fun r hr => H.1 ⟨e1, e2⟩ _ _ _ _ _)
    left
    rcases dx_lg wn (-20) with z1 | z1
    · exact C (-20) (by omega) (by omega) (fun post d md ra a1 a2 a3 h => br_t rfl (br_t rfl (dx_ile (-20) wn (fun z => absurd z (by omega)) (fun _ => h))))
    · rcases dx_lg 20 wn with z2 | z2
      · exact C 20 (by omega) (by omega) (fun post d md ra a1 a2 a3 h => br_t rfl (br_t rfl (dx_ile (-20) wn (fun _ => dx_ile wn 20 (fun z => absurd z (by omega)) (fun _ => h)) (fun z => absurd z (by omega)))))
      · exact C wn z1 z2 (fun post d md ra a1 a2 a3 h => br_t rfl (br_t rfl (dx_ile (-20) wn (fun _ => dx_ile wn 20 (fun _ => h) (fun z => absurd z (by omega))) (fun z => absurd z (by omega)))))
  · have sg : ∀ c : Nat, 0 < c → c < 10 ^ p → (dx_s b c).natAbs < 10 ^ p ∧ (dx_s b c = 0 ↔ m = 0) ∧ (dx_s b c < 0 ↔ m ≠ 0 ∧ b = true) := by
      intro c c1 c2
      cases b
      · refine ⟨?_, ⟨fun t => ?_, fun t => absurd t h0⟩, ⟨fun t => ?_, fun t => absurd t.2 (by decide)⟩⟩
        · show ((c : Int)).natAbs < _; omega
        · have t' : (c : Int) = 0 := t
          omega
        · have t' : (c : Int) < 0 := t
          omega
      · refine ⟨?_, ⟨fun t => ?_, fun t => absurd t h0⟩, ⟨fun _ => ⟨h0, rfl⟩, fun _ => ?_⟩⟩
        · show (-(c : Int)).natAbs < _; omega
        · have t' : -(c : Int) = 0 := t
          omega
        · show -(c : Int) < 0; omega
    have L59 : ∀ (post : Int32 → St2 → Prop) (d : Nat) (md ra : Int32) (a1 a2 : Nat → Int32) (a3 : Nat → Int64), wX_finish_59 post (nI d) (dx_I wn) (nI p) md ra (dx_B b) (lN m) (dx_I s) (dx_B w) a1 a2 a3 →
        wpX_finish post (nI p, md, ra, dx_B b, lN m, dx_I s, dx_B w, a1, a2, a3) (nI d) (dx_I wn) :=
      fun post d md ra a1 a2 a3 h => dx_eq m 0 (fun z => absurd z h0) (fun _ => h)
    cases w
    · obtain ⟨m', s', g1, g2, g3, A⟩ := dx_approach p m s wn hp.2 (by omega) (by omega) hs hwn
      rcases dx_f73 p m' s' wn b false hp g1 g2 g3 hwn with ⟨f, c, e, f1, f2, f3, f4, F⟩ | ⟨K, e, f2, f3, f4, F⟩
      · obtain ⟨s1, s2, s3⟩ := sg c f2 f3
        exact Or.inl ⟨f, dx_s b c, e, f1, s1, f4, s2, s3, fun t => absurd t h0, fun post d md ra a1 a2 a3 hd ht H => L59 _ _ _ _ _ _ _ (br_t rfl (A _ _ _ _ _ _ _ _ ht (F _ _ _ _ _ _ _ hd ht H)))⟩
      · exact Or.inr ⟨K, e, h0, f2, f3, f4, fun post d md ra a1 a2 a3 hd ht H => L59 _ _ _ _ _ _ _ (br_t rfl (A _ _ _ _ _ _ _ _ ht (F _ _ _ _ _ _ _ hd ht H)))⟩
    · rcases dx_f73 p m s wn b true hp (by omega) (by omega) (by omega) hwn with ⟨f, c, e, f1, f2, f3, f4, F⟩ | ⟨K, e, f2, f3, f4, F⟩
      · obtain ⟨s1, s2, s3⟩ := sg c f2 f3
        exact Or.inl ⟨f, dx_s b c, e, f1, s1, f4, s2, s3, fun t => absurd t h0, fun post d md ra a1 a2 a3 hd ht H => L59 _ _ _ _ _ _ _ (br_f (by decide) (F _ _ _ _ _ _ _ hd ht H))⟩
      · exact Or.inr ⟨K, e, h0, f2, f3, f4, fun post d md ra a1 a2 a3 hd ht H => L59 _ _ _ _ _ _ _ (br_f (by decide) (F _ _ _ _ _ _ _ hd ht H))⟩
end
section
/-- the state between calls -/
def dx_ok (p : Nat) (a1 a2 : Nat → Int32) (a3 : Nat → Int64) : Prop :=
  (3 ≤ p ∧ p ≤ 7) ∧ dx_T a3 ∧ ∀ r, r < 6 → ∃ c e : Int, a1 r = dx_I c ∧ a2 r = dx_I e ∧ c.natAbs < 10 ^ p ∧ -20 ≤ e ∧ e ≤ 20
theorem dx_okU {p : Nat} {a1 a2 : Nat → Int32} {a3 : Nat → Int64} (h : dx_ok p a1 a2 a3) (d : Nat) (z e : Int) (hz : z.natAbs < 10 ^ p) (he : -20 ≤ e ∧ e ≤ 20) : dx_ok p (upd a1 d (dx_I z)) (upd a2 d (dx_I e)) a3 := by
  refine ⟨h.1, h.2.1, fun r hr => ?_⟩
  by_cases q : r = d
  · exact ⟨z, e, by rw [q, pk_us], by rw [q, pk_us], hz, he⟩
  · obtain ⟨c, x, h1, h2, h3⟩ := h.2.2 r hr
    exact ⟨c, x, by rw [pk_un q, h1], by rw [pk_un q, h2], h3⟩
def dx_K (post : Int32 → St2 → Prop) (p : Nat) (md : Int32) (a3 : Nat → Int64) : Prop := ∀ (f : Int32) (a1 a2 : Nat → Int32), dx_ok p a1 a2 a3 → dx_Q post f p md a1 a2 a3
theorem dx_FK {post : Int32 → St2 → Prop} {f md : Int32} {p d : Nat} {z e : Int} {a1 a2 : Nat → Int32} {a3 : Nat → Int64} (h : dx_ok p a1 a2 a3) (hz : z.natAbs < 10 ^ p) (H : dx_K post p md a3) : dx_F post f p md d z e a1 a2 a3 :=
  ⟨fun he => H _ _ _ (dx_okU h d z e hz he), fun _ => H _ _ _ h⟩
theorem dx_cl {p K : Nat} (hp : 1 ≤ p) (h1 : 10 ^ (p - 1) ≤ K) (h2 : K < 10 ^ p) (up : Bool) : 0 < dx_c p K up ∧ dx_c p K up < 10 ^ p := by
  have hq := dx_pq hp
  have hpp := dx_pp (p - 1)
  have hu : up.toNat ≤ 1 := Bool.toNat_le up
  unfold dx_c
  by_cases z : K + up.toNat = 10 ^ p
  · rw [if_pos z]; omega
  · rw [if_neg z]; omega
theorem dx_sa (b : Bool) (c : Nat) : (dx_s b c).natAbs = c := by
  cases b
  · show ((c : Int)).natAbs = c; omega
  · show (-(c : Int)).natAbs = c; omega
theorem dx_finK {post : Int32 → St2 → Prop} {p d m : Nat} {md ra : Int32} {a1 a2 : Nat → Int32} {a3 : Nat → Int64} {s wn : Int} {b w : Bool} (hok : dx_ok p a1 a2 a3) (hd : d < 6) (hm : m < 1200000000000000000) (hw : w = true → 10000000 ≤ m) (hs : -300 ≤ s ∧ s ≤ 300) (hwn : -200 ≤ wn ∧ wn ≤ 200)
    (H : dx_K post p md a3) : wpX_finish post (nI p, md, ra, dx_B b, lN m, dx_I s, dx_B w, a1, a2, a3) (nI d) (dx_I wn) := by
  rcases dx_fin p m s wn b w hok.1 hm hw hs hwn with ⟨f, z, e, _, f2, _, _, _, _, F⟩ | ⟨K, e, _, f2, f3, _, F⟩
  · exact F _ _ _ _ _ _ _ hd hok.2.1 (dx_FK hok f2 H)
  · exact F _ _ _ _ _ _ _ hd hok.2.1 (fun up _ _ => dx_FK hok (by rw [dx_sa]; exact (dx_cl (by have := hok.1; omega) f2 f3 up).2) H)
theorem dx_reg {post : Int32 → Prop} {pr md ra ng : Int32} {mg : Int64} {sc mo : Int32} {a1 a2 : Nat → Int32} {a3 : Nat → Int64} (r : Nat) (h : r < 6) (H : post 1) : wpX_isRegister post (pr, md, ra, ng, mg, sc, mo, a1, a2, a3) (nI r) :=
  pk_lt r 0 (fun z => absurd z (by omega)) (fun _ => pk_lt 5 r (fun z => absurd z (by omega)) (fun _ => H))
/-- apply -/
def dx_AP (p op : Nat) (ca ea cb eb : Int) (P : (Int32 → St2 → Prop) → Int32 → Nat → (Nat → Int32) → (Nat → Int32) → (Nat → Int64) → Prop) : Prop :=
  ∀ (post : Int32 → St2 → Prop) (d a b : Nat) (md ra ng : Int32) (mg : Int64) (sc mo : Int32) (a1 a2 : Nat → Int32) (a3 : Nat → Int64), d < 6 → a < 6 → b < 6 → dx_T a3 → a1 a = dx_I ca → a2 a = dx_I ea → a1 b = dx_I cb → a2 b = dx_I eb →
    P post md d a1 a2 a3 → wpX_apply post (nI p, md, ra, ng, mg, sc, mo, a1, a2, a3) (nI op) (nI d) (nI a) (nI b)
theorem dx_AP_mono {p op : Nat} {ca ea cb eb : Int} {P P' : (Int32 → St2 → Prop) → Int32 → Nat → (Nat → Int32) → (Nat → Int32) → (Nat → Int64) → Prop} (h : dx_AP p op ca ea cb eb P)
    (hp : ∀ post md d a1 a2 a3, d < 6 → dx_T a3 → P' post md d a1 a2 a3 → P post md d a1 a2 a3) : dx_AP p op ca ea cb eb P' :=
  fun post d a b md ra ng mg sc mo a1 a2 a3 hd ha hb ht h1 h2 h3 h4 h5 => h post d a b md ra ng mg sc mo a1 a2 a3 hd ha hb ht h1 h2 h3 h4 (hp _ _ _ _ _ _ hd ht h5)
theorem dx_apW {post : Int32 → St2 → Prop} {pr md ra ng : Int32} {mg : Int64} {sc mo : Int32} {a1 a2 : Nat → Int32} {a3 : Nat → Int64} (op d a b : Nat) (ho : op < 4) (hd : d < 6) (ha : a < 6) (hb : b < 6) (h0 : op = 3 → ¬ a1 b = 0) (H : wX_apply_57 post (nI op) (nI d) (nI a) (nI b) pr md ra ng mg sc mo a1 a2 a3) :
    wpX_apply post (pr, md, ra, ng, mg, sc, mo, a1, a2, a3) (nI op) (nI d) (nI a) (nI b) := by
  have eb : (nI b).toNatClampNeg = b := nI_clamp (by omega)
  refine pk_lt op 0 (fun z => absurd z (by omega)) (fun _ => pk_lt 3 op (fun z => absurd z (by omega)) (fun _ => dx_reg d hd (br_f (by decide) (dx_reg a ha (br_f (by decide) (dx_reg b hb (br_f (by decide) (pk_eq op 3 (fun z => ⟨pk_in b 6 hb, ?_⟩) (fun _ => H)))))))))
  rw [eb]
  exact br_f (h0 z) H
theorem dx_apZ {p : Nat} {ca ea cb eb : Int} (h0 : cb = 0) : dx_AP p 3 ca ea cb eb (fun post md d a1 a2 a3 => dx_Q post 4 p md a1 a2 a3) := by
  intro post d a b md ra ng mg sc mo a1 a2 a3 hd ha hb ht h1 h2 h3 h4 h5
  have eb' : (nI b).toNatClampNeg = b := nI_clamp (by omega)
  refine pk_lt 3 0 (fun z => absurd z (by omega)) (fun _ => pk_lt 3 3 (fun z => absurd z (by omega)) (fun _ => dx_reg d hd (br_f (by decide) (dx_reg a ha (br_f (by decide) (dx_reg b hb (br_f (by decide) (pk_eq 3 3 (fun z => ⟨pk_in b 6 hb, ?_⟩) (fun z => absurd rfl z)))))))))
  rw [eb', h3, h0]
  exact br_t rfl (fun r _ => h5 _ _ _ _ _)
theorem dx_214 {post : Int32 → St2 → Prop} {pr md ra ng : Int32} {mg : Int64} {sc mo : Int32} {a1 a2 : Nat → Int32} {a3 : Nat → Int64} {x y : Int32} (h : wpX_finish post (pr, md, ra, ng, mg, sc, mo, a1, a2, a3) x y) : wX_apply_214 post x y pr md ra ng mg sc mo a1 a2 a3 := h
theorem dx_apSum {p op : Nat} {ca ea cb eb y wn : Int} {b : Bool} {m : Nat} {s : Int} {w : Bool} (hca : ca.natAbs < 100000000) (hcb : cb.natAbs < 100000000) (hea : -20 ≤ ea ∧ ea ≤ 20) (heb : -20 ≤ eb ∧ eb ≤ 20) (ho : op = 0 ∧ y = cb ∨ op = 1 ∧ y = -cb) (hwn : wn = if eb ≤ ea then eb else ea)
    (F : ∀ (post : St2 → Prop) (pr md ra ng : Int32) (mg : Int64) (sc mo : Int32) (a1 a2 : Nat → Int32) (a3 : Nat → Int64), dx_T a3 → post (pr, md, ra, dx_B b, lN m, dx_I s, dx_B w, a1, a2, a3) → wpX_sum post (pr, md, ra, ng, mg, sc, mo, a1, a2, a3) (dx_J ca) (dx_I ea) (dx_J y) (dx_I eb)) :
    dx_AP p op ca ea cb eb (fun post md d a1 a2 a3 => ∀ ra, wpX_finish post (nI p, md, ra, dx_B b, lN m, dx_I s, dx_B w, a1, a2, a3) (nI d) (dx_I wn)) := by
  intro post d a b' md ra ng mg sc mo a1 a2 a3 hd ha hb ht h1 h2 h3 h4 h5
  have ea' : (nI a).toNatClampNeg = a := nI_clamp (by omega)
  have eb' : (nI b').toNatClampNeg = b' := nI_clamp (by omega)
  have ec : (a1 a).toInt64 = dx_J ca := by rw [h1]; exact dx_i64 (by omega)
  have ed : (a1 b').toInt64 = dx_J cb := by rw [h3]; exact dx_i64 (by omega)
  refine dx_apW op d a b' (by omega) hd ha hb (fun z => absurd z (by omega)) ?_
  unfold wX_apply_57
  rw [ea', eb']
  refine ⟨pk_in a 6 ha, nm_r ec ⟨pk_in b' 6 hb, nm_r ed (pk_eq op 2 (fun z => absurd z (by omega)) (fun _ => pk_eq op 3 (fun z => absurd z (by omega)) (fun _ => ⟨pk_in a 6 ha, pk_in b' 6 hb, ?_⟩)))⟩⟩
  have key : wX_apply_180 post (nI op) (nI d) (nI a) (nI b') (dx_J ca) (dx_J cb) (dx_I wn) (nI p) md ra ng mg sc mo a1 a2 a3 := by
    unfold wX_apply_180 wX_apply_204
    rw [ea', eb', h2, h4]
    refine ⟨pk_in a 6 ha, pk_eq op 1 (fun z => ⟨pk_in b' 6 hb, ?_⟩) (fun z => ⟨pk_in b' 6 hb, ?_⟩)⟩
    · rw [dx_jneg, show -cb = y by omega]
      exact F _ _ _ _ _ _ _ _ _ _ _ ht (dx_214 (h5 _))
    · rw [show cb = y by omega]
      exact F _ _ _ _ _ _ _ _ _ _ _ ht (dx_214 (h5 _))
  rw [h2, h4]
  refine dx_ile eb ea (fun z => ⟨pk_in b' 6 hb, ?_⟩) (fun z => ⟨pk_in a 6 ha, ?_⟩)
  · rw [if_pos z] at hwn
    rw [← hwn]; exact key
  · rw [if_neg (by omega)] at hwn
    rw [← hwn]; exact key
theorem dx_mul7 {x y : Int} (hx : x.natAbs < 10000000) (hy : y.natAbs < 10000000) : (x * y).natAbs < 100000000000000 := by
  rw [Int.natAbs_mul]
  have t1 : x.natAbs * y.natAbs ≤ 9999999 * 9999999 := Nat.mul_le_mul (by omega) (by omega)
  omega
theorem dx_pre {p op : Nat} {ca ea cb eb : Int} (ho : op < 4) (hca : ca.natAbs < 10000000) (hcb : cb.natAbs < 10000000) (hea : -20 ≤ ea ∧ ea ≤ 20) (heb : -20 ≤ eb ∧ eb ≤ 20) (h0 : op = 3 → cb ≠ 0) :
    ∃ (b : Bool) (m : Nat) (s : Int) (w : Bool) (wn : Int), m < 1200000000000000000 ∧ (-300 ≤ s ∧ s ≤ 300) ∧ (w = true → 10000000 ≤ m) ∧ (-200 ≤ wn ∧ wn ≤ 200) ∧
      dx_AP p op ca ea cb eb (fun post md d a1 a2 a3 => ∀ ra, wpX_finish post (nI p, md, ra, dx_B b, lN m, dx_I s, dx_B w, a1, a2, a3) (nI d) (dx_I wn)) := by
  have hwn : ∃ wn : Int, wn = (if eb ≤ ea then eb else ea) ∧ (-200 ≤ wn ∧ wn ≤ 200) := by
    refine ⟨_, rfl, ?_⟩
    by_cases z : eb ≤ ea
    · rw [if_pos z]; omega
    · rw [if_neg z]; omega
  obtain ⟨wn, w1, w2⟩ := hwn
  have cases4 : op = 0 ∨ op = 1 ∨ op = 2 ∨ op = 3 := by omega
  rcases cases4 with h | h | h | h
  · obtain ⟨b, m, s, w, m1, m2, m3, _, F⟩ := dx_sum ca cb ea eb (by omega) (by omega) (by omega) (by omega)
    exact ⟨b, m, s, w, wn, m1, m2, m3, w2, dx_apSum (by omega) (by omega) hea heb (Or.inl ⟨h, rfl⟩) w1 F⟩
  · obtain ⟨b, m, s, w, m1, m2, m3, _, F⟩ := dx_sum ca (-cb) ea eb (by omega) (by omega) (by omega) (by omega)
    exact ⟨b, m, s, w, wn, m1, m2, m3, w2, dx_apSum (by omega) (by omega) hea heb (Or.inr ⟨h, rfl⟩) w1 F⟩
  · subst h
    have hm := dx_mul7 hca hcb
    refine ⟨decide (ca * cb < 0), (ca * cb).natAbs, ea + eb, false, ea + eb, by omega, by omega, fun t => absurd t (by decide), by omega, ?_⟩
    intro post d a b' md ra ng mg sc mo a1 a2 a3 hd ha hb ht h1 h2 h3 h4 h5
    have ea' : (nI a).toNatClampNeg = a := nI_clamp (by omega)
    have eb' : (nI b').toNatClampNeg = b' := nI_clamp (by omega)
    have ec : (a1 a).toInt64 = dx_J ca := by rw [h1]; exact dx_i64 (by omega)
    have ed : (a1 b').toInt64 = dx_J cb := by rw [h3]; exact dx_i64 (by omega)
    refine dx_apW 2 d a b' (by omega) hd ha hb (fun z => absurd z (by omega)) ?_
    unfold wX_apply_57
    rw [ea', eb']
    refine ⟨pk_in a 6 ha, nm_r ec ⟨pk_in b' 6 hb, nm_r ed (pk_eq 2 2 (fun _ => ⟨pk_in a 6 ha, pk_in b' 6 hb, nm_r (e' := dx_I (ea + eb)) ?_ ?_⟩) (fun z => absurd rfl z))⟩⟩
    · rw [h2, h4]; exact dx_iadd _ _
    · exact dx_take (ca * cb) (dx_jmul _ _) (by omega) (dx_214 (h5 _))
  · subst h
    obtain ⟨b, m, s, w, m1, m2, m3, F⟩ := dx_divide ca cb (ea - eb) hca hcb (h0 rfl) (by omega)
    refine ⟨b, m, s, w, ea - eb, m1, m2, m3, by omega, ?_⟩
    intro post d a b' md ra ng mg sc mo a1 a2 a3 hd ha hb ht h1 h2 h3 h4 h5
    have ea' : (nI a).toNatClampNeg = a := nI_clamp (by omega)
    have eb' : (nI b').toNatClampNeg = b' := nI_clamp (by omega)
    have ec : (a1 a).toInt64 = dx_J ca := by rw [h1]; exact dx_i64 (by omega)
    have ed : (a1 b').toInt64 = dx_J cb := by rw [h3]; exact dx_i64 (by omega)
    have hne : ¬ a1 b' = 0 := fun z => h0 rfl ((dx_ieqI (a := cb) (b := 0) (by omega) (by omega)).mp (h3.symm.trans z))
    refine dx_apW 3 d a b' (by omega) hd ha hb (fun _ => hne) ?_
    unfold wX_apply_57
    rw [ea', eb']
    refine ⟨pk_in a 6 ha, nm_r ec ⟨pk_in b' 6 hb, nm_r ed (pk_eq 3 2 (fun z => absurd z (by omega)) (fun _ => pk_eq 3 3 (fun _ => ⟨pk_in a 6 ha, pk_in b' 6 hb, nm_r (e' := dx_I (ea - eb)) ?_ ?_⟩) (fun z => absurd rfl z)))⟩⟩
    · rw [h2, h4]; exact dx_isub _ _
    · exact F _ _ _ _ _ _ _ _ _ _ _ ht (dx_214 (h5 _))
theorem dx_apply {p op : Nat} {ca ea cb eb : Int} (hp : 3 ≤ p ∧ p ≤ 7) (ho : op < 4) (hca : ca.natAbs < 10000000) (hcb : cb.natAbs < 10000000) (hea : -20 ≤ ea ∧ ea ≤ 20) (heb : -20 ≤ eb ∧ eb ≤ 20) :
    dx_AP p op ca ea cb eb (fun post md d a1 a2 a3 => dx_Q post 4 p md a1 a2 a3) ∨
    (∃ (f : Int32) (z e : Int), (f = 0 ∨ f = 2) ∧ z.natAbs < 10 ^ p ∧ (-1900 ≤ e ∧ e ≤ 1900) ∧ dx_AP p op ca ea cb eb (fun post md d a1 a2 a3 => dx_F post f p md d z e a1 a2 a3)) ∨
    (∃ (b : Bool) (K : Nat) (e : Int), 10 ^ (p - 1) ≤ K ∧ K < 10 ^ p ∧ (-1900 ≤ e ∧ e ≤ 1900) ∧
      dx_AP p op ca ea cb eb (fun post md d a1 a2 a3 => ∀ up : Bool, (md = 4 → up = b) → (md = 5 → up = !b) → dx_F post 3 p md d (dx_s b (dx_c p K up)) (dx_e p K e up) a1 a2 a3)) := by
  by_cases hz : op = 3 ∧ cb = 0
  · left
    rw [hz.1]
    exact dx_apZ hz.2
  · right
    obtain ⟨b, m, s, w, wn, m1, m2, m3, m4, A⟩ := dx_pre (p := p) ho hca hcb hea heb (fun h1 h2 => hz ⟨h1, h2⟩)
    rcases dx_fin p m s wn b w hp m1 m3 m2 m4 with ⟨f, z, e, f1, f2, f3, _, _, _, F⟩ | ⟨K, e, _, f2, f3, f4, F⟩
    · exact Or.inl ⟨f, z, e, f1, f2, f3, dx_AP_mono A (fun post md d a1 a2 a3 hd ht h ra => F _ _ _ _ _ _ _ hd ht h)⟩
    · exact Or.inr ⟨b, K, e, f2, f3, f4, dx_AP_mono A (fun post md d a1 a2 a3 hd ht h ra => F _ _ _ _ _ _ _ hd ht h)⟩
theorem dx_lt7 {p : Nat} (hp : 3 ≤ p ∧ p ≤ 7) {n : Nat} (h : n < 10 ^ p) : n < 10000000 := Nat.lt_of_lt_of_le h (dx_p7 hp.2)
theorem dx_applyK {post : Int32 → St2 → Prop} {p op d a b : Nat} {md ra ng : Int32} {mg : Int64} {sc mo : Int32} {a1 a2 : Nat → Int32} {a3 : Nat → Int64} (hok : dx_ok p a1 a2 a3) (ho : op < 4) (hd : d < 6) (ha : a < 6) (hb : b < 6) (H : dx_K post p md a3) :
    wpX_apply post (nI p, md, ra, ng, mg, sc, mo, a1, a2, a3) (nI op) (nI d) (nI a) (nI b) := by
  obtain ⟨ca, ea, c1, c2, c3, c4⟩ := hok.2.2 a ha
  obtain ⟨cb, eb, d1, d2, d3, d4⟩ := hok.2.2 b hb
  rcases dx_apply (op := op) hok.1 ho (dx_lt7 hok.1 c3) (dx_lt7 hok.1 d3) c4 d4 with A | ⟨f, z, e, _, f2, _, A⟩ | ⟨b', K, e, f2, f3, _, A⟩
  · exact A _ _ _ _ _ _ _ _ _ _ _ _ _ hd ha hb hok.2.1 c1 c2 d1 d2 (H _ _ _ hok)
  · exact A _ _ _ _ _ _ _ _ _ _ _ _ _ hd ha hb hok.2.1 c1 c2 d1 d2 (dx_FK hok f2 H)
  · exact A _ _ _ _ _ _ _ _ _ _ _ _ _ hd ha hb hok.2.1 c1 c2 d1 d2 (fun up _ _ => dx_FK hok (by rw [dx_sa]; exact (dx_cl (by have := hok.1; omega) f2 f3 up).2) H)
end
section
/-- fused -/
theorem dx_116 {post : Int32 → St2 → Prop} {pr md ra ng : Int32} {mg : Int64} {sc mo : Int32} {a1 a2 : Nat → Int32} {a3 : Nat → Int64} {x y : Int32} (h : wpX_finish post (pr, md, ra, ng, mg, sc, mo, a1, a2, a3) x y) : wX_fused_116 post y x pr md ra ng mg sc mo a1 a2 a3 := h
theorem dx_fusedK {post : Int32 → St2 → Prop} {p d a b c : Nat} {md ra ng : Int32} {mg : Int64} {sc mo : Int32} {a1 a2 : Nat → Int32} {a3 : Nat → Int64} (hok : dx_ok p a1 a2 a3) (hd : d < 6) (ha : a < 6) (hb : b < 6) (hc : c < 6) (H : dx_K post p md a3) :
    wpX_fused post (nI p, md, ra, ng, mg, sc, mo, a1, a2, a3) (nI d) (nI a) (nI b) (nI c) := by
  obtain ⟨ca, ea, c1, c2, c3, c4⟩ := hok.2.2 a ha
  obtain ⟨cb, eb, d1, d2, d3, d4⟩ := hok.2.2 b hb
  obtain ⟨cc, ec, e1, e2, e3, e4⟩ := hok.2.2 c hc
  have c5 := dx_lt7 hok.1 c3
  have d5 := dx_lt7 hok.1 d3
  have e5 := dx_lt7 hok.1 e3
  have hm := dx_mul7 c5 d5
  obtain ⟨bb, m, s, w, m1, m2, m3, _, F⟩ := dx_sum (ca * cb) cc (ea + eb) ec hm (by omega) (by omega) (by omega)
  have na : (nI a).toNatClampNeg = a := nI_clamp (by omega)
  have nb : (nI b).toNatClampNeg = b := nI_clamp (by omega)
  have nc : (nI c).toNatClampNeg = c := nI_clamp (by omega)
  unfold wpX_fused
  dsimp only
  refine dx_reg d hd (br_f (by decide) (dx_reg a ha (br_f (by decide) (dx_reg b hb (br_f (by decide) (dx_reg c hc (br_f (by decide) ?_)))))))
  refine ⟨pk_in a 6 ha, pk_in b 6 hb, nm_r (e' := dx_I (ea + eb)) ?_ ⟨pk_in a 6 ha, pk_in b 6 hb, nm_r (e' := dx_J (ca * cb)) ?_ ⟨pk_in c 6 hc, pk_in c 6 hc, ?_⟩⟩⟩
  · rw [na, nb, c2, d2]; exact dx_iadd _ _
  · rw [na, nb, c1, d1, dx_i64 (by omega), dx_i64 (by omega)]; exact dx_jmul _ _
  · rw [nc, e1, e2, dx_i64 (by omega)]
    refine F _ _ _ _ _ _ _ _ _ _ _ hok.2.1 ⟨pk_in c 6 hc, ?_⟩
    dsimp only
    rw [e2]
    exact dx_ile ec (ea + eb) (fun _ => ⟨pk_in c 6 hc, dx_116 (dx_finK hok hd m1 m3 m2 (by omega) H)⟩) (fun _ => dx_116 (dx_finK hok hd m1 m3 m2 (by omega) H))
/-- set -/
theorem dx_setK {post : Int32 → St2 → Prop} {p r : Nat} {md ra ng : Int32} {mg : Int64} {sc mo : Int32} {a1 a2 : Nat → Int32} {a3 : Nat → Int64} (x y : Int32) (hok : dx_ok p a1 a2 a3) (hr : r < 6) (H : dx_K post p md a3) :
    wpX_set post (nI p, md, ra, ng, mg, sc, mo, a1, a2, a3) (nI r) x y := by
  obtain ⟨c, hc, c1⟩ : ∃ c : Int, x = dx_I c ∧ (-2147483648 ≤ c ∧ c < 2147483648) := ⟨x.toInt, dx_iE x, dx_iB x⟩
  obtain ⟨e, he, e1⟩ : ∃ e : Int, y = dx_I e ∧ (-2147483648 ≤ e ∧ e < 2147483648) := ⟨y.toInt, dx_iE y, dx_iB y⟩
  subst hc
  subst he
  have hp := hok.1
  have hp7 := dx_p7 hp.2
  have nr : (nI r).toNatClampNeg = r := nI_clamp (by omega)
  have key : -20 ≤ e → e ≤ 20 → wX_set_34 post (nI r) (dx_I c) (dx_I e) (lN c.natAbs) (nI p) md ra ng mg sc mo a1 a2 a3 := by
    intro h1 h2
    refine ⟨pk_in p 19 (by omega), ?_⟩
    rw [dx_tn hok.2.1 (show p < 19 by omega)]
    exact dx_lt c.natAbs (10 ^ p) (fun z => ⟨pk_in r 6 hr, nm_r (by rw [nr]) ⟨pk_in r 6 hr, nm_r (by rw [nr, dx_i8 (by omega)]) (H _ _ _ (dx_okU hok r c e z ⟨h1, h2⟩) _ _ _ _ _)⟩⟩) (fun _ => H _ _ _ hok _ _ _ _ _)
  unfold wpX_set
  dsimp only
  refine dx_reg r hr (br_f (by decide) (dx_ilt e (-20) (fun _ => H _ _ _ hok _ _ _ _ _) (fun z1 => dx_ile e 20 (fun z2 => ?_) (fun _ => H _ _ _ hok _ _ _ _ _))))
  have t := key z1 z2
  rw [dx_i64 c1]
  refine dx_ile 0 c (fun z => ?_) (fun z => ?_)
  · rw [← dx_abs z] at t; exact t
  · rw [← dx_absn z] at t; exact t
/-- mode -/
theorem dx_modeK {post : Int32 → St2 → Prop} {pr md ra ng : Int32} {mg : Int64} {sc mo : Int32} {a1 a2 : Nat → Int32} {a3 : Nat → Int64} (x : Int32) (H : ∀ r md', post r (pr, md', ra, ng, mg, sc, mo, a1, a2, a3)) : wpX_mode post (pr, md, ra, ng, mg, sc, mo, a1, a2, a3) x :=
  br_c (fun _ => H _ _) (fun _ => br_c (fun _ => H _ _) (fun _ => H _ _))
theorem dx_mode {post : Int32 → St2 → Prop} {pr md ra ng : Int32} {mg : Int64} {sc mo : Int32} {a1 a2 : Nat → Int32} {a3 : Nat → Int64} (n : Nat) (hn : n ≤ 6) (H : post 1 (pr, nI n, ra, ng, mg, sc, mo, a1, a2, a3)) : wpX_mode post (pr, md, ra, ng, mg, sc, mo, a1, a2, a3) (nI n) :=
  pk_lt n 0 (fun z => absurd z (by omega)) (fun _ => pk_le n 6 (fun _ => H) (fun z => absurd z (by omega)))
/-- compare -/
def dx_sg (b : Bool) (m : Nat) : Int32 := if m = 0 then 0 else if b = true then -1 else 1
def dx_sgn (V : Int) : Int32 := if V = 0 then 0 else if V < 0 then -1 else 1
theorem dx_sgN {b : Bool} {m : Nat} {V : Int} (h : dx_N b m V) : dx_sg b m = dx_sgn V := by
  unfold dx_sg dx_sgn
  obtain ⟨h1, h2⟩ := h
  by_cases z : V = 0
  · rw [if_pos z, if_pos (by omega)]
  · rw [if_neg z, if_neg (by omega)]
    by_cases q : V < 0
    · rw [if_pos q, if_pos (by rw [h1]; exact decide_eq_true q)]
    · rw [if_neg q, if_neg (by rw [h1]; intro t; exact q (of_decide_eq_true t))]
theorem dx_cmpW {post : Int32 → St2 → Prop} {pr md ra ng : Int32} {mg : Int64} {sc mo : Int32} {a1 a2 : Nat → Int32} {a3 : Nat → Int64} (i j : Nat) (ci ei cj ej : Int) (b : Bool) (m : Nat) (s : Int) (w : Bool) (hi : i < 6) (hj : j < 6) (hci : ci.natAbs < 10000000) (hcj : cj.natAbs < 10000000) (ht : dx_T a3)
    (h1 : a1 i = dx_I ci) (h2 : a2 i = dx_I ei) (h3 : a1 j = dx_I cj) (h4 : a2 j = dx_I ej) (hm : m < 1200000000000000000)
    (F : ∀ (post : St2 → Prop) (pr md ra ng : Int32) (mg : Int64) (sc mo : Int32) (a1 a2 : Nat → Int32) (a3 : Nat → Int64), dx_T a3 → post (pr, md, ra, dx_B b, lN m, dx_I s, dx_B w, a1, a2, a3) → wpX_sum post (pr, md, ra, ng, mg, sc, mo, a1, a2, a3) (dx_J ci) (dx_I ei) (dx_J (-cj)) (dx_I ej))
    (H : ∀ (ra ng : Int32) (mg : Int64) (sc mo : Int32), post (dx_sg b m) (pr, md, ra, ng, mg, sc, mo, a1, a2, a3)) : wpX_compare post (pr, md, ra, ng, mg, sc, mo, a1, a2, a3) (nI i) (nI j) := by
  have ni : (nI i).toNatClampNeg = i := nI_clamp (by omega)
  have nj : (nI j).toNatClampNeg = j := nI_clamp (by omega)
  unfold wpX_compare
  dsimp only
  refine dx_reg i hi (br_f (by decide) (dx_reg j hj (br_f (by decide) ⟨pk_in i 6 hi, pk_in i 6 hi, pk_in j 6 hj, pk_in j 6 hj, ?_⟩)))
  rw [ni, nj, h1, h2, h3, h4, dx_i64 (by omega), dx_i64 (by omega), dx_jneg]
  refine F _ _ _ _ _ _ _ _ _ _ _ ht ?_
  unfold dx_sg at H
  refine dx_eq m 0 (fun z => ?_) (fun z => dx_b0 (fun hb => ?_) (fun hb => ?_))
  · rw [if_pos z] at H; exact H _ _ _ _ _
  · rw [if_neg z, if_neg (by rw [hb]; decide)] at H; exact H _ _ _ _ _
  · rw [if_neg z, if_pos hb] at H; exact H _ _ _ _ _
theorem dx_cmp {post : Int32 → St2 → Prop} {pr md ra ng : Int32} {mg : Int64} {sc mo : Int32} {a1 a2 : Nat → Int32} {a3 : Nat → Int64} (i j : Nat) (ci ei cj ej V : Int) (hi : i < 6) (hj : j < 6) (hci : ci.natAbs < 10000000) (hcj : cj.natAbs < 10000000) (ht : dx_T a3)
    (h1 : a1 i = dx_I ci) (h2 : a2 i = dx_I ei) (h3 : a1 j = dx_I cj) (h4 : a2 j = dx_I ej) (hei : -20 ≤ ei ∧ ei ≤ 20) (hej : -20 ≤ ej ∧ ej ≤ 20)
    (hV : (ei = ej ∧ V = ci - cj) ∨ (ei = ej + 1 ∧ V = 10 * ci - cj) ∨ (ej = ei + 1 ∧ V = ci - 10 * cj))
    (H : ∀ (ra ng : Int32) (mg : Int64) (sc mo : Int32), post (dx_sgn V) (pr, md, ra, ng, mg, sc, mo, a1, a2, a3)) : wpX_compare post (pr, md, ra, ng, mg, sc, mo, a1, a2, a3) (nI i) (nI j) := by
  obtain ⟨b, m, s, w, m1, m2, m3, m4, F⟩ := dx_sum ci (-cj) ei ej (by omega) (by omega) (by omega) (by omega)
  have N : dx_N b m V := by
    obtain ⟨n1, n2, n3⟩ := m4 hci (by omega)
    rcases hV with ⟨g1, g2⟩ | ⟨g1, g2⟩ | ⟨g1, g2⟩
    · rw [g2]; exact n1 g1
    · rw [g2]; exact n2 g1
    · rw [g2, show ci - 10 * cj = ci + 10 * -cj by omega]; exact n3 g1
  exact dx_cmpW i j ci ei cj ej b m s w hi hj hci hcj ht h1 h2 h3 h4 m1 F (fun ra ng mg sc mo => by rw [dx_sgN N]; exact H _ _ _ _ _)
/-- quantise -/
theorem dx_q143 {post : Int32 → St2 → Prop} {p d c : Nat} {md ra sc mo fl : Int32} {a1 a2 : Nat → Int32} {a3 : Nat → Int64} {e : Int} {b : Bool} (hok : dx_ok p a1 a2 a3) (hd : d < 6) (hc : c < 9223372036854775808) (he : -20 ≤ e ∧ e ≤ 20) (H : dx_K post p md a3) :
    wX_quantise_143 post (nI d) (dx_I e) fl (nI p) md ra (dx_B b) (lN c) sc mo a1 a2 a3 := by
  have hp := hok.1
  have hp7 := dx_p7 hp.2
  refine ⟨pk_in p 19 (by omega), ?_⟩
  rw [dx_tn hok.2.1 (show p < 19 by omega)]
  exact dx_lt c (10 ^ p) (fun z => dx_store d c b e hd (by omega) (fun r _ => H _ _ _ (dx_okU hok d _ e (by rw [dx_sa]; exact z) he) _ _ _ _ _)) (fun _ r _ => H _ _ _ hok _ _ _ _ _)
theorem dx_q82 {post : Int32 → St2 → Prop} {p d c : Nat} {md ra mo fl : Int32} {a1 a2 : Nat → Int32} {a3 : Nat → Int64} {e s : Int} {b : Bool} (hok : dx_ok p a1 a2 a3) (hd : d < 6) (hc : c < 10000000) (he : -20 ≤ e ∧ e ≤ 20) (hs : -20 ≤ s ∧ s ≤ 20) (hx : c = 0 ∨ e ≤ s) (H : dx_K post p md a3) :
    wX_quantise_82 post (nI d) (dx_I e) fl (nI p) md ra (dx_B b) (lN c) (dx_I s) mo a1 a2 a3 := by
  refine dx_eq c 0 (fun z => dx_ile e s (fun _ => dx_q143 hok hd (by omega) he H) (fun _ => dx_q143 hok hd (by omega) he H)) (fun z => nm_r (dx_isub s e) (dx_ile (s - e) 7 (fun z2 => ?_) (fun _ => fun r _ => H _ _ _ hok _ _ _ _ _)))
  obtain ⟨k, hk⟩ : ∃ k : Nat, s - e = k := ⟨(s - e).toNat, by omega⟩
  rw [hk, ← dx_nI]
  refine ⟨pk_in k 19 (by omega), nm_r (e' := lN (c * 10 ^ k)) (by rw [dx_tn hok.2.1 (by omega), lN_mul]) ?_⟩
  have h7 := dx_p7 (show k ≤ 7 by omega)
  have t1 : c * 10 ^ k ≤ 10000000 * 10000000 := Nat.mul_le_mul (by omega) h7
  exact dx_q143 hok hd (by omega) he H
theorem dx_quantK {post : Int32 → St2 → Prop} {p d a : Nat} {md ra ng : Int32} {mg : Int64} {sc mo : Int32} {a1 a2 : Nat → Int32} {a3 : Nat → Int64} (x : Int32) (hok : dx_ok p a1 a2 a3) (hd : d < 6) (ha : a < 6) (H : dx_K post p md a3) :
    wpX_quantise post (nI p, md, ra, ng, mg, sc, mo, a1, a2, a3) (nI d) (nI a) x := by
  obtain ⟨e, he, e1⟩ : ∃ e : Int, x = dx_I e ∧ (-2147483648 ≤ e ∧ e < 2147483648) := ⟨x.toInt, dx_iE x, dx_iB x⟩
  subst he
  obtain ⟨c, s, c1, c2, c3, c4⟩ := hok.2.2 a ha
  have c5 := dx_lt7 hok.1 c3
  have na : (nI a).toNatClampNeg = a := nI_clamp (by omega)
  unfold wpX_quantise
  dsimp only
  refine dx_reg d hd (br_f (by decide) (dx_reg a ha (br_f (by decide) (dx_ilt e (-20) (fun _ => H _ _ _ hok _ _ _ _ _) (fun z1 => dx_ile e 20 (fun z2 => ⟨pk_in a 6 ha, pk_in a 6 ha, ?_⟩) (fun _ => H _ _ _ hok _ _ _ _ _))))))
  rw [na, c1, c2, dx_i64 (by omega)]
  refine dx_take c rfl (by omega) (dx_eq c.natAbs 0 (fun z => dx_q82 (mo := 0) hok hd c5 ⟨z1, z2⟩ c4 (Or.inl z) H) (fun z => dx_ile e s (fun z3 => dx_q82 (mo := 0) hok hd c5 ⟨z1, z2⟩ c4 (Or.inr z3) H) (fun z3 => ?_)))
  obtain ⟨k, hk⟩ : ∃ k : Nat, e - s = k := ⟨(e - s).toNat, by omega⟩
  rw [dx_isub, hk, ← dx_nI]
  have ht18 : (10 : Nat) ^ 18 = 1000000000000000000 := rfl
  have hdl : c.natAbs / 10 ^ k ≤ c.natAbs := Nat.div_le_self _ _
  refine dx_drop c.natAbs k s (decide (c < 0)) false hok.2.1 (by omega) (Or.inr ⟨by omega, by omega⟩) (fun _ _ => ?_) (fun _ up _ _ => ?_)
  · exact dx_q143 (mo := 0) hok hd (by omega) ⟨z1, z2⟩ H
  · have hu : up.toNat ≤ 1 := Bool.toNat_le up
    exact dx_q143 (mo := 0) hok hd (by omega) ⟨z1, z2⟩ H
end
section
theorem dx_coef {post : Int32 → Prop} {pr md ra ng : Int32} {mg : Int64} {sc mo : Int32} {a1 a2 : Nat → Int32} {a3 : Nat → Int64} (r : Nat) (h : r < 6) (H : post (a1 r)) : wpX_coefficient post (pr, md, ra, ng, mg, sc, mo, a1, a2, a3) (nI r) := by
  unfold wpX_coefficient
  dsimp only
  have e : (nI r).toNatClampNeg = r := nI_clamp (by omega)
  rw [← e] at H
  exact dx_reg r h (br_f (by decide) ⟨pk_in r 6 h, H⟩)
theorem dx_expo {post : Int32 → Prop} {pr md ra ng : Int32} {mg : Int64} {sc mo : Int32} {a1 a2 : Nat → Int32} {a3 : Nat → Int64} (r : Nat) (h : r < 6) (H : post (a2 r)) : wpX_exponent post (pr, md, ra, ng, mg, sc, mo, a1, a2, a3) (nI r) := by
  unfold wpX_exponent
  dsimp only
  have e : (nI r).toNatClampNeg = r := nI_clamp (by omega)
  rw [← e] at H
  exact dx_reg r h (br_f (by decide) ⟨pk_in r 6 h, H⟩)
/-- compared -/
theorem dx_cpd {post : Int32 → St2 → Prop} {pr md ra ng : Int32} {mg : Int64} {sc mo : Int32} {a1 a2 : Nat → Int32} {a3 : Nat → Int64} (z : Int) (v : Int32) (hz : z.natAbs < 10000000) (h5 : a1 5 = dx_I z) (hv : (v = 0 ∧ z = 0) ∨ (v = -1 ∧ z < 0) ∨ (v = 1 ∧ 0 < z)) (H : post 1 (pr, md, ra, ng, mg, sc, mo, a1, a2, a3)) :
    (v = 0 → wL_compared_51 post v 1 pr md ra ng mg sc mo a1 a2 a3) ∧ (¬ v = 0 → wL_compared_51 post v 0 pr md ra ng mg sc mo a1 a2 a3) := by
  rcases hv with ⟨hv, h⟩ | ⟨hv, h⟩ | ⟨hv, h⟩
  · subst hv
    refine br_t rfl (dx_coef 5 (by decide) ?_)
    try dsimp only
    rw [h5]
    refine dx_ieq z 0 (fun _ => br_t rfl (br_t (by decide) (dx_coef 5 (by decide) ?_))) (fun q => absurd h q)
    try dsimp only
    rw [h5]
    exact dx_ile 0 z (fun _ => br_t rfl H) (fun q => absurd q (by omega))
  · subst hv
    refine br_f (by decide) (dx_coef 5 (by decide) ?_)
    try dsimp only
    rw [h5]
    refine dx_ieq z 0 (fun q => absurd q (by omega)) (fun _ => br_t rfl (br_f (by decide) (dx_coef 5 (by decide) ?_)))
    try dsimp only
    rw [h5]
    exact dx_ile 0 z (fun q => absurd q (by omega)) (fun _ => br_t rfl H)
  · subst hv
    refine br_f (by decide) (dx_coef 5 (by decide) ?_)
    try dsimp only
    rw [h5]
    refine dx_ieq z 0 (fun q => absurd q (by omega)) (fun _ => br_t rfl (br_t (by decide) (dx_coef 5 (by decide) ?_)))
    try dsimp only
    rw [h5]
    exact dx_ile 0 z (fun _ => br_t rfl H) (fun q => absurd q (by omega))
theorem dx_sg3 {b : Bool} {m : Nat} {z : Int} (h1 : z = 0 ↔ m = 0) (h2 : z < 0 ↔ m ≠ 0 ∧ b = true) : (dx_sg b m = 0 ∧ z = 0) ∨ (dx_sg b m = -1 ∧ z < 0) ∨ (dx_sg b m = 1 ∧ 0 < z) := by
  unfold dx_sg
  by_cases q : m = 0
  · exact Or.inl ⟨if_pos q, h1.mpr q⟩
  · cases b
    · refine Or.inr (Or.inr ⟨by rw [if_neg q]; rfl, ?_⟩)
      have t1 : ¬ z = 0 := fun t => q (h1.mp t)
      have t2 : ¬ z < 0 := fun t => absurd (h2.mp t).2 (by decide)
      omega
    · exact Or.inr (Or.inl ⟨by rw [if_neg q]; rfl, h2.mpr ⟨q, rfl⟩⟩)
theorem dx_sg0 {b : Bool} {m : Nat} (h : m ≠ 0) : ¬ dx_sg b m = 0 := by
  unfold dx_sg
  rw [if_neg h]
  cases b <;> decide
theorem dx_compared {post : Int32 → St2 → Prop} {p a b : Nat} {md ra ng : Int32} {mg : Int64} {sc mo : Int32} {a1 a2 : Nat → Int32} {a3 : Nat → Int64} (hok : dx_ok p a1 a2 a3) (ha : a < 3) (hb : b < 3)
    (H : ∀ a1 a2, dx_ok p a1 a2 a3 → dx_Q post 1 p md a1 a2 a3) : wpL_compared post (nI p, md, ra, ng, mg, sc, mo, a1, a2, a3) (nI a) (nI b) := by
  unfold wpL_compared
  dsimp only
  refine dx_setK (r := 5) 1 0 hok (by decide) (fun f0 a1 a2 hok ra ng mg sc mo => ?_)
  dsimp only
  obtain ⟨ca, ea, c1, c2, c3, c4⟩ := hok.2.2 a (by omega)
  obtain ⟨cb, eb, d1, d2, d3, d4⟩ := hok.2.2 b (by omega)
  have hp := hok.1
  have c5 := dx_lt7 hp c3
  have d5 := dx_lt7 hp d3
  obtain ⟨bb, m, s, w, m1, m2, m3, _, F⟩ := dx_sum ca (-cb) ea eb (by omega) (by omega) (by omega) (by omega)
  refine dx_cmpW a b ca ea cb eb bb m s w (by omega) (by omega) c5 d5 hok.2.1 c1 c2 d1 d2 m1 F (fun ra ng mg sc mo => ?_)
  dsimp only
  have hwn : -200 ≤ (if eb ≤ ea then eb else ea) ∧ (if eb ≤ ea then eb else ea) ≤ 200 := by
    by_cases z : eb ≤ ea
    · rw [if_pos z]; omega
    · rw [if_neg z]; omega
  have A := dx_apSum (p := p) (op := 1) (wn := if eb ≤ ea then eb else ea) (by omega) (by omega) c4 d4 (Or.inr ⟨rfl, rfl⟩) rfl F
  rcases dx_fin p m s (if eb ≤ ea then eb else ea) bb w hp m1 m3 m2 hwn with ⟨f, z, e, f1, f2, f3, f4, f5, f6, G⟩ | ⟨K, e, g0, g1, g2, g3, G⟩
  · refine A _ 5 a b _ _ _ _ _ _ _ _ _ (by decide) (by omega) (by omega) hok.2.1 c1 c2 d1 d2 (fun ra => G _ _ _ _ _ _ _ (by decide) hok.2.1 ⟨fun he ra ng mg sc mo => ?_, fun he ra ng mg sc mo => ?_⟩)
    · dsimp only
      refine br_f ?_ (dx_cpd z _ (dx_lt7 hp f2) pk_us (dx_sg3 f4 f5) (H _ _ (dx_okU hok 5 z e f2 he) _ _ _ _ _))
      rcases f1 with f1 | f1 <;> rw [f1] <;> decide
    · exact br_t rfl (br_f (dx_sg0 (fun q => he (f6 q))) (H _ _ hok _ _ _ _ _))
  · refine A _ 5 a b _ _ _ _ _ _ _ _ _ (by decide) (by omega) (by omega) hok.2.1 c1 c2 d1 d2 (fun ra => G _ _ _ _ _ _ _ (by decide) hok.2.1 (fun up _ _ => ⟨fun he ra ng mg sc mo => ?_, fun he ra ng mg sc mo => ?_⟩))
    · dsimp only
      have hc := dx_cl (by omega) g1 g2 up
      have hz : (dx_s bb (dx_c p K up)).natAbs < 10 ^ p := by rw [dx_sa]; exact hc.2
      refine br_f (by decide) (dx_cpd (dx_s bb (dx_c p K up)) _ (dx_lt7 hp hz) pk_us (dx_sg3 ⟨fun q => ?_, fun q => absurd q g0⟩ ?_) (H _ _ (dx_okU hok 5 _ _ hz he) _ _ _ _ _))
      · have t := dx_sa bb (dx_c p K up)
        rw [q] at t
        have t2 : (0 : Int).natAbs = 0 := rfl
        omega
      · generalize dx_c p K up = c at hc
        cases bb
        · refine ⟨fun q => ?_, fun q => absurd q.2 (by decide)⟩
          have q' : (c : Int) < 0 := q
          omega
        · refine ⟨fun _ => ⟨g0, rfl⟩, fun _ => ?_⟩
          show -(c : Int) < 0
          omega
    · exact br_t rfl (br_f (dx_sg0 g0) (H _ _ hok _ _ _ _ _))
end
section
theorem dx_imul (a b : Int) : dx_I a * dx_I b = dx_I (a * b) := (Int32.ofInt_mul a b).symm
/-- what one run of apply leaves: a flag, the registers -/
def dx_O (p d : Nat) (f : Int32) (z e : Int) (a1 a2 : Nat → Int32) (a3 : Nat → Int64) (fl : Int32) (b1 b2 : Nat → Int32) : Prop :=
  dx_ok p b1 b2 a3 ∧ (∀ r, r ≠ d → b1 r = a1 r ∧ b2 r = a2 r) ∧ ((fl = f ∧ -20 ≤ e ∧ e ≤ 20 ∧ b1 d = dx_I z ∧ b2 d = dx_I e) ∨ fl = 8)
theorem dx_FO {post : Int32 → St2 → Prop} {f md : Int32} {p d : Nat} {z e : Int} {a1 a2 : Nat → Int32} {a3 : Nat → Int64} (hok : dx_ok p a1 a2 a3) (hz : z.natAbs < 10 ^ p)
    (H : ∀ fl b1 b2, dx_O p d f z e a1 a2 a3 fl b1 b2 → dx_Q post fl p md b1 b2 a3) : dx_F post f p md d z e a1 a2 a3 :=
  ⟨fun he => H _ _ _ ⟨dx_okU hok d z e hz he, fun r hr => ⟨pk_un hr, pk_un hr⟩, Or.inl ⟨rfl, he.1, he.2, pk_us, pk_us⟩⟩, fun _ => H _ _ _ ⟨hok, fun r _ => ⟨rfl, rfl⟩, Or.inr rfl⟩⟩
/-- the law over the two neighbours -/
def dx_Sh (N : Nat) (z4 e4 z5 e5 : Int) : Prop := (e4 = e5 ∧ z5 = z4 + 1) ∨ (e5 = e4 + 1 ∧ z5 = N ∧ z4 = 10 * N - 1) ∨ (e4 = e5 + 1 ∧ z4 = -N ∧ z5 = 1 - 10 * N)
theorem dx_sh {p K : Nat} {e : Int} (hp : 1 ≤ p) (h2 : K < 10 ^ p) (b : Bool) : dx_Sh (10 ^ (p - 1)) (dx_s b (dx_c p K b)) (dx_e p K e b) (dx_s b (dx_c p K (!b))) (dx_e p K e (!b)) := by
  have hq := dx_pq hp
  have k0 : dx_c p K false = K := by unfold dx_c; exact if_neg (by show ¬ K + 0 = _; omega)
  have l0 : dx_e p K e false = e := by unfold dx_e; exact if_neg (by show ¬ K + 0 = _; omega)
  by_cases hK : K + 1 = 10 ^ p
  · have k1 : dx_c p K true = 10 ^ (p - 1) := by unfold dx_c; exact if_pos hK
    have l1 : dx_e p K e true = e + 1 := by unfold dx_e; exact if_pos hK
    generalize 10 ^ (p - 1) = N at *
    cases b
    · right; left
      show dx_e p K e true = dx_e p K e false + 1 ∧ ((dx_c p K true : Nat) : Int) = N ∧ ((dx_c p K false : Nat) : Int) = 10 * N - 1
      rw [k0, k1, l0, l1]
      omega
    · right; right
      show dx_e p K e true = dx_e p K e false + 1 ∧ -((dx_c p K true : Nat) : Int) = -N ∧ -((dx_c p K false : Nat) : Int) = 1 - 10 * N
      rw [k0, k1, l0, l1]
      omega
  · have k1 : dx_c p K true = K + 1 := by unfold dx_c; exact if_neg hK
    have l1 : dx_e p K e true = e := by unfold dx_e; exact if_neg hK
    left
    cases b
    · show dx_e p K e false = dx_e p K e true ∧ ((dx_c p K true : Nat) : Int) = ((dx_c p K false : Nat) : Int) + 1
      rw [k0, k1, l0, l1]
      omega
    · show dx_e p K e true = dx_e p K e false ∧ -((dx_c p K false : Nat) : Int) = -((dx_c p K true : Nat) : Int) + 1
      rw [k0, k1, l0, l1]
      omega
theorem dx_V45 {N : Nat} {z4 e4 z5 e5 : Int} (h : dx_Sh N z4 e4 z5 e5) : (e4 = e5 ∧ (-1 : Int) = z4 - z5) ∨ (e4 = e5 + 1 ∧ (-1 : Int) = 10 * z4 - z5) ∨ (e5 = e4 + 1 ∧ (-1 : Int) = z4 - 10 * z5) := by
  rcases h with h | h | h
  · exact Or.inl ⟨h.1, by omega⟩
  · exact Or.inr (Or.inr ⟨h.1, by omega⟩)
  · exact Or.inr (Or.inl ⟨h.1, by omega⟩)
theorem dx_V54 {N : Nat} {z4 e4 z5 e5 : Int} (h : dx_Sh N z4 e4 z5 e5) : (e5 = e4 ∧ (1 : Int) = z5 - z4) ∨ (e5 = e4 + 1 ∧ (1 : Int) = 10 * z5 - z4) ∨ (e4 = e5 + 1 ∧ (1 : Int) = z5 - 10 * z4) := by
  rcases h with h | h | h
  · exact Or.inl ⟨h.1.symm, by omega⟩
  · exact Or.inr (Or.inl ⟨h.1, by omega⟩)
  · exact Or.inr (Or.inr ⟨h.1, by omega⟩)
theorem dx_V00 {z e z' e' : Int} (hz : z = z') (he : e = e') : (e = e' ∧ (0 : Int) = z - z') ∨ (e = e' + 1 ∧ (0 : Int) = 10 * z - z') ∨ (e' = e + 1 ∧ (0 : Int) = z - 10 * z') := Or.inl ⟨he, by omega⟩
/-- the last loop of between -/
theorem dx_b230 {post : Int32 → St2 → Prop} {p : Nat} {md ra ng : Int32} {mg : Int64} {sc mo : Int32} {a1 a2 : Nat → Int32} {a3 : Nat → Int64} {z4 e4 z5 e5 : Int} (hp : 3 ≤ p ∧ p ≤ 7) (h4 : a2 4 = dx_I e4) (h5 : a2 5 = dx_I e5) (he4 : -20 ≤ e4 ∧ e4 ≤ 20) (he5 : -20 ≤ e5 ∧ e5 ≤ 20)
    (hz4 : z4.natAbs < 10000000) (hz5 : z5.natAbs < 10000000) (hs : dx_Sh (10 ^ (p - 1)) z4 e4 z5 e5) (H : post 1 (nI p, md, ra, ng, mg, sc, mo, a1, a2, a3)) :
    ∃ fu, wL_between_230 post (nI p) (dx_I z4) (dx_I z5) (nI p) md ra ng mg sc mo a1 a2 a3 fu 1 1 := by
  refine pk_loop (σ := Unit) (fun n i _ => wL_between_230 post (nI p) (dx_I z4) (dx_I z5) (nI p) md ra ng mg sc mo a1 a2 a3 n (nI (10 ^ (i - 1))) (nI i)) (fun i _ => 1 ≤ i) p 1 () (by omega) (Nat.le_refl 1) ?_ ?_
  · intro n _ _
    have hN := dx_p7 (show p - 1 ≤ 7 by omega)
    generalize 10 ^ (p - 1) = N at hs hN ⊢
    have x1 : (10 : Int32) * nI N - 1 = dx_I (10 * (N : Int) - 1) := by rw [dx_nI]; exact (congrArg (· - 1) (dx_imul 10 N)).trans (dx_isub _ 1)
    have x2 : -nI N = dx_I (-(N : Int)) := by rw [dx_nI]; exact dx_ineg _
    have x3 : (1 : Int32) - 10 * nI N = dx_I (1 - 10 * (N : Int)) := by rw [dx_nI]; exact (congrArg ((1 : Int32) - ·) (dx_imul 10 N)).trans (dx_isub 1 _)
    refine pk_le p p (fun _ => dx_expo 4 (by decide) (dx_expo 5 (by decide) ?_)) (fun q => absurd q (by omega))
    rw [h4, h5]
    rcases hs with ⟨s1, s2⟩ | ⟨s1, s2, s3⟩ | ⟨s1, s2, s3⟩
    · exact dx_ieq e4 e5 (fun _ => dx_ieq z5 (z4 + 1) (fun _ => H) (fun q => absurd s2 q) (hy := dx_iadd z4 1)) (fun q => absurd s1 q)
    · refine dx_ieq e4 e5 (fun q => absurd q (by omega)) (fun _ => dx_expo 5 (by decide) (dx_expo 4 (by decide) ?_))
      rw [h4, h5]
      exact dx_ieq e5 (e4 + 1) (fun _ => dx_ieq z5 (N : Int) (fun _ => dx_ieq z4 (10 * (N : Int) - 1) (fun _ => H) (fun q => absurd s3 q) (hy := x1)) (fun q => absurd s2 q)) (fun q => absurd s1 q) (hy := dx_iadd e4 1)
    · refine dx_ieq e4 e5 (fun q => absurd q (by omega)) (fun _ => dx_expo 5 (by decide) (dx_expo 4 (by decide) ?_))
      rw [h4, h5]
      refine dx_ieq e5 (e4 + 1) (fun q => absurd q (by omega)) (fun _ => dx_expo 4 (by decide) (dx_expo 5 (by decide) ?_)) (hy := dx_iadd e4 1)
      rw [h4, h5]
      exact dx_ieq e4 (e5 + 1) (fun _ => dx_ieq z4 (-(N : Int)) (fun _ => dx_ieq z5 (1 - 10 * (N : Int)) (fun _ => H) (fun q => absurd s3 q) (hy := x3)) (fun q => absurd s2 q) (hy := x2)) (fun q => absurd s1 q) (hy := dx_iadd e5 1)
  · intro n i _ hi h1 hw
    have t := hw () (by omega)
    have e : nI (10 ^ (i - 1)) * 10 = nI (10 ^ (i + 1 - 1)) := by
      rw [show i + 1 - 1 = i by omega, dx_pq h1, Nat.mul_comm 10]
      exact pk_mul _ 10
    exact pk_le p i (fun q => absurd q (by omega)) (fun _ => nm_r e (nm_r (nI_1 i) t))
theorem dx_fl8 {l h m f : Int32} (hf : f = 0 ∨ f = 2 ∨ f = 3) (hl : l = f ∨ l = 8) (hh : h = f ∨ h = 8) (hm : m = f ∨ m = 8) (h8 : l = 8 ∨ h = 8 ∨ m = 8) : ¬ ((l ||| h) ||| m) &&& 12 = 0 := by
  rcases hf with rfl | rfl | rfl <;> rcases hl with rfl | rfl <;> rcases hh with rfl | rfl <;> rcases hm with rfl | rfl <;> first | decide | (rcases h8 with h | h | h <;> exact absurd h (by decide))
end
section
theorem dx_between {post : Int32 → St2 → Prop} {p op a b : Nat} {md ra ng : Int32} {mg : Int64} {sc mo : Int32} {a1 a2 : Nat → Int32} {a3 : Nat → Int64} (x : Int32) (hok : dx_ok p a1 a2 a3) (ho : op < 4) (ha : a < 3) (hb : b < 3)
    (H : ∀ md a1 a2, dx_ok p a1 a2 a3 → dx_Q post 1 p md a1 a2 a3) : wpL_between post (nI p, md, ra, ng, mg, sc, mo, a1, a2, a3) (nI p) (nI op) (nI a) (nI b) x := by
  unfold wpL_between
  dsimp only
  refine dx_setK (r := 3) 0 0 hok (by decide) (fun _ a1 a2 hok ra ng mg sc mo => ?_)
  try dsimp only
  refine dx_setK (r := 4) 0 0 hok (by decide) (fun _ a1 a2 hok ra ng mg sc mo => ?_)
  try dsimp only
  refine dx_setK (r := 5) 0 0 hok (by decide) (fun _ a1 a2 hok ra ng mg sc mo => ?_)
  try dsimp only
  refine dx_mode 4 (by decide) ?_
  try dsimp only
  obtain ⟨ca, ea, c1, c2, c3, c4⟩ := hok.2.2 a (by omega)
  obtain ⟨cb, eb, d1, d2, d3, d4⟩ := hok.2.2 b (by omega)
  have hp := hok.1
  have c5 := dx_lt7 hp c3
  have d5 := dx_lt7 hp d3
  rcases dx_apply (op := op) hp ho c5 d5 c4 d4 with A | ⟨f, z, e, f1, f2, f3, A⟩ | ⟨bb, K, e, f2, f3, f4, A⟩
  · refine A _ 4 a b _ _ _ _ _ _ _ _ _ (by decide) (by omega) (by omega) hok.2.1 c1 c2 d1 d2 (fun ra ng mg sc mo => ?_)
    try dsimp only
    refine dx_mode 5 (by decide) ?_
    try dsimp only
    refine A _ 5 a b _ _ _ _ _ _ _ _ _ (by decide) (by omega) (by omega) hok.2.1 c1 c2 d1 d2 (fun ra ng mg sc mo => ?_)
    try dsimp only
    refine dx_modeK x (fun _ md' => ?_)
    try dsimp only
    refine A _ 3 a b _ _ _ _ _ _ _ _ _ (by decide) (by omega) (by omega) hok.2.1 c1 c2 d1 d2 (fun ra ng mg sc mo => ?_)
    try dsimp only
    exact br_f (by decide) (H _ _ _ hok _ _ _ _ _)
  · have hz7 := dx_lt7 hp f2
    refine A _ 4 a b _ _ _ _ _ _ _ _ _ (by decide) (by omega) (by omega) hok.2.1 c1 c2 d1 d2 (dx_FO hok f2 (fun l u1 u2 o1 ra ng mg sc mo => ?_))
    try dsimp only
    refine dx_mode 5 (by decide) ?_
    try dsimp only
    obtain ⟨k1, w1, v1⟩ := o1
    refine A _ 5 a b _ _ _ _ _ _ _ _ _ (by decide) (by omega) (by omega) k1.2.1 ((w1 a (by omega)).1.trans c1) ((w1 a (by omega)).2.trans c2) ((w1 b (by omega)).1.trans d1) ((w1 b (by omega)).2.trans d2) (dx_FO k1 f2 (fun h t1 t2 o2 ra ng mg sc mo => ?_))
    try dsimp only
    refine dx_modeK x (fun _ md' => ?_)
    try dsimp only
    obtain ⟨k2, w2, v2⟩ := o2
    refine A _ 3 a b _ _ _ _ _ _ _ _ _ (by decide) (by omega) (by omega) k2.2.1 ((w2 a (by omega)).1.trans ((w1 a (by omega)).1.trans c1)) ((w2 a (by omega)).2.trans ((w1 a (by omega)).2.trans c2)) ((w2 b (by omega)).1.trans ((w1 b (by omega)).1.trans d1)) ((w2 b (by omega)).2.trans ((w1 b (by omega)).2.trans d2)) (dx_FO k2 f2 (fun m s1 s2 o3 ra ng mg sc mo => ?_))
    try dsimp only
    obtain ⟨k3, w3, v3⟩ := o3
    have fin := H md' s1 s2 k3
    by_cases h8 : l = 8 ∨ h = 8 ∨ m = 8
    · exact br_f (dx_fl8 (f := f) (f1.imp id Or.inl) (v1.imp And.left id) (v2.imp And.left id) (v3.imp And.left id) h8) (fin _ _ _ _ _)
    · obtain ⟨y1, e1, e2, r4, q4⟩ := v1.resolve_right (fun q => h8 (Or.inl q))
      obtain ⟨y2, _, _, r5, q5⟩ := v2.resolve_right (fun q => h8 (Or.inr (Or.inl q)))
      obtain ⟨y3, _, _, r3, q3⟩ := v3.resolve_right (fun q => h8 (Or.inr (Or.inr q)))
      have r4' := (w3 4 (by decide)).1.trans ((w2 4 (by decide)).1.trans r4)
      have q4' := (w3 4 (by decide)).2.trans ((w2 4 (by decide)).2.trans q4)
      have r5' := (w3 5 (by decide)).1.trans r5
      have q5' := (w3 5 (by decide)).2.trans q5
      subst y1
      subst y2
      subst y3
      rcases f1 with f1 | f1
      · subst f1
        refine br_t (by decide) (br_t rfl (br_t rfl (br_f (by decide) (br_t rfl ?_))))
        refine dx_cmp 4 5 z e z e 0 (by decide) (by decide) hz7 hz7 k3.2.1 r4' q4' r5' q5' ⟨e1, e2⟩ ⟨e1, e2⟩ (dx_V00 rfl rfl) (fun ra ng mg sc mo => br_t (by decide) ?_)
        try dsimp only
        refine dx_cmp 3 4 z e z e 0 (by decide) (by decide) hz7 hz7 k3.2.1 r3 q3 r4' q4' ⟨e1, e2⟩ ⟨e1, e2⟩ (dx_V00 rfl rfl) (fun ra ng mg sc mo => br_t (by decide) ?_)
        try dsimp only
        exact dx_expo 4 (by decide) (dx_expo 5 (by decide) (br_t (q4'.trans q5'.symm) (fin _ _ _ _ _)))
      · subst f1
        refine br_t (by decide) (br_t rfl (br_t rfl (br_t (by decide) (br_t (by decide) ?_))))
        exact dx_cmp 4 5 z e z e 0 (by decide) (by decide) hz7 hz7 k3.2.1 r4' q4' r5' q5' ⟨e1, e2⟩ ⟨e1, e2⟩ (dx_V00 rfl rfl) (fun ra ng mg sc mo => br_t (by decide) (fin _ _ _ _ _))
  · have hz : ∀ up, (dx_s bb (dx_c p K up)).natAbs < 10 ^ p := fun up => by
      rw [dx_sa]; exact (dx_cl (by omega) f2 f3 up).2
    have hz7 : ∀ up, (dx_s bb (dx_c p K up)).natAbs < 10000000 := fun up => dx_lt7 hp (hz up)
    have sh := dx_sh (e := e) (show 1 ≤ p by omega) f3 bb
    refine A _ 4 a b _ _ _ _ _ _ _ _ _ (by decide) (by omega) (by omega) hok.2.1 c1 c2 d1 d2 (fun up h4 _ => ?_)
    rw [h4 rfl]
    refine dx_FO hok (hz _) (fun l u1 u2 o1 ra ng mg sc mo => ?_)
    try dsimp only
    refine dx_mode 5 (by decide) ?_
    try dsimp only
    obtain ⟨k1, w1, v1⟩ := o1
    refine A _ 5 a b _ _ _ _ _ _ _ _ _ (by decide) (by omega) (by omega) k1.2.1 ((w1 a (by omega)).1.trans c1) ((w1 a (by omega)).2.trans c2) ((w1 b (by omega)).1.trans d1) ((w1 b (by omega)).2.trans d2) (fun up5 _ h5 => ?_)
    rw [h5 rfl]
    refine dx_FO k1 (hz _) (fun h t1 t2 o2 ra ng mg sc mo => ?_)
    try dsimp only
    refine dx_modeK x (fun _ md' => ?_)
    try dsimp only
    obtain ⟨k2, w2, v2⟩ := o2
    refine A _ 3 a b _ _ _ _ _ _ _ _ _ (by decide) (by omega) (by omega) k2.2.1 ((w2 a (by omega)).1.trans ((w1 a (by omega)).1.trans c1)) ((w2 a (by omega)).2.trans ((w1 a (by omega)).2.trans c2)) ((w2 b (by omega)).1.trans ((w1 b (by omega)).1.trans d1)) ((w2 b (by omega)).2.trans ((w1 b (by omega)).2.trans d2)) (fun up3 _ _ => dx_FO k2 (hz _) (fun m s1 s2 o3 ra ng mg sc mo => ?_))
    try dsimp only
    obtain ⟨k3, w3, v3⟩ := o3
    have fin := H md' s1 s2 k3
    by_cases h8 : l = 8 ∨ h = 8 ∨ m = 8
    · exact br_f (dx_fl8 (f := 3) (Or.inr (Or.inr rfl)) (v1.imp And.left id) (v2.imp And.left id) (v3.imp And.left id) h8) (fin _ _ _ _ _)
    · obtain ⟨y1, e41, e42, r4, q4⟩ := v1.resolve_right (fun q => h8 (Or.inl q))
      obtain ⟨y2, e51, e52, r5, q5⟩ := v2.resolve_right (fun q => h8 (Or.inr (Or.inl q)))
      obtain ⟨y3, e31, e32, r3, q3⟩ := v3.resolve_right (fun q => h8 (Or.inr (Or.inr q)))
      have r4' := (w3 4 (by decide)).1.trans ((w2 4 (by decide)).1.trans r4)
      have q4' := (w3 4 (by decide)).2.trans ((w2 4 (by decide)).2.trans q4)
      have r5' := (w3 5 (by decide)).1.trans r5
      have q5' := (w3 5 (by decide)).2.trans q5
      subst y1
      subst y2
      subst y3
      refine br_t (by decide) (br_t rfl (br_t rfl (br_t (by decide) (br_f (by decide) ?_))))
      refine dx_cmp 4 5 _ _ _ _ (-1) (by decide) (by decide) (hz7 _) (hz7 _) k3.2.1 r4' q4' r5' q5' ⟨e41, e42⟩ ⟨e51, e52⟩ (dx_V45 sh) (fun ra ng mg sc mo => br_t (by decide) ?_)
      try dsimp only
      have tail : ∀ (ra ng : Int32) (mg : Int64) (sc mo : Int32), ∃ fu, wL_between_230 post (nI p) (s1 4) (s1 5) (nI p) md' ra ng mg sc mo s1 s2 a3 fu 1 1 := by
        intro ra ng mg sc mo
        rw [r4', r5']
        exact dx_b230 hp q4' q5' ⟨e41, e42⟩ ⟨e51, e52⟩ (hz7 _) (hz7 _) sh (fin _ _ _ _ _)
      have u3 : up3 = bb ∨ up3 = !bb := by cases up3 <;> cases bb <;> decide
      rcases u3 with u3 | u3
      · rw [u3] at r3 q3
        refine dx_cmp 3 4 _ _ _ _ 0 (by decide) (by decide) (hz7 _) (hz7 _) k3.2.1 r3 q3 r4' q4' ⟨e41, e42⟩ ⟨e41, e42⟩ (dx_V00 rfl rfl) (fun ra ng mg sc mo => br_f (by decide) ?_)
        try dsimp only
        refine dx_cmp 3 5 _ _ _ _ (-1) (by decide) (by decide) (hz7 _) (hz7 _) k3.2.1 r3 q3 r5' q5' ⟨e41, e42⟩ ⟨e51, e52⟩ (dx_V45 sh) (fun ra ng mg sc mo => br_f (by decide) ?_)
        try dsimp only
        exact dx_coef 4 (by decide) (dx_coef 5 (by decide) (tail _ _ _ _ _))
      · rw [u3] at r3 q3
        refine dx_cmp 3 4 _ _ _ _ 1 (by decide) (by decide) (hz7 _) (hz7 _) k3.2.1 r3 q3 r4' q4' ⟨e51, e52⟩ ⟨e41, e42⟩ (dx_V54 sh) (fun ra ng mg sc mo => br_f (by decide) ?_)
        try dsimp only
        refine dx_cmp 3 5 _ _ _ _ 0 (by decide) (by decide) (hz7 _) (hz7 _) k3.2.1 r3 q3 r5' q5' ⟨e51, e52⟩ ⟨e51, e52⟩ (dx_V00 rfl rfl) (fun ra ng mg sc mo => br_f (by decide) ?_)
        try dsimp only
        exact dx_coef 4 (by decide) (dx_coef 5 (by decide) (tail _ _ _ _ _))
end
section
/-- the law's step -/
theorem dx_274 {L : Nat} {xs : Nat → Int32} {J : Int32 → Int32 → Int32 → Int32 → Int32 → Int64 → Int32 → Int32 → (Nat → Int32) → (Nat → Int32) → (Nat → Int64) → Prop} {p i a b c kc ks : Nat} {x8 : Int32} {md ra ng : Int32} {mg : Int64} {sc mo : Int32} {a1 a2 : Nat → Int32} {a3 : Nat → Int64}
    (hL : L ≤ 260) (hi : i + 1 < L) (ha : a < 3) (hb : b < 3) (hc : c < 3) (hok : dx_ok p a1 a2 a3)
    (HJ : ∀ (md ra ng : Int32) (mg : Int64) (sc mo : Int32) (a1 a2 : Nat → Int32), dx_ok p a1 a2 a3 → J (nI (i + 4)) (nI p) md ra ng mg sc mo a1 a2 a3) :
    wL_law_274 (fun r => r = 1) L xs J (nI p) (nI i) (nI a) (nI b) (nI c) x8 kc ks (nI p) md ra ng mg sc mo a1 a2 a3 := by
  obtain ⟨o, ho, eo⟩ := pk_andE ((xs (nI i + 1).toNatClampNeg) >>> ((8 : Int32) &&& 31)) (m := 3) 2 (by decide)
  unfold wL_law_274
  rw [eo]
  refine ⟨by rw [nI_1]; exact pk_in (i + 1) L hi, dx_between x8 hok (by omega) hb hc (fun md a1 a2 hok ra ng mg sc mo => ?_)⟩
  dsimp only
  refine br_f (by decide) (dx_compared hok ha hb (fun a1 a2 hok ra ng mg sc mo => ?_))
  dsimp only
  exact br_f (by decide) (nm_r (nI_add i 4) (HJ _ _ _ _ _ _ _ _ hok))
theorem dx_rem3 (x : Int32) : ∃ j : Nat, j < 3 ∧ (x &&& 255) - (x &&& 255) / 3 * 3 = nI j := by
  obtain ⟨j, hj, ej⟩ := pk_andE x (m := 255) 8 (by decide)
  refine ⟨j % 3, Nat.mod_lt _ (by decide), ?_⟩
  rw [ej]
  exact pk_rem (d := 3) (by omega) (by decide) (by decide)
theorem dx_loop {L : Nat} {xs : Nat → Int32} {p kc ks : Nat} (hL : L ≤ 260) : ∀ (n i : Nat) (md ra ng : Int32) (mg : Int64) (sc mo : Int32) (a1 a2 : Nat → Int32) (a3 : Nat → Int64), L < n + i → 1 ≤ i → i ≤ 300 → dx_ok p a1 a2 a3 →
    wL_law_40 (fun r => r = 1) L xs (nI p) kc ks (n + 1) (nI i) (nI p) md ra ng mg sc mo a1 a2 a3 := by
  intro n
  have eL : (Int32.ofNat L) - 4 = dx_I ((L : Int) - 4) := by
    rw [show Int32.ofNat L = nI L from rfl, dx_nI]
    exact dx_isub _ 4
  induction n with
  | zero =>
    intro i md ra ng mg sc mo a1 a2 a3 h1 h2 h3 hok
    exact dx_ilt ((L : Int) - 4) (i : Int) (fun _ => rfl) (fun z => absurd z (by omega)) (hx := eL)
  | succ n ih =>
    intro i md ra ng mg sc mo a1 a2 a3 h1 h2 h3 hok
    refine dx_ilt ((L : Int) - 4) (i : Int) (fun _ => rfl) (fun z => ?_) (hx := eL)
    have i0 : vp_in (nI i) L := pk_in i L (by omega)
    have i1 : vp_in (nI i + 1) L := by rw [nI_1]; exact pk_in (i + 1) L (by omega)
    have i2 : vp_in (nI i + 2) L := by
      rw [show nI i + 2 = nI (i + 2) from nI_add i 2]; exact pk_in (i + 2) L (by omega)
    have i3 : vp_in (nI i + 3) L := by
      rw [show nI i + 3 = nI (i + 3) from nI_add i 3]; exact pk_in (i + 3) L (by omega)
    obtain ⟨a, ha, ea⟩ := dx_rem3 (xs (nI i + 1).toNatClampNeg)
    obtain ⟨b, hb, eb⟩ := dx_rem3 (xs (nI i + 2).toNatClampNeg)
    obtain ⟨c, hc, ec⟩ := dx_rem3 (xs (nI i + 3).toNatClampNeg)
    obtain ⟨k, hk, ek⟩ := pk_andE (xs (nI i).toNatClampNeg) (m := 7) 3 (by decide)
    obtain ⟨o, ho, eo⟩ := pk_andE ((xs (nI i).toNatClampNeg) >>> ((3 : Int32) &&& 31)) (m := 3) 2 (by decide)
    have J : ∀ (x8 md ra ng : Int32) (mg : Int64) (sc mo : Int32) (a1 a2 : Nat → Int32), dx_ok p a1 a2 a3 → wL_law_274 (fun r => r = 1) L xs (wL_law_40 (fun r => r = 1) L xs (nI p) kc ks (n + 1)) (nI p) (nI i) (nI a) (nI b) (nI c) x8 kc ks (nI p) md ra ng mg sc mo a1 a2 a3 :=
      fun x8 md ra ng mg sc mo a1 a2 hok => dx_274 hL (by omega) ha hb hc hok (fun md ra ng mg sc mo a1 a2 hok => ih (i + 4) md ra ng mg sc mo a1 a2 a3 (by omega) (by omega) (by omega) hok)
    refine ⟨i1, by decide, nm_r ea ⟨i2, by decide, nm_r eb ⟨i3, by decide, nm_r ec ⟨i3, by decide, fun x8 _ => ⟨i0, nm_r ek ?_⟩⟩⟩⟩⟩
    refine pk_lt k 0 (fun q => absurd q (by omega)) (fun _ => pk_lt 4 k (fun _ => ⟨i0, ?_⟩) (fun _ => pk_eq k 0 (fun _ => ⟨i2, by decide, i3, ?_⟩) (fun _ => pk_eq k 1 (fun _ => ⟨i2, by decide, ?_⟩) (fun _ => pk_eq k 2 (fun _ => ?_) (fun _ => pk_eq k 3 (fun _ => ⟨i3, ?_⟩) (fun _ => pk_eq k 4 (fun _ => ?_) (fun _ => trivial)))))))
    · rw [eo]
      exact dx_applyK hok (by omega) (by omega) (by omega) (by omega) (fun f a1 a2 hok ra ng mg sc mo => J _ _ _ _ _ _ _ _ _ hok)
    · exact dx_setK _ _ hok (by omega) (fun f a1 a2 hok ra ng mg sc mo => J _ _ _ _ _ _ _ _ _ hok)
    · exact dx_setK _ _ hok (by omega) (fun f a1 a2 hok ra ng mg sc mo => J _ _ _ _ _ _ _ _ _ hok)
    · exact dx_modeK _ (fun r md' => J _ _ _ _ _ _ _ _ _ hok)
    · exact dx_quantK _ hok (by omega) (by omega) (fun f a1 a2 hok ra ng mg sc mo => J _ _ _ _ _ _ _ _ _ hok)
    · exact dx_fusedK hok (by omega) (by omega) (by omega) (by omega) (fun f a1 a2 hok ra ng mg sc mo => J _ _ _ _ _ _ _ _ _ hok)
/-- init -/
theorem dx_init50 {post : St2 → Prop} {p mc ms kc ks : Nat} {pr md ra ng : Int32} {mg : Int64} {sc mo : Int32} (hp : 3 ≤ p ∧ p ≤ 7) (H : ∀ a3, dx_ok p (fun _ => 0) (fun _ => 0) a3 → post (nI p, md, ra, ng, mg, sc, mo, (fun _ => 0), (fun _ => 0), a3)) :
    wX_init_50 post mc ms (nI p) kc ks pr md ra ng mg sc mo (fun _ => 0) (fun _ => 0) (fun _ => 0) := by
  refine nm_e (pk_loop (fun n i s => wX_init_62 post mc ms kc ks (nI p) md ra ng mg sc mo n (nI i) (fun _ => 0) (fun _ => 0) s) (fun i s => 1 ≤ i ∧ ∀ j, j < i → s j = lN (10 ^ j)) 19 1 _ (by decide) ⟨Nat.le_refl 1, fun j hj => ?_⟩ ?_ ?_)
  · rw [show j = 0 by omega, pk_uLs]; rfl
  · intro n s h
    exact pk_le 19 19 (fun _ => H s ⟨hp, h.2, fun r _ => ⟨0, 0, rfl, rfl, dx_pp p, by decide, by decide⟩⟩) (fun z => absurd z (by omega))
  · intro n i s hi h hw
    obtain ⟨k, rfl⟩ : ∃ k, i = k + 1 := ⟨i - 1, by omega⟩
    have e : nI (k + 1) - 1 = nI k := nI_pred k
    refine pk_le 19 (k + 1) (fun z => absurd z (by omega)) (fun _ => ⟨by rw [e]; exact pk_in k 19 (by omega), pk_in (k + 1) 19 hi, nm_e (nm_r (nI_1 (k + 1)) (hw _ ⟨by omega, fun j hj => ?_⟩))⟩)
    rw [e, nI_clamp (show k + 1 < 2 ^ 31 by omega), nI_clamp (show k < 2 ^ 31 by omega), h.2 k (by omega)]
    by_cases q : j = k + 1
    · rw [q, pk_uLs, dx_ps]
      exact lN_mul 10 (10 ^ k)
    · rw [pk_uLn q]
      exact h.2 j (by omega)
theorem dx_27 {L : Nat} {xs : Nat → Int32} (hL : L ≤ 260) (x : Int32) (p : Nat) (hp : 3 ≤ p ∧ p ≤ 7) (hx : (3 ≤ x ∧ x ≤ 7 ∧ x = nI p) ∨ (3 ≤ x ∧ ¬ x ≤ 7 ∧ p = 7) ∨ (¬ 3 ≤ x ∧ p = 3)) : wL_law_27 (fun r => r = 1) L xs x (nI p) 0 0 := by
  refine ⟨by decide, by decide, 3, 31, by decide, by decide, ?_⟩
  have G : ∀ (kc ks : Nat) (md ra ng : Int32) (mg : Int64) (sc mo : Int32) (a3 : Nat → Int64), dx_ok p (fun _ => 0) (fun _ => 0) a3 → ∃ fu, wL_law_40 (fun r => r = 1) L xs (nI p) kc ks fu 1 (nI p) md ra ng mg sc mo (fun _ => 0) (fun _ => 0) a3 :=
    fun kc ks md ra ng mg sc mo a3 hok => ⟨L + 1, dx_loop hL L 1 _ _ _ _ _ _ _ _ _ (by omega) (by omega) (by omega) hok⟩
  refine ⟨by decide, by decide, by decide, by decide, by decide, by decide, ?_⟩
  rcases hx with ⟨h1, h2, h3⟩ | ⟨h1, h2, h3⟩ | ⟨h1, h3⟩
  · rw [h3] at h1 h2 ⊢
    exact br_t h1 (br_t h2 (dx_init50 hp (fun a3 hok => G _ _ _ _ _ _ _ _ _ hok)))
  · subst h3
    exact br_t h1 (br_f h2 (dx_init50 hp (fun a3 hok => G _ _ _ _ _ _ _ _ _ hok)))
  · subst h3
    exact br_f h1 (dx_init50 hp (fun a3 hok => G _ _ _ _ _ _ _ _ _ hok))
theorem i_vc (xs : Nat → Int32) (L : Nat) (hL : L ≤ 260) : wpL_law (fun r => r = 1) L xs := by
  have key : ∀ r : Int32, (3 ≤ r → ((r ≤ 7 → wL_law_27 (fun r => r = 1) L xs r r 0 0) ∧ (¬ r ≤ 7 → wL_law_27 (fun r => r = 1) L xs r 7 0 0))) ∧ (¬ 3 ≤ r → wL_law_27 (fun r => r = 1) L xs r 3 0 0) := by
    intro r
    refine ⟨fun h1 => ⟨fun h2 => ?_, fun h2 => ?_⟩, fun h1 => ?_⟩
    · obtain ⟨z, hz, z1⟩ : ∃ z : Int, r = dx_I z ∧ (-2147483648 ≤ z ∧ z < 2147483648) := ⟨r.toInt, dx_iE r, dx_iB r⟩
      rw [hz] at h1 h2
      have g1 : 3 ≤ z := (dx_ileI (a := 3) (by omega) z1).mp h1
      have g2 : z ≤ 7 := (dx_ileI (b := 7) z1 (by omega)).mp h2
      rw [← hz] at h1 h2
      obtain ⟨p, hp⟩ : ∃ p : Nat, z = p := ⟨z.toNat, by omega⟩
      have e : r = nI p := by rw [hz, hp, dx_nI]
      have t := dx_27 (xs := xs) hL r p (by omega) (Or.inl ⟨h1, h2, e⟩)
      rw [← e] at t
      exact t
    · exact dx_27 hL r 7 (by omega) (Or.inr (Or.inl ⟨h1, h2, rfl⟩))
    · exact dx_27 hL r 3 (by omega) (Or.inr (Or.inr ⟨h1, rfl⟩))
  exact pk_le L 0 (fun _ => key 0) (fun z => ⟨pk_in 0 L z, key _⟩)
end
