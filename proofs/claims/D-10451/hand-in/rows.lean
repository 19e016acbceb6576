section
/-! ===== numbers and bits ===== -/
theorem bf_sl : ∀ i, i < 32 → ((nI i &&& 31).toBitVec.smod 32).toNat = i := by decide +kernel
theorem bf_or (a b : Nat) : nI a ||| nI b = nI (a ||| b) := by
  apply Int32.toBitVec_inj.1
  show BitVec.ofNat 32 a ||| BitVec.ofNat 32 b = BitVec.ofNat 32 (a ||| b)
  apply BitVec.eq_of_getLsbD_eq
  intro i hi
  simp [hi]
theorem bf_and (a b : Nat) : nI a &&& nI b = nI (a &&& b) := by
  apply Int32.toBitVec_inj.1
  show BitVec.ofNat 32 a &&& BitVec.ofNat 32 b = BitVec.ofNat 32 (a &&& b)
  apply BitVec.eq_of_getLsbD_eq
  intro i hi
  simp [hi]
theorem bf_tb (s i : Nat) : s.testBit i = decide (s / 2 ^ i % 2 = 1) := Nat.testBit_eq_decide_div_mod_eq
theorem bf_hi {s i : Nat} (hs : s < 128) (hi : 7 ≤ i) : s.testBit i = false := by
  have h : 2 ^ 7 ≤ 2 ^ i := Nat.pow_le_pow_right (by omega) hi
  exact Nat.testBit_lt_two_pow (by omega)
theorem bf_shr {s i : Nat} (hs : s < 2 ^ 31) (hi : i < 32) : nI s >>> (nI i &&& 31) = nI (s / 2 ^ i) := pk_shrN hs _ i (bf_sl i hi)
theorem bf_bit {s i : Nat} (hs : s < 2 ^ 31) (hi : i < 32) : (nI s >>> (nI i &&& 31)) &&& 1 = nI (s / 2 ^ i % 2) := by
  rw [bf_shr hs hi]
  have h2 : s / 2 ^ i ≤ s := Nat.div_le_self _ _
  exact pk_andN (by omega) 1 (by decide)
theorem bf_if {s i : Nat} (hs : s < 2 ^ 31) (hi : i < 32) : (((nI s >>> (nI i &&& 31)) &&& 1) = 1) ↔ s.testBit i = true := by
  rw [bf_bit hs hi, bf_tb, decide_eq_true_iff]
  exact nI_eq (b := 1) (by omega) (by omega)
theorem bf_toNat (s i : Nat) : (s.testBit i).toNat = s / 2 ^ i % 2 := by
  rw [bf_tb]
  rcases Nat.mod_two_eq_zero_or_one (s / 2 ^ i) with h | h
  · rw [h]; rfl
  · rw [h]; rfl
theorem bf_bitT {s i : Nat} (hs : s < 2 ^ 31) (hi : i < 32) : (nI s >>> (nI i &&& 31)) &&& 1 = nI (s.testBit i).toNat := by
  rw [bf_bit hs hi, bf_toNat]
theorem bf_one : ∀ v, v < 31 → (1 : Int32) <<< (nI v &&& 31) = nI (2 ^ v) := by decide +kernel
theorem bf_shl : ∀ c, c < 8 → ∀ b, b < 2 → nI b <<< (nI c &&& 31) = nI (b * 2 ^ c) := by decide +kernel
def bf_clr (s v : Nat) : Nat := s &&& (127 - 2 ^ v)
theorem bf_clrI : ∀ s, s < 128 → ∀ v, v < 7 → nI s &&& (nI (2 ^ v) ^^^ (-1)) = nI (bf_clr s v) := by decide +kernel
theorem bf_clrB : ∀ v, v < 7 → ∀ i, i < 7 → (127 - 2 ^ v).testBit i = decide (i ≠ v) := by decide +kernel
theorem bf_clr_t {s v : Nat} (i : Nat) (hs : s < 128) (hv : v < 7) : (bf_clr s v).testBit i = (s.testBit i && decide (i ≠ v)) := by
  unfold bf_clr
  rw [Nat.testBit_and]
  rcases Nat.lt_or_ge i 7 with h | h
  · rw [bf_clrB v hv i h]
  · rw [bf_hi hs h]; rfl
theorem bf_clr_lt {s v : Nat} (hs : s < 128) : bf_clr s v < 128 := Nat.lt_of_le_of_lt Nat.and_le_left hs
theorem bf_ext {x y : Nat} (hx : x < 128) (hy : y < 128) (h : ∀ i, i < 7 → x.testBit i = y.testBit i) : x = y := by
  apply Nat.eq_of_testBit_eq
  intro i
  rcases Nat.lt_or_ge i 7 with z | z
  · exact h i z
  · rw [bf_hi hx z, bf_hi hy z]
/-- one place of an assignment set -/
def bf_st (x : Nat → Bool) (v : Nat) (b : Bool) : Nat → Bool := fun i => if i = v then b else x i
theorem bf_st_s (x : Nat → Bool) (v : Nat) (b : Bool) : bf_st x v b v = b := if_pos rfl
theorem bf_st_n (x : Nat → Bool) {v i : Nat} (b : Bool) (h : i ≠ v) : bf_st x v b i = x i := if_neg h
theorem bf_st_or (m v : Nat) : (m ||| 2 ^ v).testBit = bf_st m.testBit v true := by
  funext i
  rw [Nat.testBit_or, Nat.testBit_two_pow]
  by_cases h : i = v
  · subst h
    rw [bf_st_s, decide_eq_true rfl, Bool.or_true]
  · rw [bf_st_n _ _ h, decide_eq_false (fun e => h e.symm), Bool.or_false]
theorem bf_st_f {x : Nat → Bool} {v : Nat} (h : x v = false) : bf_st x v false = x := by
  funext i
  by_cases e : i = v
  · subst e
    rw [bf_st_s, h]
  · rw [bf_st_n _ _ e]
theorem bf_st_c (x : Nat → Bool) {v w : Nat} (a b : Bool) (h : v ≠ w) : bf_st (bf_st x v a) w b = bf_st (bf_st x w b) v a := by
  funext i
  by_cases e : i = v
  · subst e
    rw [bf_st_s, bf_st_n _ _ h, bf_st_s]
  · by_cases e2 : i = w
    · subst e2
      rw [bf_st_s, bf_st_n _ _ e, bf_st_s]
    · rw [bf_st_n _ _ e2, bf_st_n _ _ e, bf_st_n _ _ e, bf_st_n _ _ e2]
theorem bf_st_2 (x : Nat → Bool) (v : Nat) (a b : Bool) : bf_st (bf_st x v a) v b = bf_st x v b := by
  funext i
  by_cases e : i = v
  · subst e
    rw [bf_st_s, bf_st_s]
  · rw [bf_st_n _ _ e, bf_st_n _ _ e, bf_st_n _ _ e]
/-! ===== the ones of a set; a number's bits at the members of a set, moved together ===== -/
def bf_cn (s : Nat) : Nat → Nat
  | 0 => 0
  | i + 1 => bf_cn s i + s / 2 ^ i % 2
def bf_pk (x : Nat → Bool) (s : Nat) : Nat → Nat
  | 0 => 0
  | i + 1 => if s.testBit i = true then bf_pk x s i + (x i).toNat * 2 ^ (bf_cn s i) else bf_pk x s i
abbrev bf_P (x : Nat → Bool) (s : Nat) : Nat := bf_pk x s 7
theorem bf_cn_le (s i : Nat) : bf_cn s i ≤ i := by
  induction i with
  | zero => exact Nat.le_refl 0
  | succ i ih =>
    show bf_cn s i + s / 2 ^ i % 2 ≤ i + 1
    have := Nat.mod_lt (s / 2 ^ i) (show 0 < 2 by omega)
    omega
theorem bf_t1 {s i : Nat} (h : s.testBit i = true) : s / 2 ^ i % 2 = 1 := by
  rw [bf_tb, decide_eq_true_iff] at h
  exact h
theorem bf_t0 {s i : Nat} (h : ¬ s.testBit i = true) : s / 2 ^ i % 2 = 0 := by
  rw [bf_tb, decide_eq_true_iff] at h
  have := Nat.mod_two_eq_zero_or_one (s / 2 ^ i)
  omega
theorem bf_bc (b : Bool) (c : Nat) : b.toNat * c ≤ c := by
  cases b
  · rw [Bool.toNat_false, Nat.zero_mul]; exact Nat.zero_le c
  · rw [Bool.toNat_true, Nat.one_mul]; exact Nat.le_refl c
theorem bf_pk_lt (x : Nat → Bool) (s i : Nat) : bf_pk x s i < 2 ^ (bf_cn s i) := by
  induction i with
  | zero => exact Nat.one_pos
  | succ i ih =>
    show (if s.testBit i = true then bf_pk x s i + (x i).toNat * 2 ^ (bf_cn s i) else bf_pk x s i) < 2 ^ (bf_cn s i + s / 2 ^ i % 2)
    by_cases h : s.testBit i = true
    · rw [if_pos h, bf_t1 h, Nat.pow_succ]
      have := bf_bc (x i) (2 ^ bf_cn s i)
      omega
    · rw [if_neg h, bf_t0 h]
      exact ih
theorem bf_pk_cg {x y : Nat → Bool} {s : Nat} : ∀ i, (∀ j, j < i → s.testBit j = true → x j = y j) → bf_pk x s i = bf_pk y s i
  | 0, _ => rfl
  | i + 1, h => by
    have ih := bf_pk_cg (x := x) (y := y) (s := s) i (fun j hj hs => h j (by omega) hs)
    show (if s.testBit i = true then bf_pk x s i + (x i).toNat * 2 ^ (bf_cn s i) else bf_pk x s i) = (if s.testBit i = true then bf_pk y s i + (y i).toNat * 2 ^ (bf_cn s i) else bf_pk y s i)
    by_cases e : s.testBit i = true
    · rw [if_pos e, if_pos e, ih, h i (by omega) e]
    · rw [if_neg e, if_neg e, ih]
theorem bf_dig {a a' c : Nat} {b b' : Bool} (h1 : a < c) (h2 : a' < c) (h : a + b.toNat * c = a' + b'.toNat * c) : a = a' ∧ b = b' := by
  cases b <;> cases b' <;> simp only [Bool.toNat_false, Bool.toNat_true, Nat.zero_mul, Nat.one_mul] at h
  · exact ⟨by omega, rfl⟩
  · exact absurd h (by omega)
  · exact absurd h (by omega)
  · exact ⟨by omega, rfl⟩
theorem bf_pk_inj {x y : Nat → Bool} {s : Nat} : ∀ i, bf_pk x s i = bf_pk y s i → ∀ j, j < i → s.testBit j = true → x j = y j
  | 0, _ => fun j hj => absurd hj (by omega)
  | i + 1, h => by
    have h' : (if s.testBit i = true then bf_pk x s i + (x i).toNat * 2 ^ (bf_cn s i) else bf_pk x s i) = (if s.testBit i = true then bf_pk y s i + (y i).toNat * 2 ^ (bf_cn s i) else bf_pk y s i) := h
    by_cases e : s.testBit i = true
    · rw [if_pos e, if_pos e] at h'
      obtain ⟨h1, h2⟩ := bf_dig (bf_pk_lt x s i) (bf_pk_lt y s i) h'
      intro j hj hs
      by_cases ej : j = i
      · rw [ej, h2]
      · exact bf_pk_inj i h1 j (by omega) hs
    · rw [if_neg e, if_neg e] at h'
      intro j hj hs
      by_cases ej : j = i
      · rw [ej] at hs
        exact absurd hs e
      · exact bf_pk_inj i h' j (by omega) hs
theorem bf_pk_top (x : Nat → Bool) (s i : Nat) : bf_pk x s i ≤ bf_pk s.testBit s i := by
  induction i with
  | zero => exact Nat.le_refl 0
  | succ i ih =>
    show (if s.testBit i = true then bf_pk x s i + (x i).toNat * 2 ^ (bf_cn s i) else bf_pk x s i) ≤ (if s.testBit i = true then bf_pk s.testBit s i + (s.testBit i).toNat * 2 ^ (bf_cn s i) else bf_pk s.testBit s i)
    by_cases h : s.testBit i = true
    · rw [if_pos h, if_pos h]
      have h1 := bf_bc (x i) (2 ^ bf_cn s i)
      have h2 : (s.testBit i).toNat * 2 ^ bf_cn s i = 2 ^ bf_cn s i := by rw [h, Bool.toNat_true, Nat.one_mul]
      omega
    · rw [if_neg h, if_neg h]
      exact ih
theorem bf_P_lt (x : Nat → Bool) (s : Nat) : bf_P x s < 128 := by
  have h := bf_pk_lt x s 7
  have h2 : 2 ^ bf_cn s 7 ≤ 2 ^ 7 := Nat.pow_le_pow_right (by omega) (bf_cn_le s 7)
  show bf_pk x s 7 < 128
  omega
theorem bf_P_8 (x : Nat → Bool) {s : Nat} (hs : bf_cn s 7 ≤ 3) : bf_P x s < 8 := by
  have h := bf_pk_lt x s 7
  have h2 : 2 ^ bf_cn s 7 ≤ 2 ^ 3 := Nat.pow_le_pow_right (by omega) hs
  show bf_pk x s 7 < 8
  omega
theorem bf_P_0 (s : Nat) : bf_P (0 : Nat).testBit s = 0 := by
  have h : ∀ i, bf_pk (0 : Nat).testBit s i = 0 := by
    intro i
    induction i with
    | zero => rfl
    | succ i ih =>
      show (if s.testBit i = true then bf_pk (0 : Nat).testBit s i + ((0 : Nat).testBit i).toNat * 2 ^ (bf_cn s i) else bf_pk (0 : Nat).testBit s i) = 0
      rw [ih, Nat.zero_testBit, Bool.toNat_false, Nat.zero_mul]
      exact ite_self 0
  exact h 7
/-- the next subset of a set -/
def bf_nx (m s : Nat) : Nat := ((m + 128 - s) % 128) &&& s
theorem bf_nx_ok : ∀ s, s < 128 → ∀ m, m < 128 → m &&& s = m → m ≠ s → bf_P (bf_nx m s).testBit s = bf_P m.testBit s + 1 := by decide +kernel
theorem bf_nx_sub (m s : Nat) : bf_nx m s &&& s = bf_nx m s := by
  unfold bf_nx
  rw [Nat.and_assoc, Nat.and_self]
theorem bf_nx_lt {m s : Nat} (hs : s < 128) : bf_nx m s < 128 := Nat.lt_of_le_of_lt Nat.and_le_right hs
theorem bf_nxN {m s : Nat} (hm : m < 128) (hs : s < 128) : (m + 4294967296 - s) &&& s = bf_nx m s := by
  unfold bf_nx
  apply Nat.eq_of_testBit_eq
  intro i
  rw [Nat.testBit_and, Nat.testBit_and]
  rcases Nat.lt_or_ge i 7 with h | h
  · have e1 : ((m + 4294967296 - s) % 2 ^ 7).testBit i = (m + 4294967296 - s).testBit i := by
      rw [Nat.testBit_mod_two_pow, decide_eq_true h, Bool.true_and]
    have e2 : ((m + 128 - s) % 128 % 2 ^ 7).testBit i = ((m + 128 - s) % 128).testBit i := by
      rw [Nat.testBit_mod_two_pow, decide_eq_true h, Bool.true_and]
    rw [← e1, ← e2]
    have e3 : (m + 4294967296 - s) % 2 ^ 7 = (m + 128 - s) % 128 % 2 ^ 7 := by omega
    rw [e3]
  · rw [bf_hi hs h, Bool.and_false, Bool.and_false]
theorem bf_nxI {m s : Nat} (hm : m < 128) (hs : s < 128) : (nI m - nI s) &&& nI s = nI (bf_nx m s) := by
  have h : nI m - nI s = nI (m + 4294967296 - s) := by
    apply Int32.toBitVec_inj.1
    show BitVec.ofNat 32 m - BitVec.ofNat 32 s = BitVec.ofNat 32 (m + 4294967296 - s)
    apply BitVec.eq_of_toNat_eq
    rw [BitVec.toNat_sub, BitVec.toNat_ofNat, BitVec.toNat_ofNat, BitVec.toNat_ofNat]
    omega
  rw [h, bf_and, bf_nxN hm hs]
/-! ===== a set out of its members ===== -/
def bf_mk (c : Nat → Bool) : Nat → Nat
  | 0 => 0
  | k + 1 => if c k = true then bf_mk c k ||| 2 ^ k else bf_mk c k
theorem bf_mk_t (c : Nat → Bool) (i : Nat) : ∀ k, (bf_mk c k).testBit i = (decide (i < k) && c i)
  | 0 => by
    show (0 : Nat).testBit i = _
    rw [Nat.zero_testBit, decide_eq_false (by omega)]
    rfl
  | k + 1 => by
    have ih := bf_mk_t c i k
    show (if c k = true then bf_mk c k ||| 2 ^ k else bf_mk c k).testBit i = _
    by_cases e : i = k
    · subst e
      rw [decide_eq_false (by omega)] at ih
      rw [decide_eq_true (show i < i + 1 by omega), Bool.true_and]
      by_cases h : c i = true
      · rw [if_pos h, Nat.testBit_or, Nat.testBit_two_pow_self, Bool.or_true, h]
      · rw [if_neg h, ih, Bool.eq_false_iff.mpr h]
        rfl
    · have e2 : decide (i < k + 1) = decide (i < k) := by
        by_cases z : i < k
        · rw [decide_eq_true z, decide_eq_true (by omega)]
        · rw [decide_eq_false z, decide_eq_false (by omega)]
      rw [e2, ← ih]
      by_cases h : c k = true
      · rw [if_pos h, Nat.testBit_or, Nat.testBit_two_pow_of_ne (fun z => e z.symm), Bool.or_false]
      · rw [if_neg h]
theorem bf_mk_lt (c : Nat → Bool) (k : Nat) : bf_mk c k < 2 ^ k := by
  apply Nat.lt_pow_two_of_testBit
  intro i hi
  rw [bf_mk_t, decide_eq_false (by omega)]
  rfl
theorem bf_pw {k : Nat} (h : k ≤ 7) : 2 ^ k ≤ 128 := Nat.pow_le_pow_right (n := 2) (j := 7) (by omega) h
theorem bf_cn_clr : ∀ s, s < 128 → ∀ v, v < 7 → s.testBit v = true → bf_cn (bf_clr s v) 7 + 1 = bf_cn s 7 := by decide +kernel
theorem bf_cn_0 : ∀ s, s < 128 → bf_cn s 7 = 0 → s = 0 := by decide +kernel
theorem bf_some {s n : Nat} (hs : s < 2 ^ n) (h : s ≠ 0) : ∃ v, v < n ∧ s.testBit v = true := by
  obtain ⟨i, hi⟩ := Nat.exists_testBit_of_ne_zero h
  refine ⟨i, ?_, hi⟩
  rcases Nat.lt_or_ge i n with z | z
  · exact z
  · have h2 : 2 ^ n ≤ 2 ^ i := Nat.pow_le_pow_right (by omega) z
    rw [Nat.testBit_lt_two_pow (by omega)] at hi
    exact absurd hi (by decide)
end
section
/-! ===== sum or greatest; taking variables out ===== -/
def bf_op (g : Bool) (a b : Nat) : Nat := if g = true then (if a ≤ b then b else a) else a + b
theorem bf_op_s (a b : Nat) : bf_op false a b = a + b := if_neg (by decide)
theorem bf_op_g (a b : Nat) : bf_op true a b = (if a ≤ b then b else a) := if_pos rfl
theorem bf_op_4 (g : Bool) (a b c d : Nat) : bf_op g (bf_op g a b) (bf_op g c d) = bf_op g (bf_op g a c) (bf_op g b d) := by
  cases g
  · rw [bf_op_s, bf_op_s, bf_op_s, bf_op_s, bf_op_s, bf_op_s]
    omega
  · simp only [bf_op_g]
    repeat' split
    all_goals omega
theorem bf_op_m (g : Bool) (a b c : Nat) : bf_op g (a * c) (b * c) = bf_op g a b * c := by
  cases g
  · rw [bf_op_s, bf_op_s, Nat.add_mul]
  · rw [bf_op_g, bf_op_g]
    by_cases h : a ≤ b
    · rw [if_pos h, if_pos (Nat.mul_le_mul_right c h)]
    · rw [if_neg h]
      have h2 : b * c ≤ a * c := Nat.mul_le_mul_right c (by omega)
      by_cases h3 : a * c ≤ b * c
      · rw [if_pos h3]
        exact Nat.le_antisymm h2 h3
      · rw [if_neg h3]
theorem bf_op_le (g : Bool) {a b B : Nat} (h1 : a ≤ B) (h2 : b ≤ B) : bf_op g a b ≤ B * 2 := by
  cases g
  · rw [bf_op_s]
    omega
  · rw [bf_op_g]
    split <;> omega
def bf_el (g : Bool) (v : Nat) (F : (Nat → Bool) → Nat) : (Nat → Bool) → Nat := fun x => bf_op g (F (bf_st x v false)) (F (bf_st x v true))
theorem bf_el_c (g : Bool) (v w : Nat) (F : (Nat → Bool) → Nat) : bf_el g v (bf_el g w F) = bf_el g w (bf_el g v F) := by
  by_cases e : v = w
  · rw [e]
  · funext x
    show bf_op g (bf_op g (F (bf_st (bf_st x v false) w false)) (F (bf_st (bf_st x v false) w true))) (bf_op g (F (bf_st (bf_st x v true) w false)) (F (bf_st (bf_st x v true) w true))) = bf_op g (bf_op g (F (bf_st (bf_st x w false) v false)) (F (bf_st (bf_st x w false) v true))) (bf_op g (F (bf_st (bf_st x w true) v false)) (F (bf_st (bf_st x w true) v true)))
    rw [bf_st_c x false false e, bf_st_c x false true e, bf_st_c x true false e, bf_st_c x true true e]
    exact bf_op_4 g _ _ _ _
/-- F depends on the places of S alone -/
def bf_dp (S : Nat → Bool) (F : (Nat → Bool) → Nat) : Prop := ∀ x y, (∀ i, S i = true → x i = y i) → F x = F y
theorem bf_dp_st {S : Nat → Bool} {F : (Nat → Bool) → Nat} (h : bf_dp S F) {v : Nat} (hv : ¬ S v = true) (x : Nat → Bool) (b : Bool) : F (bf_st x v b) = F x := by
  refine h _ _ (fun i hi => bf_st_n _ _ (fun e => ?_))
  rw [e] at hi
  exact hv hi
theorem bf_dp_mono {S T : Nat → Bool} {F : (Nat → Bool) → Nat} (h : bf_dp S F) (hs : ∀ i, S i = true → T i = true) : bf_dp T F := fun x y e => h x y (fun i hi => e i (hs i hi))
theorem bf_dp_mul {S : Nat → Bool} {F G : (Nat → Bool) → Nat} (h : bf_dp S F) (h2 : bf_dp S G) : bf_dp S (fun x => F x * G x) := fun x y e => by
  show F x * G x = F y * G y
  rw [h x y e, h2 x y e]
theorem bf_dp_el {S T : Nat → Bool} {F : (Nat → Bool) → Nat} {g : Bool} {v : Nat} (h : bf_dp S F) (hs : ∀ i, S i = true → i ≠ v → T i = true) : bf_dp T (bf_el g v F) := by
  intro x y e
  have k : ∀ b, F (bf_st x v b) = F (bf_st y v b) := by
    intro b
    refine h _ _ (fun i hi => ?_)
    by_cases z : i = v
    · subst z
      rw [bf_st_s, bf_st_s]
    · rw [bf_st_n _ _ z, bf_st_n _ _ z]
      exact e i (hs i hi z)
  show bf_op g (F (bf_st x v false)) (F (bf_st x v true)) = bf_op g (F (bf_st y v false)) (F (bf_st y v true))
  rw [k false, k true]
theorem bf_el_m {S : Nat → Bool} {F G : (Nat → Bool) → Nat} (g : Bool) {v : Nat} (h : bf_dp S G) (hv : ¬ S v = true) : bf_el g v (fun x => F x * G x) = fun x => bf_el g v F x * G x := by
  funext x
  show bf_op g (F (bf_st x v false) * G (bf_st x v false)) (F (bf_st x v true) * G (bf_st x v true)) = bf_op g (F (bf_st x v false)) (F (bf_st x v true)) * G x
  rw [bf_dp_st h hv, bf_dp_st h hv, bf_op_m]
/-- all places below k that o holds taken out -/
def bf_em (g : Bool) (o : Nat → Bool) : Nat → ((Nat → Bool) → Nat) → ((Nat → Bool) → Nat)
  | 0, F => F
  | k + 1, F => if o k = true then bf_el g k (bf_em g o k F) else bf_em g o k F
theorem bf_em_t {g : Bool} {o : Nat → Bool} {k : Nat} (F : (Nat → Bool) → Nat) (h : o k = true) : bf_em g o (k + 1) F = bf_el g k (bf_em g o k F) := if_pos h
theorem bf_em_f {g : Bool} {o : Nat → Bool} {k : Nat} (F : (Nat → Bool) → Nat) (h : ¬ o k = true) : bf_em g o (k + 1) F = bf_em g o k F := if_neg h
theorem bf_em_el (g : Bool) (o : Nat → Bool) (v : Nat) (F : (Nat → Bool) → Nat) : ∀ k, bf_em g o k (bf_el g v F) = bf_el g v (bf_em g o k F)
  | 0 => rfl
  | k + 1 => by
    by_cases h : o k = true
    · rw [bf_em_t _ h, bf_em_t _ h, bf_em_el g o v F k, bf_el_c]
    · rw [bf_em_f _ h, bf_em_f _ h, bf_em_el g o v F k]
theorem bf_em_cg {g : Bool} {o o' : Nat → Bool} (F : (Nat → Bool) → Nat) : ∀ k, (∀ i, i < k → o i = o' i) → bf_em g o k F = bf_em g o' k F
  | 0, _ => rfl
  | k + 1, h => by
    have ih := bf_em_cg (g := g) (o := o) (o' := o') F k (fun i hi => h i (by omega))
    have e := h k (by omega)
    by_cases z : o k = true
    · rw [bf_em_t _ z, bf_em_t _ (e ▸ z), ih]
    · rw [bf_em_f _ z, bf_em_f _ (e ▸ z), ih]
theorem bf_em_no {g : Bool} {o : Nat → Bool} (F : (Nat → Bool) → Nat) : ∀ k, (∀ i, i < k → ¬ o i = true) → bf_em g o k F = F
  | 0, _ => rfl
  | k + 1, h => by
    rw [bf_em_f _ (h k (by omega))]
    exact bf_em_no F k (fun i hi => h i (by omega))
theorem bf_em_out {g : Bool} {o : Nat → Bool} {v : Nat} (F : (Nat → Bool) → Nat) (hv : o v = true) : ∀ k, v < k → bf_em g o k F = bf_em g (bf_st o v false) k (bf_el g v F)
  | 0, h => absurd h (by omega)
  | k + 1, h => by
    by_cases e : v = k
    · subst e
      rw [bf_em_t _ hv, bf_em_f _ (by rw [bf_st_s]; decide), bf_em_el]
      rw [bf_em_cg F v (o' := bf_st o v false) (fun i hi => (bf_st_n o false (by omega)).symm)]
    · have ih := bf_em_out (g := g) F hv k (by omega)
      have e2 : bf_st o v false k = o k := bf_st_n o false (fun z => e z.symm)
      by_cases z : o k = true
      · rw [bf_em_t _ z, bf_em_t _ (e2.trans z), ih]
      · rw [bf_em_f _ z, bf_em_f _ (fun q => z (e2.symm.trans q)), ih]
theorem bf_em_op (g : Bool) (o : Nat → Bool) (F G : (Nat → Bool) → Nat) : ∀ k, bf_em g o k (fun x => bf_op g (F x) (G x)) = fun x => bf_op g (bf_em g o k F x) (bf_em g o k G x)
  | 0 => rfl
  | k + 1 => by
    by_cases h : o k = true
    · rw [bf_em_t _ h, bf_em_t _ h, bf_em_t _ h, bf_em_op g o F G k]
      funext x
      exact bf_op_4 g _ _ _ _
    · rw [bf_em_f _ h, bf_em_f _ h, bf_em_f _ h, bf_em_op g o F G k]
theorem bf_em_m (g : Bool) (o : Nat → Bool) (F : (Nat → Bool) → Nat) (c : Nat) : ∀ k, bf_em g o k (fun x => F x * c) = fun x => bf_em g o k F x * c
  | 0 => rfl
  | k + 1 => by
    by_cases h : o k = true
    · rw [bf_em_t _ h, bf_em_t _ h, bf_em_m g o F c k]
      funext x
      exact bf_op_m g _ _ _
    · rw [bf_em_f _ h, bf_em_f _ h, bf_em_m g o F c k]
theorem bf_em_dp {g : Bool} {o S : Nat → Bool} {F : (Nat → Bool) → Nat} (h : bf_dp S F) : ∀ k, bf_dp S (bf_em g o k F)
  | 0 => h
  | k + 1 => by
    by_cases z : o k = true
    · rw [bf_em_t _ z]
      exact bf_dp_el (bf_em_dp h k) (fun i hi _ => hi)
    · rw [bf_em_f _ z]
      exact bf_em_dp h k
theorem bf_em_le {g : Bool} {o : Nat → Bool} {F : (Nat → Bool) → Nat} {B : Nat} (h : ∀ x, F x ≤ B) : ∀ k x, bf_em g o k F x ≤ B * 2 ^ k
  | 0, x => by
    show F x ≤ B * 2 ^ 0
    rw [Nat.pow_zero, Nat.mul_one]
    exact h x
  | k + 1, x => by
    rw [Nat.pow_succ, ← Nat.mul_assoc]
    by_cases z : o k = true
    · rw [bf_em_t _ z]
      exact bf_op_le g (bf_em_le h k _) (bf_em_le h k _)
    · rw [bf_em_f _ z]
      have := bf_em_le (g := g) (o := o) h k x
      omega
/-- a product of two that share no place taken out -/
theorem bf_em_two {g : Bool} {o S T : Nat → Bool} {F G : (Nat → Bool) → Nat} (hF : bf_dp S F) (hG : bf_dp T G) : ∀ k, (∀ i, i < k → o i = true → ¬ (S i = true ∧ T i = true)) →
    bf_em g o k (fun x => F x * G x) = fun x => bf_em g (fun i => o i && !T i) k F x * bf_em g (fun i => o i && T i) k G x
  | 0, _ => rfl
  | k + 1, h => by
    have ih := bf_em_two (g := g) hF hG k (fun i hi => h i (by omega))
    by_cases z : o k = true
    · by_cases t : T k = true
      · have hs : ¬ S k = true := fun s => h k (by omega) z ⟨s, t⟩
        rw [bf_em_t _ z, bf_em_f _ (o := fun i => o i && !T i) (by rw [z, t]; decide), bf_em_t _ (o := fun i => o i && T i) (by rw [z, t]; rfl), ih]
        have e : (fun x => bf_em g (fun i => o i && !T i) k F x * bf_em g (fun i => o i && T i) k G x) = (fun x => bf_em g (fun i => o i && T i) k G x * bf_em g (fun i => o i && !T i) k F x) := funext (fun x => Nat.mul_comm _ _)
        rw [e, bf_el_m g (bf_em_dp hF k) hs]
        exact funext (fun x => Nat.mul_comm _ _)
      · rw [bf_em_t _ z, bf_em_t _ (o := fun i => o i && !T i) (by rw [z, Bool.eq_false_iff.mpr t]; rfl), bf_em_f _ (o := fun i => o i && T i) (by rw [z, Bool.eq_false_iff.mpr t]; decide), ih]
        rw [bf_el_m g (bf_em_dp hG k) t]
    · have zf := Bool.eq_false_iff.mpr z
      rw [bf_em_f _ z, bf_em_f _ (o := fun i => o i && !T i) (by rw [zf, Bool.false_and]; decide), bf_em_f _ (o := fun i => o i && T i) (by rw [zf, Bool.false_and]; decide), ih]
/-! ===== products ===== -/
def bf_pr (c : Nat → Bool) (F : Nat → Nat) : Nat → Nat
  | 0 => 1
  | k + 1 => if c k = true then bf_pr c F k * F k else bf_pr c F k
theorem bf_pr_t {c : Nat → Bool} (F : Nat → Nat) {k : Nat} (h : c k = true) : bf_pr c F (k + 1) = bf_pr c F k * F k := if_pos h
theorem bf_pr_f {c : Nat → Bool} (F : Nat → Nat) {k : Nat} (h : ¬ c k = true) : bf_pr c F (k + 1) = bf_pr c F k := if_neg h
theorem bf_pr_cg {c c' : Nat → Bool} {F F' : Nat → Nat} : ∀ k, (∀ i, i < k → c i = c' i) → (∀ i, i < k → c i = true → F i = F' i) → bf_pr c F k = bf_pr c' F' k
  | 0, _, _ => rfl
  | k + 1, h, h2 => by
    have ih := bf_pr_cg k (fun i hi => h i (by omega)) (fun i hi => h2 i (by omega))
    have e := h k (by omega)
    by_cases z : c k = true
    · rw [bf_pr_t _ z, bf_pr_t _ (e ▸ z), ih, h2 k (by omega) z]
    · rw [bf_pr_f _ z, bf_pr_f _ (e ▸ z), ih]
theorem bf_pr_2 (c d : Nat → Bool) (F : Nat → Nat) : ∀ k, bf_pr c F k = bf_pr (fun i => c i && d i) F k * bf_pr (fun i => c i && !d i) F k
  | 0 => rfl
  | k + 1 => by
    have ih := bf_pr_2 c d F k
    by_cases z : c k = true
    · by_cases t : d k = true
      · rw [bf_pr_t _ z, bf_pr_t _ (c := fun i => c i && d i) (by rw [z, t]; rfl), bf_pr_f _ (c := fun i => c i && !d i) (by rw [z, t]; decide), ih, Nat.mul_right_comm]
      · rw [bf_pr_t _ z, bf_pr_f _ (c := fun i => c i && d i) (by rw [z, Bool.eq_false_iff.mpr t]; decide), bf_pr_t _ (c := fun i => c i && !d i) (by rw [z, Bool.eq_false_iff.mpr t]; rfl), ih, Nat.mul_assoc]
    · have zf := Bool.eq_false_iff.mpr z
      rw [bf_pr_f _ z, bf_pr_f _ (c := fun i => c i && d i) (by rw [zf, Bool.false_and]; decide), bf_pr_f _ (c := fun i => c i && !d i) (by rw [zf, Bool.false_and]; decide), ih]
theorem bf_pr_le {c : Nat → Bool} {F B : Nat → Nat} : ∀ k, (∀ i, i < k → c i = true → F i ≤ B i) → bf_pr c F k ≤ bf_pr c B k
  | 0, _ => Nat.le_refl 1
  | k + 1, h => by
    have ih := bf_pr_le k (fun i hi => h i (by omega))
    by_cases z : c k = true
    · rw [bf_pr_t _ z, bf_pr_t _ z]
      exact Nat.mul_le_mul ih (h k (by omega) z)
    · rw [bf_pr_f _ z, bf_pr_f _ z]
      exact ih
theorem bf_pr_pos {c : Nat → Bool} {B : Nat → Nat} : ∀ k, (∀ i, i < k → c i = true → 1 ≤ B i) → 1 ≤ bf_pr c B k
  | 0, _ => Nat.le_refl 1
  | k + 1, h => by
    have ih := bf_pr_pos k (fun i hi => h i (by omega))
    by_cases z : c k = true
    · rw [bf_pr_t _ z]
      exact Nat.mul_le_mul ih (h k (by omega) z)
    · rw [bf_pr_f _ z]
      exact ih
theorem bf_pr_9 {c : Nat → Bool} {F : Nat → Nat} {b : Nat} (hb : 1 ≤ b) : ∀ k, (∀ i, i < k → F i ≤ b) → bf_pr c F k ≤ b ^ k
  | 0, _ => Nat.le_refl 1
  | k + 1, h => by
    have ih := bf_pr_9 (c := c) hb k (fun i hi => h i (by omega))
    rw [Nat.pow_succ]
    by_cases z : c k = true
    · rw [bf_pr_t _ z]
      exact Nat.mul_le_mul ih (h k (by omega))
    · rw [bf_pr_f _ z]
      exact Nat.le_trans ih (Nat.le_mul_of_pos_right _ hb)
theorem bf_pr_dp {c : Nat → Bool} {S : Nat → Bool} {ph : Nat → (Nat → Bool) → Nat} : ∀ k, (∀ i, i < k → c i = true → bf_dp S (ph i)) → bf_dp S (fun x => bf_pr c (fun i => ph i x) k)
  | 0, _ => fun _ _ _ => rfl
  | k + 1, h => by
    have ih := bf_pr_dp k (fun i hi => h i (by omega))
    intro x y e
    show bf_pr c (fun i => ph i x) (k + 1) = bf_pr c (fun i => ph i y) (k + 1)
    have ih' : bf_pr c (fun i => ph i x) k = bf_pr c (fun i => ph i y) k := ih x y e
    by_cases z : c k = true
    · rw [bf_pr_t _ z, bf_pr_t _ z, ih', h k (by omega) z x y e]
    · rw [bf_pr_f _ z, bf_pr_f _ z, ih']
/-- the joint set of the chosen factors -/
def bf_js (c : Nat → Bool) (sc : Nat → Nat) : Nat → Nat
  | 0 => 0
  | k + 1 => if c k = true then bf_js c sc k ||| sc k else bf_js c sc k
theorem bf_js_t {c : Nat → Bool} (sc : Nat → Nat) {k : Nat} (h : c k = true) : bf_js c sc (k + 1) = bf_js c sc k ||| sc k := if_pos h
theorem bf_js_f {c : Nat → Bool} (sc : Nat → Nat) {k : Nat} (h : ¬ c k = true) : bf_js c sc (k + 1) = bf_js c sc k := if_neg h
theorem bf_js_lt {c : Nat → Bool} {sc : Nat → Nat} : ∀ k, (∀ f, f < k → sc f < 128) → bf_js c sc k < 128
  | 0, _ => Nat.zero_lt_succ _
  | k + 1, h => by
    have ih := bf_js_lt (c := c) k (fun f hf => h f (by omega))
    by_cases z : c k = true
    · rw [bf_js_t _ z]
      exact Nat.or_lt_two_pow (n := 7) ih (h k (by omega))
    · rw [bf_js_f _ z]
      exact ih
theorem bf_js_in {c : Nat → Bool} {sc : Nat → Nat} {i : Nat} : ∀ k f, f < k → c f = true → (sc f).testBit i = true → (bf_js c sc k).testBit i = true
  | 0, f, h, _, _ => absurd h (by omega)
  | k + 1, f, h, hc, ht => by
    by_cases e : f = k
    · subst e
      rw [bf_js_t _ hc, Nat.testBit_or, ht, Bool.or_true]
    · have ih := bf_js_in k f (by omega) hc ht
      by_cases z : c k = true
      · rw [bf_js_t _ z, Nat.testBit_or, ih, Bool.true_or]
      · rw [bf_js_f _ z]
        exact ih
theorem bf_js_of {c : Nat → Bool} {sc : Nat → Nat} {i : Nat} : ∀ k, (bf_js c sc k).testBit i = true → ∃ f, f < k ∧ c f = true ∧ (sc f).testBit i = true
  | 0, h => by
    have h' : (0 : Nat).testBit i = true := h
    rw [Nat.zero_testBit] at h'
    exact absurd h' (by decide)
  | k + 1, h => by
    by_cases z : c k = true
    · rw [bf_js_t _ z, Nat.testBit_or, Bool.or_eq_true] at h
      rcases h with h | h
      · obtain ⟨f, h1, h2, h3⟩ := bf_js_of k h
        exact ⟨f, by omega, h2, h3⟩
      · exact ⟨k, by omega, z, h⟩
    · rw [bf_js_f _ z] at h
      obtain ⟨f, h1, h2, h3⟩ := bf_js_of k h
      exact ⟨f, by omega, h2, h3⟩
end
section
/-! ===== the net: entries, weight, values fixed and free, value ===== -/
def bf_up (X : Nat → Nat) (v a : Nat) : Nat → Nat := fun i => if i = v then a else X i
theorem bf_up_s (X : Nat → Nat) (v a : Nat) : bf_up X v a v = a := if_pos rfl
theorem bf_up_n (X : Nat → Nat) {v i : Nat} (a : Nat) (h : i ≠ v) : bf_up X v a i = X i := if_neg h
theorem bf_up_id {X : Nat → Nat} {v a : Nat} (h : X v = a) : bf_up X v a = X := by
  funext i
  by_cases e : i = v
  · subst e
    rw [bf_up_s, h]
  · rw [bf_up_n _ _ e]
theorem bf_up_c (X : Nat → Nat) {v w : Nat} (a b : Nat) (h : v ≠ w) : bf_up (bf_up X v a) w b = bf_up (bf_up X w b) v a := by
  funext i
  by_cases e : i = v
  · subst e
    rw [bf_up_s, bf_up_n _ _ h, bf_up_s]
  · by_cases e2 : i = w
    · subst e2
      rw [bf_up_s, bf_up_n _ _ e, bf_up_s]
    · rw [bf_up_n _ _ e2, bf_up_n _ _ e, bf_up_n _ _ e, bf_up_n _ _ e2]
def bf_en (Pa E : Nat → Nat) (v : Nat) (x : Nat → Bool) : Nat := E (16 * v + 2 * bf_P x (Pa v) + (x v).toNat)
def bf_W (n : Nat) (Pa E : Nat → Nat) (x : Nat → Bool) : Nat := bf_pr (fun _ => true) (fun v => bf_en Pa E v x) n
def bf_mg (X : Nat → Nat) (x : Nat → Bool) : Nat → Bool := fun i => if X i = 2 then x i else decide (X i = 1)
def bf_vl (g : Bool) (n : Nat) (Pa E X : Nat → Nat) : Nat := bf_em g (fun i => decide (X i = 2)) n (fun x => bf_W n Pa E (bf_mg X x)) (fun _ => false)
def bf_ok (n : Nat) (Pa E : Nat → Nat) : Prop := 2 ≤ n ∧ n ≤ 7 ∧ (∀ v, v < 7 → Pa v < 2 ^ v ∧ bf_cn (Pa v) 7 ≤ 3) ∧ ∀ k, k < 112 → E k ≤ 9
theorem bf_mg_2 {X : Nat → Nat} {x : Nat → Bool} {i : Nat} (h : X i = 2) : bf_mg X x i = x i := if_pos h
theorem bf_mg_1 {X : Nat → Nat} {x : Nat → Bool} {i : Nat} (h : ¬ X i = 2) : bf_mg X x i = decide (X i = 1) := if_neg h
theorem bf_mg_st {X : Nat → Nat} {v : Nat} (h : X v = 2) (x : Nat → Bool) (b : Bool) : bf_mg X (bf_st x v b) = bf_mg (bf_up X v b.toNat) x := by
  funext i
  by_cases e : i = v
  · subst e
    rw [bf_mg_2 h, bf_st_s, bf_mg_1 (by rw [bf_up_s]; cases b <;> decide), bf_up_s]
    cases b <;> rfl
  · unfold bf_mg
    rw [bf_st_n _ _ e, bf_up_n _ _ e]
theorem bf_o_st (X : Nat → Nat) (v : Nat) {a : Nat} (ha : a ≠ 2) : (fun i => decide (bf_up X v a i = 2)) = bf_st (fun i => decide (X i = 2)) v false := by
  funext i
  by_cases e : i = v
  · subst e
    rw [bf_st_s, bf_up_s, decide_eq_false ha]
  · rw [bf_st_n _ _ e, bf_up_n _ _ e]
theorem bf_split (g : Bool) {n : Nat} (Pa E : Nat → Nat) {X : Nat → Nat} {v : Nat} (hv : v < n) (h : X v = 2) : bf_vl g n Pa E X = bf_op g (bf_vl g n Pa E (bf_up X v 0)) (bf_vl g n Pa E (bf_up X v 1)) := by
  unfold bf_vl
  rw [bf_em_out (o := fun i => decide (X i = 2)) (v := v) _ (decide_eq_true h) n hv]
  have e : bf_el g v (fun x => bf_W n Pa E (bf_mg X x)) = fun x => bf_op g ((fun x => bf_W n Pa E (bf_mg (bf_up X v 0) x)) x) ((fun x => bf_W n Pa E (bf_mg (bf_up X v 1) x)) x) := by
    funext x
    show bf_op g (bf_W n Pa E (bf_mg X (bf_st x v false))) (bf_W n Pa E (bf_mg X (bf_st x v true))) = _
    rw [bf_mg_st h, bf_mg_st h]
    rfl
  rw [e, bf_em_op, bf_o_st X v (a := 0) (by decide), bf_o_st X v (a := 1) (by decide)]
theorem bf_full (g : Bool) {n : Nat} (Pa E : Nat → Nat) {X : Nat → Nat} (h : ∀ i, i < n → X i ≠ 2) : bf_vl g n Pa E X = bf_W n Pa E (bf_mg X (fun _ => false)) := by
  unfold bf_vl
  rw [bf_em_no _ n (fun i hi => by rw [decide_eq_false (h i hi)]; decide)]
theorem bf_en_dp (Pa E : Nat → Nat) (v : Nat) : bf_dp (fun i => (Pa v).testBit i || decide (i = v)) (bf_en Pa E v) := by
  intro x y h
  unfold bf_en
  have e1 : bf_P x (Pa v) = bf_P y (Pa v) := bf_pk_cg 7 (fun j _ hs => h j (by show ((Pa v).testBit j || decide (j = v)) = true; rw [hs, Bool.true_or]))
  rw [e1, h v (by show ((Pa v).testBit v || decide (v = v)) = true; rw [decide_eq_true rfl, Bool.or_true])]
theorem bf_W_cg {n : Nat} (hn : n ≤ 7) {Pa E : Nat → Nat} (hP : ∀ v, v < 7 → Pa v < 2 ^ v) {x y : Nat → Bool} (h : ∀ i, i < n → x i = y i) : bf_W n Pa E x = bf_W n Pa E y := by
  refine bf_pr_cg n (fun _ _ => rfl) (fun v hv _ => bf_en_dp Pa E v x y (fun i hi => h i ?_))
  rw [Bool.or_eq_true, decide_eq_true_iff] at hi
  rcases hi with hi | hi
  · rcases Nat.lt_or_ge i v with z | z
    · omega
    · have h2 : 2 ^ v ≤ 2 ^ i := Nat.pow_le_pow_right (by omega) z
      have h3 := hP v (by omega)
      rw [Nat.testBit_lt_two_pow (by omega)] at hi
      exact absurd hi (by decide)
  · omega
theorem bf_b1 (b : Bool) : b.toNat ≤ 1 := by cases b <;> decide
theorem bf_en_ix {n : Nat} {Pa E : Nat → Nat} (ok : bf_ok n Pa E) {v : Nat} (hv : v < 7) (x : Nat → Bool) : 16 * v + 2 * bf_P x (Pa v) + (x v).toNat < 112 := by
  have h := bf_P_8 x (ok.2.2.1 v hv).2
  have h2 := bf_b1 (x v)
  omega
theorem bf_en_le {n : Nat} {Pa E : Nat → Nat} (ok : bf_ok n Pa E) {v : Nat} (hv : v < 7) (x : Nat → Bool) : bf_en Pa E v x ≤ 9 := ok.2.2.2 _ (bf_en_ix ok hv x)
theorem bf_W_le {n : Nat} {Pa E : Nat → Nat} (ok : bf_ok n Pa E) (x : Nat → Bool) : bf_W n Pa E x ≤ 4782969 := by
  have h : bf_W n Pa E x ≤ 9 ^ n := bf_pr_9 (by omega) n (fun v hv => bf_en_le ok (by have := ok.2.1; omega) x)
  have h2 : 9 ^ n ≤ 9 ^ 7 := Nat.pow_le_pow_right (by omega) ok.2.1
  omega
theorem bf_vl_lt {n : Nat} {Pa E : Nat → Nat} (ok : bf_ok n Pa E) (g : Bool) (X : Nat → Nat) : bf_vl g n Pa E X ≤ 612220032 := by
  have h : bf_vl g n Pa E X ≤ 4782969 * 2 ^ n := bf_em_le (fun x => bf_W_le ok _) n _
  have h2 : 2 ^ n ≤ 2 ^ 7 := Nat.pow_le_pow_right (by omega) ok.2.1
  omega
/-! ===== one variable taken out ===== -/
def bf_hv (sc : Nat → Nat) (v : Nat) : Nat → Bool := fun f => (sc f).testBit v
def bf_cc (sc : Nat → Nat) (us : Nat → Bool) (v : Nat) : Nat → Bool := fun f => us f && (sc f).testBit v
def bf_sc (sc : Nat → Nat) (us : Nat → Bool) (m v : Nat) : Nat → Nat := bf_up sc m (bf_clr (bf_js (bf_cc sc us v) sc m) v)
def bf_us (sc : Nat → Nat) (us : Nat → Bool) (m v : Nat) : Nat → Bool := fun f => if f = m then true else us f && !(sc f).testBit v
def bf_jn (sc : Nat → Nat) (us : Nat → Bool) (ph : Nat → (Nat → Bool) → Nat) (m v : Nat) : (Nat → Bool) → Nat := fun x => bf_pr (bf_cc sc us v) (fun i => ph i x) m
def bf_ph (g : Bool) (sc : Nat → Nat) (us : Nat → Bool) (ph : Nat → (Nat → Bool) → Nat) (m v : Nat) : Nat → (Nat → Bool) → Nat := fun f => if f = m then bf_el g v (bf_jn sc us ph m v) else ph f
def bf_I (g : Bool) (n m k o : Nat) (us : Nat → Bool) (ph : Nat → (Nat → Bool) → Nat) (goal : Nat) : Prop :=
  o < 2 ^ n ∧ bf_cn o 7 + k ≤ 7 ∧ bf_em g o.testBit n (fun x => bf_pr us (fun f => ph f x) m) (fun _ => false) = goal ∧
  ∃ bd : Nat → Nat, (∀ f, f < m → us f = true → (∀ x, ph f x ≤ bd f) ∧ 1 ≤ bd f) ∧ bf_pr us bd m ≤ 4782969 * 2 ^ k
theorem bf_clr_st {o v : Nat} (ho : o < 128) (hv : v < 7) : (bf_clr o v).testBit = bf_st o.testBit v false := by
  funext i
  rw [bf_clr_t i ho hv]
  by_cases e : i = v
  · subst e
    rw [bf_st_s, decide_eq_false (fun z => z rfl), Bool.and_false]
  · rw [bf_st_n _ _ e, decide_eq_true e, Bool.and_true]
theorem bf_prod {g : Bool} {m v : Nat} {sc : Nat → Nat} {us : Nat → Bool} {ph : Nat → (Nat → Bool) → Nat} (hdp : ∀ f, f < m → bf_dp (sc f).testBit (ph f)) :
    bf_el g v (fun x => bf_pr us (fun f => ph f x) m) = fun x => bf_pr (bf_us sc us m v) (fun f => bf_ph g sc us ph m v f x) (m + 1) := by
  have e1 : (fun x => bf_pr us (fun f => ph f x) m) = fun x => bf_jn sc us ph m v x * bf_pr (fun i => us i && !(sc i).testBit v) (fun i => ph i x) m := by
    funext x
    exact bf_pr_2 us (bf_hv sc v) (fun f => ph f x) m
  have d : bf_dp (fun i => decide (i ≠ v)) (fun x => bf_pr (fun i => us i && !(sc i).testBit v) (fun i => ph i x) m) := by
    refine bf_pr_dp m (fun f hf hc => bf_dp_mono (hdp f hf) (fun i hi => decide_eq_true (fun e => ?_)))
    subst e
    have hc' : (us f && !(sc f).testBit i) = true := hc
    rw [hi, Bool.not_true, Bool.and_false] at hc'
    exact absurd hc' (by decide)
  rw [e1, bf_el_m g d (by rw [decide_eq_false (fun z => z rfl)]; decide)]
  funext x
  rw [bf_pr_t (c := bf_us sc us m v) _ (if_pos rfl)]
  have e2 : bf_ph g sc us ph m v m x = bf_el g v (bf_jn sc us ph m v) x := by
    unfold bf_ph
    rw [if_pos rfl]
  have e3 : bf_pr (bf_us sc us m v) (fun f => bf_ph g sc us ph m v f x) m = bf_pr (fun i => us i && !(sc i).testBit v) (fun i => ph i x) m := by
    refine bf_pr_cg m (fun i hi => if_neg (by omega)) (fun i hi _ => ?_)
    show bf_ph g sc us ph m v i x = ph i x
    unfold bf_ph
    rw [if_neg (by omega)]
  rw [e2, e3]
  exact Nat.mul_comm _ _
theorem bf_jn_le {g : Bool} {n m k o v : Nat} {sc : Nat → Nat} {us : Nat → Bool} {ph : Nat → (Nat → Bool) → Nat} {goal : Nat} (hI : bf_I g n m k o us ph goal) (x : Nat → Bool) : bf_jn sc us ph m v x ≤ 612220032 := by
  obtain ⟨_, hk, _, bd, h1, h2⟩ := hI
  have s : ∀ i, bf_cc sc us v i = true → us i = true := fun i hi => by
    have hi' : (us i && (sc i).testBit v) = true := hi
    rw [Bool.and_eq_true] at hi'
    exact hi'.1
  have a1 : bf_jn sc us ph m v x ≤ bf_pr (bf_cc sc us v) bd m := bf_pr_le m (fun i hi hc => (h1 i hi (s i hc)).1 x)
  have a2 : bf_pr us bd m = bf_pr (bf_cc sc us v) bd m * bf_pr (fun i => us i && !(sc i).testBit v) bd m := bf_pr_2 us (bf_hv sc v) bd m
  have a3 : 1 ≤ bf_pr (fun i => us i && !(sc i).testBit v) bd m := bf_pr_pos m (fun i hi hc => by
    have hc' : (us i && !(sc i).testBit v) = true := hc
    rw [Bool.and_eq_true] at hc'
    exact (h1 i hi hc'.1).2)
  have a4 : bf_pr (bf_cc sc us v) bd m ≤ bf_pr us bd m := by
    rw [a2]
    exact Nat.le_mul_of_pos_right _ a3
  have a5 : 2 ^ k ≤ 2 ^ 7 := Nat.pow_le_pow_right (by omega) (by omega)
  omega
theorem bf_step {g : Bool} {n m k o v : Nat} {sc : Nat → Nat} {us : Nat → Bool} {ph : Nat → (Nat → Bool) → Nat} {goal : Nat} (hn : n ≤ 7) (hI : bf_I g n m k o us ph goal) (hv : v < n) (ho : o.testBit v = true) (hdp : ∀ f, f < m → bf_dp (sc f).testBit (ph f)) :
    bf_I g n (m + 1) (k + 1) (bf_clr o v) (bf_us sc us m v) (bf_ph g sc us ph m v) goal := by
  obtain ⟨h0, hk, hg, bd, h1, h2⟩ := hI
  have ho' : o < 128 := Nat.lt_of_lt_of_le h0 (bf_pw hn)
  refine ⟨Nat.lt_of_le_of_lt Nat.and_le_left h0, ?_, ?_, bf_up bd m (bf_pr (bf_cc sc us v) bd m * 2), ?_, ?_⟩
  · have := bf_cn_clr o ho' v (by omega) ho
    omega
  · rw [bf_clr_st ho' (by omega), ← bf_prod hdp, ← bf_em_out _ ho n hv]
    exact hg
  · intro f hf hu
    by_cases e : f = m
    · subst e
      rw [bf_up_s]
      have s : ∀ i, bf_cc sc us v i = true → us i = true := fun i hi => by
        have hi' : (us i && (sc i).testBit v) = true := hi
        rw [Bool.and_eq_true] at hi'
        exact hi'.1
      constructor
      · intro x
        unfold bf_ph
        rw [if_pos rfl]
        have q : ∀ y, bf_jn sc us ph f v y ≤ bf_pr (bf_cc sc us v) bd f := fun y => bf_pr_le f (fun i hi hc => (h1 i hi (s i hc)).1 y)
        exact bf_op_le g (q _) (q _)
      · have := bf_pr_pos (c := bf_cc sc us v) (B := bd) f (fun i hi hc => (h1 i hi (s i hc)).2)
        omega
    · rw [bf_up_n _ _ e]
      have hu' : (if f = m then true else us f && !(sc f).testBit v) = true := hu
      rw [if_neg e, Bool.and_eq_true] at hu'
      constructor
      · intro x
        unfold bf_ph
        rw [if_neg e]
        exact (h1 f (by omega) hu'.1).1 x
      · exact (h1 f (by omega) hu'.1).2
  · rw [bf_pr_t (c := bf_us sc us m v) _ (if_pos rfl), bf_up_s]
    have e3 : bf_pr (bf_us sc us m v) (bf_up bd m (bf_pr (bf_cc sc us v) bd m * 2)) m = bf_pr (fun i => us i && !(sc i).testBit v) bd m := bf_pr_cg m (fun i hi => if_neg (by omega)) (fun i hi _ => bf_up_n _ _ (by omega))
    have a2 : bf_pr us bd m = bf_pr (bf_cc sc us v) bd m * bf_pr (fun i => us i && !(sc i).testBit v) bd m := bf_pr_2 us (bf_hv sc v) bd m
    rw [e3, ← Nat.mul_assoc, Nat.mul_comm (bf_pr (fun i => us i && !(sc i).testBit v) bd m), ← a2, Nat.pow_succ, ← Nat.mul_assoc]
    exact Nat.mul_le_mul_right 2 h2
theorem bf_end {g : Bool} {n m k : Nat} {us : Nat → Bool} {ph : Nat → (Nat → Bool) → Nat} {goal : Nat} (hI : bf_I g n m k 0 us ph goal) : bf_pr us (fun f => ph f (fun _ => false)) m = goal := by
  have h := hI.2.2.1
  rw [bf_em_no _ n (fun i _ => by rw [Nat.zero_testBit]; decide)] at h
  exact h
/-- the tables of all variables -/
def bf_s0 (Pa : Nat → Nat) (o : Nat) : Nat → Nat := fun v => (Pa v ||| 2 ^ v) &&& o
def bf_p0 (Pa E X : Nat → Nat) : Nat → (Nat → Bool) → Nat := fun v x => bf_en Pa E v (bf_mg X x)
def bf_oo (X : Nat → Nat) (n : Nat) : Nat := bf_mk (fun i => decide (X i = 2)) n
def bf_ss (X : Nat → Nat) (n : Nat) : Nat := bf_mk (fun i => decide (X i = 1)) n
theorem bf_start (g : Bool) {n : Nat} {Pa E : Nat → Nat} (X : Nat → Nat) (ok : bf_ok n Pa E) : bf_I g n n 0 (bf_oo X n) (fun _ => true) (bf_p0 Pa E X) (bf_vl g n Pa E X) := by
  refine ⟨bf_mk_lt _ n, bf_cn_le _ 7, ?_, fun _ => 9, ?_, ?_⟩
  · rw [bf_em_cg (o' := fun i => decide (X i = 2)) _ n (fun i hi => by unfold bf_oo; rw [bf_mk_t, decide_eq_true hi, Bool.true_and])]
    rfl
  · exact fun f hf _ => ⟨fun x => bf_en_le ok (by have := ok.2.1; omega) _, show 1 ≤ 9 by omega⟩
  · have h := bf_pr_9 (c := fun _ => true) (F := fun _ => 9) (b := 9) (by omega) n (fun _ _ => Nat.le_refl 9)
    have h2 : 9 ^ n ≤ 9 ^ 7 := Nat.pow_le_pow_right (by omega) ok.2.1
    omega
theorem bf_pl {Pa : Nat → Nat} (hP : ∀ v, v < 7 → Pa v < 2 ^ v) {v i : Nat} (hv : v < 7) (h : (Pa v).testBit i = true) : i < v := by
  rcases Nat.lt_or_ge i v with z | z
  · exact z
  · have h2 : 2 ^ v ≤ 2 ^ i := Nat.pow_le_pow_right (by omega) z
    have h3 := hP v hv
    rw [Nat.testBit_lt_two_pow (by omega)] at h
    exact absurd h (by decide)
/-- a table's factor depends on its scope alone -/
theorem bf_p0_dp {n : Nat} {Pa E : Nat → Nat} (X : Nat → Nat) (ok : bf_ok n Pa E) {v : Nat} (hv : v < n) : bf_dp (bf_s0 Pa (bf_oo X n) v).testBit (bf_p0 Pa E X v) := by
  intro x y h
  refine bf_en_dp Pa E v _ _ (fun i hi => ?_)
  have hn := ok.2.1
  have hin : i < n := by
    rw [Bool.or_eq_true, decide_eq_true_iff] at hi
    rcases hi with hi | hi
    · have := bf_pl (fun w hw => (ok.2.2.1 w hw).1) (by omega) hi
      omega
    · omega
  by_cases e : X i = 2
  · rw [bf_mg_2 e, bf_mg_2 e]
    refine h i ?_
    unfold bf_s0 bf_oo
    rw [Nat.testBit_and, Nat.testBit_or, bf_mk_t, decide_eq_true hin, decide_eq_true e, Nat.testBit_two_pow, Bool.true_and, Bool.and_true]
    rw [Bool.or_eq_true] at hi ⊢
    rcases hi with hi | hi
    · exact Or.inl hi
    · rw [decide_eq_true_iff] at hi
      exact Or.inr (decide_eq_true hi.symm)
  · rw [bf_mg_1 e, bf_mg_1 e]
/-- what a table reads at a subset of its scope joined with the fixed ones -/
theorem bf_p0_at {n : Nat} {Pa E : Nat → Nat} (X : Nat → Nat) (ok : bf_ok n Pa E) {v m : Nat} (hv : v < n) (hm : m &&& bf_s0 Pa (bf_oo X n) v = m) : bf_en Pa E v (m ||| bf_ss X n).testBit = bf_p0 Pa E X v m.testBit := by
  refine bf_en_dp Pa E v _ _ (fun i hi => ?_)
  have hn := ok.2.1
  have hin : i < n := by
    rw [Bool.or_eq_true, decide_eq_true_iff] at hi
    rcases hi with hi | hi
    · have := bf_pl (fun w hw => (ok.2.2.1 w hw).1) (by omega) hi
      omega
    · omega
  rw [Nat.testBit_or]
  unfold bf_ss
  rw [bf_mk_t, decide_eq_true hin, Bool.true_and]
  by_cases e : X i = 2
  · rw [bf_mg_2 e, decide_eq_false (by omega), Bool.or_false]
  · rw [bf_mg_1 e]
    have hz : m.testBit i = false := by
      rw [← hm, Nat.testBit_and]
      unfold bf_s0 bf_oo
      rw [Nat.testBit_and, bf_mk_t, decide_eq_false e, Bool.and_false, Bool.and_false, Bool.and_false]
    rw [hz, Bool.false_or]
end
section
/-! ===== separation gives independence ===== -/
theorem bf_pr_out {c : Nat → Bool} {F : Nat → Nat} {k : Nat} (hk : c k = true) : ∀ n, k < n → bf_pr c F n = bf_pr (bf_st c k false) F n * F k
  | 0, h => absurd h (by omega)
  | n + 1, h => by
    by_cases e : k = n
    · subst e
      rw [bf_pr_t _ hk, bf_pr_f (c := bf_st c k false) _ (by rw [bf_st_s]; decide)]
      rw [bf_pr_cg (c := c) (c' := bf_st c k false) (F := F) (F' := F) k (fun i hi => (bf_st_n c false (by omega)).symm) (fun _ _ _ => rfl)]
    · have ih := bf_pr_out (F := F) hk n (by omega)
      have e2 : bf_st c k false n = c n := bf_st_n c false (fun z => e z.symm)
      by_cases z : c n = true
      · rw [bf_pr_t _ z, bf_pr_t (c := bf_st c k false) _ (e2.trans z), ih, Nat.mul_right_comm]
      · rw [bf_pr_f _ z, bf_pr_f (c := bf_st c k false) _ (fun q => z (e2.symm.trans q)), ih]
theorem bf_mg_s2 {X : Nat → Nat} {v : Nat} (h : X v = 2) (x : Nat → Bool) (b : Bool) : bf_mg X (bf_st x v b) = bf_st (bf_mg X x) v b := by
  funext i
  by_cases e : i = v
  · subst e
    rw [bf_mg_2 h, bf_st_s, bf_st_s]
  · rw [bf_st_n _ _ e]
    unfold bf_mg
    rw [bf_st_n _ _ e]
/-- each variable's rows have one sum -/
def bf_ev (n : Nat) (Pa E : Nat → Nat) (c : Nat → Nat) : Prop := ∀ w, w < n → ∀ r, r < 2 ^ bf_cn (Pa w) 7 → E (16 * w + 2 * r) + E (16 * w + 2 * r + 1) = c w
theorem bf_ev_s {n : Nat} {Pa E c : Nat → Nat} (ok : bf_ok n Pa E) (hc : bf_ev n Pa E c) {w : Nat} (hw : w < n) (y : Nat → Bool) : bf_en Pa E w (bf_st y w false) + bf_en Pa E w (bf_st y w true) = c w := by
  have hn := ok.2.1
  have e : ∀ b, bf_P (bf_st y w b) (Pa w) = bf_P y (Pa w) := fun b => bf_pk_cg 7 (fun j _ hs => bf_st_n _ _ (fun z => by
    have := bf_pl (fun w hw => (ok.2.2.1 w hw).1) (by omega) hs
    omega))
  unfold bf_en
  rw [e, e, bf_st_s, bf_st_s]
  exact hc w hw _ (bf_pk_lt y (Pa w) 7)
/-- closed under the ball's rules -/
def bf_cl (n : Nat) (Pa X : Nat → Nat) (A B : Nat → Bool) : Prop :=
  (∀ w, w < n → B w = true → X w = 2 → ∀ p, (Pa w).testBit p = true → B p = true) ∧
  (∀ w, w < n → (B w = true ∨ A w = true) → X w = 2 → ∀ d, d < n → (Pa d).testBit w = true → A d = true) ∧
  (∀ w, w < n → A w = true → X w ≠ 2 → ∀ p, (Pa w).testBit p = true → B p = true)
def bf_bn (X : Nat → Nat) (A B : Nat → Bool) : Nat → Bool := fun w => A w && decide (X w = 2) && !B w
theorem bf_bn_t {X : Nat → Nat} {A B : Nat → Bool} {w : Nat} (h : bf_bn X A B w = true) : A w = true ∧ X w = 2 ∧ B w = false := by
  have h' : (A w && decide (X w = 2) && !B w) = true := h
  rw [Bool.and_eq_true, Bool.and_eq_true, decide_eq_true_iff, Bool.not_eq_true'] at h'
  exact ⟨h'.1.1, h'.1.2, h'.2⟩
theorem bf_bn_of {X : Nat → Nat} {A B : Nat → Bool} {w : Nat} (h1 : A w = true) (h2 : X w = 2) (h3 : B w = false) : bf_bn X A B w = true := by
  show (A w && decide (X w = 2) && !B w) = true
  rw [h1, decide_eq_true h2, h3]
  rfl
/-- a child of a barren variable is barren -/
theorem bf_bn_ch {n : Nat} {Pa X : Nat → Nat} {A B : Nat → Bool} (cl : bf_cl n Pa X A B) {w d : Nat} (hw : w < n) (hd : d < n) (h : bf_bn X A B w = true) (hp : (Pa d).testBit w = true) : bf_bn X A B d = true := by
  obtain ⟨h1, h2, h3⟩ := bf_bn_t h
  have hA := cl.2.1 w hw (Or.inr h1) h2 d hd hp
  have no : ¬ B w = true := by rw [h3]; decide
  by_cases e : X d = 2
  · refine bf_bn_of hA e (Bool.eq_false_iff.mpr (fun hB => no (cl.1 d hd hB e w hp)))
  · exact absurd (cl.2.2 d hd hA e w hp) no
section
variable {n : Nat} {Pa E X c : Nat → Nat} {A B : Nat → Bool}
/-- the product over what isn't barren, or lies below k; taken out likewise -/
def bf_qk (n : Nat) (Pa E X' : Nat → Nat) (bn : Nat → Bool) (k : Nat) : (Nat → Bool) → Nat := fun x => bf_pr (fun w => !bn w || decide (w < k)) (fun w => bf_en Pa E w (bf_mg X' x)) n
def bf_rk (n : Nat) (Pa E X' : Nat → Nat) (bn : Nat → Bool) (k : Nat) : Nat := bf_em false (fun w => decide (X' w = 2) && (!bn w || decide (w < k))) n (bf_qk n Pa E X' bn k) (fun _ => false)
theorem bf_dk {i k : Nat} (h : i ≠ k) : decide (i < k + 1) = decide (i < k) := by
  by_cases z : i < k
  · rw [decide_eq_true z, decide_eq_true (by omega)]
  · rw [decide_eq_false z, decide_eq_false (by omega)]
theorem bf_rk_s {X' : Nat → Nat} {bn : Nat → Bool} (ok : bf_ok n Pa E) (hc : bf_ev n Pa E c) (h1 : ∀ w, w < n → bn w = true → X' w = 2) (h2 : ∀ w d, w < n → d < n → bn w = true → (Pa d).testBit w = true → bn d = true) {k : Nat} (hk : k < n) :
    bf_rk n Pa E X' bn (k + 1) = bf_rk n Pa E X' bn k * (if bn k = true then c k else 1) := by
  have hn := ok.2.1
  by_cases e : bn k = true
  · rw [if_pos e]
    have x2 := h1 k hk e
    have eo : bf_st (fun w => decide (X' w = 2) && (!bn w || decide (w < k + 1))) k false = fun w => decide (X' w = 2) && (!bn w || decide (w < k)) := by
      funext i
      by_cases z : i = k
      · subst z
        rw [bf_st_s, e, decide_eq_false (Nat.lt_irrefl i), Bool.not_true, Bool.or_false, Bool.and_false]
      · rw [bf_st_n _ _ z, bf_dk z]
    have ec : bf_st (fun w => !bn w || decide (w < k + 1)) k false = fun w => !bn w || decide (w < k) := by
      funext i
      by_cases z : i = k
      · subst z
        rw [bf_st_s, e, decide_eq_false (Nat.lt_irrefl i), Bool.not_true, Bool.or_false]
      · rw [bf_st_n _ _ z, bf_dk z]
    have eq : bf_qk n Pa E X' bn (k + 1) = fun x => bf_en Pa E k (bf_mg X' x) * bf_qk n Pa E X' bn k x := by
      funext x
      unfold bf_qk
      rw [bf_pr_out (c := fun w => !bn w || decide (w < k + 1)) (k := k) (by rw [decide_eq_true (Nat.lt_succ_self k), Bool.or_true]) n hk, ec, Nat.mul_comm]
    have d : bf_dp (fun i => decide (i ≠ k)) (bf_qk n Pa E X' bn k) := by
      refine bf_pr_dp n (fun w hw hcw => ?_)
      intro x y hxy
      refine bf_en_dp Pa E w _ _ (fun i hi => ?_)
      have hik : i ≠ k := by
        intro z
        subst z
        have hcw' : (!bn w || decide (w < i)) = true := hcw
        rw [Bool.or_eq_true, decide_eq_true_iff, Bool.not_eq_true'] at hcw'
        rw [Bool.or_eq_true, decide_eq_true_iff] at hi
        rcases hi with hi | hi
        · rcases hcw' with q | q
          · rw [h2 i w hk hw e hi] at q
            exact absurd q (by decide)
          · have := bf_pl (fun w hw => (ok.2.2.1 w hw).1) (by omega) hi
            omega
        · subst hi
          rcases hcw' with q | q
          · rw [e] at q
            exact absurd q (by decide)
          · omega
      have hx := hxy i (decide_eq_true hik)
      unfold bf_mg
      rw [hx]
    have el : bf_el false k (bf_qk n Pa E X' bn (k + 1)) = fun x => bf_qk n Pa E X' bn k x * c k := by
      rw [eq, bf_el_m false d (by rw [decide_eq_false (fun z => z rfl)]; decide)]
      funext x
      rw [Nat.mul_comm]
      congr 1
      show bf_op false (bf_en Pa E k (bf_mg X' (bf_st x k false))) (bf_en Pa E k (bf_mg X' (bf_st x k true))) = c k
      rw [bf_op_s, bf_mg_s2 x2, bf_mg_s2 x2]
      exact bf_ev_s ok hc hk _
    unfold bf_rk
    rw [bf_em_out (o := fun w => decide (X' w = 2) && (!bn w || decide (w < k + 1))) (v := k) _ (by rw [decide_eq_true x2, decide_eq_true (Nat.lt_succ_self k), Bool.or_true]; rfl) n hk, eo, el, bf_em_m]
  · rw [if_neg e, Nat.mul_one]
    have ef := Bool.eq_false_iff.mpr e
    have ed : ∀ i, (!bn i || decide (i < k + 1)) = (!bn i || decide (i < k)) := by
      intro i
      by_cases z : i = k
      · subst z
        rw [ef, Bool.not_false, Bool.true_or, Bool.true_or]
      · rw [bf_dk z]
    unfold bf_rk bf_qk
    simp only [ed]
theorem bf_rk_n {X' : Nat → Nat} {bn : Nat → Bool} (ok : bf_ok n Pa E) (hc : bf_ev n Pa E c) (h1 : ∀ w, w < n → bn w = true → X' w = 2) (h2 : ∀ w d, w < n → d < n → bn w = true → (Pa d).testBit w = true → bn d = true) : ∀ k, k ≤ n → bf_rk n Pa E X' bn k = bf_rk n Pa E X' bn 0 * bf_pr bn c k
  | 0, _ => (Nat.mul_one _).symm
  | k + 1, hk => by
    rw [bf_rk_s ok hc h1 h2 (show k < n by omega), bf_rk_n ok hc h1 h2 k (by omega)]
    by_cases e : bn k = true
    · rw [if_pos e, bf_pr_t _ e, Nat.mul_assoc]
    · rw [if_neg e, bf_pr_f _ e, Nat.mul_one]
theorem bf_rk_v {X' : Nat → Nat} {bn : Nat → Bool} : bf_vl false n Pa E X' = bf_rk n Pa E X' bn n := by
  unfold bf_vl bf_rk
  have e : (fun x => bf_W n Pa E (bf_mg X' x)) = bf_qk n Pa E X' bn n := by
    funext x
    exact bf_pr_cg n (fun i hi => by rw [decide_eq_true hi, Bool.or_true]) (fun _ _ _ => rfl)
  rw [e, bf_em_cg (o := fun w => decide (X' w = 2) && (!bn w || decide (w < n))) (o' := fun i => decide (X' i = 2)) _ n (fun i hi => by rw [decide_eq_true hi, Bool.or_true, Bool.and_true])]
/-- the side of a factor -/
def bf_sd (X : Nat → Nat) (A B : Nat → Bool) : Nat → Bool := fun w => if X w = 2 then B w else A w
theorem bf_sd_u (cl : bf_cl n Pa X A B) {w i : Nat} (hw : w < n) (h : bf_sd X A B w = true) (hi : ((Pa w).testBit i || decide (i = w)) = true) (hx : X i = 2) : B i = true := by
  unfold bf_sd at h
  rw [Bool.or_eq_true, decide_eq_true_iff] at hi
  rcases hi with hi | hi
  · by_cases e : X w = 2
    · rw [if_pos e] at h
      exact cl.1 w hw h e i hi
    · rw [if_neg e] at h
      exact cl.2.2 w hw h e i hi
  · subst hi
    rw [if_pos hx] at h
    exact h
theorem bf_sd_v (cl : bf_cl n Pa X A B) {w i : Nat} (hw : w < n) (hin : i < n) (hb : ¬ bf_bn X A B w = true) (h : ¬ bf_sd X A B w = true) (hi : ((Pa w).testBit i || decide (i = w)) = true) (hx : X i = 2) : B i = false := by
  unfold bf_sd at h
  rw [Bool.or_eq_true, decide_eq_true_iff] at hi
  rcases hi with hi | hi
  · apply Bool.eq_false_iff.mpr
    intro hB
    have hA := cl.2.1 i hin (Or.inl hB) hx w hw hi
    by_cases e : X w = 2
    · rw [if_pos e] at h
      exact hb (bf_bn_of hA e (Bool.eq_false_iff.mpr h))
    · rw [if_neg e] at h
      exact h hA
  · subst hi
    rw [if_pos hx] at h
    exact Bool.eq_false_iff.mpr h
def bf_G (n : Nat) (Pa E : Nat → Nat) (ch : Nat → Bool) (X' : Nat → Nat) : (Nat → Bool) → Nat := fun x => bf_pr ch (fun w => bf_en Pa E w (bf_mg X' x)) n
theorem bf_G_cg {ch : Nat → Bool} {X' X'' : Nat → Nat} (h : ∀ w, w < n → ch w = true → ∀ i, ((Pa w).testBit i || decide (i = w)) = true → X' i = X'' i) : bf_G n Pa E ch X' = bf_G n Pa E ch X'' := by
  funext x
  refine bf_pr_cg n (fun _ _ => rfl) (fun w hw hcw => bf_en_dp Pa E w _ _ (fun i hi => ?_))
  unfold bf_mg
  rw [h w hw hcw i hi]
theorem bf_G_dp {ch S : Nat → Bool} {X' : Nat → Nat} (h : ∀ w, w < n → ch w = true → ∀ i, ((Pa w).testBit i || decide (i = w)) = true → X' i = 2 → S i = true) : bf_dp S (bf_G n Pa E ch X') := by
  refine bf_pr_dp n (fun w hw hcw => ?_)
  intro x y hxy
  refine bf_en_dp Pa E w _ _ (fun i hi => ?_)
  unfold bf_mg
  by_cases e : X' i = 2
  · rw [if_pos e, if_pos e]
    exact hxy i (h w hw hcw i hi e)
  · rw [if_neg e, if_neg e]
theorem bf_dsep {u v : Nat} (ok : bf_ok n Pa E) (hc : bf_ev n Pa E c) (cl : bf_cl n Pa X A B) (hu : u < n) (hv : v < n) (Xu : X u = 2) (Xv : X v = 2) (Bu : B u = true) (Bv : B v = false) (Av : A v = false) :
    ∃ (C : Nat) (gg hh : Nat → Nat), ∀ a b, a < 2 → b < 2 → bf_vl false n Pa E (bf_up (bf_up X u a) v b) = C * gg a * hh b := by
  have hn := ok.2.1
  have huv : u ≠ v := by
    intro e
    rw [e, Bv] at Bu
    exact absurd Bu (by decide)
  have hin : ∀ w i, w < n → ((Pa w).testBit i || decide (i = w)) = true → i < n := by
    intro w i hw hi
    rw [Bool.or_eq_true, decide_eq_true_iff] at hi
    rcases hi with hi | hi
    · have := bf_pl (fun w hw => (ok.2.2.1 w hw).1) (by omega) hi
      omega
    · omega
  have x2 : ∀ a b i, a < 2 → b < 2 → bf_up (bf_up X u a) v b i = 2 → X i = 2 ∧ i ≠ u ∧ i ≠ v := by
    intro a b i ha hb h
    by_cases e : i = v
    · subst e
      rw [bf_up_s] at h
      omega
    · rw [bf_up_n _ _ e] at h
      by_cases e2 : i = u
      · subst e2
        rw [bf_up_s] at h
        omega
      · rw [bf_up_n _ _ e2] at h
        exact ⟨h, e2, e⟩
  have x2' : ∀ a b i, i ≠ u → i ≠ v → bf_up (bf_up X u a) v b i = X i := by
    intro a b i h1 h2
    rw [bf_up_n _ _ h2, bf_up_n _ _ h1]
  refine ⟨bf_pr (bf_bn X A B) c n,
    fun a => bf_em false (fun i => (bf_st (bf_st (fun i => decide (X i = 2)) u false) v false i && !bf_bn X A B i) && !(!B i)) n (bf_G n Pa E (fun w => !bf_bn X A B w && bf_sd X A B w) (bf_up X u a)) (fun _ => false),
    fun b => bf_em false (fun i => (bf_st (bf_st (fun i => decide (X i = 2)) u false) v false i && !bf_bn X A B i) && !B i) n (bf_G n Pa E (fun w => !bf_bn X A B w && !bf_sd X A B w) (bf_up X v b)) (fun _ => false), ?_⟩
  intro a b ha hb
  have k1 : ∀ w, w < n → bf_bn X A B w = true → bf_up (bf_up X u a) v b w = 2 := by
    intro w hw h
    obtain ⟨q1, q2, q3⟩ := bf_bn_t h
    rw [x2' a b w (fun e => by rw [e, Bu] at q3; exact absurd q3 (by decide)) (fun e => by rw [e, Av] at q1; exact absurd q1 (by decide))]
    exact q2
  have k2 : ∀ w d, w < n → d < n → bf_bn X A B w = true → (Pa d).testBit w = true → bf_bn X A B d = true := fun w d hw hd h hp => bf_bn_ch cl hw hd h hp
  rw [bf_rk_v (bn := bf_bn X A B), bf_rk_n ok hc k1 k2 n (Nat.le_refl n), Nat.mul_comm, Nat.mul_assoc]
  congr 1
  have su : ∀ w, (!bf_bn X A B w && bf_sd X A B w) = true → bf_sd X A B w = true := fun w h => by
    rw [Bool.and_eq_true] at h
    exact h.2
  have sv : ∀ w, (!bf_bn X A B w && !bf_sd X A B w) = true → ¬ bf_bn X A B w = true ∧ ¬ bf_sd X A B w = true := fun w h => by
    rw [Bool.and_eq_true, Bool.not_eq_true', Bool.not_eq_true'] at h
    exact ⟨by rw [h.1]; decide, by rw [h.2]; decide⟩
  have eG : bf_G n Pa E (fun w => !bf_bn X A B w && bf_sd X A B w) (bf_up (bf_up X u a) v b) = bf_G n Pa E (fun w => !bf_bn X A B w && bf_sd X A B w) (bf_up X u a) := by
    refine bf_G_cg (fun w hw h i hi => bf_up_n _ _ (fun e => ?_))
    subst e
    have q := bf_sd_u cl hw (su w h) hi Xv
    rw [Bv] at q
    exact absurd q (by decide)
  have eH : bf_G n Pa E (fun w => !bf_bn X A B w && !bf_sd X A B w) (bf_up (bf_up X u a) v b) = bf_G n Pa E (fun w => !bf_bn X A B w && !bf_sd X A B w) (bf_up X v b) := by
    rw [bf_up_c X a b huv]
    refine bf_G_cg (fun w hw h i hi => bf_up_n _ _ (fun e => ?_))
    subst e
    have q := bf_sd_v cl hw hu (sv w h).1 (sv w h).2 hi Xu
    rw [Bu] at q
    exact absurd q (by decide)
  have dG : bf_dp B (bf_G n Pa E (fun w => !bf_bn X A B w && bf_sd X A B w) (bf_up (bf_up X u a) v b)) :=
    bf_G_dp (fun w hw h i hi hx => bf_sd_u cl hw (su w h) hi (x2 a b i ha hb hx).1)
  have dH : bf_dp (fun i => !B i) (bf_G n Pa E (fun w => !bf_bn X A B w && !bf_sd X A B w) (bf_up (bf_up X u a) v b)) :=
    bf_G_dp (fun w hw h i hi hx => by
      rw [bf_sd_v cl hw (hin w i hw hi) (sv w h).1 (sv w h).2 hi (x2 a b i ha hb hx).1]
      rfl)
  have eQ : bf_qk n Pa E (bf_up (bf_up X u a) v b) (bf_bn X A B) 0 = fun x => bf_G n Pa E (fun w => !bf_bn X A B w && bf_sd X A B w) (bf_up (bf_up X u a) v b) x * bf_G n Pa E (fun w => !bf_bn X A B w && !bf_sd X A B w) (bf_up (bf_up X u a) v b) x := by
    funext x
    unfold bf_qk
    rw [bf_pr_cg (c' := fun w => !bf_bn X A B w) (F' := fun w => bf_en Pa E w (bf_mg (bf_up (bf_up X u a) v b) x)) n (fun i hi => by rw [decide_eq_false (by omega), Bool.or_false]) (fun _ _ _ => rfl)]
    exact bf_pr_2 (fun w => !bf_bn X A B w) (bf_sd X A B) _ n
  have eo : (fun w => decide (bf_up (bf_up X u a) v b w = 2) && (!bf_bn X A B w || decide (w < 0))) = fun i => bf_st (bf_st (fun i => decide (X i = 2)) u false) v false i && !bf_bn X A B i := by
    rw [← bf_o_st X u (show a ≠ 2 by omega), ← bf_o_st (bf_up X u a) v (show b ≠ 2 by omega)]
    funext w
    rw [decide_eq_false (show ¬ w < 0 by omega), Bool.or_false]
  unfold bf_rk
  rw [eo, eQ, bf_em_two dG dH n (fun i _ _ h => by
    obtain ⟨h1, h2⟩ := h
    rw [h1] at h2
    exact absurd h2 (by decide)), eG, eH]
end
theorem bf_indep {q : Nat → Nat → Nat} {C : Nat} {gg hh : Nat → Nat} (h : ∀ a b, a < 2 → b < 2 → q a b = C * gg a * hh b) {a b : Nat} (ha : a < 2) (hb : b < 2) :
    ((q 0 0 + q 0 1) + (q 1 0 + q 1 1)) * q a b = (q a 0 + q a 1) * (q 0 b + q 1 b) := by
  rw [h 0 0 (by omega) (by omega), h 0 1 (by omega) (by omega), h 1 0 (by omega) (by omega), h 1 1 (by omega) (by omega), h a b ha hb, h a 0 ha (by omega), h a 1 ha (by omega), h 0 b (by omega) hb, h 1 b (by omega) hb]
  rw [← Nat.mul_add, ← Nat.mul_add, ← Nat.mul_add, ← Nat.add_mul, ← Nat.add_mul, ← Nat.mul_add]
  ac_rfl
end
section
/-! ===== walks of the small methods ===== -/
def bf_S (n : Nat) (Pa E : Nat → Nat) (a1 a2 : Nat → Int32) : Prop := bf_ok n Pa E ∧ (∀ v, v < 7 → a1 v = nI (Pa v)) ∧ ∀ k, k < 112 → a2 k = nI (E k)
theorem bf_fill {f s : Nat → Int32} {i k : Nat} {x : Int32} (hk : k = i) (h : ∀ j, j < i → s j = f j) (hx : x = f i) : ∀ j, j < i + 1 → upd s k x j = f j := by
  intro j hj
  rw [hk]
  by_cases e : j = i
  · rw [e, pk_us, hx]
  · rw [pk_un e]
    exact h j (by omega)
theorem bf_Pa {n : Nat} {Pa E : Nat → Nat} (ok : bf_ok n Pa E) {v : Nat} (hv : v < 7) : Pa v < 128 := Nat.lt_of_lt_of_le (ok.2.2.1 v hv).1 (bf_pw (by omega))
theorem bf_ones {post : Int32 → Prop} {s : Nat} (hs : s < 128) (H : post (nI (bf_cn s 7))) : wpX_ones post () (nI s) :=
  pk_loop (fun n i (x : Int32) => wX_ones_4 post (nI s) n x (nI i)) (fun i x => x = nI (bf_cn s i)) 7 0 0 (by omega) rfl
    (fun n x h => pk_le 7 7 (fun _ => by rw [h]; exact H) (fun z => absurd z (by omega)))
    (fun n i x hi h hw => pk_le 7 i (fun z => absurd z (by omega)) (fun _ => nm_e (nm_r (nI_1 i) (hw _ (by
      rw [h, bf_bit (by omega) (by omega), nI_add]
      rfl)))))
theorem bf_pk_s {m s i : Nat} (hm : m < 128) (hi : i < 7) (t : s.testBit i = true) : nI (bf_pk m.testBit s i) ||| (((nI m >>> (nI i &&& 31)) &&& 1) <<< (nI (bf_cn s i) &&& 31)) = nI (bf_pk m.testBit s (i + 1)) := by
  have hc := bf_cn_le s i
  rw [bf_bitT (by omega) (by omega), bf_shl (bf_cn s i) (by omega) _ (by have := bf_b1 (m.testBit i); omega), bf_or]
  congr 1
  have e : bf_pk m.testBit s (i + 1) = bf_pk m.testBit s i + (m.testBit i).toNat * 2 ^ (bf_cn s i) := if_pos t
  rw [e, Nat.or_comm, Nat.mul_comm, ← Nat.two_pow_add_eq_or_of_lt (bf_pk_lt m.testBit s i), Nat.add_comm]
theorem bf_packed {post : Int32 → Prop} {m s : Nat} (hm : m < 128) (hs : s < 128) (H : post (nI (bf_P m.testBit s))) : wpX_packed post () (nI m) (nI s) :=
  pk_loop (fun n i (x : Int32 × Int32) => wX_packed_7 post (nI m) (nI s) n x.1 x.2 (nI i)) (fun i x => x.1 = nI (bf_pk m.testBit s i) ∧ x.2 = nI (bf_cn s i)) 7 0 (0, 0) (by omega) ⟨rfl, rfl⟩
    (fun n x h => pk_le 7 7 (fun _ => by rw [h.1]; exact H) (fun z => absurd z (by omega)))
    (fun n i x hi h hw => pk_le 7 i (fun z => absurd z (by omega)) (fun _ => ek_if (bf_if (by omega) (by omega))
      (fun t => nm_e (nm_e (nm_r (nI_1 i) (hw (_, _) ⟨by
        show x.1 ||| _ = _
        rw [h.1, h.2]
        exact bf_pk_s hm hi t, by
        show x.2 + 1 = nI (bf_cn s i + s / 2 ^ i % 2)
        rw [h.2, nI_1, bf_t1 t]⟩))))
      (fun t => nm_r (nI_1 i) (hw x ⟨by
        rw [h.1]
        exact congrArg nI (if_neg t).symm, by
        rw [h.2]
        show _ = nI (bf_cn s i + s / 2 ^ i % 2)
        rw [bf_t0 t]
        rfl⟩))))
theorem bf_ix (v r b : Nat) : ((16 * nI v) + (2 * nI r)) + nI b = nI (16 * v + 2 * r + b) := by
  show ((nI 16 * nI v) + (nI 2 * nI r)) + nI b = _
  rw [pk_mul, pk_mul, nI_add, nI_add]
theorem bf_entryFor {post : Int32 → Prop} {n : Nat} {Pa E : Nat → Nat} {f0 f1 f2 : Int32} {a1 a2 a3 a4 a5 a7 : Nat → Int32} {a6 : Nat → Int64} {v m : Nat} (hS : bf_S n Pa E a1 a2) (hv : v < 7) (hm : m < 128) (H : post (nI (bf_en Pa E v m.testBit))) : wpX_entryFor post (f0, f1, f2, a1, a2, a3, a4, a5, a6, a7) (nI v) (nI m) := by
  refine ⟨pk_in v 7 hv, ?_⟩
  rw [nI_clamp (show v < 2 ^ 31 by omega), hS.2.1 v hv]
  refine bf_packed hm (bf_Pa hS.1 hv) ?_
  have hx := bf_en_ix hS.1 hv m.testBit
  rw [bf_bitT (show m < 2 ^ 31 by omega) (show v < 32 by omega), bf_ix]
  refine ⟨pk_in _ 112 hx, ?_⟩
  rw [nI_clamp (show 16 * v + 2 * bf_P m.testBit (Pa v) + (m.testBit v).toNat < 2 ^ 31 by omega), hS.2.2 _ hx]
  exact H
theorem bf_weightOf {post : Int32 → Prop} {n : Nat} {Pa E : Nat → Nat} {f1 f2 : Int32} {a1 a2 a3 a4 a5 a7 : Nat → Int32} {a6 : Nat → Int64} {m : Nat} (hS : bf_S n Pa E a1 a2) (hm : m < 128) (H : post (nI (bf_W n Pa E m.testBit))) : wpX_weightOf post (nI n, f1, f2, a1, a2, a3, a4, a5, a6, a7) (nI m) := by
  have hn := hS.1.2.1
  exact pk_loop (fun k i (x : Int32) => wX_weightOf_4 post (nI m) (nI n) f1 f2 a1 a2 a3 a4 a5 a6 a7 k x (nI i)) (fun i x => x = nI (bf_pr (fun _ => true) (fun v => bf_en Pa E v m.testBit) i)) n 0 1 (Nat.zero_le n) rfl
    (fun k x h => pk_le n n (fun _ => by rw [h]; exact H) (fun z => absurd z (by omega)))
    (fun k i x hi h hw => pk_le n i (fun z => absurd z (by omega)) (fun _ => bf_entryFor hS (by omega) hm (nm_e (nm_r (nI_1 i) (hw _ (by
      rw [h, pk_mul, bf_pr_t (c := fun _ => true) _ rfl]))))))
theorem bf_weight {post : Int32 → Prop} {n : Nat} {Pa E : Nat → Nat} {f1 f2 : Int32} {a1 a2 a3 a4 a5 a7 : Nat → Int32} {a6 : Nat → Int64} {m : Nat} (hS : bf_S n Pa E a1 a2) (hm : m < 2 ^ n) (H : post (nI (bf_W n Pa E m.testBit))) : wpX_weight post (nI n, f1, f2, a1, a2, a3, a4, a5, a6, a7) (nI m) := by
  have hn := hS.1.2.1
  have h7 := bf_pw hn
  refine br_f (nI_pos (by omega)) (br_t ?_ (bf_weightOf hS (by omega) H))
  rw [bf_one n (by omega)]
  exact nI_lt hm (by omega)
theorem bf_good {post : Int32 → Prop} {n v : Nat} {f1 f2 : Int32} {a1 a2 a3 a4 a5 a7 : Nat → Int32} {a6 : Nat → Int64} (hv : v < n) (hn : n ≤ 7) (H : post 1) : wpX_isGood post (nI n, f1, f2, a1, a2, a3, a4, a5, a6, a7) (nI v) :=
  br_f (nI_pos (by omega)) (br_f (nI_ge hv (by omega)) H)
theorem bf_takeSeen {post : St2 → Prop} {n : Nat} {f1 f2 : Int32} {a1 a2 a3 a4 a5 a7 : Nat → Int32} {a6 : Nat → Int64} (hn : n ≤ 7) (H : ∀ b4 : Nat → Int32, (∀ j, j < n → b4 j = a3 j) → post (nI n, f1, f2, a1, a2, a3, b4, a5, a6, a7)) : wpX_takeSeen post (nI n, f1, f2, a1, a2, a3, a4, a5, a6, a7) :=
  pk_loop (fun k i (s : Nat → Int32) => wX_takeSeen_2 post (nI n) f1 f2 k (nI i) a1 a2 a3 s a5 a6 a7) (fun i s => ∀ j, j < i → s j = a3 j) n 0 a4 (Nat.zero_le n) (fun j hj => absurd hj (by omega))
    (fun k s h => pk_le n n (fun _ => H s h) (fun z => absurd z (by omega)))
    (fun k i s hi h hw => pk_le n i (fun z => absurd z (by omega)) (fun _ => ⟨pk_in i 7 (by omega), pk_in i 7 (by omega), nm_e (nm_r (nI_1 i) (hw _ (bf_fill (nI_clamp (by omega)) h (by rw [nI_clamp (by omega)]))))⟩))
theorem bf_fix {post : Int32 → St2 → Prop} {v b x : Nat} {f0 f1 f2 : Int32} {a1 a2 a3 a4 a5 a7 : Nat → Int32} {a6 : Nat → Int64} (hv : v < 7) (hb : b < 2) (hX : a4 v = nI x) (hX2 : x ≤ 2)
    (H0 : x = 1 - b → post 0 (f0, f1, f2, a1, a2, a3, a4, a5, a6, a7)) (H1 : x ≠ 1 - b → post 1 (f0, f1, f2, a1, a2, a3, upd a4 v (nI b), a5, a6, a7)) : wpX_fix post (f0, f1, f2, a1, a2, a3, a4, a5, a6, a7) (nI v) (nI b) := by
  refine ⟨pk_in v 7 hv, ?_⟩
  rw [nI_clamp (show v < 2 ^ 31 by omega), hX]
  exact pk_eq x (1 - b) H0 (fun z => ⟨pk_in v 7 hv, nm_e (H1 z)⟩) rfl (pk_sub (a := 1) (by omega))
end
section
/-! ===== the factors' tables ===== -/
def bf_T (m : Nat) (sc : Nat → Nat) (us : Nat → Bool) (ph : Nat → (Nat → Bool) → Nat) (a5 : Nat → Int32) (a6 : Nat → Int64) (a7 : Nat → Int32) : Prop :=
  ∀ f, f < m → a5 f = nI (sc f) ∧ sc f < 128 ∧ a7 f = nI (us f).toNat ∧ bf_dp (sc f).testBit (ph f) ∧ ∀ j, j < 128 → a6 (128 * f + bf_P j.testBit (sc f)) = lN (ph f j.testBit)
theorem bf_T_6 {m : Nat} {sc : Nat → Nat} {us : Nat → Bool} {ph : Nat → (Nat → Bool) → Nat} {a5 : Nat → Int32} {a6 b6 : Nat → Int64} {a7 : Nat → Int32} (h : bf_T m sc us ph a5 a6 a7) (hb : ∀ j, j < 128 * m → b6 j = a6 j) : bf_T m sc us ph a5 b6 a7 := by
  intro f hf
  obtain ⟨h1, h2, h3, h4, h5⟩ := h f hf
  refine ⟨h1, h2, h3, h4, fun j hj => ?_⟩
  have := bf_P_lt j.testBit (sc f)
  rw [hb _ (by omega)]
  exact h5 j hj
theorem bf_us0 {b : Bool} {A B : Prop} (f : b = false → A) (g : b = true → B) : (nI b.toNat = 0 → A) ∧ (¬ nI b.toNat = 0 → B) := by
  cases b
  · exact ⟨fun _ => f rfl, fun z => absurd rfl z⟩
  · exact ⟨fun z => absurd z (by decide), fun _ => g rfl⟩
/-- the subsets of sc up to the i-th have been stored at block m -/
def bf_J (m sc : Nat) (ph : (Nat → Bool) → Nat) (a6 : Nat → Int64) (i : Nat) (s : Nat × (Nat → Int64)) : Prop :=
  s.1 < 128 ∧ s.1 &&& sc = s.1 ∧ bf_P s.1.testBit sc = i ∧ (∀ j, j < 128 * m → s.2 j = a6 j) ∧ ∀ t, t < 128 → bf_P t.testBit sc < i → s.2 (128 * m + bf_P t.testBit sc) = lN (ph t.testBit)
theorem bf_J_0 {m sc : Nat} {ph : (Nat → Bool) → Nat} {a6 : Nat → Int64} : bf_J m sc ph a6 0 (0, a6) :=
  ⟨Nat.zero_lt_succ _, Nat.zero_and _, bf_P_0 sc, fun _ _ => rfl, fun _ _ h => absurd h (by omega)⟩
theorem bf_J_w {m sc i : Nat} {ph : (Nat → Bool) → Nat} {a6 : Nat → Int64} {s : Nat × (Nat → Int64)} (hdp : bf_dp sc.testBit ph) (h : bf_J m sc ph a6 i s) :
    (∀ j, j < 128 * m → vp_updL s.2 (128 * m + i) (lN (ph s.1.testBit)) j = a6 j) ∧ ∀ t, t < 128 → bf_P t.testBit sc < i + 1 → vp_updL s.2 (128 * m + i) (lN (ph s.1.testBit)) (128 * m + bf_P t.testBit sc) = lN (ph t.testBit) := by
  obtain ⟨h1, h2, h3, h4, h5⟩ := h
  constructor
  · intro j hj
    rw [pk_uLn (by omega)]
    exact h4 j hj
  · intro t ht hp
    by_cases e : bf_P t.testBit sc = i
    · rw [e, pk_uLs]
      refine congrArg lN (hdp _ _ (fun j hj => ?_))
      rcases Nat.lt_or_ge j 7 with z | z
      · exact bf_pk_inj 7 (h3.trans e.symm) j z hj
      · rw [bf_hi h1 z, bf_hi ht z]
    · rw [pk_uLn (by omega)]
      exact h5 t ht (by omega)
theorem bf_J_n {m sc i : Nat} {ph : (Nat → Bool) → Nat} {a6 : Nat → Int64} {s : Nat × (Nat → Int64)} (hs : sc < 128) (hdp : bf_dp sc.testBit ph) (h : bf_J m sc ph a6 i s) (hne : s.1 ≠ sc) :
    bf_J m sc ph a6 (i + 1) (bf_nx s.1 sc, vp_updL s.2 (128 * m + i) (lN (ph s.1.testBit))) := by
  have w := bf_J_w hdp h
  refine ⟨bf_nx_lt hs, bf_nx_sub _ _, ?_, w.1, w.2⟩
  have q := bf_nx_ok sc hs s.1 h.1 h.2.1 hne
  rw [h.2.2.1] at q
  exact q
theorem bf_J_e {m sc i : Nat} {ph : (Nat → Bool) → Nat} {a6 : Nat → Int64} {s : Nat × (Nat → Int64)} (hdp : bf_dp sc.testBit ph) (h : bf_J m sc ph a6 i s) (he : s.1 = sc) :
    ∀ t, t < 128 → vp_updL s.2 (128 * m + i) (lN (ph s.1.testBit)) (128 * m + bf_P t.testBit sc) = lN (ph t.testBit) := by
  intro t ht
  refine (bf_J_w hdp h).2 t ht ?_
  have q : bf_P t.testBit sc ≤ bf_P sc.testBit sc := bf_pk_top t.testBit sc 7
  have e := h.2.2.1
  rw [he] at e
  omega
theorem bf_J_x {m sc : Nat} {ph : (Nat → Bool) → Nat} {a6 : Nat → Int64} {s : Nat × (Nat → Int64)} {Q : Prop} (h : bf_J m sc ph a6 128 s) : Q := by
  have q := bf_P_lt s.1.testBit sc
  have e := h.2.2.1
  omega
theorem bf_ix2 (m i : Nat) : (128 * nI m) + nI i = nI (128 * m + i) := by
  show (nI 128 * nI m) + nI i = _
  rw [pk_mul, nI_add]
theorem bf_ix3 (m : Nat) : (128 * nI m) = nI (128 * m) := by
  show (nI 128 * nI m) = _
  rw [pk_mul]
def bf_gI : Bool → Int32
  | true => 1
  | false => 0
section
variable {f0 f1 f2 : Int32} {a1 a2 a3 a4 a5 a7 : Nat → Int32} {a6 : Nat → Int64} {n : Nat} {Pa E X : Nat → Nat} {m v : Nat} {sc : Nat → Nat} {us : Nat → Bool} {ph : Nat → (Nat → Bool) → Nat}
theorem bf_makeTable {post : St2 → Prop} (hS : bf_S n Pa E a1 a2) (hm : m < 15) (hv : v < n)
    (H : ∀ b6 : Nat → Int64, (∀ j, j < 128 * m → b6 j = a6 j) → (∀ t, t < 128 → b6 (128 * m + bf_P t.testBit (bf_s0 Pa (bf_oo X n) v)) = lN (bf_p0 Pa E X v t.testBit)) → post (nI n, nI (m + 1), f2, a1, a2, a3, a4, upd a5 m (nI (bf_s0 Pa (bf_oo X n) v)), b6, upd a7 m 1)) :
    wpX_makeTable post (nI n, nI m, f2, a1, a2, a3, a4, a5, a6, a7) (nI v) (nI (bf_oo X n)) (nI (bf_ss X n)) := by
  have hn := hS.1.2.1
  have h7 := bf_pw hn
  have ho : bf_oo X n < 128 := Nat.lt_of_lt_of_le (bf_mk_lt _ n) h7
  have hss : bf_ss X n < 128 := Nat.lt_of_lt_of_le (bf_mk_lt _ n) h7
  have hsc : bf_s0 Pa (bf_oo X n) v < 128 := Nat.lt_of_le_of_lt Nat.and_le_right ho
  have hdp := bf_p0_dp X hS.1 hv
  refine ⟨pk_in v 7 (by omega), ?_⟩
  rw [nI_clamp (show v < 2 ^ 31 by omega), nI_clamp (show m < 2 ^ 31 by omega), hS.2.1 v (by omega), bf_one v (by omega), bf_or, bf_and]
  refine nm_r (e' := nI (bf_s0 Pa (bf_oo X n) v)) rfl ⟨pk_in m 15 hm, nm_e ⟨pk_in m 15 hm, nm_e ?_⟩⟩
  refine pk_loop (fun k i (s : Nat × (Nat → Int64)) => wX_makeTable_41 post (nI v) (nI (bf_ss X n)) (nI (bf_s0 Pa (bf_oo X n) v)) (nI n) (nI m) f2 k (nI s.1) (nI i) a1 a2 a3 a4 (upd a5 m (nI (bf_s0 Pa (bf_oo X n) v))) s.2 (upd a7 m 1)) (bf_J m (bf_s0 Pa (bf_oo X n) v) (bf_p0 Pa E X v) a6) 128 0 (0, a6) (by omega) bf_J_0 (fun k s h => bf_J_x h) ?_
  intro k i s hi h hw
  refine pk_le 128 i (fun z => absurd z (by omega)) (fun _ => bf_packed h.1 hsc ?_)
  rw [h.2.2.1, bf_or]
  refine bf_entryFor hS (by omega) (Nat.or_lt_two_pow (n := 7) h.1 hss) ?_
  rw [bf_p0_at X hS.1 hv h.2.1, bf_ix2, nI_clamp (show 128 * m + i < 2 ^ 31 by omega), nI_l (show bf_p0 Pa E X v s.1.testBit < 2 ^ 31 from Nat.lt_of_le_of_lt (bf_en_le hS.1 (by omega) _) (by omega))]
  refine ⟨pk_in (128 * m + i) 1920 (by omega), nm_e ?_⟩
  have hs1 := h.1
  exact pk_eq s.1 (bf_s0 Pa (bf_oo X n) v) (fun e => nm_r (nI_1 m) (H _ (bf_J_w hdp h).1 (bf_J_e hdp h e))) (fun e => nm_r (bf_nxI h.1 hsc) (nm_r (nI_1 i) (hw (_, _) (bf_J_n hsc hdp h e))))
theorem bf_jointScope {post : Int32 → Prop} (hT : bf_T m sc us ph a5 a6 a7) (hm : m ≤ 15) (hv : v < 7) (H : post (nI (bf_js (bf_cc sc us v) sc m))) : wpX_jointScope post (f0, nI m, f2, a1, a2, a3, a4, a5, a6, a7) (nI v) := by
  refine pk_loop (fun k i (x : Int32) => wX_jointScope_4 post (nI v) f0 (nI m) f2 a1 a2 a3 a4 a5 a6 a7 k x (nI i)) (fun i x => x = nI (bf_js (bf_cc sc us v) sc i)) m 0 0 (Nat.zero_le m) rfl (fun k x h => pk_le m m (fun _ => by rw [h]; exact H) (fun z => absurd z (by omega))) ?_
  intro k i x hi h hw
  obtain ⟨h1, h2, h3, h4, h5⟩ := hT i hi
  refine pk_le m i (fun z => absurd z (by omega)) (fun _ => ⟨pk_in i 15 (by omega), ?_⟩)
  rw [nI_clamp (show i < 2 ^ 31 by omega), h3, h1]
  refine bf_us0 (fun e => nm_r (nI_1 i) (hw _ ?_)) (fun e => ⟨pk_in i 15 (by omega), ek_if (bf_if (by omega) (by omega)) (fun t => ⟨pk_in i 15 (by omega), nm_e (nm_r (nI_1 i) (hw _ ?_))⟩) (fun t => nm_r (nI_1 i) (hw _ ?_))⟩)
  · rw [h, bf_js_f (c := bf_cc sc us v) sc (by unfold bf_cc; rw [e, Bool.false_and]; decide)]
  · rw [h, bf_or, bf_js_t (c := bf_cc sc us v) sc (by unfold bf_cc; rw [e, t]; rfl)]
  · rw [h, bf_js_f (c := bf_cc sc us v) sc (by unfold bf_cc; rw [e, Bool.true_and]; exact t)]
theorem bf_cheapest {post : Int32 → Prop} {o : Nat} (hT : bf_T m sc us ph a5 a6 a7) (hm : m ≤ 15) (hn : n ≤ 7) (ho : o < 2 ^ n) (h0 : o ≠ 0) (H : ∀ b, b < n → o.testBit b = true → post (nI b)) : wpX_cheapest post (nI n, nI m, f2, a1, a2, a3, a4, a5, a6, a7) (nI o) := by
  have h7 := bf_pw hn
  refine pk_loop (fun k i (x : Int32 × Int32) => wX_cheapest_7 post (nI o) (nI n) (nI m) f2 a1 a2 a3 a4 a5 a6 a7 k x.1 x.2 (nI i)) (fun i x => (x.1 = -1 ∧ ∀ j, j < i → ¬ o.testBit j = true) ∨ ∃ b, b < i ∧ x.1 = nI b ∧ o.testBit b = true) n 0 (-1, 0) (Nat.zero_le n) (Or.inl ⟨rfl, fun j hj => absurd hj (by omega)⟩) ?_ ?_
  · intro k x h
    refine pk_le n n (fun _ => ?_) (fun z => absurd z (by omega))
    rcases h with h | ⟨b, hb, e, t⟩
    · obtain ⟨w, hw, t⟩ := bf_some ho h0
      exact absurd t (h.2 w hw)
    · rw [e]
      exact H b hb t
  · intro k i x hi h hw
    refine pk_le n i (fun z => absurd z (by omega)) (fun _ => ek_if (bf_if (by omega) (by omega)) (fun t => ?_) (fun t => nm_r (nI_1 i) (hw x ?_)))
    · refine bf_jointScope hT hm (by omega) (bf_ones (bf_js_lt m (fun f hf => (hT f hf).2.1)) ?_)
      have new : ∀ y : Int32, ((nI i, y) : Int32 × Int32).1 = -1 ∧ (∀ j, j < i + 1 → ¬ o.testBit j = true) ∨ ∃ b, b < i + 1 ∧ ((nI i, y) : Int32 × Int32).1 = nI b ∧ o.testBit b = true := fun y => Or.inr ⟨i, by omega, rfl, t⟩
      rcases h with h | ⟨b, hb, e, tb⟩
      · exact br_t (by rw [h.1]; decide) (nm_r (nI_1 i) (hw (nI i, _) (new _)))
      · exact br_f (by rw [e]; exact nI_pos (by omega)) (br_c (fun _ => nm_r (nI_1 i) (hw x (Or.inr ⟨b, by omega, e, tb⟩))) (fun _ => nm_r (nI_1 i) (hw (nI i, _) (new _))))
    · rcases h with h | ⟨b, hb, e, tb⟩
      · refine Or.inl ⟨h.1, fun j hj => ?_⟩
        by_cases ej : j = i
        · rw [ej]
          exact t
        · exact h.2 j (by omega)
      · exact Or.inr ⟨b, by omega, e, tb⟩
theorem bf_joined {post : Int64 → Prop} {j : Nat} (hT : bf_T m sc us ph a5 a6 a7) (hm : m ≤ 15) (hv : v < 7) (hj : j < 128) (H : post (lN (bf_jn sc us ph m v j.testBit))) : wpX_joined post (f0, nI m, f2, a1, a2, a3, a4, a5, a6, a7) (nI v) (nI j) := by
  refine pk_loop (fun k i (x : Int64) => wX_joined_5 post (nI v) (nI j) f0 (nI m) f2 a1 a2 a3 a4 a5 a6 a7 k x (nI i)) (fun i x => x = lN (bf_pr (bf_cc sc us v) (fun f => ph f j.testBit) i)) m 0 1 (Nat.zero_le m) rfl (fun k x h => pk_le m m (fun _ => by rw [h]; exact H) (fun z => absurd z (by omega))) ?_
  intro k i x hi h hw
  obtain ⟨h1, h2, h3, h4, h5⟩ := hT i hi
  refine pk_le m i (fun z => absurd z (by omega)) (fun _ => ⟨pk_in i 15 (by omega), ?_⟩)
  rw [nI_clamp (show i < 2 ^ 31 by omega), h3, h1]
  refine bf_us0 (fun e => nm_r (nI_1 i) (hw _ ?_)) (fun e => ⟨pk_in i 15 (by omega), ek_if (bf_if (by omega) (by omega)) (fun t => ⟨pk_in i 15 (by omega), bf_packed hj h2 ?_⟩) (fun t => nm_r (nI_1 i) (hw _ ?_))⟩)
  · rw [h, bf_pr_f (c := bf_cc sc us v) _ (by unfold bf_cc; rw [e, Bool.false_and]; decide)]
  · have hp := bf_P_lt j.testBit (sc i)
    rw [bf_ix2, nI_clamp (show 128 * i + bf_P j.testBit (sc i) < 2 ^ 31 by omega), h5 j hj]
    refine ⟨pk_in (128 * i + bf_P j.testBit (sc i)) 1920 (by omega), nm_e (nm_r (nI_1 i) (hw _ ?_))⟩
    rw [h, lN_mul, bf_pr_t (c := bf_cc sc us v) _ (by unfold bf_cc; rw [e, t]; rfl)]
  · rw [h, bf_pr_f (c := bf_cc sc us v) _ (by unfold bf_cc; rw [e, Bool.true_and]; exact t)]
theorem bf_131 {post : St2 → Prop} {s : Nat} (hT : bf_T m sc us ph a5 a6 a7) (hm : m < 15) (hv : v < 7)
    (H : ∀ b7 : Nat → Int32, (∀ f, f < m → b7 f = nI (us f && !(sc f).testBit v).toNat) → post (f0, nI (m + 1), f2, a1, a2, a3, a4, upd a5 m (nI s), a6, upd b7 m 1)) :
    ∃ k, wX_takeOut_131 post (nI v) (nI s) f0 (nI m) f2 k 0 a1 a2 a3 a4 a5 a6 a7 := by
  refine pk_loop (fun k i (b : Nat → Int32) => wX_takeOut_131 post (nI v) (nI s) f0 (nI m) f2 k (nI i) a1 a2 a3 a4 a5 a6 b) (fun i b => (∀ f, f < i → b f = nI (us f && !(sc f).testBit v).toNat) ∧ ∀ f, i ≤ f → f < m → b f = nI (us f).toNat) m 0 a7 (Nat.zero_le m) ⟨fun f hf => absurd hf (by omega), fun f _ hf => (hT f hf).2.2.1⟩ ?_ ?_
  · intro k b h
    refine pk_le m m (fun _ => ⟨pk_in m 15 hm, ?_⟩) (fun z => absurd z (by omega))
    rw [nI_clamp (show m < 2 ^ 31 by omega)]
    exact nm_e ⟨pk_in m 15 hm, nm_e (nm_r (nI_1 m) (H b h.1))⟩
  · intro k i b hi h hw
    obtain ⟨h1, h2, h3, h4, h5⟩ := hT i hi
    refine pk_le m i (fun z => absurd z (by omega)) (fun _ => ⟨pk_in i 15 (by omega), ?_⟩)
    rw [nI_clamp (show i < 2 ^ 31 by omega), h1]
    refine ek_if (bf_if (by omega) (by omega)) (fun t => ⟨pk_in i 15 (by omega), nm_e (nm_r (nI_1 i) (hw _ ⟨fun f hf => ?_, fun f hf hf2 => ?_⟩))⟩) (fun t => nm_r (nI_1 i) (hw _ ⟨fun f hf => ?_, fun f hf hf2 => h.2 f (by omega) hf2⟩))
    · by_cases e : f = i
      · rw [e, pk_us, t, Bool.not_true, Bool.and_false]
        rfl
      · rw [pk_un e]
        exact h.1 f (by omega)
    · rw [pk_un (by omega)]
      exact h.2 f (by omega) hf2
    · by_cases e : f = i
      · rw [e, h.2 i (Nat.le_refl i) hi, Bool.eq_false_iff.mpr t, Bool.not_false, Bool.and_true]
      · exact h.1 f (by omega)
theorem bf_140 {post : Int64 → St2 → Prop} (hT : bf_T m sc us ph a5 a6 a7) (hm : m ≤ 15) (H : post (lN (bf_pr us (fun f => ph f (fun _ => false)) m)) (f0, nI m, f2, a1, a2, a3, a4, a5, a6, a7)) : ∃ k, wX_solve_140 post f0 (nI m) f2 a1 a2 a3 a4 a5 a6 a7 k 1 0 := by
  refine pk_loop (fun k i (x : Int64) => wX_solve_140 post f0 (nI m) f2 a1 a2 a3 a4 a5 a6 a7 k x (nI i)) (fun i x => x = lN (bf_pr us (fun f => ph f (fun _ => false)) i)) m 0 1 (Nat.zero_le m) rfl (fun k x h => pk_le m m (fun _ => by rw [h]; exact H) (fun z => absurd z (by omega))) ?_
  intro k i x hi h hw
  obtain ⟨h1, h2, h3, h4, h5⟩ := hT i hi
  refine pk_le m i (fun z => absurd z (by omega)) (fun _ => ⟨pk_in i 15 (by omega), ?_⟩)
  have z0 : (0 : Nat).testBit = fun _ => false := funext Nat.zero_testBit
  have q := h5 0 (by omega)
  rw [bf_P_0, z0, Nat.add_zero] at q
  rw [nI_clamp (show i < 2 ^ 31 by omega), h3, bf_ix3, nI_clamp (show 128 * i < 2 ^ 31 by omega), q]
  refine bf_us0 (fun e => nm_r (nI_1 i) (hw _ ?_)) (fun e => ⟨pk_in (128 * i) 1920 (by omega), nm_e (nm_r (nI_1 i) (hw _ ?_))⟩)
  · rw [h, bf_pr_f _ (by rw [e]; decide)]
  · rw [h, lN_mul, bf_pr_t _ e]
end
end
section
/-! ===== one variable taken out; solve ===== -/
section
variable {f0 f1 f2 : Int32} {a1 a2 a3 a4 a5 a7 : Nat → Int32} {a6 : Nat → Int64} {n : Nat} {Pa E X : Nat → Nat} {m v : Nat} {sc : Nat → Nat} {us : Nat → Bool} {ph : Nat → (Nat → Bool) → Nat}
theorem bf_ps_dp {g : Bool} (hT : bf_T m sc us ph a5 a6 a7) (hv : v < 7) : bf_dp (bf_clr (bf_js (bf_cc sc us v) sc m) v).testBit (bf_el g v (bf_jn sc us ph m v)) := by
  have hjs : bf_js (bf_cc sc us v) sc m < 128 := bf_js_lt m (fun f hf => (hT f hf).2.1)
  have d : bf_dp (bf_js (bf_cc sc us v) sc m).testBit (bf_jn sc us ph m v) := bf_pr_dp m (fun f hf hc => bf_dp_mono (hT f hf).2.2.2.1 (fun i hi => bf_js_in m f hf hc hi))
  refine bf_dp_el d (fun i hi hne => ?_)
  rw [bf_clr_t i hjs hv, hi, decide_eq_true hne]
  rfl
theorem bf_T_new {g : Bool} {b6 : Nat → Int64} {b7 : Nat → Int32} (hT : bf_T m sc us ph a5 a6 a7) (hv : v < 7) (h6 : ∀ j, j < 128 * m → b6 j = a6 j)
    (hn : ∀ t, t < 128 → b6 (128 * m + bf_P t.testBit (bf_clr (bf_js (bf_cc sc us v) sc m) v)) = lN (bf_el g v (bf_jn sc us ph m v) t.testBit))
    (h7 : ∀ f, f < m → b7 f = nI (us f && !(sc f).testBit v).toNat) :
    bf_T (m + 1) (bf_sc sc us m v) (bf_us sc us m v) (bf_ph g sc us ph m v) (upd a5 m (nI (bf_clr (bf_js (bf_cc sc us v) sc m) v))) b6 (upd b7 m 1) := by
  intro f hf
  have hjs : bf_js (bf_cc sc us v) sc m < 128 := bf_js_lt m (fun f hf => (hT f hf).2.1)
  by_cases e : f = m
  · subst e
    have e1 : bf_sc sc us f v f = bf_clr (bf_js (bf_cc sc us v) sc f) v := bf_up_s _ _ _
    have e2 : bf_us sc us f v f = true := if_pos rfl
    have e3 : bf_ph g sc us ph f v f = bf_el g v (bf_jn sc us ph f v) := if_pos rfl
    rw [e1, e2, e3, pk_us, pk_us]
    exact ⟨rfl, bf_clr_lt hjs, rfl, bf_ps_dp hT hv, hn⟩
  · have hf' : f < m := by omega
    have e1 : bf_sc sc us m v f = sc f := bf_up_n _ _ e
    have e2 : bf_us sc us m v f = (us f && !(sc f).testBit v) := if_neg e
    have e3 : bf_ph g sc us ph m v f = ph f := if_neg e
    rw [e1, e2, e3, pk_un e, pk_un e]
    obtain ⟨q1, q2, q3, q4, q5⟩ := bf_T_6 hT h6 f hf'
    exact ⟨q1, q2, h7 f hf', q4, q5⟩
theorem bf_takeOut {post : St2 → Prop} {g : Bool} {k o goal : Nat} (hT : bf_T m sc us ph a5 a6 a7) (hI : bf_I g n m k o us ph goal) (hm : m < 15) (hv : v < 7)
    (H : ∀ (b5 : Nat → Int32) (b6 : Nat → Int64) (b7 : Nat → Int32), bf_T (m + 1) (bf_sc sc us m v) (bf_us sc us m v) (bf_ph g sc us ph m v) b5 b6 b7 → post (f0, nI (m + 1), bf_gI g, a1, a2, a3, a4, b5, b6, b7)) :
    wpX_takeOut post (f0, nI m, bf_gI g, a1, a2, a3, a4, a5, a6, a7) (nI v) := by
  have hjs : bf_js (bf_cc sc us v) sc m < 128 := bf_js_lt m (fun f hf => (hT f hf).2.1)
  have hsc : bf_clr (bf_js (bf_cc sc us v) sc m) v < 128 := bf_clr_lt hjs
  have hdp : bf_dp (bf_clr (bf_js (bf_cc sc us v) sc m) v).testBit (bf_el g v (bf_jn sc us ph m v)) := bf_ps_dp hT hv
  refine nm_r (bf_one v (by omega)) (bf_jointScope hT (by omega) hv (nm_r (bf_clrI _ hjs v hv) ?_))
  refine pk_loop (fun q i (s : Nat × (Nat → Int64)) => wX_takeOut_20 post (nI v) (nI (2 ^ v)) (nI (bf_clr (bf_js (bf_cc sc us v) sc m) v)) f0 (nI m) (bf_gI g) q (nI s.1) (nI i) a1 a2 a3 a4 a5 s.2 a7) (bf_J m (bf_clr (bf_js (bf_cc sc us v) sc m) v) (bf_el g v (bf_jn sc us ph m v)) a6) 128 0 (0, a6) (by omega) bf_J_0 (fun q s h => bf_J_x h) ?_
  intro q i s hi h hw
  have hT' : bf_T m sc us ph a5 s.2 a7 := bf_T_6 hT h.2.2.2.1
  have hs1 := h.1
  have hsv : s.1.testBit v = false := by
    rw [← h.2.1, Nat.testBit_and, bf_clr_t v hjs hv, decide_eq_false (fun z => z rfl), Bool.and_false, Bool.and_false]
  have hlt : s.1 ||| 2 ^ v < 128 := Nat.or_lt_two_pow (n := 7) hs1 (Nat.pow_lt_pow_right (by omega) hv)
  have K : wX_takeOut_79 post (wX_takeOut_20 post (nI v) (nI (2 ^ v)) (nI (bf_clr (bf_js (bf_cc sc us v) sc m) v)) f0 (nI m) (bf_gI g) q) (nI v) (nI (2 ^ v)) (nI (bf_clr (bf_js (bf_cc sc us v) sc m) v)) (nI s.1) (nI i) (lN (bf_el g v (bf_jn sc us ph m v) s.1.testBit)) f0 (nI m) (bf_gI g) a1 a2 a3 a4 a5 s.2 a7 := by
    unfold wX_takeOut_79
    refine bf_packed hs1 hsc ?_
    rw [h.2.2.1, bf_ix2, nI_clamp (show 128 * m + i < 2 ^ 31 by omega)]
    refine ⟨pk_in (128 * m + i) 1920 (by omega), nm_e ?_⟩
    refine pk_eq s.1 (bf_clr (bf_js (bf_cc sc us v) sc m) v) (fun e => ?_) (fun e => nm_r (bf_nxI hs1 hsc) (nm_r (nI_1 i) (hw (_, _) (bf_J_n hsc hdp h e))))
    have w := (bf_J_w hdp h).1
    exact bf_131 (bf_T_6 hT w) hm hv (fun b7 h7 => H _ _ _ (bf_T_new hT hv w (bf_J_e hdp h e) h7))
  refine pk_le 128 i (fun z => absurd z (by omega)) (fun _ => bf_joined hT' (by omega) hv hs1 ?_)
  rw [bf_or]
  refine bf_joined hT' (by omega) hv hlt ?_
  have e1 : bf_el g v (bf_jn sc us ph m v) s.1.testBit = bf_op g (bf_jn sc us ph m v s.1.testBit) (bf_jn sc us ph m v (s.1 ||| 2 ^ v).testBit) := by
    unfold bf_el
    rw [bf_st_f hsv, bf_st_or]
  rw [e1] at K
  have b1 := bf_jn_le (sc := sc) (v := v) hI s.1.testBit
  have b2 := bf_jn_le (sc := sc) (v := v) hI (s.1 ||| 2 ^ v).testBit
  cases g
  · rw [bf_op_s] at K
    exact nm_r (lN_add _ _) (br_t rfl K)
  · rw [bf_op_g] at K
    refine nm_e (br_f (by decide) (ek_if (pk_lLE (by omega) (by omega)) (fun z => ?_) (fun z => ?_)))
    · rw [if_pos z] at K
      exact K
    · rw [if_neg z] at K
      exact K
theorem bf_95 {post : Int64 → St2 → Prop} {g : Bool} {goal o : Nat} (hn : n ≤ 7) (hT : bf_T n sc us ph a5 a6 a7) (hI : bf_I g n n 0 o us ph goal)
    (H : ∀ (b1 : Int32) (b5 : Nat → Int32) (b6 : Nat → Int64) (b7 : Nat → Int32), post (lN goal) (nI n, b1, bf_gI g, a1, a2, a3, a4, b5, b6, b7)) :
    ∃ q, wX_solve_95 post q (nI o) 0 (nI n) (nI n) (bf_gI g) a1 a2 a3 a4 a5 a6 a7 := by
  refine pk_loop (fun q k (s : Nat × (Nat → Int32) × (Nat → Int64) × (Nat → Int32)) => wX_solve_95 post q (nI s.1) (nI k) (nI n) (nI (n + k)) (bf_gI g) a1 a2 a3 a4 s.2.1 s.2.2.1 s.2.2.2)
    (fun k s => ∃ (sc : Nat → Nat) (us : Nat → Bool) (ph : Nat → (Nat → Bool) → Nat), bf_T (n + k) sc us ph s.2.1 s.2.2.1 s.2.2.2 ∧ bf_I g n (n + k) k s.1 us ph goal) 7 0 (o, a5, a6, a7) (by omega) ⟨sc, us, ph, hT, hI⟩ ?_ ?_
  · intro q s h
    obtain ⟨sc, us, ph, hT, hI⟩ := h
    have ho : s.1 = 0 := by
      have h1 := hI.1
      have h2 := hI.2.1
      exact bf_cn_0 s.1 (Nat.lt_of_lt_of_le h1 (bf_pw hn)) (by omega)
    rw [ho] at hI
    refine pk_le 7 7 (fun _ => bf_140 hT (by omega) ?_) (fun z => absurd z (by omega))
    rw [bf_end hI]
    exact H _ _ _ _
  · intro q k s hk h hw
    obtain ⟨sc, us, ph, hT, hI⟩ := h
    have h1 := hI.1
    have h2 := bf_pw hn
    refine pk_le 7 k (fun z => absurd z (by omega)) (fun _ => pk_eq s.1 0 (fun e => ?_) (fun e => ?_))
    · rw [e] at hI
      refine bf_140 hT (by omega) ?_
      rw [bf_end hI]
      exact H _ _ _ _
    · refine bf_cheapest hT (by omega) hn h1 e (fun b hb t => bf_takeOut hT hI (by omega) (by omega) (fun b5 b6 b7 hT2 => ?_))
      rw [bf_one b (by omega)]
      exact nm_r (bf_clrI s.1 (by omega) b (by omega)) (nm_r (nI_1 k) (hw (_, _, _, _) ⟨_, _, _, hT2, bf_step hn hI hb t (fun f hf => (hT f hf).2.2.2.1)⟩))
theorem bf_T_tab {v : Nat} {b6 : Nat → Int64} {p0 : Nat → (Nat → Bool) → Nat} {s0 : Nat → Nat} (hT : bf_T v s0 (fun _ => true) p0 a5 a6 a7) (h6 : ∀ j, j < 128 * v → b6 j = a6 j) (hs : s0 v < 128) (hdp : bf_dp (s0 v).testBit (p0 v))
    (hn : ∀ t, t < 128 → b6 (128 * v + bf_P t.testBit (s0 v)) = lN (p0 v t.testBit)) : bf_T (v + 1) s0 (fun _ => true) p0 (upd a5 v (nI (s0 v))) b6 (upd a7 v 1) := by
  intro f hf
  by_cases e : f = v
  · subst e
    rw [pk_us, pk_us]
    exact ⟨rfl, hs, rfl, hdp, hn⟩
  · rw [pk_un e, pk_un e]
    exact bf_T_6 hT h6 f (by omega)
theorem bf_69 {post : Int64 → St2 → Prop} {g : Bool} (hS : bf_S n Pa E a1 a2)
    (H : ∀ (b1 : Int32) (b5 : Nat → Int32) (b6 : Nat → Int64) (b7 : Nat → Int32), post (lN (bf_vl g n Pa E X)) (nI n, b1, bf_gI g, a1, a2, a3, a4, b5, b6, b7)) :
    ∃ q, wX_solve_69 post (nI (bf_oo X n)) (nI (bf_ss X n)) q 0 (nI n) 0 (bf_gI g) a1 a2 a3 a4 a5 a6 a7 := by
  have hn := hS.1.2.1
  have ho : bf_oo X n < 128 := Nat.lt_of_lt_of_le (bf_mk_lt _ n) (bf_pw hn)
  refine pk_loop (fun q i (s : (Nat → Int32) × (Nat → Int64) × (Nat → Int32)) => wX_solve_69 post (nI (bf_oo X n)) (nI (bf_ss X n)) q (nI i) (nI n) (nI i) (bf_gI g) a1 a2 a3 a4 s.1 s.2.1 s.2.2)
    (fun i s => bf_T i (bf_s0 Pa (bf_oo X n)) (fun _ => true) (bf_p0 Pa E X) s.1 s.2.1 s.2.2) n 0 (a5, a6, a7) (Nat.zero_le n) (fun f hf => absurd hf (by omega)) ?_ ?_
  · intro q s h
    exact pk_le n n (fun _ => bf_95 hn h (bf_start g X hS.1) H) (fun z => absurd z (by omega))
  · intro q i s hi h hw
    refine pk_le n i (fun z => absurd z (by omega)) (fun _ => bf_makeTable hS (by omega) hi (fun b6 h6 hb => nm_r (nI_1 i) (hw (_, _, _) ?_)))
    exact bf_T_tab h h6 (Nat.lt_of_le_of_lt Nat.and_le_right ho) (bf_p0_dp X hS.1 hi) hb
theorem bf_solve {post : Int64 → St2 → Prop} (g : Bool) (X : Nat → Nat) (hS : bf_S n Pa E a1 a2) (hX : ∀ w, w < n → a4 w = nI (X w) ∧ X w ≤ 2)
    (H : ∀ (b1 : Int32) (b5 : Nat → Int32) (b6 : Nat → Int64) (b7 : Nat → Int32), post (lN (bf_vl g n Pa E X)) (nI n, b1, bf_gI g, a1, a2, a3, a4, b5, b6, b7)) :
    wpX_solve post (nI n, f1, f2, a1, a2, a3, a4, a5, a6, a7) (bf_gI g) := by
  have hn := hS.1.2.1
  refine ⟨by cases g <;> rfl, by cases g <;> rfl, ?_⟩
  refine pk_loop (fun q i (s : Int32 × Int32) => wX_solve_12 post (nI n) f1 (bf_gI g) a1 a2 a3 a4 a5 a6 a7 q s.1 s.2 (nI i)) (fun i s => s.1 = nI (bf_oo X i) ∧ s.2 = nI (bf_ss X i)) n 0 (0, 0) (Nat.zero_le n) ⟨rfl, rfl⟩ ?_ ?_
  · intro q s h
    refine pk_le n n (fun _ => ?_) (fun z => absurd z (by omega))
    rw [h.1, h.2]
    exact bf_69 hS H
  · intro q i s hi h hw
    obtain ⟨x1, x2⟩ := hX i hi
    refine pk_le n i (fun z => absurd z (by omega)) (fun _ => ⟨pk_in i 7 (by omega), ?_⟩)
    rw [nI_clamp (show i < 2 ^ 31 by omega), x1]
    refine pk_eq (X i) 2 (fun e => ?_) (fun e => ⟨pk_in i 7 (by omega), ?_⟩)
    · rw [bf_one i (by omega)]
      refine nm_e (nm_r (nI_1 i) (hw (_, _) ⟨?_, ?_⟩))
      · show s.1 ||| nI (2 ^ i) = _
        rw [h.1, bf_or]
        exact congrArg nI (if_pos (decide_eq_true e)).symm
      · show s.2 = _
        rw [h.2]
        exact congrArg nI (if_neg (fun z => absurd (of_decide_eq_true z) (by omega))).symm
    · refine nm_e (nm_r (nI_1 i) (hw (s.1, s.2 ||| (nI (X i) <<< (nI i &&& 31))) ⟨?_, ?_⟩))
      · show s.1 = _
        rw [h.1]
        exact congrArg nI (if_neg (fun z => absurd (of_decide_eq_true z) e)).symm
      · show s.2 ||| (nI (X i) <<< (nI i &&& 31)) = _
        rw [h.2, bf_shl i (by omega) (X i) (by omega), bf_or]
        by_cases e1 : X i = 1
        · rw [e1, Nat.one_mul]
          exact congrArg nI (if_pos (decide_eq_true e1)).symm
        · have e0 : X i = 0 := by omega
          rw [e0, Nat.zero_mul, Nat.or_zero]
          exact congrArg nI (if_neg (fun z => absurd (of_decide_eq_true z) e1)).symm
end
end
section
/-! ===== the queries: totals, best, bestNumber ===== -/
def bf_Sn (Sn : Nat → Nat) (a3 : Nat → Int32) : Prop := ∀ v, v < 7 → a3 v = nI (Sn v) ∧ Sn v ≤ 2
def bf_Any (n : Nat) (a1 a2 a3 : Nat → Int32) (Q : St2 → Prop) : Prop := ∀ (b1 b2 : Int32) (b4 b5 : Nat → Int32) (b6 : Nat → Int64) (b7 : Nat → Int32), Q (nI n, b1, b2, a1, a2, a3, b4, b5, b6, b7)
theorem bf_fx {n v b : Nat} {X : Nat → Nat} {a4 : Nat → Int32} (h : ∀ w, w < n → a4 w = nI (X w) ∧ X w ≤ 2) (hb : b < 2) : ∀ w, w < n → upd a4 v (nI b) w = nI (bf_up X v b w) ∧ bf_up X v b w ≤ 2 := by
  intro w hw
  by_cases e : w = v
  · rw [e, pk_us, bf_up_s]
    exact ⟨rfl, by omega⟩
  · rw [pk_un e, bf_up_n _ _ e]
    exact h w hw
def bf_tw (n : Nat) (Pa E Sn : Nat → Nat) (v b : Nat) : Nat := if Sn v = 1 - b then 0 else bf_vl false n Pa E (bf_up Sn v b)
def bf_pv (n : Nat) (Pa E Sn : Nat → Nat) (u a v b : Nat) : Nat := if Sn u = 1 - a then 0 else if bf_up Sn u a v = 1 - b then 0 else bf_vl false n Pa E (bf_up (bf_up Sn u a) v b)
theorem bf_tw_sum {n : Nat} (Pa E : Nat → Nat) {Sn : Nat → Nat} {v : Nat} (hv : v < n) (h : Sn v ≤ 2) : bf_vl false n Pa E Sn = bf_tw n Pa E Sn v 0 + bf_tw n Pa E Sn v 1 := by
  unfold bf_tw
  by_cases h2 : Sn v = 2
  · rw [if_neg (by omega), if_neg (by omega), bf_split false Pa E hv h2, bf_op_s]
  · by_cases h1 : Sn v = 1
    · rw [if_pos h1, if_neg (by omega), bf_up_id h1, Nat.zero_add]
    · have h0 : Sn v = 0 := by omega
      rw [if_neg (by omega), if_pos h0, bf_up_id h0, Nat.add_zero]
theorem bf_pv_sym {n : Nat} (Pa E Sn : Nat → Nat) {u a v b : Nat} (ha : a < 2) (hb : b < 2) : bf_pv n Pa E Sn u a v b = bf_pv n Pa E Sn v b u a := by
  unfold bf_pv
  by_cases e : u = v
  · subst e
    rw [bf_up_s, bf_up_s]
    by_cases h : a = b
    · rw [h]
    · rw [if_pos (show a = 1 - b by omega), if_pos (show b = 1 - a by omega)]
      simp
  · rw [bf_up_n Sn a (fun z => e z.symm), bf_up_n Sn b e, bf_up_c Sn a b e]
    by_cases h1 : Sn u = 1 - a
    · rw [if_pos h1, if_pos h1]
      simp
    · rw [if_neg h1, if_neg h1]
section
variable {f1 f2 : Int32} {a1 a2 a3 a4 a5 a7 : Nat → Int32} {a6 : Nat → Int64} {n : Nat} {Pa E Sn : Nat → Nat} {u v : Nat}
theorem bf_total {post : Int64 → St2 → Prop} (hS : bf_S n Pa E a1 a2) (hs : bf_Sn Sn a3) (H : bf_Any n a1 a2 a3 (post (lN (bf_vl false n Pa E Sn)))) : wpX_total post (nI n, f1, f2, a1, a2, a3, a4, a5, a6, a7) := by
  have hn := hS.1.2.1
  unfold wpX_total
  refine bf_takeSeen hn (fun b4 h4 => bf_solve false Sn hS (fun w hw => ?_) (fun b1 b5 b6 b7 => H _ _ _ _ _ _))
  rw [h4 w hw]
  exact hs w (by omega)
theorem bf_best {post : Int32 → St2 → Prop} (hS : bf_S n Pa E a1 a2) (hs : bf_Sn Sn a3) (H : bf_Any n a1 a2 a3 (post (nI (bf_vl true n Pa E Sn)))) : wpX_best post (nI n, f1, f2, a1, a2, a3, a4, a5, a6, a7) := by
  have hn := hS.1.2.1
  unfold wpX_best
  refine bf_takeSeen hn (fun b4 h4 => bf_solve true Sn hS (fun w hw => ?_) (fun b1 b5 b6 b7 => ?_))
  · rw [h4 w hw]
    exact hs w (by omega)
  · show post (lN (bf_vl true n Pa E Sn)).toInt32 _
    rw [lN_i]
    exact H _ _ _ _ _ _
theorem bf_totalWith {post : Int64 → St2 → Prop} {b : Nat} (hS : bf_S n Pa E a1 a2) (hs : bf_Sn Sn a3) (hv : v < n) (hb : b < 2) (H : bf_Any n a1 a2 a3 (post (lN (bf_tw n Pa E Sn v b)))) : wpX_totalWith post (nI n, f1, f2, a1, a2, a3, a4, a5, a6, a7) (nI v) (nI b) := by
  have hn := hS.1.2.1
  have K : wX_totalWith_25 post (nI v) (nI b) (nI n) f1 f2 a1 a2 a3 a4 a5 a6 a7 := by
    unfold wX_totalWith_25
    refine bf_takeSeen hn (fun b4 h4 => ?_)
    have hX : ∀ w, w < n → b4 w = nI (Sn w) ∧ Sn w ≤ 2 := fun w hw => by
      rw [h4 w hw]
      exact hs w (by omega)
    refine bf_fix (x := Sn v) (by omega) hb (hX v hv).1 (hX v hv).2 (fun e => ?_) (fun e => ?_)
    · have e2 : bf_tw n Pa E Sn v b = 0 := if_pos e
      rw [e2] at H
      exact br_t rfl (H _ _ _ _ _ _)
    · have e2 : bf_tw n Pa E Sn v b = bf_vl false n Pa E (bf_up Sn v b) := if_neg e
      rw [e2] at H
      exact br_f (by decide) (bf_solve false (bf_up Sn v b) hS (bf_fx hX hb) (fun b1 b5 b6 b7 => H _ _ _ _ _ _))
  unfold wpX_totalWith
  refine bf_good hv hn (br_f (by decide) ?_)
  rcases (show b = 0 ∨ b = 1 by omega) with e | e
  · subst e
    exact br_t rfl K
  · subst e
    exact br_f (by decide) (br_t rfl K)
theorem bf_pairSum {post : Int64 → St2 → Prop} {a b : Nat} (hS : bf_S n Pa E a1 a2) (hs : bf_Sn Sn a3) (hu : u < n) (ha : a < 2) (hv : v < n) (hb : b < 2) (H : bf_Any n a1 a2 a3 (post (lN (bf_pv n Pa E Sn u a v b)))) : wpX_pairSum post (nI n, f1, f2, a1, a2, a3, a4, a5, a6, a7) (nI u) (nI a) (nI v) (nI b) := by
  have hn := hS.1.2.1
  unfold wpX_pairSum
  refine bf_takeSeen hn (fun b4 h4 => ?_)
  have hX : ∀ w, w < n → b4 w = nI (Sn w) ∧ Sn w ≤ 2 := fun w hw => by
    rw [h4 w hw]
    exact hs w (by omega)
  refine bf_fix (x := Sn u) (by omega) ha (hX u hu).1 (hX u hu).2 (fun e => ?_) (fun e => ?_)
  · have e2 : bf_pv n Pa E Sn u a v b = 0 := if_pos e
    rw [e2] at H
    exact br_t rfl (br_t rfl (H _ _ _ _ _ _))
  · have hX2 := bf_fx (v := u) hX ha
    refine br_f (by decide) (bf_fix (x := bf_up Sn u a v) (by omega) hb (hX2 v hv).1 (hX2 v hv).2 (fun e3 => ?_) (fun e3 => ?_))
    · have e2 : bf_pv n Pa E Sn u a v b = 0 := by
        unfold bf_pv
        rw [if_neg e, if_pos e3]
      rw [e2] at H
      exact br_t rfl (br_t rfl (H _ _ _ _ _ _))
    · have e2 : bf_pv n Pa E Sn u a v b = bf_vl false n Pa E (bf_up (bf_up Sn u a) v b) := by
        unfold bf_pv
        rw [if_neg e, if_neg e3]
      rw [e2] at H
      exact br_f (by decide) (br_f (by decide) (bf_solve false (bf_up (bf_up Sn u a) v b) hS (bf_fx hX2 hb) (fun b1 b5 b6 b7 => H _ _ _ _ _ _)))
theorem bf_totalPair {post : Int64 → St2 → Prop} {a b : Nat} (hS : bf_S n Pa E a1 a2) (hs : bf_Sn Sn a3) (hu : u < n) (ha : a < 2) (hv : v < n) (hb : b < 2) (H : bf_Any n a1 a2 a3 (post (lN (bf_pv n Pa E Sn u a v b)))) : wpX_totalPair post (nI n, f1, f2, a1, a2, a3, a4, a5, a6, a7) (nI u) (nI a) (nI v) (nI b) := by
  have hn := hS.1.2.1
  unfold wpX_totalPair
  refine bf_good hu hn (br_f (by decide) (bf_good hv hn (br_f (by decide) ?_)))
  exact br_f (nI_pos (by omega)) (br_f (nI_nlt (b := a) (a := 1) (by omega) (by omega)) (br_f (nI_pos (by omega)) (br_t (nI_le (b := 1) (by omega) (by omega)) (bf_pairSum hS hs hu ha hv hb H))))
/-! bestNumber -/
def bf_bm (X : Nat → Nat) (n i : Nat) : Nat := bf_mk (fun w => decide (i ≤ w) && decide (X w = 1)) n
theorem bf_bm_t (X : Nat → Nat) (n i w : Nat) : (bf_bm X n i).testBit w = (decide (w < n) && (decide (i ≤ w) && decide (X w = 1))) := bf_mk_t _ _ _
theorem bf_oradd : ∀ N, N < 128 → ∀ v, v < 7 → N.testBit v = false → N ||| 2 ^ v = N + 2 ^ v := by decide +kernel
theorem bf_bm_s {X X' : Nat → Nat} {n i : Nat} (hn : n ≤ 7) (hi : i < n) (h : ∀ w, w ≠ i → X' w = X w) (hx : X' i ≤ 1) : bf_bm X n (i + 1) + X' i * 2 ^ i = bf_bm X' n i := by
  have h7 := bf_pw hn
  have l1 : bf_bm X n (i + 1) < 128 := Nat.lt_of_lt_of_le (bf_mk_lt _ n) h7
  have l2 : bf_bm X' n i < 128 := Nat.lt_of_lt_of_le (bf_mk_lt _ n) h7
  have z : (bf_bm X n (i + 1)).testBit i = false := by
    rw [bf_bm_t, decide_eq_false (show ¬ i + 1 ≤ i by omega), Bool.false_and, Bool.and_false]
  have ge : ∀ w, w ≠ i → decide (i + 1 ≤ w) = decide (i ≤ w) := by
    intro w hw
    by_cases q : i ≤ w
    · rw [decide_eq_true q, decide_eq_true (by omega)]
    · rw [decide_eq_false q, decide_eq_false (by omega)]
  rcases (show X' i = 0 ∨ X' i = 1 by omega) with e | e
  · rw [e, Nat.zero_mul, Nat.add_zero]
    refine bf_ext l1 l2 (fun w hw => ?_)
    by_cases ew : w = i
    · rw [ew, z, bf_bm_t, e]
      simp
    · rw [bf_bm_t, bf_bm_t, ge w ew, h w ew]
  · rw [e, Nat.one_mul, ← bf_oradd _ l1 i (by omega) z]
    refine bf_ext (Nat.or_lt_two_pow (n := 7) l1 (Nat.pow_lt_pow_right (by omega) (by omega))) l2 (fun w hw => ?_)
    rw [Nat.testBit_or]
    by_cases ew : w = i
    · rw [ew, z, bf_bm_t, e, Nat.testBit_two_pow_self, decide_eq_true hi, decide_eq_true (Nat.le_refl i)]
      rfl
    · rw [bf_bm_t, bf_bm_t, ge w ew, h w ew, Nat.testBit_two_pow_of_ne (fun q => ew q.symm), Bool.or_false]
def bf_BI (n : Nat) (Pa E : Nat → Nat) (goal i : Nat) (x3 : Int32) (a4 : Nat → Int32) : Prop := ∃ X : Nat → Nat, (∀ w, w < n → a4 w = nI (X w) ∧ X w ≤ 2) ∧ (∀ w, i ≤ w → w < n → X w ≤ 1) ∧ bf_vl true n Pa E X = goal ∧ x3 = nI (bf_bm X n i)
theorem bf_70 {post : Int32 → St2 → Prop} {J : Int32 → Int32 → Int32 → Int32 → Int32 → (Nat → Int32) → (Nat → Int32) → (Nat → Int32) → (Nat → Int32) → (Nat → Int32) → (Nat → Int64) → (Nat → Int32) → Prop} {x1 : Int64} {x3 : Int32} {i goal : Nat} {X X' : Nat → Nat} (hn : n ≤ 7) (hi : i < n) (h : ∀ w, w ≠ i → X' w = X w) (hx : X' i ≤ 1) (h3 : x3 = nI (bf_bm X n (i + 1))) (hX : ∀ w, w < n → a4 w = nI (X' w) ∧ X' w ≤ 2) (hl : ∀ w, i + 1 ≤ w → w < n → X w ≤ 1) (hg : bf_vl true n Pa E X' = goal)
    (H : ∀ y3, bf_BI n Pa E goal i y3 a4 → J y3 (nI i + (-1)) (nI n) f1 f2 a1 a2 a3 a4 a5 a6 a7) : wX_bestNumber_70 post J x1 x3 (nI i) (nI n) f1 f2 a1 a2 a3 a4 a5 a6 a7 := by
  unfold wX_bestNumber_70
  refine ⟨pk_in i 7 (by omega), ?_⟩
  rw [nI_clamp (show i < 2 ^ 31 by omega), (hX i hi).1, bf_shl i (by omega) (X' i) (by omega), h3, nI_add, bf_bm_s hn hi h hx]
  refine nm_e (nm_e (H _ ⟨X', hX, fun w hw1 hw2 => ?_, hg, rfl⟩))
  by_cases e : w = i
  · rw [e]
    exact hx
  · rw [h w e]
    exact hl w (by omega) hw2
theorem bf_upd2 (a : Nat → Int32) (i : Nat) (x y : Int32) : upd (upd a i x) i y = upd a i y := by
  funext j
  by_cases e : j = i
  · rw [e, pk_us, pk_us]
  · rw [pk_un e, pk_un e, pk_un e]
theorem bf_20 {post : Int32 → St2 → Prop} {goal : Nat} (hS : bf_S n Pa E a1 a2) (hgl : goal ≤ 612220032) (H : ∀ X : Nat → Nat, (∀ w, w < n → X w ≤ 1) → bf_vl true n Pa E X = goal → bf_Any n a1 a2 a3 (post (nI (bf_bm X n 0)))) :
    ∀ (e : Nat) (s : Int32 × Int32 × Int32 × (Nat → Int32) × (Nat → Int32) × (Nat → Int64) × (Nat → Int32)), (e ≤ n ∧ bf_BI n Pa E goal e s.1 s.2.2.2.1) → wX_bestNumber_20 post (lN goal) (e + 1) s.1 (nI e + (-1)) (nI n) s.2.1 s.2.2.1 a1 a2 a3 s.2.2.2.1 s.2.2.2.2.1 s.2.2.2.2.2.1 s.2.2.2.2.2.2 := by
  have hn := hS.1.2.1
  refine pk_loopD (fun q i (s : Int32 × Int32 × Int32 × (Nat → Int32) × (Nat → Int32) × (Nat → Int64) × (Nat → Int32)) => wX_bestNumber_20 post (lN goal) q s.1 (nI i + (-1)) (nI n) s.2.1 s.2.2.1 a1 a2 a3 s.2.2.2.1 s.2.2.2.2.1 s.2.2.2.2.2.1 s.2.2.2.2.2.2) (fun i s => i ≤ n ∧ bf_BI n Pa E goal i s.1 s.2.2.2.1) ?_ ?_
  · intro q s h
    obtain ⟨X, h1, h2, h3, h4⟩ := h.2
    refine br_t (by decide) ?_
    rw [h4]
    exact H X (fun w hw => h2 w (by omega) hw) h3 _ _ _ _ _ _
  · intro q i s h hw
    obtain ⟨X, h1, h2, h3, h4⟩ := h.2
    have hi : i < n := by have := h.1; omega
    have hw' : ∀ (b1 b2 : Int32) (b4 b5 : Nat → Int32) (b6 : Nat → Int64) (b7 : Nat → Int32) (y3 : Int32), bf_BI n Pa E goal i y3 b4 → wX_bestNumber_20 post (lN goal) q y3 (nI i + (-1)) (nI n) b1 b2 a1 a2 a3 b4 b5 b6 b7 := fun b1 b2 b4 b5 b6 b7 y3 hb => hw (y3, b1, b2, b4, b5, b6, b7) ⟨by omega, hb⟩
    show wX_bestNumber_20 post (lN goal) (q + 1) s.1 (nI (i + 1) + (-1)) (nI n) s.2.1 s.2.2.1 a1 a2 a3 s.2.2.2.1 s.2.2.2.2.1 s.2.2.2.2.2.1 s.2.2.2.2.2.2
    rw [pk_m1]
    refine br_f (nI_pos (by omega)) ⟨pk_in i 7 (by omega), ?_⟩
    rw [nI_clamp (show i < 2 ^ 31 by omega), (h1 i hi).1]
    refine pk_eq (X i) 2 (fun e => ⟨pk_in i 7 (by omega), nm_e ?_⟩) (fun e => bf_70 hn hi (fun w _ => rfl) (by have := (h1 i hi).2; omega) h4 h1 h2 h3 (fun y3 hb => hw' _ _ _ _ _ _ _ hb)) rfl rfl (by have := (h1 i hi).2; omega)
    have l0 := bf_vl_lt hS.1 true (bf_up X i 0)
    refine bf_solve true (bf_up X i 0) hS (bf_fx (b := 0) h1 (by omega)) (fun b1 b5 b6 b7 => ?_)
    refine ek_if (pk_lEQ (by omega) (by omega)) (fun z => ?_) (fun z => ?_)
    · refine ⟨pk_in i 7 (by omega), ?_⟩
      rw [nI_clamp (show i < 2 ^ 31 by omega)]
      refine nm_r (bf_upd2 _ _ _ _) (bf_70 (X' := bf_up X i 0) hn hi (fun w hw => bf_up_n _ _ hw) (by rw [bf_up_s]; omega) h4 (bf_fx (b := 0) h1 (by omega)) h2 z (fun y3 hb => hw' _ _ _ _ _ _ _ hb))
    · refine ⟨pk_in i 7 (by omega), ?_⟩
      rw [nI_clamp (show i < 2 ^ 31 by omega)]
      refine nm_r (bf_upd2 _ _ _ _) (bf_70 (X' := bf_up X i 1) hn hi (fun w hw => bf_up_n _ _ hw) (by rw [bf_up_s]; omega) h4 (bf_fx (b := 1) h1 (by omega)) h2 ?_ (fun y3 hb => hw' _ _ _ _ _ _ _ hb))
      have sp := bf_split true Pa E hi e
      rw [h3, bf_op_g] at sp
      by_cases c : bf_vl true n Pa E (bf_up X i 0) ≤ bf_vl true n Pa E (bf_up X i 1)
      · rw [if_pos c] at sp
        exact sp.symm
      · rw [if_neg c] at sp
        exact absurd sp.symm z
theorem bf_bestNumber {post : Int32 → St2 → Prop} (hS : bf_S n Pa E a1 a2) (hs : bf_Sn Sn a3) (H : ∀ N, N < 2 ^ n → bf_W n Pa E N.testBit = bf_vl true n Pa E Sn → bf_Any n a1 a2 a3 (post (nI N))) : wpX_bestNumber post (nI n, f1, f2, a1, a2, a3, a4, a5, a6, a7) := by
  have hn := hS.1.2.1
  have h2 := hS.1.1
  unfold wpX_bestNumber
  refine bf_takeSeen hn (fun b4 h4 => ?_)
  have hX : ∀ w, w < n → b4 w = nI (Sn w) ∧ Sn w ≤ 2 := fun w hw => by
    rw [h4 w hw]
    exact hs w (by omega)
  refine bf_solve true Sn hS hX (fun b1 b5 b6 b7 => ?_)
  have e : nI n - 1 = nI n + (-1) := by
    obtain ⟨k, hk⟩ : ∃ k, n = k + 1 := ⟨n - 1, by omega⟩
    rw [hk, nI_pred, pk_m1]
  refine nm_r e ⟨n + 1, ?_⟩
  refine bf_20 hS (bf_vl_lt hS.1 true Sn) (fun X h1 h3 => H (bf_bm X n 0) (bf_mk_lt _ n) ?_) n (0, b1, bf_gI true, b4, b5, b6, b7) ⟨Nat.le_refl n, Sn, hX, fun w h1 h2 => absurd h1 (by omega), rfl, ?_⟩
  · rw [← h3, bf_full true Pa E (fun i hi => by have := h1 i hi; omega)]
    refine bf_W_cg hn (fun w hw => (hS.1.2.2.1 w hw).1) (fun i hi => ?_)
    rw [bf_bm_t, decide_eq_true hi, decide_eq_true (Nat.zero_le i), bf_mg_1 (by have := h1 i hi; omega)]
    rfl
  · have z : bf_bm Sn n n = 0 := by
      apply Nat.eq_of_testBit_eq
      intro w
      rw [bf_bm_t, Nat.zero_testBit]
      by_cases q : w < n
      · rw [decide_eq_false (show ¬ n ≤ w by omega), Bool.false_and, Bool.and_false]
      · rw [decide_eq_false q, Bool.false_and]
    rw [z]
    rfl
end
end
section
/-! ===== the ball ===== -/
theorem bf_cn_mono {s t : Nat} : ∀ i, (∀ j, j < i → s.testBit j = true → t.testBit j = true) → bf_cn s i ≤ bf_cn t i
  | 0, _ => Nat.le_refl 0
  | i + 1, h => by
    have ih := bf_cn_mono i (fun j hj => h j (by omega))
    show bf_cn s i + s / 2 ^ i % 2 ≤ bf_cn t i + t / 2 ^ i % 2
    by_cases e : s.testBit i = true
    · rw [bf_t1 e, bf_t1 (h i (by omega) e)]
      omega
    · rw [bf_t0 e]
      omega
theorem bf_cn_strict {s t k : Nat} (hk : ¬ s.testBit k = true) (hk2 : t.testBit k = true) : ∀ i, k < i → (∀ j, j < i → s.testBit j = true → t.testBit j = true) → bf_cn s i < bf_cn t i
  | 0, h, _ => absurd h (by omega)
  | i + 1, hi, h => by
    show bf_cn s i + s / 2 ^ i % 2 < bf_cn t i + t / 2 ^ i % 2
    by_cases e : k = i
    · subst e
      have ih := bf_cn_mono (s := s) (t := t) k (fun j hj => h j (by omega))
      rw [bf_t0 hk, bf_t1 hk2]
      omega
    · have ih := bf_cn_strict hk hk2 i (by omega) (fun j hj => h j (by omega))
      by_cases e : s.testBit i = true
      · rw [bf_t1 e, bf_t1 (h i (by omega) e)]
        omega
      · rw [bf_t0 e]
        omega
theorem bf_or_sub {b p i : Nat} (h : b.testBit i = true) : (b ||| p).testBit i = true := by
  rw [Nat.testBit_or, h, Bool.true_or]
theorem bf_or_mono (b p : Nat) : bf_cn b 7 ≤ bf_cn (b ||| p) 7 := bf_cn_mono 7 (fun _ _ h => bf_or_sub h)
theorem bf_or_strict {b p : Nat} (hb : b < 128) (hp : p < 128) (h : b ||| p ≠ b) : bf_cn b 7 < bf_cn (b ||| p) 7 := by
  have hlt : b ||| p < 128 := Nat.or_lt_two_pow (n := 7) hb hp
  have ex : ∃ k, k < 7 ∧ ¬ b.testBit k = true ∧ (b ||| p).testBit k = true := by
    apply Classical.byContradiction
    intro no
    refine h (bf_ext hlt hb (fun i hi => ?_))
    by_cases e : b.testBit i = true
    · rw [bf_or_sub e, e]
    · by_cases e2 : (b ||| p).testBit i = true
      · exact absurd ⟨i, hi, e, e2⟩ no
      · rw [Bool.eq_false_iff.mpr e, Bool.eq_false_iff.mpr e2]
  obtain ⟨k, h1, h2, h3⟩ := ex
  exact bf_cn_strict h2 h3 7 h1 (fun _ _ h => bf_or_sub h)
def bf_ch (n : Nat) (Pa : Nat → Nat) (v : Nat) : Nat := bf_mk (fun w => (Pa w).testBit v) n
/-- the two steps at a variable -/
def bf_nb (Pa Sn : Nat → Nat) (v b a : Nat) : Nat := if ((b.testBit v && decide (Sn v = 2)) || (a.testBit v && !decide (Sn v = 2))) = true then b ||| Pa v else b
def bf_na (n : Nat) (Pa Sn : Nat → Nat) (v b a : Nat) : Nat := if ((b.testBit v || a.testBit v) && decide (Sn v = 2)) = true then a ||| bf_ch n Pa v else a
def bf_R (n : Nat) (Pa Sn : Nat → Nat) (v b a : Nat) : Prop := bf_nb Pa Sn v b a = b ∧ bf_na n Pa Sn v b a = a
theorem bf_nb_sub {Pa Sn : Nat → Nat} {v b a i : Nat} (h : b.testBit i = true) : (bf_nb Pa Sn v b a).testBit i = true := by
  unfold bf_nb
  split
  · exact bf_or_sub h
  · exact h
theorem bf_nb_lt {Pa Sn : Nat → Nat} {v b a : Nat} (hb : b < 128) (hp : Pa v < 128) : bf_nb Pa Sn v b a < 128 := by
  unfold bf_nb
  split
  · exact Nat.or_lt_two_pow (n := 7) hb hp
  · exact hb
theorem bf_na_lt {n : Nat} {Pa Sn : Nat → Nat} {v b a : Nat} (ha : a < 128) (hp : bf_ch n Pa v < 128) : bf_na n Pa Sn v b a < 128 := by
  unfold bf_na
  split
  · exact Nat.or_lt_two_pow (n := 7) ha hp
  · exact ha
theorem bf_nb_mono (Pa Sn : Nat → Nat) (v b a : Nat) : bf_cn b 7 ≤ bf_cn (bf_nb Pa Sn v b a) 7 := by
  unfold bf_nb
  split
  · exact bf_or_mono _ _
  · exact Nat.le_refl _
theorem bf_na_mono (n : Nat) (Pa Sn : Nat → Nat) (v b a : Nat) : bf_cn a 7 ≤ bf_cn (bf_na n Pa Sn v b a) 7 := by
  unfold bf_na
  split
  · exact bf_or_mono _ _
  · exact Nat.le_refl _
theorem bf_nb_strict {Pa Sn : Nat → Nat} {v b a : Nat} (hb : b < 128) (hp : Pa v < 128) (h : bf_nb Pa Sn v b a ≠ b) : bf_cn b 7 < bf_cn (bf_nb Pa Sn v b a) 7 := by
  unfold bf_nb at h ⊢
  split
  · rename_i c
    rw [if_pos c] at h
    exact bf_or_strict hb hp h
  · rename_i c
    rw [if_neg c] at h
    exact absurd rfl h
theorem bf_na_strict {n : Nat} {Pa Sn : Nat → Nat} {v b a : Nat} (ha : a < 128) (hp : bf_ch n Pa v < 128) (h : bf_na n Pa Sn v b a ≠ a) : bf_cn a 7 < bf_cn (bf_na n Pa Sn v b a) 7 := by
  unfold bf_na at h ⊢
  split
  · rename_i c
    rw [if_pos c] at h
    exact bf_or_strict ha hp h
  · rename_i c
    rw [if_neg c] at h
    exact absurd rfl h
theorem bf_closed {n : Nat} {Pa Sn : Nat → Nat} {b a : Nat} (h : ∀ w, w < n → bf_R n Pa Sn w b a) : bf_cl n Pa Sn a.testBit b.testBit := by
  refine ⟨fun w hw hB hx p hp => ?_, fun w hw hBA hx d hd hp => ?_, fun w hw hA hx p hp => ?_⟩
  · have q := (h w hw).1
    unfold bf_nb at q
    rw [if_pos (by rw [hB, decide_eq_true hx]; rfl)] at q
    rw [← q, Nat.testBit_or, hp, Bool.or_true]
  · have q := (h w hw).2
    unfold bf_na at q
    have c : (b.testBit w || a.testBit w) = true := by rw [Bool.or_eq_true]; exact hBA
    rw [if_pos (by rw [c, decide_eq_true hx]; rfl)] at q
    rw [← q, Nat.testBit_or]
    unfold bf_ch
    rw [bf_mk_t, decide_eq_true hd, hp, Bool.true_and, Bool.or_true]
  · have q := (h w hw).1
    unfold bf_nb at q
    rw [if_pos (by rw [hA, decide_eq_false hx]; simp)] at q
    rw [← q, Nat.testBit_or, hp, Bool.or_true]
section
variable {f1 f2 : Int32} {a1 a2 a3 a4 a5 a7 : Nat → Int32} {a6 : Nat → Int64} {n : Nat} {Pa E Sn : Nat → Nat} {u v : Nat}
theorem bf_childrenOf {post : Int32 → Prop} (hS : bf_S n Pa E a1 a2) (hv : v < 7) (H : post (nI (bf_ch n Pa v))) : wpX_childrenOf post (nI n, f1, f2, a1, a2, a3, a4, a5, a6, a7) (nI v) := by
  have hn := hS.1.2.1
  refine pk_loop (fun k i (x : Int32) => wX_childrenOf_4 post (nI v) (nI n) f1 f2 a1 a2 a3 a4 a5 a6 a7 k x (nI i)) (fun i x => x = nI (bf_mk (fun w => (Pa w).testBit v) i)) n 0 0 (Nat.zero_le n) rfl (fun k x h => pk_le n n (fun _ => by rw [h]; exact H) (fun z => absurd z (by omega))) ?_
  intro k i x hi h hw
  have hp := bf_Pa hS.1 (v := i) (by omega)
  refine pk_le n i (fun z => absurd z (by omega)) (fun _ => ⟨pk_in i 7 (by omega), ?_⟩)
  rw [nI_clamp (show i < 2 ^ 31 by omega), hS.2.1 i (by omega), bf_one i (by omega)]
  refine ek_if (bf_if (by omega) (by omega)) (fun t => nm_e (nm_r (nI_1 i) (hw _ ?_))) (fun t => nm_r (nI_1 i) (hw _ ?_))
  · rw [h, bf_or]
    exact congrArg nI (if_pos t).symm
  · rw [h]
    exact congrArg nI (if_neg t).symm
section
variable {post : Int32 → Prop} {J9 J19 : Int32 → Int32 → Int32 → Prop} {x4 : Int32} {b a : Nat} {ob fb fa : Bool}
theorem bf_b120 (hS : bf_S n Pa E a1 a2) (hv : v < n) (H : J19 (nI b) (nI (if ob = true then a else a ||| bf_ch n Pa v)) (nI (v + 1))) : wX_bounce_120 post J9 J19 (nI b) (nI a) x4 (nI v) (nI ob.toNat) (nI n) f1 f2 a1 a2 a3 a4 a5 a6 a7 := by
  have hn := hS.1.2.1
  refine bf_us0 (fun e => bf_childrenOf hS (by omega) (nm_r (bf_or _ _) (nm_r (nI_1 v) ?_))) (fun e => nm_r (nI_1 v) ?_)
  · rw [e, if_neg (by decide)] at H
    exact H
  · rw [if_pos e] at H
    exact H
theorem bf_b110 (hS : bf_S n Pa E a1 a2) (hv : v < n) (H : J19 (nI b) (nI (if ((fb || fa) && !ob) = true then a ||| bf_ch n Pa v else a)) (nI (v + 1))) : wX_bounce_110 post J9 J19 (nI b) (nI a) x4 (nI v) (nI ob.toNat) (nI fb.toNat) (nI fa.toNat) (nI n) f1 f2 a1 a2 a3 a4 a5 a6 a7 := by
  refine bf_us0 (fun e => bf_us0 (fun e2 => nm_r (nI_1 v) ?_) (fun e2 => bf_b120 hS hv ?_)) (fun e => bf_b120 hS hv ?_)
  · rw [e, e2, Bool.or_false, Bool.false_and, if_neg (by decide)] at H
    exact H
  · rw [e, e2] at H
    cases ob
    · exact H
    · exact H
  · rw [e] at H
    cases ob
    · exact H
    · exact H
theorem bf_b100 (hS : bf_S n Pa E a1 a2) (hv : v < n) (H : J19 (nI (b ||| Pa v)) (nI (if ((fb || fa) && !ob) = true then a ||| bf_ch n Pa v else a)) (nI (v + 1))) : wX_bounce_100 post J9 J19 (nI b) (nI a) x4 (nI v) (nI ob.toNat) (nI fb.toNat) (nI fa.toNat) (nI n) f1 f2 a1 a2 a3 a4 a5 a6 a7 := by
  have hn := hS.1.2.1
  refine ⟨pk_in v 7 (by omega), ?_⟩
  rw [nI_clamp (show v < 2 ^ 31 by omega), hS.2.1 v (by omega)]
  exact nm_r (bf_or _ _) (bf_b110 hS hv H)
theorem bf_b90 (hS : bf_S n Pa E a1 a2) (hv : v < n) (H : J19 (nI (if (fa && ob) = true then b ||| Pa v else b)) (nI (if ((fb || fa) && !ob) = true then a ||| bf_ch n Pa v else a)) (nI (v + 1))) : wX_bounce_90 post J9 J19 (nI b) (nI a) x4 (nI v) (nI ob.toNat) (nI fb.toNat) (nI fa.toNat) (nI n) f1 f2 a1 a2 a3 a4 a5 a6 a7 := by
  refine bf_us0 (fun e => bf_b110 hS hv ?_) (fun e => bf_us0 (fun e2 => bf_b110 hS hv ?_) (fun e2 => bf_b100 hS hv ?_))
  · rw [e] at H ⊢
    exact H
  · rw [e, e2] at H ⊢
    exact H
  · rw [e, e2] at H ⊢
    exact H
theorem bf_b78 (hS : bf_S n Pa E a1 a2) (hv : v < n) (H : J19 (nI (if ((fb && !ob) || (fa && ob)) = true then b ||| Pa v else b)) (nI (if ((fb || fa) && !ob) = true then a ||| bf_ch n Pa v else a)) (nI (v + 1))) : wX_bounce_78 post J9 J19 (nI b) (nI a) x4 (nI v) (nI ob.toNat) (nI fb.toNat) (nI fa.toNat) (nI n) f1 f2 a1 a2 a3 a4 a5 a6 a7 := by
  refine bf_us0 (fun e => bf_b90 hS hv ?_) (fun e => bf_us0 (fun e2 => bf_b100 hS hv ?_) (fun e2 => bf_b90 hS hv ?_))
  · rw [e] at H ⊢
    exact H
  · rw [e, e2] at H ⊢
    exact H
  · rw [e, e2] at H ⊢
    exact H
theorem bf_b44 (hS : bf_S n Pa E a1 a2) (hv : v < n) (hb : b < 128) (ha : a < 128) (H : J19 (nI (if ((b.testBit v && !ob) || (a.testBit v && ob)) = true then b ||| Pa v else b)) (nI (if ((b.testBit v || a.testBit v) && !ob) = true then a ||| bf_ch n Pa v else a)) (nI (v + 1))) : wX_bounce_44 post J9 J19 (nI b) (nI a) x4 (nI v) (nI ob.toNat) (nI n) f1 f2 a1 a2 a3 a4 a5 a6 a7 := by
  have hn := hS.1.2.1
  refine ek_if (bf_if (by omega) (by omega)) (fun t => ?_) (fun t => ?_)
  · refine ek_if (bf_if (by omega) (by omega)) (fun t2 => bf_b78 (fb := true) (fa := true) hS hv ?_) (fun t2 => bf_b78 (fb := true) (fa := false) hS hv ?_)
    · rw [t, t2] at H
      exact H
    · rw [t, Bool.eq_false_iff.mpr t2] at H
      exact H
  · refine ek_if (bf_if (by omega) (by omega)) (fun t2 => bf_b78 (fb := false) (fa := true) hS hv ?_) (fun t2 => bf_b78 (fb := false) (fa := false) hS hv ?_)
    · rw [Bool.eq_false_iff.mpr t, t2] at H
      exact H
    · rw [Bool.eq_false_iff.mpr t, Bool.eq_false_iff.mpr t2] at H
      exact H
end
theorem bf_b19 {post : Int32 → Prop} {J9 : Int32 → Int32 → Int32 → Prop} {r b0 a0 : Nat} (hS : bf_S n Pa E a1 a2) (hs : bf_Sn Sn a3) (hb0 : b0 < 128) (ha0 : a0 < 128) (hu : b0.testBit u = true) (hr : (∀ w, w < n → bf_R n Pa Sn w b0 a0) ∨ r + 1 ≤ bf_cn b0 7 + bf_cn a0 7)
    (H : ∀ b a, b < 128 → a < 128 → b.testBit u = true → ((∀ w, w < n → bf_R n Pa Sn w b a) ∨ r + 2 ≤ bf_cn b 7 + bf_cn a 7) → J9 (nI b) (nI a) (nI (r + 1))) :
    ∃ k, wX_bounce_19 post J9 (nI r) (nI n) f1 f2 a1 a2 a3 a4 a5 a6 a7 k (nI b0) (nI a0) 0 := by
  have hn := hS.1.2.1
  refine pk_loop (fun k i (s : Nat × Nat) => wX_bounce_19 post J9 (nI r) (nI n) f1 f2 a1 a2 a3 a4 a5 a6 a7 k (nI s.1) (nI s.2) (nI i))
    (fun i s => s.1 < 128 ∧ s.2 < 128 ∧ s.1.testBit u = true ∧ ((s.1 = b0 ∧ s.2 = a0 ∧ ∀ w, w < i → bf_R n Pa Sn w b0 a0) ∨ (bf_cn b0 7 + bf_cn a0 7 < bf_cn s.1 7 + bf_cn s.2 7 ∧ ¬ ∀ w, w < n → bf_R n Pa Sn w b0 a0))) n 0 (b0, a0) (Nat.zero_le n) ⟨hb0, ha0, hu, Or.inl ⟨rfl, rfl, fun w hw => absurd hw (by omega)⟩⟩ ?_ ?_
  · intro k s h
    obtain ⟨h1, h2, h3, h4⟩ := h
    refine pk_le n n (fun _ => nm_r (nI_1 r) (H _ _ h1 h2 h3 ?_)) (fun z => absurd z (by omega))
    rcases h4 with ⟨e1, e2, h4⟩ | ⟨h4, h5⟩
    · rw [e1, e2]
      exact Or.inl h4
    · rcases hr with hr | hr
      · exact absurd hr h5
      · exact Or.inr (by omega)
  · intro k i s hi h hw
    obtain ⟨h1, h2, h3, h4⟩ := h
    obtain ⟨x1, x2⟩ := hs i (by omega)
    have hp := bf_Pa hS.1 (v := i) (by omega)
    have hc : bf_ch n Pa i < 128 := Nat.lt_of_lt_of_le (bf_mk_lt _ n) (bf_pw hn)
    have K : wX_bounce_19 post J9 (nI r) (nI n) f1 f2 a1 a2 a3 a4 a5 a6 a7 k (nI (bf_nb Pa Sn i s.1 s.2)) (nI (bf_na n Pa Sn i s.1 s.2)) (nI (i + 1)) := by
      refine hw (bf_nb Pa Sn i s.1 s.2, bf_na n Pa Sn i s.1 s.2) ⟨bf_nb_lt h1 hp, bf_na_lt h2 hc, bf_nb_sub h3, ?_⟩
      have m1 := bf_nb_mono Pa Sn i s.1 s.2
      have m2 := bf_na_mono n Pa Sn i s.1 s.2
      rcases h4 with ⟨e1, e2, h4⟩ | ⟨h4, h5⟩
      · by_cases z : bf_R n Pa Sn i b0 a0
        · refine Or.inl ⟨?_, ?_, fun w hw => ?_⟩
          · show bf_nb Pa Sn i s.1 s.2 = b0
            rw [e1, e2]
            exact z.1
          · show bf_na n Pa Sn i s.1 s.2 = a0
            rw [e1, e2]
            exact z.2
          · by_cases ew : w = i
            · rw [ew]
              exact z
            · exact h4 w (by omega)
        · refine Or.inr ⟨?_, fun q => z (q i hi)⟩
          show bf_cn b0 7 + bf_cn a0 7 < bf_cn (bf_nb Pa Sn i s.1 s.2) 7 + bf_cn (bf_na n Pa Sn i s.1 s.2) 7
          rw [e1, e2] at m1 m2 ⊢
          by_cases z1 : bf_nb Pa Sn i b0 a0 = b0
          · have := bf_na_strict (Pa := Pa) (Sn := Sn) (b := b0) ha0 hc (fun z2 => z ⟨z1, z2⟩)
            omega
          · have := bf_nb_strict (a := a0) hb0 hp z1
            omega
      · refine Or.inr ⟨?_, h5⟩
        show bf_cn b0 7 + bf_cn a0 7 < bf_cn (bf_nb Pa Sn i s.1 s.2) 7 + bf_cn (bf_na n Pa Sn i s.1 s.2) 7
        omega
    unfold bf_nb bf_na at K
    refine pk_le n i (fun z => absurd z (by omega)) (fun _ => ⟨pk_in i 7 (by omega), ?_⟩)
    rw [nI_clamp (show i < 2 ^ 31 by omega), x1]
    refine pk_eq (Sn i) 2 (fun e => bf_b44 (ob := false) hS hi h1 h2 ?_) (fun e => bf_b44 (ob := true) hS hi h1 h2 ?_)
    · rw [decide_eq_true e] at K
      exact K
    · rw [decide_eq_false e] at K
      exact K
theorem bf_bounce {post : Int32 → Prop} (hS : bf_S n Pa E a1 a2) (hs : bf_Sn Sn a3) (hu : u < 7) (H : ∀ b a, b < 128 → a < 128 → b.testBit u = true → bf_cl n Pa Sn a.testBit b.testBit → post (nI (b ||| a))) : wpX_bounce post (nI n, f1, f2, a1, a2, a3, a4, a5, a6, a7) (nI u) := by
  have hn := hS.1.2.1
  have h7 : 2 ^ u < 128 := Nat.pow_lt_pow_right (n := 7) (by omega) hu
  refine nm_r (bf_one u (by omega)) ?_
  refine pk_loop (fun k r (s : Nat × Nat) => wX_bounce_9 post (nI n) f1 f2 a1 a2 a3 a4 a5 a6 a7 k (nI s.1) (nI s.2) (nI r))
    (fun r s => s.1 < 128 ∧ s.2 < 128 ∧ s.1.testBit u = true ∧ ((∀ w, w < n → bf_R n Pa Sn w s.1 s.2) ∨ r + 1 ≤ bf_cn s.1 7 + bf_cn s.2 7)) 14 0 (2 ^ u, 0) (by omega) ⟨h7, Nat.zero_lt_succ 127, Nat.testBit_two_pow_self, Or.inr ?_⟩ ?_ ?_
  · have q := bf_cn_strict (s := 0) (t := 2 ^ u) (k := u) (by rw [Nat.zero_testBit]; decide) Nat.testBit_two_pow_self 7 hu (fun j _ h => by
      rw [Nat.zero_testBit] at h
      exact absurd h (by decide))
    show 0 + 1 ≤ bf_cn (2 ^ u) 7 + bf_cn 0 7
    omega
  · intro k s h
    obtain ⟨h1, h2, h3, h4⟩ := h
    refine pk_le 14 14 (fun _ => ?_) (fun z => absurd z (by omega))
    rw [bf_or]
    refine H _ _ h1 h2 h3 (bf_closed ?_)
    rcases h4 with h4 | h4
    · exact h4
    · have l1 := bf_cn_le s.1 7
      have l2 := bf_cn_le s.2 7
      omega
  · intro k r s hr h hw
    obtain ⟨h1, h2, h3, h4⟩ := h
    exact pk_le 14 r (fun z => absurd z (by omega)) (fun _ => bf_b19 hS hs h1 h2 h3 h4 (fun b a q1 q2 q3 q4 => hw (b, a) ⟨q1, q2, q3, q4⟩))
theorem bf_separated {post : Int32 → Prop} (hS : bf_S n Pa E a1 a2) (hs : bf_Sn Sn a3) (hu : u < n) (hv : v < n) (H0 : ∀ r, ¬ r = 1 → post r)
    (H1 : ∀ A B : Nat → Bool, Sn u = 2 → Sn v = 2 → bf_cl n Pa Sn A B → B u = true → B v = false → A v = false → post 1) : wpX_separated post (nI n, f1, f2, a1, a2, a3, a4, a5, a6, a7) (nI u) (nI v) := by
  have hn := hS.1.2.1
  obtain ⟨u1, u2⟩ := hs u (by omega)
  obtain ⟨v1, v2⟩ := hs v (by omega)
  unfold wpX_separated
  refine bf_good hu hn (br_f (by decide) (bf_good hv hn (br_f (by decide) ?_)))
  refine pk_eq u v (fun _ => H0 _ (by decide)) (fun ne => ⟨pk_in u 7 (by omega), ?_⟩)
  rw [nI_clamp (show u < 2 ^ 31 by omega), u1]
  refine pk_eq (Sn u) 2 (fun e1 => ⟨pk_in v 7 (by omega), ?_⟩) (fun _ => H0 _ (by decide))
  rw [nI_clamp (show v < 2 ^ 31 by omega), v1]
  refine pk_eq (Sn v) 2 (fun e2 => bf_bounce hS hs (by omega) (fun b a hb ha tb cl => ?_)) (fun _ => H0 _ (by decide))
  have hlt : b ||| a < 128 := Nat.or_lt_two_pow (n := 7) hb ha
  refine ek_if (bf_if (by omega) (by omega)) (fun _ => H0 _ (by decide)) (fun t => ?_)
  rw [Nat.testBit_or, Bool.or_eq_true] at t
  exact H1 _ _ e1 e2 cl tb (Bool.eq_false_iff.mpr (fun z => t (Or.inl z))) (Bool.eq_false_iff.mpr (fun z => t (Or.inr z)))
theorem bf_independent {post : Int32 → St2 → Prop} (hS : bf_S n Pa E a1 a2) (hs : bf_Sn Sn a3) (hu : u < n) (hv : v < n) (hq : ∀ a b, a < 2 → b < 2 → bf_vl false n Pa E Sn * bf_pv n Pa E Sn u a v b = bf_tw n Pa E Sn u a * bf_tw n Pa E Sn v b)
    (H : bf_Any n a1 a2 a3 (post 1)) : wpX_independent post (nI n, f1, f2, a1, a2, a3, a4, a5, a6, a7) (nI u) (nI v) := by
  have hn := hS.1.2.1
  unfold wpX_independent
  refine bf_good hu hn (br_f (by decide) (bf_good hv hn (br_f (by decide) (bf_total hS hs (fun b1 b2 b4 b5 b6 b7 => ?_)))))
  refine pk_loop (fun k i (s : Int32 × Int32 × (Nat → Int32) × (Nat → Int32) × (Nat → Int64) × (Nat → Int32)) => wX_independent_26 post (nI u) (nI v) (lN (bf_vl false n Pa E Sn)) k (nI i) (nI n) s.1 s.2.1 a1 a2 a3 s.2.2.1 s.2.2.2.1 s.2.2.2.2.1 s.2.2.2.2.2) (fun _ _ => True) 4 0 (b1, b2, b4, b5, b6, b7) (by omega) trivial (fun k s _ => pk_le 4 4 (fun _ => H _ _ _ _ _ _) (fun z => absurd z (by omega))) ?_
  intro k i s hi _ hw
  refine pk_le 4 i (fun z => absurd z (by omega)) (fun _ => nm_r (e' := nI (i / 2)) (bf_shr (i := 1) (by omega) (by omega)) (nm_r (e' := nI (i % 2)) (pk_andN (by omega) 1 (by decide)) ?_))
  refine bf_pairSum hS hs hu (by omega) hv (by omega) (fun c1 c2 c4 c5 c6 c7 => ?_)
  refine bf_totalWith hS hs hu (by omega) (fun d1 d2 d4 d5 d6 d7 => ?_)
  refine bf_totalWith hS hs hv (by omega) (fun e1 e2 e4 e5 e6 e7 => ?_)
  exact br_t (by rw [lN_mul, lN_mul, hq (i / 2) (i % 2) (by omega) (by omega)]) (nm_r (nI_1 i) (hw (e1, e2, e4, e5, e6, e7) trivial))
theorem bf_sep_ind {c : Nat → Nat} {A B : Nat → Bool} (ok : bf_ok n Pa E) (hc : bf_ev n Pa E c) (cl : bf_cl n Pa Sn A B) (hu : u < n) (hv : v < n) (Xu : Sn u = 2) (Xv : Sn v = 2) (Bu : B u = true) (Bv : B v = false) (Av : A v = false) :
    ∀ a b, a < 2 → b < 2 → bf_vl false n Pa E Sn * bf_pv n Pa E Sn u a v b = bf_tw n Pa E Sn u a * bf_tw n Pa E Sn v b := by
  intro a b ha hb
  obtain ⟨C, gg, hh, h⟩ := bf_dsep ok hc cl hu hv Xu Xv Bu Bv Av
  have huv : u ≠ v := by
    intro e
    rw [e, Bv] at Bu
    exact absurd Bu (by decide)
  have q := bf_indep (q := fun a b => bf_vl false n Pa E (bf_up (bf_up Sn u a) v b)) h ha hb
  have e1 : ∀ a, bf_vl false n Pa E (bf_up Sn u a) = bf_vl false n Pa E (bf_up (bf_up Sn u a) v 0) + bf_vl false n Pa E (bf_up (bf_up Sn u a) v 1) := fun a => by
    rw [bf_split false Pa E (X := bf_up Sn u a) hv (by rw [bf_up_n _ _ (fun z => huv z.symm)]; exact Xv), bf_op_s]
  have e2 : ∀ b, bf_vl false n Pa E (bf_up Sn v b) = bf_vl false n Pa E (bf_up (bf_up Sn u 0) v b) + bf_vl false n Pa E (bf_up (bf_up Sn u 1) v b) := fun b => by
    rw [bf_split false Pa E (X := bf_up Sn v b) hu (by rw [bf_up_n _ _ huv]; exact Xu), bf_op_s, bf_up_c Sn 0 b huv, bf_up_c Sn 1 b huv]
  have e3 : bf_pv n Pa E Sn u a v b = bf_vl false n Pa E (bf_up (bf_up Sn u a) v b) := by
    unfold bf_pv
    rw [if_neg (by omega), if_neg (by rw [bf_up_n _ _ (fun z => huv z.symm)]; omega)]
  have e4 : bf_tw n Pa E Sn u a = bf_vl false n Pa E (bf_up Sn u a) := if_neg (by omega)
  have e5 : bf_tw n Pa E Sn v b = bf_vl false n Pa E (bf_up Sn v b) := if_neg (by omega)
  have e6 : bf_vl false n Pa E Sn = bf_vl false n Pa E (bf_up Sn u 0) + bf_vl false n Pa E (bf_up Sn u 1) := by
    rw [bf_split false Pa E hu Xu, bf_op_s]
  rw [e3, e4, e5, e6, e1 0, e1 1, e1 a, e2 b]
  exact q
end
end
section
/-! ===== holds; the methods that change the net ===== -/
section
variable {f1 f2 : Int32} {a1 a2 a3 a4 a5 a7 : Nat → Int32} {a6 : Nat → Int64} {n : Nat} {Pa E Sn : Nat → Nat} {u v : Nat}
theorem bf_holds {post : Int32 → St2 → Prop} {x4 : Int32} (hS : bf_S n Pa E a1 a2) (hs : bf_Sn Sn a3) (hu : u < n) (hv : v < n) (hev : ¬ x4 = 0 → ∃ c, bf_ev n Pa E c) (H : bf_Any n a1 a2 a3 (post 1)) : wpL_holds post (nI n, f1, f2, a1, a2, a3, a4, a5, a6, a7) (nI n) (nI u) (nI v) x4 := by
  have hn := hS.1.2.1
  unfold wpL_holds
  refine bf_total hS hs (fun _ _ _ _ _ _ => ?_)
  have l0 := bf_vl_lt hS.1 false Sn
  refine br_f (fun z => absurd ((pk_lLT (b := 0) (by omega) (by omega)).mp z) (by omega)) ?_
  refine bf_totalWith (b := 0) hS hs hv (by omega) (fun _ _ _ _ _ _ => ?_)
  refine bf_totalWith (b := 1) hS hs hv (by omega) (fun b1 b2 b4 b5 b6 b7 => ?_)
  refine br_t (by rw [lN_add, ← bf_tw_sum Pa E hv (hs v (by omega)).2]) ?_
  refine pk_loop (fun k i (s : Int32 × Int32 × (Nat → Int32) × (Nat → Int32) × (Nat → Int64) × (Nat → Int32)) => wL_holds_37 post (nI n) (nI u) (nI v) x4 k (nI i) (nI n) s.1 s.2.1 a1 a2 a3 s.2.2.1 s.2.2.2.1 s.2.2.2.2.1 s.2.2.2.2.2) (fun _ _ => True) 2 0 (b1, b2, b4, b5, b6, b7) (by omega) trivial ?_ ?_
  · intro k s _
    refine pk_le 2 2 (fun _ => ?_) (fun z => absurd z (by omega))
    refine bf_bestNumber hS hs (fun N hN hW _ _ _ _ _ _ => ?_)
    have h7 := bf_pw hn
    refine br_f (nI_pos (by omega)) (br_f ?_ ?_)
    · rw [bf_one n (by omega)]
      exact nI_ge hN (by omega)
    · refine bf_weight hS hN (bf_best hS hs (fun _ _ _ _ _ _ => ?_))
      refine br_t (by rw [hW]) (br_c (fun _ => H _ _ _ _ _ _) (fun z => ?_))
      obtain ⟨c, hc⟩ := hev z
      refine bf_separated hS hs hu hv (fun r hr => br_f hr (H _ _ _ _ _ _)) (fun A B Xu Xv cl Bu Bv Av => br_t rfl ?_)
      exact bf_independent hS hs hu hv (bf_sep_ind hS.1 hc cl hu hv Xu Xv Bu Bv Av) (fun _ _ _ _ _ _ => br_t rfl (H _ _ _ _ _ _))
  · intro k i s hi _ hw
    refine pk_le 2 i (fun z => absurd z (by omega)) (fun _ => ?_)
    refine pk_loop (fun q j (s : Int32 × Int32 × (Nat → Int32) × (Nat → Int32) × (Nat → Int64) × (Nat → Int32)) => wL_holds_46 post (wL_holds_37 post (nI n) (nI u) (nI v) x4 k) (nI n) (nI u) (nI v) x4 (nI i) q (nI j) (nI n) s.1 s.2.1 a1 a2 a3 s.2.2.1 s.2.2.2.1 s.2.2.2.2.1 s.2.2.2.2.2) (fun _ _ => True) 2 0 s (by omega) trivial ?_ ?_
    · intro q t _
      exact pk_le 2 2 (fun _ => nm_r (nI_1 i) (hw t trivial)) (fun z => absurd z (by omega))
    · intro q j t hj _ hw2
      refine pk_le 2 j (fun z => absurd z (by omega)) (fun _ => ?_)
      refine bf_totalPair hS hs hu hi hv hj (fun _ _ _ _ _ _ => ?_)
      refine bf_totalPair hS hs hv hj hu hi (fun c1 c2 c4 c5 c6 c7 => ?_)
      exact br_t (by rw [bf_pv_sym Pa E Sn hi hj]) (nm_r (nI_1 j) (hw2 (c1, c2, c4, c5, c6, c7) trivial))
theorem bf_observe {post : Int32 → St2 → Prop} {x : Nat} (hv : v < n) (hn : n ≤ 7) (hx : x ≤ 2) (H : ∀ r, post r (nI n, f1, f2, a1, a2, upd a3 v (nI x), a4, a5, a6, a7)) : wpX_observe post (nI n, f1, f2, a1, a2, a3, a4, a5, a6, a7) (nI v) (nI x) := by
  unfold wpX_observe
  refine bf_good hv hn (br_f (by decide) (br_f (nI_pos (by omega)) (br_t (nI_le (b := 2) (by omega) (by omega)) ?_)))
  rw [nI_clamp (show v < 2 ^ 31 by omega)]
  exact ⟨pk_in v 7 (by omega), nm_e ⟨pk_in v 7 (by omega), nm_e (H _)⟩⟩
theorem bf_Sn_up {x : Nat} (hs : bf_Sn Sn a3) (hx : x ≤ 2) : bf_Sn (bf_up Sn v x) (upd a3 v (nI x)) := by
  intro w hw
  by_cases e : w = v
  · rw [e, pk_us, bf_up_s]
    exact ⟨rfl, hx⟩
  · rw [pk_un e, bf_up_n _ _ e]
    exact hs w hw
theorem bf_S_up {k x : Nat} (hS : bf_S n Pa E a1 a2) (hx : x ≤ 9) : bf_S n Pa (bf_up E k x) a1 (upd a2 k (nI x)) := by
  obtain ⟨⟨h1, h2, h3, h4⟩, h5, h6⟩ := hS
  refine ⟨⟨h1, h2, h3, fun j hj => ?_⟩, h5, fun j hj => ?_⟩
  · by_cases e : j = k
    · rw [e, bf_up_s]
      exact hx
    · rw [bf_up_n _ _ e]
      exact h4 j hj
  · by_cases e : j = k
    · rw [e, pk_us, bf_up_s]
    · rw [pk_un e, bf_up_n _ _ e]
      exact h6 j hj
theorem bf_rows {n v : Nat} {Pa E : Nat → Nat} (ok : bf_ok n Pa E) (hv : v < 7) : 2 ^ bf_cn (Pa v) 7 ≤ 8 := Nat.pow_le_pow_right (n := 2) (j := 3) (by omega) (ok.2.2.1 v hv).2
theorem bf_ix4 (v k : Nat) : (16 * nI v) + nI k = nI (16 * v + k) := by
  show (nI 16 * nI v) + nI k = _
  rw [pk_mul, nI_add]
theorem bf_sowv (x r b : Nat) (hx : x ≤ 9) (hr : r < 8) (hb : b < 2) : (((nI x + (3 * nI r)) + (5 * nI b)) + (nI r * nI b)) - (((nI x + (3 * nI r)) + (5 * nI b)) + (nI r * nI b)) / 10 * 10 = nI ((x + 3 * r + 5 * b + r * b) % 10) := by
  have e : ((nI x + (3 * nI r)) + (5 * nI b)) + (nI r * nI b) = nI (x + 3 * r + 5 * b + r * b) := by
    show ((nI x + (nI 3 * nI r)) + (nI 5 * nI b)) + (nI r * nI b) = _
    rw [pk_mul, pk_mul, pk_mul, nI_add, nI_add, nI_add]
  rw [e]
  have hm : r * b ≤ 8 * 2 := Nat.mul_le_mul (by omega) (by omega)
  exact pk_rem (d := 10) (by omega) (by omega) (by omega)
theorem bf_sow {post : Int32 → St2 → Prop} {x : Nat} (hS : bf_S n Pa E a1 a2) (hv : v < n) (hx : x ≤ 9) (H : ∀ r E' b2, bf_S n Pa E' a1 b2 → post r (nI n, f1, f2, a1, b2, a3, a4, a5, a6, a7)) : wpX_sow post (nI n, f1, f2, a1, a2, a3, a4, a5, a6, a7) (nI v) (nI x) := by
  have hn := hS.1.2.1
  have hc := (hS.1.2.2.1 v (by omega)).2
  have hr := bf_rows hS.1 (v := v) (by omega)
  unfold wpX_sow
  refine bf_good hv hn (br_f (by decide) (br_f (nI_pos (by omega)) (br_t (nI_le (b := 9) (by omega) (by omega)) ⟨pk_in v 7 (by omega), ?_⟩)))
  rw [nI_clamp (show v < 2 ^ 31 by omega), hS.2.1 v (by omega)]
  refine bf_ones (bf_Pa hS.1 (by omega)) (nm_r (bf_one _ (by omega)) ?_)
  have e2 : (2 : Int32) * nI (2 ^ bf_cn (Pa v) 7) = nI (2 * 2 ^ bf_cn (Pa v) 7) := pk_mul 2 _
  refine pk_loop (fun k i (b : Nat → Int32) => wX_sow_38 post (nI v) (nI x) (nI (2 ^ bf_cn (Pa v) 7)) (nI n) f1 f2 k (nI i) a1 b a3 a4 a5 a6 a7) (fun _ b => ∃ E', bf_S n Pa E' a1 b) (2 * 2 ^ bf_cn (Pa v) 7) 0 a2 (Nat.zero_le _) ⟨E, hS⟩ ?_ ?_
  · intro k b h
    obtain ⟨E', h⟩ := h
    exact pk_le (2 * 2 ^ bf_cn (Pa v) 7) (2 * 2 ^ bf_cn (Pa v) 7) (fun _ => H _ E' b h) (fun z => absurd z (by omega)) e2
  · intro k i b hi h hw
    obtain ⟨E', h⟩ := h
    refine pk_le (2 * 2 ^ bf_cn (Pa v) 7) i (fun z => absurd z (by omega)) (fun _ => nm_r (e' := nI (i / 2)) (bf_shr (i := 1) (by omega) (by omega)) (nm_r (e' := nI (i % 2)) (pk_andN (by omega) 1 (by decide)) ⟨by decide, ?_⟩)) e2
    rw [bf_ix4, nI_clamp (show 16 * v + i < 2 ^ 31 by omega), bf_sowv x (i / 2) (i % 2) hx (by omega) (by omega)]
    exact ⟨pk_in (16 * v + i) 112 (by omega), nm_e (nm_r (nI_1 i) (hw _ ⟨_, bf_S_up h (by omega)⟩))⟩
theorem bf_enter {post : Int32 → St2 → Prop} {r w x : Nat} (hS : bf_S n Pa E a1 a2) (hv : v < n) (hr : r < 8) (hw : w < 2) (hx : x ≤ 9)
    (H0 : 2 ^ bf_cn (Pa v) 7 ≤ r → post (-2) (nI n, f1, f2, a1, a2, a3, a4, a5, a6, a7))
    (H1 : r < 2 ^ bf_cn (Pa v) 7 → post (nI (E (16 * v + 2 * r + w))) (nI n, f1, f2, a1, upd a2 (16 * v + 2 * r + w) (nI x), a3, a4, a5, a6, a7)) : wpX_enter post (nI n, f1, f2, a1, a2, a3, a4, a5, a6, a7) (nI v) (nI r) (nI w) (nI x) := by
  have hn := hS.1.2.1
  have hc := (hS.1.2.2.1 v (by omega)).2
  have hrr := bf_rows hS.1 (v := v) (by omega)
  have K : r < 2 ^ bf_cn (Pa v) 7 → wX_enter_48 post (nI v) (nI r) (nI w) (nI x) (nI n) f1 f2 a1 a2 a3 a4 a5 a6 a7 := by
    intro h
    unfold wX_enter_48
    refine br_f (nI_pos (by omega)) (br_t (nI_le (b := 9) (by omega) (by omega)) ?_)
    rw [bf_ix, nI_clamp (show 16 * v + 2 * r + w < 2 ^ 31 by omega), hS.2.2 (16 * v + 2 * r + w) (by omega)]
    exact ⟨pk_in (16 * v + 2 * r + w) 112 (by omega), nm_e ⟨pk_in (16 * v + 2 * r + w) 112 (by omega), nm_e (H1 h)⟩⟩
  unfold wpX_enter
  refine bf_good hv hn (br_f (by decide) ⟨pk_in v 7 (by omega), ?_⟩)
  rw [nI_clamp (show v < 2 ^ 31 by omega), hS.2.1 v (by omega)]
  refine bf_ones (bf_Pa hS.1 (by omega)) (nm_r (bf_one _ (by omega)) (br_f (nI_pos (by omega)) (pk_lt r (2 ^ bf_cn (Pa v) 7) (fun z => ?_) (fun z => H0 z))))
  rcases (show w = 0 ∨ w = 1 by omega) with e | e
  · subst e
    exact br_t rfl (K z)
  · subst e
    exact br_f (by decide) (br_t rfl (K z))
theorem bf_parents {post : Int32 → St2 → Prop} {s : Int32} (hS : bf_S n Pa E a1 a2) (hv : v < n) (H0 : ∀ r, post r (nI n, f1, f2, a1, a2, a3, a4, a5, a6, a7))
    (H1 : ∀ r j E' b1 b2, bf_S n (bf_up Pa v j) E' b1 b2 → (∀ k, 16 * v ≤ k → k < 16 * v + 16 → E' k = 1) → (∀ k, (k < 16 * v ∨ 16 * v + 16 ≤ k) → E' k = E k) → post r (nI n, f1, f2, b1, b2, a3, a4, a5, a6, a7)) : wpX_parents post (nI n, f1, f2, a1, a2, a3, a4, a5, a6, a7) (nI v) s := by
  have hn := hS.1.2.1
  have h7 : 2 ^ v ≤ 128 := bf_pw (by omega)
  unfold wpX_parents
  refine bf_good hv hn (br_f (by decide) (br_c (fun _ => H0 _) (fun z0 => ?_)))
  rw [bf_one v (by omega)]
  refine br_c (fun _ => H0 _) (fun z1 => ?_)
  rcases pk_ix s (n := 2 ^ v) (by omega) with q | q | ⟨j, hj, q⟩
  · exact absurd q z0
  · exact absurd q z1
  · rw [q]
    refine bf_ones (by omega) (br_c (fun z2 => ⟨pk_in v 7 (by omega), ?_⟩) (fun _ => H0 _))
    have hc3 : bf_cn j 7 ≤ 3 := by
      have := bf_cn_le j 7
      exact (nI_leI (b := 3) (by omega) (by omega)).mp z2
    rw [nI_clamp (show v < 2 ^ 31 by omega)]
    refine nm_e ⟨pk_in v 7 (by omega), nm_e ?_⟩
    have hS0 : bf_S n (bf_up Pa v j) E (upd a1 v (nI j)) a2 := by
      obtain ⟨⟨h1, h2, h3, h4⟩, h5, h6⟩ := hS
      refine ⟨⟨h1, h2, fun w hw => ?_, h4⟩, fun w hw => ?_, h6⟩
      · by_cases e : w = v
        · rw [e, bf_up_s]
          exact ⟨hj, hc3⟩
        · rw [bf_up_n _ _ e]
          exact h3 w hw
      · by_cases e : w = v
        · rw [e, pk_us, bf_up_s]
        · rw [pk_un e, bf_up_n _ _ e]
          exact h5 w hw
    refine pk_loop (fun k i (b : Nat → Int32) => wX_parents_49 post (nI v) (a1 v) (nI n) f1 f2 k (nI i) (upd a1 v (nI j)) b a3 a4 a5 a6 a7) (fun i b => ∃ E', bf_S n (bf_up Pa v j) E' (upd a1 v (nI j)) b ∧ (∀ k, 16 * v ≤ k → k < 16 * v + i → E' k = 1) ∧ (∀ k, (k < 16 * v ∨ 16 * v + 16 ≤ k) → E' k = E k)) 16 0 a2 (by omega) ⟨E, hS0, fun k h1 h2 => absurd h1 (by omega), fun _ _ => rfl⟩ ?_ ?_
    · intro k b h
      obtain ⟨E', q1, q2, q3⟩ := h
      exact pk_le 16 16 (fun _ => H1 _ j E' _ b q1 q2 q3) (fun z => absurd z (by omega))
    · intro k i b hi h hw
      obtain ⟨E', q1, q2, q3⟩ := h
      refine pk_le 16 i (fun z => absurd z (by omega)) (fun _ => ?_)
      rw [bf_ix4, nI_clamp (show 16 * v + i < 2 ^ 31 by omega)]
      refine ⟨pk_in (16 * v + i) 112 (by omega), nm_e (nm_r (nI_1 i) (hw _ ⟨bf_up E' (16 * v + i) 1, bf_S_up (x := 1) q1 (by omega), fun k h1 h2 => ?_, fun k h1 => ?_⟩))⟩
      · by_cases e : k = 16 * v + i
        · rw [e, bf_up_s]
        · rw [bf_up_n _ _ e]
          exact q2 k h1 (by omega)
      · rw [bf_up_n _ _ (by omega)]
        exact q3 k h1
theorem bf_init {post : St2 → Prop} (h2 : 2 ≤ n) (hn : n ≤ 7) (H : ∀ b2 b3 : Nat → Int32, (∀ k, k < 112 → b2 k = 1) → (∀ k, k < 7 → b3 k = 2) → post (nI n, 0, 0, fun _ => 0, b2, b3, fun _ => 0, fun _ => 0, fun _ => 0, fun _ => 0)) : wpX_init post 7 2083 (0, 0, 0) (nI n) := by
  refine ⟨by omega, by omega, by omega, by omega, by omega, by omega, by omega, by omega, by omega, by omega, by omega, by omega, by omega, by omega, ?_⟩
  refine br_t (nI_le (a := 2) h2 (by omega)) (br_t (nI_le (b := 7) hn (by omega)) ?_)
  refine pk_loop (fun k i (b : Nat → Int32) => wX_init_92 post 7 2083 7 2083 (nI n) 0 0 k (nI i) (fun _ => 0) (fun _ => 0) b (fun _ => 0) (fun _ => 0) (fun _ => 0) (fun _ => 0)) (fun i b => ∀ k, k < i → b k = 2) 7 0 (fun _ => 0) (by omega) (fun k hk => absurd hk (by omega)) ?_ ?_
  · intro k b3 h3
    refine pk_le 7 7 (fun _ => ?_) (fun z => absurd z (by omega))
    refine pk_loop (fun k i (b : Nat → Int32) => wX_init_113 post 7 2083 7 2083 (nI n) 0 0 k (nI i) (fun _ => 0) b b3 (fun _ => 0) (fun _ => 0) (fun _ => 0) (fun _ => 0)) (fun i b => ∀ k, k < i → b k = 1) 112 0 (fun _ => 0) (by omega) (fun k hk => absurd hk (by omega)) ?_ ?_
    · intro q b2 h
      exact pk_le 112 112 (fun _ => H b2 b3 h h3) (fun z => absurd z (by omega))
    · intro q i b2 hi h hw
      exact pk_le 112 i (fun z => absurd z (by omega)) (fun _ => ⟨pk_in i 112 hi, nm_e (nm_r (nI_1 i) (hw _ (bf_fill (f := fun _ => 1) (nI_clamp (by omega)) h rfl)))⟩)
  · intro q i b hi h hw
    exact pk_le 7 i (fun z => absurd z (by omega)) (fun _ => ⟨pk_in i 7 hi, nm_e (nm_r (nI_1 i) (hw _ (bf_fill (f := fun _ => 2) (nI_clamp (by omega)) h rfl)))⟩)
end
theorem bf_few {post : Int32 → Prop} {p0 p1 : Int32} (H : ∀ r, post r) : wpL_few post () p0 p1 := by
  refine nm_e ?_
  refine pk_loop (fun k i (x : Int32) => wL_few_10 post k x (nI i)) (fun _ _ => True) 4 0 _ (by omega) trivial (fun k x _ => pk_le 4 4 (fun _ => H x) (fun z => absurd z (by omega))) ?_
  intro k i x hi _ hw
  refine pk_le 4 i (fun z => absurd z (by omega)) (fun _ => ?_)
  refine pk_loop (fun q j (y : Int32) => wL_few_21 post (wL_few_10 post k) x (nI i) q y (nI j)) (fun _ _ => True) 7 0 0 (by omega) trivial ?_ ?_
  · intro q y _
    exact pk_le 7 7 (fun _ => br_c (fun _ => nm_r (nI_1 i) (hw _ trivial)) (fun _ => nm_e (nm_r (nI_1 i) (hw _ trivial)))) (fun z => absurd z (by omega))
  · intro q j y hj _ hw2
    exact pk_le 7 j (fun z => absurd z (by omega)) (fun _ => nm_e (nm_r (nI_1 j) (hw2 _ trivial)))
end
section
/-! ===== the law ===== -/
/-- all variables but v have rows of one sum -/
def bf_ex (n : Nat) (Pa E : Nat → Nat) (v : Nat) (c : Nat → Nat) : Prop := ∀ w, w < n → w ≠ v → ∀ r, r < 2 ^ bf_cn (Pa w) 7 → E (16 * w + 2 * r) + E (16 * w + 2 * r + 1) = c w
theorem bf_ex_up {n v k x : Nat} {Pa E E0 c : Nat → Nat} (ok : bf_ok n Pa E0) (h : bf_ex n Pa E v c) (h1 : 16 * v ≤ k) (h2 : k < 16 * v + 16) : bf_ex n Pa (bf_up E k x) v c := by
  intro w hw hne r hr
  have hn := ok.2.1
  have h8 := bf_rows ok (v := w) (by omega)
  rw [bf_up_n _ _ (by omega), bf_up_n _ _ (by omega)]
  exact h w hw hne r hr
def bf_LI (n : Nat) (x2 : Int32) (a1 a2 a3 : Nat → Int32) : Prop := ∃ Pa E Sn : Nat → Nat, bf_S n Pa E a1 a2 ∧ bf_Sn Sn a3 ∧ (¬ x2 = 0 → ∃ c, bf_ev n Pa E c)
def bf_LW (n : Nat) (x2 : Int32) (v : Nat) (a1 a2 a3 : Nat → Int32) : Prop := ∃ Pa E Sn : Nat → Nat, bf_S n Pa E a1 a2 ∧ bf_Sn Sn a3 ∧ (¬ x2 = 0 → ∃ c, bf_ex n Pa E v c)
theorem bf_LI_LW {n v : Nat} {x2 : Int32} {a1 a2 a3 : Nat → Int32} (h : bf_LI n x2 a1 a2 a3) : bf_LW n x2 v a1 a2 a3 := by
  obtain ⟨Pa, E, Sn, h1, h2, h3⟩ := h
  refine ⟨Pa, E, Sn, h1, h2, fun z => ?_⟩
  obtain ⟨c, hc⟩ := h3 z
  exact ⟨c, fun w hw _ => hc w hw⟩
abbrev bf_JT : Type := Int32 → Int32 → Int32 → Int32 → (Nat → Int32) → (Nat → Int32) → (Nat → Int32) → (Nat → Int32) → (Nat → Int32) → (Nat → Int64) → (Nat → Int32) → Prop
def bf_JH (J : bf_JT) (n : Nat) (x2 x4 : Int32) : Prop := ∀ (b1 b2 : Int32) (c1 c2 c3 b4 b5 : Nat → Int32) (b6 : Nat → Int64) (b7 : Nat → Int32), bf_LI n x2 c1 c2 c3 → J (x4 + 2) (nI n) b1 b2 c1 c2 c3 b4 b5 b6 b7
theorem bf_mod7 {n : Nat} (h0 : 2 ≤ n) (hn : n ≤ 7) (y : Int32) : ∃ w, w < n ∧ (y &&& 7) - (y &&& 7) / nI n * nI n = nI w := by
  obtain ⟨j, hj, e⟩ := pk_andE y (m := 7) 3 (by decide)
  refine ⟨j % n, Nat.mod_lt _ (by omega), ?_⟩
  rw [e]
  exact pk_rem (by omega) (by omega) (by omega)
section
variable {post : Int32 → Prop} {L : Nat} {xs : Nat → Int32} {J : bf_JT} {x2 x4 x5 x6 : Int32} {kc ks : Nat} {f1 f2 : Int32} {a1 a2 a3 a4 a5 a7 : Nat → Int32} {a6 : Nat → Int64} {n v : Nat}
theorem bf_368 (h0 : 2 ≤ n) (hn : n ≤ 7) (hLI : bf_LI n x2 a1 a2 a3) (HJ : bf_JH J n x2 x4) : wL_law_368 post L xs J (nI n) x2 x4 x5 kc ks (nI n) f1 f2 a1 a2 a3 a4 a5 a6 a7 := by
  obtain ⟨Pa, E, Sn, hS, hs, hev⟩ := hLI
  unfold wL_law_368
  obtain ⟨u, hu, eu⟩ := bf_mod7 h0 hn (x5 >>> ((7 : Int32) &&& 31))
  obtain ⟨w, hw, ew⟩ := bf_mod7 h0 hn (x5 >>> ((10 : Int32) &&& 31))
  rw [eu, ew]
  refine ⟨nI_ne0 (by omega) (by omega), nI_ne0 (by omega) (by omega), ?_⟩
  exact bf_holds hS hs hu hw hev (fun _ _ _ _ _ _ => br_f (by decide) (nm_e (HJ _ _ _ _ _ _ _ _ _ ⟨Pa, E, Sn, hS, hs, hev⟩)))
theorem bf_355 (h0 : 2 ≤ n) (hn : n ≤ 7) (hv : v < n) (hLI : bf_LI n x2 a1 a2 a3) (HJ : bf_JH J n x2 x4) : wL_law_355 post L xs J (nI n) x2 x4 x5 x6 (nI v) kc ks (nI n) f1 f2 a1 a2 a3 a4 a5 a6 a7 := by
  obtain ⟨Pa, E, Sn, hS, hs, hev⟩ := hLI
  unfold wL_law_355
  refine ⟨by decide, ?_⟩
  obtain ⟨j, hj, e⟩ := pk_andE x6 (m := 3) 2 (by decide)
  have e3 : (x6 &&& 3) - (x6 &&& 3) / 3 * 3 = nI (j % 3) := by
    rw [e]
    exact pk_rem (d := 3) (by omega) (by omega) (by omega)
  rw [e3]
  exact bf_observe hv hn (by omega) (fun _ => bf_368 h0 hn ⟨Pa, E, _, hS, bf_Sn_up hs (by omega), hev⟩ HJ)
theorem bf_enterW {po : Int32 → St2 → Prop} {r w x : Nat} (h : bf_LW n x2 v a1 a2 a3) (hv : v < n) (hr : r < 8) (hw : w < 2) (hx : x ≤ 9) (H : ∀ q b2, bf_LW n x2 v a1 b2 a3 → po q (nI n, f1, f2, a1, b2, a3, a4, a5, a6, a7)) : wpX_enter po (nI n, f1, f2, a1, a2, a3, a4, a5, a6, a7) (nI v) (nI r) (nI w) (nI x) := by
  obtain ⟨Pa, E, Sn, hS, hs, hx2⟩ := h
  refine bf_enter hS hv hr hw hx (fun _ => H _ _ ⟨Pa, E, Sn, hS, hs, hx2⟩) (fun _ => H _ _ ⟨Pa, bf_up E (16 * v + 2 * r + w) x, Sn, bf_S_up hS hx, hs, fun z => ?_⟩)
  obtain ⟨c, hc⟩ := hx2 z
  exact ⟨c, bf_ex_up hS.1 hc (by omega) (by omega)⟩
theorem bf_267 (h0 : 2 ≤ n) (hn : n ≤ 7) (hv : v < n) (hx2 : ¬ x2 = 0) (h : bf_LW n x2 v a1 a2 a3) (HJ : bf_JH J n x2 x4) : ∃ k, wL_law_267 post L xs J (nI n) x2 x4 x5 (nI v) kc ks k 0 (nI n) f1 f2 a1 a2 a3 a4 a5 a6 a7 := by
  obtain ⟨Pa, E, Sn, hS, hs, hx⟩ := h
  obtain ⟨c, hc⟩ := hx hx2
  refine pk_loop (fun k i (b : Nat → Int32) => wL_law_267 post L xs J (nI n) x2 x4 x5 (nI v) kc ks k (nI i) (nI n) f1 f2 a1 b a3 a4 a5 a6 a7) (fun i b => ∃ E', bf_S n Pa E' a1 b ∧ bf_ex n Pa E' v c ∧ ∀ q, q < 2 ^ bf_cn (Pa v) 7 → q < i → E' (16 * v + 2 * q) + E' (16 * v + 2 * q + 1) = 9) 8 0 a2 (by omega) ⟨E, hS, hc, fun q _ hq => absurd hq (by omega)⟩ ?_ ?_
  · intro k b h
    obtain ⟨E', hS', hex, h9⟩ := h
    refine pk_le 8 8 (fun _ => ?_) (fun z => absurd z (by omega))
    refine bf_368 h0 hn ⟨Pa, E', Sn, hS', hs, fun _ => ⟨bf_up c v 9, fun w hw r hr => ?_⟩⟩ HJ
    by_cases e : w = v
    · subst e
      have h8 := bf_rows hS'.1 (v := w) (by omega)
      rw [bf_up_s]
      exact h9 r hr (by omega)
    · rw [bf_up_n _ _ e]
      exact hex w hw e r hr
  · intro k i b hi h hw
    obtain ⟨E', hS', hex, h9⟩ := h
    refine pk_le 8 i (fun z => absurd z (by omega)) (fun _ => ?_)
    refine bf_enter (w := 0) (x := 4) hS' hv hi (by omega) (by omega) (fun z => ?_) (fun z => ?_)
    · refine br_t (by decide) (br_t (by decide) (nm_r (nI_1 i) (hw b ⟨E', hS', hex, fun q hq hq2 => h9 q hq (by omega)⟩)))
    · have e9 : E' (16 * v + 2 * i + 0) ≤ 9 := hS'.1.2.2.2 _ (by omega)
      refine br_f (nI_pos (by omega)) ?_
      have hS1 := bf_S_up (k := 16 * v + 2 * i + 0) (x := 4) hS' (by omega)
      have hS2 := bf_S_up (k := 16 * v + 2 * i + 0) hS1 e9
      refine bf_enter (w := 0) hS1 hv hi (by omega) e9 (fun z2 => absurd z (by omega)) (fun _ => ?_)
      refine br_f (nI_pos (by omega)) ?_
      have e : (9 : Int32) - nI (E' (16 * v + 2 * i + 0)) = nI (9 - E' (16 * v + 2 * i + 0)) := pk_sub (a := 9) e9
      rw [e]
      have hS3 := bf_S_up (k := 16 * v + 2 * i + 1) (x := 9 - E' (16 * v + 2 * i + 0)) hS2 (by omega)
      refine bf_enter (w := 1) hS2 hv hi (by omega) (by omega) (fun z2 => absurd z (by omega)) (fun _ => nm_r (nI_1 i) (hw _ ⟨_, hS3, bf_ex_up hS.1 (bf_ex_up hS.1 (bf_ex_up hS.1 hex (by omega) (by omega)) (by omega) (by omega)) (by omega) (by omega), fun q hq hq2 => ?_⟩))
      by_cases eq : q = i
      · subst eq
        rw [bf_up_s, bf_up_n _ _ (show 16 * v + 2 * q ≠ 16 * v + 2 * q + 1 by omega)]
        have e0 : bf_up (bf_up E' (16 * v + 2 * q + 0) 4) (16 * v + 2 * q + 0) (E' (16 * v + 2 * q + 0)) (16 * v + 2 * q) = E' (16 * v + 2 * q + 0) := bf_up_s _ _ _
        rw [e0]
        omega
      · rw [bf_up_n _ _ (by omega), bf_up_n _ _ (by omega), bf_up_n _ _ (by omega), bf_up_n _ _ (by omega), bf_up_n _ _ (by omega), bf_up_n _ _ (by omega)]
        exact h9 q hq (by omega)
theorem bf_260 (h0 : 2 ≤ n) (hn : n ≤ 7) (hv : v < n) (h : bf_LW n x2 v a1 a2 a3) (HJ : bf_JH J n x2 x4) : wL_law_260 post L xs J (nI n) x2 x4 x5 (nI v) kc ks (nI n) f1 f2 a1 a2 a3 a4 a5 a6 a7 := by
  refine br_c (fun z => ?_) (fun z => bf_267 h0 hn hv z h HJ)
  obtain ⟨Pa, E, Sn, hS, hs, hx⟩ := h
  exact bf_368 h0 hn ⟨Pa, E, Sn, hS, hs, fun q => absurd z q⟩ HJ
theorem bf_192 {e : Nat} (h0 : 2 ≤ n) (hn : n ≤ 7) (hv : v < n) (he : e < 10) (h : bf_LW n x2 v a1 a2 a3) (HJ : bf_JH J n x2 x4) : ∃ k, wL_law_192 post L xs J (nI n) x2 x4 x5 x6 (nI v) (nI e) kc ks k 0 (nI n) f1 f2 a1 a2 a3 a4 a5 a6 a7 := by
  obtain ⟨t, ht, et⟩ := pk_andE (x6 >>> ((8 : Int32) &&& 31)) (m := 3) 2 (by decide)
  refine pk_loop (fun k i (b : Nat → Int32) => wL_law_192 post L xs J (nI n) x2 x4 x5 x6 (nI v) (nI e) kc ks k (nI i) (nI n) f1 f2 a1 b a3 a4 a5 a6 a7) (fun _ b => bf_LW n x2 v a1 b a3) 8 0 a2 (by omega) h ?_ ?_
  · intro k b h
    exact pk_le 8 8 (fun _ => bf_260 h0 hn hv h HJ) (fun z => absurd z (by omega))
  · intro k i b hi h hw
    refine pk_le 8 i (fun z => absurd z (by omega)) (fun _ => ⟨by decide, ?_⟩)
    have hm : i * t ≤ 8 * 4 := Nat.mul_le_mul (by omega) (by omega)
    have ev : (nI e + nI i * ((x6 >>> ((8 : Int32) &&& 31)) &&& 3)) - (nI e + nI i * ((x6 >>> ((8 : Int32) &&& 31)) &&& 3)) / 10 * 10 = nI ((e + i * t) % 10) := by
      rw [et, pk_mul, nI_add]
      exact pk_rem (d := 10) (by omega) (by omega) (by omega)
    have e9 : (9 : Int32) - nI ((e + i * t) % 10) = nI (9 - (e + i * t) % 10) := pk_sub (a := 9) (by omega)
    rw [ev, e9]
    refine bf_enterW (w := 0) h hv hi (by omega) (by omega) (fun _ b2 h2 => ⟨by decide, ?_⟩)
    exact bf_enterW (w := 1) h2 hv hi (by omega) (by omega) (fun _ b3 h3 => nm_r (nI_1 i) (hw b3 h3))
theorem bf_174 {e : Nat} (h0 : 2 ≤ n) (hn : n ≤ 7) (hv : v < n) (he : e < 10) (h : bf_LW n x2 v a1 a2 a3) (HJ : bf_JH J n x2 x4) : wL_law_174 post L xs J (nI n) x2 x4 x5 x6 (nI v) (nI e) kc ks (nI n) f1 f2 a1 a2 a3 a4 a5 a6 a7 :=
  br_c (fun _ => bf_260 h0 hn hv h HJ) (fun _ => br_c (fun _ => bf_192 h0 hn hv he h HJ) (fun _ => bf_260 h0 hn hv h HJ))
theorem bf_cell {po : Int32 → Prop} (j : Nat) (hL : L ≤ 260) (hj : j < 2 ^ 31) (H : ∀ r, po r) : wpL_cell po L xs () (nI j) := pk_le L j (fun _ => H _) (fun z => ⟨pk_in j L z, H _⟩)
theorem bf_43 (hp : post 1) (hL : L ≤ 260) (h0 : 2 ≤ n) (hn : n ≤ 7) (hLI : bf_LI n x2 a1 a2 a3) : ∃ k, wL_law_43 post L xs (nI n) x2 kc ks k 2 (nI n) f1 f2 a1 a2 a3 a4 a5 a6 a7 := by
  refine pk_loop (fun k i (s : Int32 × Int32 × (Nat → Int32) × (Nat → Int32) × (Nat → Int32) × (Nat → Int32) × (Nat → Int32) × (Nat → Int64) × (Nat → Int32)) => wL_law_43 post L xs (nI n) x2 kc ks k (nI (2 + 2 * i)) (nI n) s.1 s.2.1 s.2.2.1 s.2.2.2.1 s.2.2.2.2.1 s.2.2.2.2.2.1 s.2.2.2.2.2.2.1 s.2.2.2.2.2.2.2.1 s.2.2.2.2.2.2.2.2) (fun _ s => bf_LI n x2 s.2.2.1 s.2.2.2.1 s.2.2.2.2.1) 130 0 (f1, f2, a1, a2, a3, a4, a5, a6, a7) (by omega) hLI ?_ ?_
  · intro k s _
    exact pk_le L (2 + 2 * 130) (fun _ => hp) (fun z => absurd z (by omega))
  · intro k i s hi hLI hw
    obtain ⟨g1, g2, c1, c2, c3, c4, c5, c6, c7⟩ := s
    have hLI : bf_LI n x2 c1 c2 c3 := hLI
    have HJ : bf_JH (wL_law_43 post L xs (nI n) x2 kc ks k) n x2 (nI (2 + 2 * i)) := by
      intro b1 b2 d1 d2 d3 b4 b5 b6 b7 h
      have e : nI (2 + 2 * i) + 2 = nI (2 + 2 * (i + 1)) := nI_add (2 + 2 * i) 2
      rw [e]
      exact hw (b1, b2, d1, d2, d3, b4, b5, b6, b7) h
    refine pk_le L (2 + 2 * i) (fun _ => hp) (fun _ => ?_)
    refine bf_cell (2 + 2 * i) hL (by omega) (fun c => ?_)
    rw [nI_1]
    refine bf_cell (2 + 2 * i + 1) hL (by omega) (fun d => ?_)
    obtain ⟨v, hv, ev⟩ := bf_mod7 h0 hn (c >>> ((4 : Int32) &&& 31))
    obtain ⟨j, hj, ej⟩ := pk_andE d (m := 15) 4 (by decide)
    have e10 : (d &&& 15) - (d &&& 15) / 10 * 10 = nI (j % 10) := by
      rw [ej]
      exact pk_rem (d := 10) (by omega) (by omega) (by omega)
    obtain ⟨r, hr, er⟩ := pk_andE (d >>> ((4 : Int32) &&& 31)) (m := 7) 3 (by decide)
    have he : j % 10 < 10 := Nat.mod_lt _ (by omega)
    refine nm_e ⟨nI_ne0 (by omega) (by omega), nm_r ev ⟨by decide, nm_r e10 ?_⟩⟩
    have hLI' := hLI
    obtain ⟨Pa, E, Sn, hS, hs, hev⟩ := hLI'
    refine br_c (fun _ => br_c (fun _ => br_c (fun _ => br_c (fun z => ?_) (fun _ => bf_355 h0 hn hv hLI HJ)) (fun _ => bf_355 h0 hn hv hLI HJ)) (fun _ => nm_r er ?_)) (fun _ => ?_)
    · exact bf_sow hS hv (by omega) (fun _ E' b2 hS' => bf_368 h0 hn ⟨Pa, E', Sn, hS', hs, fun q => absurd z q⟩ HJ)
    · refine bf_enterW (w := 0) (bf_LI_LW hLI) hv hr (by omega) (by omega) (fun q b2 h => br_c (fun _ => bf_174 h0 hn hv he h HJ) (fun _ => br_c (fun _ => bf_174 h0 hn hv he h HJ) (fun _ => ?_)))
      have e9 : (9 : Int32) - nI (j % 10) = nI (9 - j % 10) := pk_sub (a := 9) (by omega)
      rw [e9]
      exact bf_enterW (w := 1) h hv hr (by omega) (by omega) (fun q b3 h3 => bf_174 h0 hn hv he h3 HJ)
    · refine bf_few (fun q => bf_parents hS hv (fun _ => bf_368 h0 hn hLI HJ) (fun _ m E' b1 b2 hS' h1 h3 => bf_368 h0 hn ⟨_, E', Sn, hS', hs, fun z => ?_⟩ HJ))
      obtain ⟨cc, hc⟩ := hev z
      refine ⟨bf_up cc v 2, fun w hw r hr => ?_⟩
      have h8 := bf_rows hS'.1 (v := w) (by omega)
      by_cases e : w = v
      · subst e
        rw [bf_up_s, h1 _ (by omega) (by omega), h1 _ (by omega) (by omega)]
      · rw [bf_up_n _ _ e] at hr h8
        rw [bf_up_n _ _ e, h3 _ (by omega), h3 _ (by omega)]
        exact hc w hw r hr
theorem bf_30 (hp : post 1) (hL : L ≤ 260) (h0 : 2 ≤ n) (hn : n ≤ 7) : wL_law_30 post L xs (nI n) x2 0 0 := by
  refine ⟨by omega, by omega, 7, 2083, by omega, by omega, bf_init h0 hn (fun b2 b3 h2 h3 => bf_43 hp hL h0 hn ?_)⟩
  refine ⟨fun _ => 0, fun _ => 1, fun _ => 2, ⟨⟨h0, hn, fun v _ => ⟨Nat.two_pow_pos v, show bf_cn 0 7 ≤ 3 by decide⟩, fun _ _ => show 1 ≤ 9 by omega⟩, fun _ _ => rfl, fun k hk => h2 k hk⟩, fun v hv => ⟨h3 v hv, Nat.le_refl 2⟩, fun _ => ⟨fun _ => 2, fun _ _ _ _ => rfl⟩⟩
end
theorem i_vc (xs : Nat → Int32) (L : Nat) (hL : L ≤ 260) : wpL_law (fun r => r = 1) L xs := by
  unfold wpL_law
  refine bf_cell 0 hL (by omega) (fun r => ⟨by decide, ?_⟩)
  obtain ⟨j, hj, ej⟩ := pk_andE r (m := 2147483647) 31 (by decide)
  have h6 : j % 6 < 6 := Nat.mod_lt _ (by omega)
  have e : 2 + ((r &&& 2147483647) - (r &&& 2147483647) / 6 * 6) = nI (2 + j % 6) := by
    rw [ej]
    have q : nI j - nI j / 6 * 6 = nI (j % 6) := pk_rem (d := 6) (by omega) (by omega) (by omega)
    rw [q]
    exact nI_add 2 (j % 6)
  refine nm_r e (bf_cell 1 hL (by omega) (fun r4 => br_c (fun _ => ?_) (fun _ => ?_)))
  · exact bf_30 rfl hL (by omega) (by omega)
  · exact bf_30 rfl hL (by omega) (by omega)
end
