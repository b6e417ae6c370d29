section
/-! ===== counting: how many places below n hold f ===== -/
def zc_n (f : Nat → Bool) : Nat → Nat
  | 0 => 0
  | n + 1 => zc_n f n + (if f n = true then 1 else 0)
theorem zc_t {f : Nat → Bool} {n : Nat} (h : f n = true) : zc_n f (n + 1) = zc_n f n + 1 := by
  show zc_n f n + (if f n = true then 1 else 0) = _
  rw [if_pos h]
theorem zc_f {f : Nat → Bool} {n : Nat} (h : f n = false) : zc_n f (n + 1) = zc_n f n := by
  show zc_n f n + (if f n = true then 1 else 0) = _
  rw [h]
  rfl
theorem zc_step (f : Nat → Bool) (n : Nat) : zc_n f n ≤ zc_n f (n + 1) ∧ zc_n f (n + 1) ≤ zc_n f n + 1 := by
  cases h : f n
  · rw [zc_f h]; omega
  · rw [zc_t h]; omega
theorem zc_le (f : Nat → Bool) (n : Nat) : zc_n f n ≤ n := by
  induction n with
  | zero => exact Nat.le_refl 0
  | succ n ih => have := zc_step f n; omega
theorem zc_monoA (f : Nat → Bool) (a d : Nat) : zc_n f a ≤ zc_n f (a + d) := by
  induction d with
  | zero => exact Nat.le_refl _
  | succ d ih =>
    have h := zc_step f (a + d)
    have e : a + (d + 1) = a + d + 1 := rfl
    rw [e]
    omega
theorem zc_mono {f : Nat → Bool} {a b : Nat} (h : a ≤ b) : zc_n f a ≤ zc_n f b := by
  have e : b = a + (b - a) := by omega
  rw [e]
  exact zc_monoA f a (b - a)
theorem zc_lt {f : Nat → Bool} {a b : Nat} (h : a < b) (ha : f a = true) : zc_n f a < zc_n f b := by
  have h1 := zc_t ha
  have h2 : zc_n f (a + 1) ≤ zc_n f b := zc_mono h
  omega
theorem zc_eq {f g : Nat → Bool} {n : Nat} (h : ∀ j, j < n → f j = g j) : zc_n f n = zc_n g n := by
  induction n with
  | zero => rfl
  | succ n ih =>
    have i1 := ih (fun j hj => h j (by omega))
    have i2 := h n (by omega)
    cases e : g n
    · rw [zc_f e, zc_f (i2.trans e), i1]
    · rw [zc_t e, zc_t (i2.trans e), i1]
theorem zc_app (f : Nat → Bool) (a b : Nat) : zc_n f (a + b) = zc_n f a + zc_n (fun j => f (a + j)) b := by
  induction b with
  | zero => rfl
  | succ b ih =>
    have e : a + (b + 1) = a + b + 1 := rfl
    rw [e]
    cases h : f (a + b)
    · rw [zc_f h, zc_f (f := fun j => f (a + j)) h, ih]
    · rw [zc_t h, zc_t (f := fun j => f (a + j)) h, ih, Nat.add_assoc]
theorem zc_allF {f : Nat → Bool} {n : Nat} (h : ∀ j, j < n → f j = false) : zc_n f n = 0 := by
  induction n with
  | zero => rfl
  | succ n ih => rw [zc_f (h n (by omega)), ih (fun j hj => h j (by omega))]
theorem zc_allT {f : Nat → Bool} {n : Nat} (h : ∀ j, j < n → f j = true) : zc_n f n = n := by
  induction n with
  | zero => rfl
  | succ n ih => rw [zc_t (h n (by omega)), ih (fun j hj => h j (by omega))]
theorem zc_none {f : Nat → Bool} {a b : Nat} (hab : a ≤ b) (h : ∀ j, a ≤ j → j < b → f j = false) : zc_n f b = zc_n f a := by
  have e : b = a + (b - a) := by omega
  rw [e, zc_app, zc_allF (fun j hj => h (a + j) (by omega) (by omega)), Nat.add_zero]
theorem zc_full {f : Nat → Bool} {a b : Nat} (hab : a ≤ b) (h : ∀ j, a ≤ j → j < b → f j = true) : zc_n f b = zc_n f a + (b - a) := by
  have e : b = a + (b - a) := by omega
  have t := zc_app f a (b - a)
  rw [← e, zc_allT (f := fun j => f (a + j)) (fun j hj => h (a + j) (by omega) (by omega))] at t
  exact t
theorem zc_none' {f : Nat → Bool} {a b : Nat} (h : zc_n f b ≤ zc_n f a) {j : Nat} (h1 : a ≤ j) (h2 : j < b) : f j = false := by
  cases e : f j
  · rfl
  · have t1 := zc_lt h2 e
    have t2 : zc_n f a ≤ zc_n f j := zc_mono h1
    omega
theorem zc_uniq {f : Nat → Bool} {a b : Nat} (ha : f a = true) (hb : f b = true) (h : zc_n f a = zc_n f b) : a = b := by
  rcases Nat.lt_trichotomy a b with z | z | z
  · have := zc_lt z ha; omega
  · exact z
  · have := zc_lt z hb; omega
theorem zc_ltI {f : Nat → Bool} {a b : Nat} (h : zc_n f a < zc_n f b) : a < b := by
  rcases Nat.lt_or_ge a b with z | z
  · exact z
  · have : zc_n f b ≤ zc_n f a := zc_mono z
    omega
theorem zc_sel {f : Nat → Bool} {n k : Nat} (h : k < zc_n f n) : ∃ v, v < n ∧ f v = true ∧ zc_n f v = k := by
  induction n with
  | zero => exact absurd h (Nat.not_lt_zero k)
  | succ n ih =>
    rcases Nat.lt_or_ge k (zc_n f n) with z | z
    · obtain ⟨v, h1, h2, h3⟩ := ih z
      exact ⟨v, by omega, h2, h3⟩
    · cases e : f n
      · rw [zc_f e] at h; omega
      · rw [zc_t e] at h; exact ⟨n, by omega, e, by omega⟩
theorem zc_put {f g : Nat → Bool} {v : Nat} (hv : f v = false) (gv : g v = true) (h : ∀ j, j ≠ v → g j = f j) (n : Nat) : zc_n g n = zc_n f n + (if v < n then 1 else 0) := by
  induction n with
  | zero => rfl
  | succ n ih =>
    rcases Nat.lt_trichotomy n v with z | z | z
    · have e := h n (by omega)
      rw [if_neg (by omega)] at ih ⊢
      cases t : f n
      · rw [zc_f t, zc_f (e.trans t), ih]
      · rw [zc_t t, zc_t (e.trans t), ih]
    · subst z
      rw [if_neg (by omega)] at ih
      rw [if_pos (by omega), zc_t gv, zc_f hv, ih]
    · have e := h n (by omega)
      rw [if_pos z] at ih
      rw [if_pos (by omega)]
      cases t : f n
      · rw [zc_f t, zc_f (e.trans t), ih]
      · rw [zc_t t, zc_t (e.trans t), ih]
theorem zc_ie (f g : Nat → Bool) (n : Nat) : zc_n (fun j => f j || g j) n + zc_n (fun j => f j && g j) n = zc_n f n + zc_n g n := by
  induction n with
  | zero => rfl
  | succ n ih =>
    show (zc_n (fun j => f j || g j) n + (if (f n || g n) = true then 1 else 0)) + (zc_n (fun j => f j && g j) n + (if (f n && g n) = true then 1 else 0)) = (zc_n f n + (if f n = true then 1 else 0)) + (zc_n g n + (if g n = true then 1 else 0))
    cases f n <;> cases g n <;> simp <;> omega
theorem zc_diff (f g : Nat → Bool) (n : Nat) : zc_n (fun j => f j && !g j) n + zc_n (fun j => f j && g j) n = zc_n f n := by
  induction n with
  | zero => rfl
  | succ n ih =>
    show (zc_n (fun j => f j && !g j) n + (if (f n && !g n) = true then 1 else 0)) + (zc_n (fun j => f j && g j) n + (if (f n && g n) = true then 1 else 0)) = (zc_n f n + (if f n = true then 1 else 0))
    cases f n <;> cases g n <;> simp <;> omega
theorem zc_not (f : Nat → Bool) (n : Nat) : zc_n (fun j => !f j) n + zc_n f n = n := by
  induction n with
  | zero => rfl
  | succ n ih =>
    show (zc_n (fun j => !f j) n + (if (!f n) = true then 1 else 0)) + (zc_n f n + (if f n = true then 1 else 0)) = n + 1
    cases f n <;> simp <;> omega
theorem zc_sub {f g : Nat → Bool} {n : Nat} (h : ∀ j, j < n → f j = true → g j = true) : zc_n (fun j => f j && g j) n = zc_n f n := by
  apply zc_eq
  intro j hj
  have := h j hj
  revert this
  cases f j <;> cases g j <;> simp
theorem zc_andle (f g : Nat → Bool) (n : Nat) : zc_n (fun j => f j && g j) n ≤ zc_n f n := by
  have := zc_diff f g n
  omega
theorem zc_subI {f g : Nat → Bool} {n : Nat} (h : zc_n f n ≤ zc_n (fun j => f j && g j) n) : ∀ j, j < n → f j = true → g j = true := by
  intro j hj hf
  have t := zc_diff f g n
  have t2 : zc_n (fun j => f j && !g j) n ≤ zc_n (fun j => f j && !g j) 0 := by
    show _ ≤ 0
    omega
  have t3 := zc_none' (f := fun j => f j && !g j) t2 (Nat.zero_le j) hj
  have t4 : (f j && !g j) = false := t3
  rw [hf] at t4
  revert t4
  cases g j <;> simp
theorem zc_ltD (v n : Nat) (h : v ≤ n) : zc_n (fun j => decide (j < v)) n = v := by
  have h1 := zc_none (f := fun j => decide (j < v)) h (fun j hj _ => decide_eq_false (by omega))
  have h2 := zc_allT (f := fun j => decide (j < v)) (n := v) (fun j hj => decide_eq_true hj)
  rw [h1, h2]
/-- the least place that holds f -/
theorem zc_least {f : Nat → Bool} {n j : Nat} (hj : j < n) (h : f j = true) : ∃ v, v ≤ j ∧ v < n ∧ f v = true ∧ ∀ i, i < v → f i = false := by
  have p : 0 < zc_n f (j + 1) := by
    have := zc_lt (show j < j + 1 by omega) h
    omega
  obtain ⟨v, h1, h2, h3⟩ := zc_sel p
  exact ⟨v, by omega, by omega, h2, fun i hi => zc_none' (a := 0) (b := v) (by rw [h3]; exact Nat.le_refl 0) (Nat.zero_le i) hi⟩
end
section
/-! ===== a word by its bits ===== -/
def zb (w : Int64) (i : Nat) : Bool := w.toBitVec.getLsbD i
theorem zb_ext {x y : Int64} (h : ∀ i, i < 64 → zb x i = zb y i) : x = y := Int64.toBitVec_inj.mp (BitVec.eq_of_getLsbD_eq (fun i hi => h i hi))
theorem zb_or (x y : Int64) (i : Nat) : zb (x ||| y) i = (zb x i || zb y i) := by unfold zb; rw [Int64.toBitVec_or, BitVec.getLsbD_or]
theorem zb_and (x y : Int64) (i : Nat) : zb (x &&& y) i = (zb x i && zb y i) := by unfold zb; rw [Int64.toBitVec_and, BitVec.getLsbD_and]
theorem zb_xor (x y : Int64) (i : Nat) : zb (x ^^^ y) i = (zb x i ^^ zb y i) := by unfold zb; rw [Int64.toBitVec_xor, BitVec.getLsbD_xor]
theorem zb_big {x : Int64} {i : Nat} (h : 64 ≤ i) : zb x i = false := BitVec.getLsbD_of_ge _ _ h
theorem zb_0 (i : Nat) : zb 0 i = false := BitVec.getLsbD_zero
theorem zb_m1 : ∀ i, i < 64 → zb (-1) i = true := by decide +kernel
theorem zb_not (x : Int64) {i : Nat} (hi : i < 64) : zb (x ^^^ (-1)) i = !zb x i := by rw [zb_xor, zb_m1 i hi]; cases zb x i <;> rfl
theorem zb_neg (x : Int64) {i : Nat} (hi : i < 64) : zb (-x) i = (zb x i ^^ decide (∃ j, j < i ∧ zb x j = true)) := by
  unfold zb
  rw [Int64.toBitVec_neg, BitVec.getLsbD_neg]
  simp only [hi, decide_true, Bool.true_and]
theorem zb_pre (x : Int64) {i : Nat} (hi : i < 64) : zb (x - 1) i = !(zb x i ^^ decide (∃ j, j < i ∧ zb x j = true)) := by
  have e : x - 1 = (-x) ^^^ (-1) := by
    apply Int64.toBitVec_inj.mp
    rw [Int64.toBitVec_sub, Int64.toBitVec_xor, Int64.toBitVec_neg]
    show x.toBitVec - 1#64 = -x.toBitVec ^^^ BitVec.allOnes 64
    rw [← BitVec.not_neg, BitVec.xor_allOnes]
  rw [e, zb_not _ hi, zb_neg x hi]
theorem zb_sh1 : ∀ v, v < 64 → ((1 : Int64) <<< ((nI v).toInt64 &&& 63)).toBitVec = BitVec.twoPow 64 v := by decide +kernel
/-- one bit -/
theorem zb_one {v : Nat} (hv : v < 64) (i : Nat) : zb ((1 : Int64) <<< ((nI v).toInt64 &&& 63)) i = decide (i = v) := by
  unfold zb
  rw [zb_sh1 v hv, BitVec.getLsbD_twoPow]
  simp only [hv, decide_true, Bool.true_and]
  exact decide_eq_decide.mpr ⟨fun z => z.symm, fun z => z.symm⟩
/-- the bits from v on -/
theorem zb_from {v : Nat} (hv : v < 64) {i : Nat} (hi : i < 64) : zb (-((1 : Int64) <<< ((nI v).toInt64 &&& 63))) i = decide (v ≤ i) := by
  rw [zb_neg _ hi]
  have e : (∃ j, j < i ∧ zb ((1 : Int64) <<< ((nI v).toInt64 &&& 63)) j = true) ↔ v < i := by
    constructor
    · rintro ⟨j, h1, h2⟩
      rw [zb_one hv] at h2
      have := of_decide_eq_true h2
      omega
    · intro h
      exact ⟨v, h, by rw [zb_one hv]; exact decide_eq_true rfl⟩
  rw [zb_one hv, decide_eq_decide.mpr e]
  rcases Nat.lt_trichotomy v i with z | z | z
  · rw [decide_eq_false (by omega), decide_eq_true z, decide_eq_true (by omega)]; rfl
  · rw [decide_eq_true z.symm, decide_eq_false (by omega), decide_eq_true (by omega)]; rfl
  · rw [decide_eq_false (by omega), decide_eq_false (by omega), decide_eq_false (by omega)]; rfl
/-- the bits below v -/
theorem zb_till {v : Nat} (hv : v < 64) {i : Nat} (hi : i < 64) : zb (((1 : Int64) <<< ((nI v).toInt64 &&& 63)) - 1) i = decide (i < v) := by
  have e : ((1 : Int64) <<< ((nI v).toInt64 &&& 63)) - 1 = (-((1 : Int64) <<< ((nI v).toInt64 &&& 63))) ^^^ (-1) := by
    apply zb_ext
    intro j hj
    rw [zb_pre _ hj, zb_not _ hj, zb_neg _ hj]
  rw [e, zb_not _ hi, zb_from hv hi]
  rcases Nat.lt_or_ge i v with z | z
  · rw [decide_eq_true z, decide_eq_false (show ¬ v ≤ i by omega)]; rfl
  · rw [decide_eq_false (show ¬ i < v by omega), decide_eq_true (show v ≤ i from z)]; rfl
/-- the lowest bit taken away -/
theorem zb_rest (w : Int64) {i : Nat} (hi : i < 64) : zb (w &&& (w - 1)) i = (zb w i && decide (∃ j, j < i ∧ zb w j = true)) := by
  rw [zb_and, zb_pre w hi]
  cases zb w i <;> simp
/-- the bits below the lowest one -/
theorem zb_low (w : Int64) {i : Nat} (hi : i < 64) : zb ((w &&& (-w)) - 1) i = decide (∀ j, j ≤ i → zb w j = false) := by
  have e1 : ∀ j, j < 64 → zb (w &&& (-w)) j = (zb w j && !decide (∃ k, k < j ∧ zb w k = true)) := by
    intro j hj
    rw [zb_and, zb_neg w hj]
    cases zb w j <;> simp
  rw [zb_pre _ hi]
  by_cases h : ∀ j, j ≤ i → zb w j = false
  · rw [decide_eq_true h]
    have h1 : zb (w &&& (-w)) i = false := by rw [e1 i hi, h i (Nat.le_refl i)]; rfl
    have h2 : ¬ ∃ j, j < i ∧ zb (w &&& (-w)) j = true := by
      rintro ⟨j, a, b⟩
      rw [e1 j (by omega), h j (by omega)] at b
      exact absurd b (by simp)
    rw [h1, decide_eq_false h2]; rfl
  · rw [decide_eq_false h]
    have hx : ∃ j, j ≤ i ∧ zb w j = true := by
      apply Classical.byContradiction
      intro z
      apply h
      intro j hj
      cases e : zb w j
      · rfl
      · exact absurd ⟨j, hj, e⟩ z
    obtain ⟨j, a, b⟩ := hx
    obtain ⟨v, v1, v2, v3, v4⟩ := zc_least (n := 64) (show j < 64 by omega) b
    have nv : ¬ ∃ k, k < v ∧ zb w k = true := by
      rintro ⟨k, k1, k2⟩
      rw [v4 k k1] at k2
      exact absurd k2 (by simp)
    have hv : zb (w &&& (-w)) v = true := by rw [e1 v v2, v3, decide_eq_false nv]; rfl
    rcases Nat.lt_or_ge v i with z | z
    · have h1 : zb (w &&& (-w)) i = false := by
        rw [e1 i hi, decide_eq_true ⟨v, z, v3⟩]; simp
      rw [h1, decide_eq_true ⟨v, z, hv⟩]; rfl
    · have ev : v = i := by omega
      subst ev
      have h2 : ¬ ∃ k, k < v ∧ zb (w &&& (-w)) k = true := by
        rintro ⟨k, k1, k2⟩
        rw [e1 k (by omega), v4 k k1] at k2
        exact absurd k2 (by simp)
      rw [hv, decide_eq_false h2]; rfl
theorem zb_shl1 (w : Int64) {i : Nat} (hi : i < 64) : zb (w <<< ((1 : Int32).toInt64 &&& 63)) i = (decide (0 < i) && zb w (i - 1)) := by
  have h : (((1 : Int32).toInt64 &&& 63).toBitVec.smod 64).toNat = 1 := by decide
  show (w.toBitVec <<< (((1 : Int32).toInt64 &&& 63).toBitVec.smod 64).toNat).getLsbD i = _
  rw [h, BitVec.getLsbD_shiftLeft]
  unfold zb
  cases i with
  | zero => simp
  | succ i => simp [hi]
theorem zb_cnt : ∀ k, k < 64 → ((nI k).toInt64.toUInt64 &&& Int64.toUInt64 63).toNat = k := by decide +kernel
/-- one bit asked -/
theorem zb_ask (w : Int64) {v : Nat} (hv : v < 64) : ((w.toUInt64 >>> ((nI v).toInt64.toUInt64 &&& Int64.toUInt64 63)).toInt64 &&& 1) = 1 ↔ zb w v = true := by
  have e : (w.toUInt64 >>> ((nI v).toInt64.toUInt64 &&& Int64.toUInt64 63)).toInt64.toBitVec = w.toBitVec >>> v := by
    apply BitVec.eq_of_toNat_eq
    show (w.toUInt64 >>> ((nI v).toInt64.toUInt64 &&& Int64.toUInt64 63)).toNat = _
    rw [UInt64.toNat_shiftRight, zb_cnt v hv, Nat.mod_eq_of_lt hv, BitVec.toNat_ushiftRight]
    rfl
  rw [← Int64.toBitVec_inj, Int64.toBitVec_and, e]
  show w.toBitVec >>> v &&& 1#64 = 1#64 ↔ _
  unfold zb
  constructor
  · intro h
    have t := congrArg (fun x => x.getLsbD 0) h
    simpa using t
  · intro h
    apply BitVec.eq_of_getLsbD_eq
    intro i hi
    cases i with
    | zero => simp [h]
    | succ i => simp
theorem zb_nz {w : Int64} (h : ¬ w = 0) : ∃ j, j < 64 ∧ zb w j = true := by
  apply Classical.byContradiction
  intro z
  apply h
  apply zb_ext
  intro i hi
  rw [zb_0]
  cases e : zb w i
  · rfl
  · exact absurd ⟨i, hi, e⟩ z
end
section
/-! ===== how many ones a word has: the sum by pairs, fours, bytes ===== -/
theorem zp_and {a b c d : Nat} (hb : b < 256) (hd : d < 256) : (256 * a + b) &&& (256 * c + d) = 256 * (a &&& c) + (b &&& d) := by
  have e1 : (256 * a + b) / 2 ^ 8 = a := by omega
  have e2 : (256 * c + d) / 2 ^ 8 = c := by omega
  have e3 : (256 * a + b) % 2 ^ 8 = b := by omega
  have e4 : (256 * c + d) % 2 ^ 8 = d := by omega
  have h1 : ((256 * a + b) &&& (256 * c + d)) / 2 ^ 8 = a &&& c := by rw [Nat.and_div_two_pow, e1, e2]
  have h2 : ((256 * a + b) &&& (256 * c + d)) % 2 ^ 8 = b &&& d := by rw [Nat.and_mod_two_pow, e3, e4]
  have h3 := Nat.div_add_mod ((256 * a + b) &&& (256 * c + d)) (2 ^ 8)
  rw [h1, h2] at h3
  exact h3.symm
/-- k bytes m -/
def zp_M (m : Nat) : Nat → Nat
  | 0 => 0
  | k + 1 => 256 * zp_M m k + m
def zp_1 (k n : Nat) : Nat := n - (n / 2 &&& zp_M 85 k)
def zp_2 (k n : Nat) : Nat := (n &&& zp_M 51 k) + (n / 4 &&& zp_M 51 k)
def zp_3 (k n : Nat) : Nat := (n + n / 16) &&& zp_M 15 k
def zp_b1 (l : Nat) : Nat := l - (l / 2 &&& 85)
def zp_b2 (l : Nat) : Nat := (l &&& 51) + (l / 4 &&& 51)
def zp_b3 (l : Nat) : Nat := (l + l / 16) &&& 15
theorem zp_d1 : ∀ l, l < 256 → ∀ b, b < 2 → (128 * b + l / 2) &&& 85 = l / 2 &&& 85 := by decide +kernel
theorem zp_d2 : ∀ l, l < 256 → ∀ b, b < 4 → (64 * b + l / 4) &&& 51 = l / 4 &&& 51 := by decide +kernel
theorem zp_d3 : ∀ l, l < 103 → ∀ b, b < 7 → (l + l / 16 + 16 * b) &&& 15 = (l + l / 16) &&& 15 := by decide +kernel
theorem zp_d4 : ∀ l, l < 256 → zp_b1 l < 256 ∧ zp_b2 (zp_b1 l) < 103 ∧ zp_b3 (zp_b2 (zp_b1 l)) = zc_n (fun j => l.testBit j) 8 := by decide +kernel
theorem zp_s1 (k h : Nat) {l : Nat} (hl : l < 256) : zp_1 (k + 1) (256 * h + l) = 256 * zp_1 k h + zp_b1 l := by
  show 256 * h + l - ((256 * h + l) / 2 &&& (256 * zp_M 85 k + 85)) = 256 * (h - (h / 2 &&& zp_M 85 k)) + (l - (l / 2 &&& 85))
  have e : (256 * h + l) / 2 = 256 * (h / 2) + (128 * (h % 2) + l / 2) := by omega
  rw [e, zp_and (by omega) (by omega), zp_d1 l hl (h % 2) (by omega)]
  have a1 : (h / 2 &&& zp_M 85 k) ≤ h / 2 := Nat.and_le_left
  have a2 : (l / 2 &&& 85) ≤ l / 2 := Nat.and_le_left
  generalize (h / 2 &&& zp_M 85 k) = A at a1 ⊢
  generalize (l / 2 &&& 85) = B at a2 ⊢
  omega
theorem zp_s2 (k h : Nat) {l : Nat} (hl : l < 256) : zp_2 (k + 1) (256 * h + l) = 256 * zp_2 k h + zp_b2 l := by
  show ((256 * h + l) &&& (256 * zp_M 51 k + 51)) + ((256 * h + l) / 4 &&& (256 * zp_M 51 k + 51)) = 256 * ((h &&& zp_M 51 k) + (h / 4 &&& zp_M 51 k)) + ((l &&& 51) + (l / 4 &&& 51))
  have e : (256 * h + l) / 4 = 256 * (h / 4) + (64 * (h % 4) + l / 4) := by omega
  rw [e, zp_and (by omega) (by omega), zp_and (by omega) (by omega), zp_d2 l hl (h % 4) (by omega)]
  omega
theorem zp_s3 (k h : Nat) {l : Nat} (hl : l < 103) (hh : h % 16 < 7) : zp_3 (k + 1) (256 * h + l) = 256 * zp_3 k h + zp_b3 l := by
  show ((256 * h + l) + (256 * h + l) / 16) &&& (256 * zp_M 15 k + 15) = 256 * ((h + h / 16) &&& zp_M 15 k) + ((l + l / 16) &&& 15)
  have e : (256 * h + l) + (256 * h + l) / 16 = 256 * (h + h / 16) + (l + l / 16 + 16 * (h % 16)) := by omega
  rw [e, zp_and (by omega) (by omega), zp_d3 l hl (h % 16) hh]
theorem zp_m3 (z k : Nat) : (z &&& zp_M 51 k) % 16 ≤ 3 := by
  have h : (z &&& zp_M 51 k) % 2 ^ 4 = z % 2 ^ 4 &&& zp_M 51 k % 2 ^ 4 := Nat.and_mod_two_pow
  have h2 : (z % 2 ^ 4 &&& zp_M 51 k % 2 ^ 4) ≤ zp_M 51 k % 2 ^ 4 := Nat.and_le_right
  have h3 : zp_M 51 k % 2 ^ 4 ≤ 3 := by
    cases k with
    | zero => exact Nat.zero_le _
    | succ k => show (256 * zp_M 51 k + 51) % 2 ^ 4 ≤ 3; omega
  have h4 : (2 : Nat) ^ 4 = 16 := rfl
  rw [← h, h4] at h2
  rw [h4] at h3
  omega
theorem zp_m2 (k z : Nat) : zp_2 k z % 16 < 7 := by
  have h1 := zp_m3 z k
  have h2 := zp_m3 (z / 4) k
  unfold zp_2
  omega
def zp_T (k n : Nat) : Nat := zp_3 k (zp_2 k (zp_1 k n))
theorem zp_Ts (k h : Nat) {l : Nat} (hl : l < 256) : zp_T (k + 1) (256 * h + l) = 256 * zp_T k h + zc_n (fun j => l.testBit j) 8 := by
  obtain ⟨d1, d2, d3⟩ := zp_d4 l hl
  unfold zp_T
  rw [zp_s1 k h hl, zp_s2 k _ d1, zp_s3 k _ d2 (zp_m2 k _), d3]
theorem zp_cnt (m h : Nat) {l : Nat} (hl : l < 256) : zc_n (fun j => (256 * h + l).testBit j) (8 + m) = zc_n (fun j => l.testBit j) 8 + zc_n (fun j => h.testBit j) m := by
  rw [zc_app]
  have e1 : (256 * h + l) / 2 ^ 8 = h := by omega
  have e3 : (256 * h + l) % 2 ^ 8 = l := by omega
  have h1 : zc_n (fun j => (256 * h + l).testBit j) 8 = zc_n (fun j => l.testBit j) 8 := by
    apply zc_eq
    intro j hj
    show (256 * h + l).testBit j = l.testBit j
    rw [← e3, Nat.testBit_mod_two_pow, e3, decide_eq_true hj, Bool.true_and]
  have h2 : zc_n (fun j => (256 * h + l).testBit (8 + j)) m = zc_n (fun j => h.testBit j) m := by
    apply zc_eq
    intro j hj
    show (256 * h + l).testBit (8 + j) = h.testBit j
    have t := Nat.testBit_div_two_pow (n := 8) (256 * h + l) j
    rw [e1, Nat.add_comm j 8] at t
    exact t.symm
  rw [h1, h2]
/-- one byte: the three steps, and the count -/
theorem zp_byte (k n : Nat) : ∃ c h, c ≤ 8 ∧ h = n / 256 ∧ zp_T (k + 1) n = 256 * zp_T k h + c ∧ ∀ m, zc_n (fun j => n.testBit j) (8 + m) = c + zc_n (fun j => h.testBit j) m := by
  have hl : n % 256 < 256 := Nat.mod_lt _ (by decide)
  have e : 256 * (n / 256) + n % 256 = n := Nat.div_add_mod n 256
  refine ⟨zc_n (fun j => (n % 256).testBit j) 8, n / 256, zc_le _ 8, rfl, ?_, fun m => ?_⟩
  · have := zp_Ts k (n / 256) hl
    rw [e] at this
    exact this
  · have := zp_cnt m (n / 256) hl
    rw [e] at this
    exact this
theorem zp_fin {c0 c1 c2 c3 c4 c5 c6 c7 : Nat} (h0 : c0 ≤ 8) (h1 : c1 ≤ 8) (h2 : c2 ≤ 8) (h3 : c3 ≤ 8) (h4 : c4 ≤ 8) (h5 : c5 ≤ 8) (h6 : c6 ≤ 8) (h7 : c7 ≤ 8) :
    (256 * (256 * (256 * (256 * (256 * (256 * (256 * (256 * 0 + c7) + c6) + c5) + c4) + c3) + c2) + c1) + c0) * 72340172838076673 % 18446744073709551616 / 72057594037927936 = c0 + c1 + c2 + c3 + c4 + c5 + c6 + c7 := by
  have e : (256 * (256 * (256 * (256 * (256 * (256 * (256 * (256 * 0 + c7) + c6) + c5) + c4) + c3) + c2) + c1) + c0) * 72340172838076673 = 18446744073709551616 * (1 * (c1 + c2 + c3 + c4 + c5 + c6 + c7) + 256 * (c2 + c3 + c4 + c5 + c6 + c7) + 65536 * (c3 + c4 + c5 + c6 + c7) + 16777216 * (c4 + c5 + c6 + c7) + 4294967296 * (c5 + c6 + c7) + 1099511627776 * (c6 + c7) + 281474976710656 * (c7)) + (72057594037927936 * (c0 + c1 + c2 + c3 + c4 + c5 + c6 + c7) + (1 * (c0) + 256 * (c0 + c1) + 65536 * (c0 + c1 + c2) + 16777216 * (c0 + c1 + c2 + c3) + 4294967296 * (c0 + c1 + c2 + c3 + c4) + 1099511627776 * (c0 + c1 + c2 + c3 + c4 + c5) + 281474976710656 * (c0 + c1 + c2 + c3 + c4 + c5 + c6))) := by omega
  have r : 1 * (c0) + 256 * (c0 + c1) + 65536 * (c0 + c1 + c2) + 16777216 * (c0 + c1 + c2 + c3) + 4294967296 * (c0 + c1 + c2 + c3 + c4) + 1099511627776 * (c0 + c1 + c2 + c3 + c4 + c5) + 281474976710656 * (c0 + c1 + c2 + c3 + c4 + c5 + c6) < 72057594037927936 := by omega
  rw [e]
  generalize 1 * (c1 + c2 + c3 + c4 + c5 + c6 + c7) + 256 * (c2 + c3 + c4 + c5 + c6 + c7) + 65536 * (c3 + c4 + c5 + c6 + c7) + 16777216 * (c4 + c5 + c6 + c7) + 4294967296 * (c5 + c6 + c7) + 1099511627776 * (c6 + c7) + 281474976710656 * (c7) = Q
  generalize 1 * (c0) + 256 * (c0 + c1) + 65536 * (c0 + c1 + c2) + 16777216 * (c0 + c1 + c2 + c3) + 4294967296 * (c0 + c1 + c2 + c3 + c4) + 1099511627776 * (c0 + c1 + c2 + c3 + c4 + c5) + 281474976710656 * (c0 + c1 + c2 + c3 + c4 + c5 + c6) = R at r
  have s : c0 + c1 + c2 + c3 + c4 + c5 + c6 + c7 < 256 := by omega
  generalize c0 + c1 + c2 + c3 + c4 + c5 + c6 + c7 = t at s
  omega
theorem zp_T0 (n : Nat) : zp_T 0 n = 0 := Nat.and_zero _
theorem zp_all (n : Nat) : zp_T 8 n * 72340172838076673 % 18446744073709551616 / 72057594037927936 = zc_n (fun j => n.testBit j) 64 := by
  obtain ⟨c0, n1, b0, -, t0, z0⟩ := zp_byte 7 n
  obtain ⟨c1, n2, b1, -, t1, z1⟩ := zp_byte 6 n1
  obtain ⟨c2, n3, b2, -, t2, z2⟩ := zp_byte 5 n2
  obtain ⟨c3, n4, b3, -, t3, z3⟩ := zp_byte 4 n3
  obtain ⟨c4, n5, b4, -, t4, z4⟩ := zp_byte 3 n4
  obtain ⟨c5, n6, b5, -, t5, z5⟩ := zp_byte 2 n5
  obtain ⟨c6, n7, b6, -, t6, z6⟩ := zp_byte 1 n6
  obtain ⟨c7, n8, b7, -, t7, z7⟩ := zp_byte 0 n7
  have z : zc_n (fun j => n.testBit j) 64 = c0 + (c1 + (c2 + (c3 + (c4 + (c5 + (c6 + (c7 + 0))))))) := by
    rw [show (64 : Nat) = 8 + 56 from rfl, z0, show (56 : Nat) = 8 + 48 from rfl, z1, show (48 : Nat) = 8 + 40 from rfl, z2, show (40 : Nat) = 8 + 32 from rfl, z3, show (32 : Nat) = 8 + 24 from rfl, z4, show (24 : Nat) = 8 + 16 from rfl, z5, show (16 : Nat) = 8 + 8 from rfl, z6, show zc_n (fun j => n7.testBit j) 8 = c7 + 0 from z7 0]
  rw [z, t0, t1, t2, t3, t4, t5, t6, t7, zp_T0, zp_fin b0 b1 b2 b3 b4 b5 b6 b7]
  omega
/-! a word as an unsigned number -/
def zu (x : Int64) : Nat := x.toUInt64.toNat
theorem zu_lt (x : Int64) : zu x < 18446744073709551616 := x.toUInt64.toNat_lt
theorem zu_inj {x y : Int64} (h : zu x = zu y) : x = y := congrArg UInt64.toInt64 (UInt64.toNat_inj.mp h)
theorem zu_add (x y : Int64) : zu (x + y) = (zu x + zu y) % 18446744073709551616 := by
  show (x.toUInt64 + y.toUInt64).toNat = _
  exact UInt64.toNat_add _ _
theorem zu_mul (x y : Int64) : zu (x * y) = (zu x * zu y) % 18446744073709551616 := by
  show (x.toUInt64 * y.toUInt64).toNat = _
  exact UInt64.toNat_mul _ _
theorem zu_sub {x y : Int64} (h : zu y ≤ zu x) : zu (x - y) = zu x - zu y := by
  show (x.toUInt64 - y.toUInt64).toNat = _
  exact UInt64.toNat_sub_of_le _ _ (UInt64.le_iff_toNat_le.mpr h)
theorem zu_and (x y : Int64) : zu (x &&& y) = zu x &&& zu y := UInt64.toNat_and _ _
theorem zu_shr (x : Int64) (s : UInt64) {k : Nat} (hk : s.toNat % 64 = k) : zu (x.toUInt64 >>> s).toInt64 = zu x / 2 ^ k := by
  show (x.toUInt64 >>> s).toNat = _
  rw [UInt64.toNat_shiftRight, Nat.shiftRight_eq_div_pow, hk]
  rfl
theorem zu_bit (x : Int64) (i : Nat) : zb x i = (zu x).testBit i := rfl
def zp_x1 (w : Int64) : Int64 := w - (((w.toUInt64 >>> ((1 : Int32).toInt64.toUInt64 &&& Int64.toUInt64 63)).toInt64) &&& 6148914691236517205)
def zp_x2 (x : Int64) : Int64 := (x &&& 3689348814741910323) + (((x.toUInt64 >>> ((2 : Int32).toInt64.toUInt64 &&& Int64.toUInt64 63)).toInt64) &&& 3689348814741910323)
def zp_x3 (x : Int64) : Int64 := (x + ((x.toUInt64 >>> ((4 : Int32).toInt64.toUInt64 &&& Int64.toUInt64 63)).toInt64)) &&& 1085102592571150095
def zp_r (x : Int64) : Int32 := (((x * 72340172838076673).toUInt64 >>> ((56 : Int32).toInt64.toUInt64 &&& Int64.toUInt64 63)).toInt64).toInt32
theorem zp_e1 (w : Int64) : zu (zp_x1 w) = zp_1 8 (zu w) := by
  have hs : ((1 : Int32).toInt64.toUInt64 &&& Int64.toUInt64 63).toNat % 64 = 1 := by decide
  have hm : zu (6148914691236517205 : Int64) = zp_M 85 8 := by decide +kernel
  have e : zu (((w.toUInt64 >>> ((1 : Int32).toInt64.toUInt64 &&& Int64.toUInt64 63)).toInt64) &&& 6148914691236517205) = (zu w / 2 &&& zp_M 85 8) := by
    rw [zu_and, zu_shr w _ hs, hm]
  have hl : (zu w / 2 &&& zp_M 85 8) ≤ zu w / 2 := Nat.and_le_left
  unfold zp_x1
  rw [zu_sub (by rw [e]; omega), e]
  rfl
theorem zp_e2 (x : Int64) : zu (zp_x2 x) = zp_2 8 (zu x) ∧ zp_2 8 (zu x) ≤ 7378697629483820646 := by
  have hs : ((2 : Int32).toInt64.toUInt64 &&& Int64.toUInt64 63).toNat % 64 = 2 := by decide
  have hm : zu (3689348814741910323 : Int64) = zp_M 51 8 := by decide +kernel
  have hM : zp_M 51 8 = 3689348814741910323 := by decide +kernel
  have h1 : (zu x &&& zp_M 51 8) ≤ zp_M 51 8 := Nat.and_le_right
  have h2 : (zu x / 4 &&& zp_M 51 8) ≤ zp_M 51 8 := Nat.and_le_right
  have e : zu (zp_x2 x) = ((zu x &&& zp_M 51 8) + (zu x / 4 &&& zp_M 51 8)) % 18446744073709551616 := by
    unfold zp_x2
    rw [zu_add, zu_and, zu_and, zu_shr x _ hs, hm]
  unfold zp_2
  rw [hM] at h1 h2 e ⊢
  constructor
  · rw [e]; exact Nat.mod_eq_of_lt (by omega)
  · omega
theorem zp_e3 (x : Int64) (h : zu x ≤ 7378697629483820646) : zu (zp_x3 x) = zp_3 8 (zu x) := by
  have hs : ((4 : Int32).toInt64.toUInt64 &&& Int64.toUInt64 63).toNat % 64 = 4 := by decide
  have hm : zu (1085102592571150095 : Int64) = zp_M 15 8 := by decide +kernel
  unfold zp_x3
  rw [zu_and, zu_add, zu_shr x _ hs, hm, Nat.mod_eq_of_lt (by omega)]
  rfl
theorem zp_eq (w : Int64) : zp_r (zp_x3 (zp_x2 (zp_x1 w))) = nI (zc_n (zb w) 64) := by
  have hs : ((56 : Int32).toInt64.toUInt64 &&& Int64.toUInt64 63).toNat % 64 = 56 := by decide
  have hm : zu (72340172838076673 : Int64) = 72340172838076673 := by decide +kernel
  obtain ⟨e2, b2⟩ := zp_e2 (zp_x1 w)
  have e3 := zp_e3 (zp_x2 (zp_x1 w)) (by rw [e2]; exact b2)
  rw [e2, zp_e1] at e3
  have hz : zc_n (zb w) 64 ≤ 64 := zc_le _ _
  have e4 : zu ((zp_x3 (zp_x2 (zp_x1 w)) * 72340172838076673).toUInt64 >>> ((56 : Int32).toInt64.toUInt64 &&& Int64.toUInt64 63)).toInt64 = zc_n (zb w) 64 := by
    rw [zu_shr _ _ hs, zu_mul, e3, hm]
    exact zp_all (zu w)
  have e5 : ((zp_x3 (zp_x2 (zp_x1 w)) * 72340172838076673).toUInt64 >>> ((56 : Int32).toInt64.toUInt64 &&& Int64.toUInt64 63)).toInt64 = lN (zc_n (zb w) 64) := by
    apply zu_inj
    rw [e4]
    exact (Nat.mod_eq_of_lt (by omega)).symm
  unfold zp_r
  rw [e5, lN_i]
/-! ===== the words' methods ===== -/
theorem zw_ones {post : Int32 → Prop} {w : Int64} (h : post (nI (zc_n (zb w) 64))) : wpX_ones post () w :=
  nm_e (nm_e (nm_e (show post (zp_r (zp_x3 (zp_x2 (zp_x1 w)))) from (zp_eq w).symm ▸ h)))
theorem zw_lowest {post : Int32 → Prop} {w : Int64} {v : Nat} (hv : v < 64) (h1 : zb w v = true) (h2 : ∀ i, i < v → zb w i = false) (h : post (nI v)) : wpX_lowest post () w := by
  have e : zc_n (zb ((w &&& (-w)) - 1)) 64 = v := by
    rw [← zc_ltD v 64 (by omega)]
    apply zc_eq
    intro j hj
    rw [zb_low w hj]
    apply decide_eq_decide.mpr
    constructor
    · intro z
      rcases Nat.lt_or_ge j v with t | t
      · exact t
      · rw [z v t] at h1; exact absurd h1 (by simp)
    · intro z i hi
      exact h2 i (by omega)
  exact zw_ones (post := post) (by rw [e]; exact h)
/-- the starts of the stretches of a word -/
def zb_st (f : Nat → Bool) (i : Nat) : Bool := f i && !(decide (0 < i) && f (i - 1))
theorem zw_runsIn {post : Int32 → Prop} {w : Int64} (h : post (nI (zc_n (zb_st (zb w)) 64))) : wpX_runsIn post () w := by
  have e : zc_n (zb (w &&& ((w <<< ((1 : Int32).toInt64 &&& 63)) ^^^ (-1)))) 64 = zc_n (zb_st (zb w)) 64 := by
    apply zc_eq
    intro j hj
    rw [zb_and, zb_not _ hj, zb_shl1 w hj]
    rfl
  exact zw_ones (post := post) (by rw [e]; exact h)
theorem zw_stretch {post : Int64 → Prop} {a b : Nat} (ha : a ≤ 64) (hb : b ≤ 64) (h : ∀ m, (∀ i, i < 64 → zb m i = decide (a ≤ i ∧ i < b)) → post m) : wpX_stretch post () (nI a) (nI b) := by
  refine pk_lt a b (fun hab => ?_) (fun hab => h 0 (fun i hi => ?_))
  · refine pk_eq b 64 (fun e => ?_) (fun e => ?_)
    · refine h _ (fun i hi => ?_)
      rw [zb_and, zb_m1 i hi, zb_from (show a < 64 by omega) hi, Bool.true_and]
      exact decide_eq_decide.mpr (by omega)
    · refine h _ (fun i hi => ?_)
      rw [zb_and, zb_till (show b < 64 by omega) hi, zb_from (show a < 64 by omega) hi]
      by_cases h1 : i < b <;> by_cases h2 : a ≤ i <;> simp [h1, h2]
  · rw [zb_0]
    exact (decide_eq_false (by omega)).symm
end
section
/-! ===== a container against its word ===== -/
theorem zx_8 (c k : Nat) : nI c * 8 + nI k = nI (c * 8 + k) := by
  show nI c * nI 8 + nI k = _
  rw [pk_mul, nI_add]
theorem zx_81 (c k : Nat) : nI c * 8 + nI k + 1 = nI (c * 8 + k + 1) := by rw [zx_8, nI_1]
theorem zx_82 (c i : Nat) : nI c * 8 + 2 * nI i = nI (c * 8 + 2 * i) := by
  show nI c * nI 8 + nI 2 * nI i = _
  rw [pk_mul, pk_mul, nI_add]
theorem zx_821 (c i : Nat) : nI c * 8 + 2 * nI i + 1 = nI (c * 8 + 2 * i + 1) := by rw [zx_82, nI_1]
theorem zx_2 (i : Nat) : 2 * nI i = nI (2 * i) := by
  show nI 2 * nI i = _
  rw [pk_mul]
theorem zx_p2 (k : Nat) : nI (2 * k) + 2 = nI (2 * (k + 1)) := by
  show nI (2 * k) + nI 2 = _
  rw [nI_add]
  rfl
theorem zx_16 (s p : Nat) : nI s * 16 + nI p = nI (s * 16 + p) := by
  show nI s * nI 16 + nI p = _
  rw [pk_mul, nI_add]
/-- x is the k-th of f -/
def zk_sel (f : Nat → Bool) (k : Nat) (x : Int32) : Prop := ∃ v, v < 64 ∧ f v = true ∧ zc_n f v = k ∧ x = nI v
/-- a list -/
def zk_L (f : Nat → Bool) (q : Int32) (s : Nat → Int32) : Prop := zc_n f 64 ≤ 8 ∧ q = nI (zc_n f 64) ∧ ∀ k, k < zc_n f 64 → zk_sel f k (s k)
/-- r stretches that are f below t -/
def zk_P (f : Nat → Bool) (r t : Nat) (s : Nat → Int32) (F G : Nat → Nat) : Prop :=
  (∀ k, k < r → s (2 * k) = nI (F k) ∧ s (2 * k + 1) = nI (G k) ∧ F k ≤ G k ∧ G k < t) ∧ (∀ k k', k < k' → k' < r → G k < F k') ∧ ∀ i, i < t → (f i = true ↔ ∃ k, k < r ∧ F k ≤ i ∧ i ≤ G k)
/-- stretches -/
def zk_R (f : Nat → Bool) (q : Int32) (s : Nat → Int32) : Prop := ∃ r F G, 1 ≤ r ∧ r ≤ 4 ∧ q = nI (2 * r) ∧ zk_P f r 64 s F G
def zk_c (a1 a2 a3 a4 : Nat → Int32) (a5 : Nat → Int64) (c : Nat) (w : Int64) : Prop :=
  a2 c = nI (zc_n (zb w) 64) ∧ ((a1 c = 0 ∧ zk_L (zb w) (a3 c) (fun k => a4 (c * 8 + k))) ∨ (a1 c = 1 ∧ a5 c = w) ∨ (a1 c = 2 ∧ zk_R (zb w) (a3 c) (fun k => a4 (c * 8 + k))))
/-- all but container c is as it was -/
def zk_fr (c : Nat) (a1 a2 a3 a4 : Nat → Int32) (a5 : Nat → Int64) (b1 b2 b3 b4 : Nat → Int32) (b5 : Nat → Int64) : Prop :=
  ∀ d, d ≠ c → b1 d = a1 d ∧ b2 d = a2 d ∧ b3 d = a3 d ∧ b5 d = a5 d ∧ ∀ k, k < 8 → b4 (d * 8 + k) = a4 (d * 8 + k)
/-- the slots of c alone changed -/
def zk_s4 (c : Nat) (a4 b4 : Nat → Int32) : Prop := ∀ j, j < c * 8 ∨ c * 8 + 8 ≤ j → b4 j = a4 j
theorem zk_s4_0 {c : Nat} {a4 : Nat → Int32} : zk_s4 c a4 a4 := fun _ _ => rfl
theorem zk_s4_u {c k : Nat} {a4 b4 : Nat → Int32} {x : Int32} (h : zk_s4 c a4 b4) (hk : k < 8) : zk_s4 c a4 (upd b4 (c * 8 + k) x) := by
  intro j hj
  rw [pk_un (by omega)]
  exact h j hj
theorem zk_fr_mk {c : Nat} {a1 a2 a3 a4 : Nat → Int32} {a5 : Nat → Int64} {b1 b2 b3 b4 : Nat → Int32} {b5 : Nat → Int64} (h1 : ∀ d, d ≠ c → b1 d = a1 d) (h2 : ∀ d, d ≠ c → b2 d = a2 d) (h3 : ∀ d, d ≠ c → b3 d = a3 d) (h5 : ∀ d, d ≠ c → b5 d = a5 d) (h4 : zk_s4 c a4 b4) : zk_fr c a1 a2 a3 a4 a5 b1 b2 b3 b4 b5 :=
  fun d hd => ⟨h1 d hd, h2 d hd, h3 d hd, h5 d hd, fun k hk => h4 (d * 8 + k) (by omega)⟩
theorem zk_c_fr {c d : Nat} {a1 a2 a3 a4 : Nat → Int32} {a5 : Nat → Int64} {b1 b2 b3 b4 : Nat → Int32} {b5 : Nat → Int64} {w : Int64} (hf : zk_fr c a1 a2 a3 a4 a5 b1 b2 b3 b4 b5) (hd : d ≠ c) (h : zk_c a1 a2 a3 a4 a5 d w) : zk_c b1 b2 b3 b4 b5 d w := by
  obtain ⟨e1, e2, e3, e5, e4⟩ := hf d hd
  obtain ⟨h2, h⟩ := h
  refine ⟨e2.trans h2, ?_⟩
  rw [e1, e3, e5]
  rcases h with ⟨k1, k2, k3, k4⟩ | h | ⟨k1, r, F, G, r1, r2, r3, p1, p2, p3⟩
  · refine Or.inl ⟨k1, k2, k3, fun k hk => ?_⟩
    have t := k4 k hk
    have e := e4 k (by omega)
    show zk_sel (zb w) k (b4 (d * 8 + k))
    rw [e]
    exact t
  · exact Or.inr (Or.inl h)
  · refine Or.inr (Or.inr ⟨k1, r, F, G, r1, r2, r3, fun k hk => ?_, p2, p3⟩)
    have t := p1 k hk
    show b4 (d * 8 + 2 * k) = nI (F k) ∧ b4 (d * 8 + (2 * k + 1)) = nI (G k) ∧ F k ≤ G k ∧ G k < 64
    rw [e4 (2 * k) (by omega), e4 (2 * k + 1) (by omega)]
    exact t
/-- all containers against the picture W -/
def zk_I (a1 a2 a3 a4 : Nat → Int32) (a5 W : Nat → Int64) : Prop := ∀ c, c < 64 → zk_c a1 a2 a3 a4 a5 c (W c)
theorem zk_I_upd {c : Nat} {a1 a2 a3 a4 : Nat → Int32} {a5 W : Nat → Int64} {b1 b2 b3 b4 : Nat → Int32} {b5 : Nat → Int64} {w : Int64} (hf : zk_fr c a1 a2 a3 a4 a5 b1 b2 b3 b4 b5) (h : zk_I a1 a2 a3 a4 a5 W) (hw : zk_c b1 b2 b3 b4 b5 c w) : zk_I b1 b2 b3 b4 b5 (vp_updL W c w) := by
  intro d hd
  by_cases e : d = c
  · rw [e, pk_uLs]
    exact hw
  · rw [pk_uLn e]
    exact zk_c_fr hf e (h d hd)
theorem zk_c_in {f : Nat → Bool} {j : Nat} (hj : j < 64) (h : f j = true) : zc_n f j < zc_n f 64 := zc_lt hj h
/-! ===== wordOf ===== -/
theorem zw_wordOf {post : Int64 → Prop} {m : Int32} {a1 a2 a3 a4 : Nat → Int32} {a5 a6 : Nat → Int64} {a7 : Nat → Int32} {c : Nat} {w : Int64} (hc : c < 64) (hk : zk_c a1 a2 a3 a4 a5 c w) (h : post w) : wpX_wordOf post (m, a1, a2, a3, a4, a5, a6, a7) (nI c) := by
  have ec : (nI c).toNatClampNeg = c := nI_clamp (by omega)
  have hin : vp_in (nI c) 64 := pk_in c 64 hc
  unfold wpX_wordOf
  dsimp only
  rw [ec]
  rcases hk.2 with ⟨k1, k2, k3, k4⟩ | ⟨k1, k2⟩ | ⟨k1, r, F, G, r1, r2, r3, p1, p2, p3⟩
  · refine ⟨hin, br_f (by rw [k1]; decide) ⟨hin, br_t k1 ?_⟩⟩
    have e3 : a3 (nI c).toNatClampNeg = nI (zc_n (zb w) 64) := by rw [ec]; exact k3
    refine pk_loop (fun n i s => wX_wordOf_31 post (nI c) m a1 a2 a3 a4 a5 a6 a7 n s (nI i)) (fun i s => ∀ j, j < 64 → zb s j = (zb w j && decide (zc_n (zb w) j < i))) (zc_n (zb w) 64) 0 0 (Nat.zero_le _) (fun j hj => ?_) (fun n s hs => ?_) (fun n i s hi hs hw => ?_)
    · rw [zb_0, decide_eq_false (by omega), Bool.and_false]
    · have es : s = w := by
        apply zb_ext
        intro j hj
        rw [hs j hj]
        cases e : zb w j
        · rfl
        · rw [decide_eq_true (zk_c_in hj e)]; rfl
      refine ⟨hin, pk_le (zc_n (zb w) 64) (zc_n (zb w) 64) (fun _ => ?_) (fun z => absurd z (by omega)) e3⟩
      rw [es]
      exact h
    · obtain ⟨v, v1, v2, v3, v4⟩ := k4 i hi
      have v5 : a4 (c * 8 + i) = nI v := v4
      have ei : (nI c * 8 + nI i).toNatClampNeg = c * 8 + i := by rw [zx_8]; exact nI_clamp (by omega)
      refine ⟨hin, pk_le (zc_n (zb w) 64) i (fun z => absurd z (by omega)) (fun _ => ⟨pk_in (c * 8 + i) 512 (by omega) (zx_8 c i), nm_r (show _ = s ||| ((1 : Int64) <<< ((nI v).toInt64 &&& 63)) by rw [ei, v5]) (nm_r (nI_1 i) (hw _ (fun j hj => ?_)))⟩) e3⟩
      rw [zb_or, hs j hj, zb_one v1]
      by_cases ej : j = v
      · rw [ej, v2, v3, decide_eq_true rfl, decide_eq_true (show i < i + 1 by omega)]; simp
      · rw [decide_eq_false ej, Bool.or_false]
        cases ew : zb w j
        · rfl
        · have ne : zc_n (zb w) j ≠ i := fun z => ej (zc_uniq ew v2 (z.trans v3.symm))
          rw [Bool.true_and, Bool.true_and]
          exact decide_eq_decide.mpr (by omega)
  · refine ⟨hin, br_t k1 ⟨hin, ?_⟩⟩
    rw [k2]
    exact h
  · refine ⟨hin, br_f (by rw [k1]; decide) ⟨hin, br_f (by rw [k1]; decide) ?_⟩⟩
    have e3 : a3 (nI c).toNatClampNeg = nI (2 * r) := by rw [ec]; exact r3
    refine pk_loop (fun n i s => wX_wordOf_70 post (nI c) m a1 a2 a3 a4 a5 a6 a7 n s (nI (2 * i))) (fun i s => ∀ j, j < 64 → (zb s j = true ↔ ∃ k, k < i ∧ F k ≤ j ∧ j ≤ G k)) r 0 0 (Nat.zero_le _) (fun j hj => ?_) (fun n s hs => ?_) (fun n i s hi hs hw => ?_)
    · rw [zb_0]
      exact ⟨fun z => absurd z (by simp), fun ⟨k, z, _⟩ => absurd z (by omega)⟩
    · have es : s = w := by
        apply zb_ext
        intro j hj
        rw [Bool.eq_iff_iff, hs j hj, p3 j hj]
      refine ⟨hin, pk_le (2 * r) (2 * r) (fun _ => ?_) (fun z => absurd z (by omega)) e3⟩
      rw [es]
      exact h
    · obtain ⟨q1, q2, q3, q4⟩ := p1 i hi
      have q1' : a4 (c * 8 + 2 * i) = nI (F i) := q1
      have q2' : a4 (c * 8 + 2 * i + 1) = nI (G i) := q2
      have ei : a4 (nI c * 8 + nI (2 * i)).toNatClampNeg = nI (F i) := by rw [zx_8, nI_clamp (by omega)]; exact q1'
      have ej : a4 (nI c * 8 + nI (2 * i) + 1).toNatClampNeg + 1 = nI (G i + 1) := by rw [zx_81, nI_clamp (by omega), q2', nI_1]
      refine ⟨hin, pk_le (2 * r) (2 * i) (fun z => absurd z (by omega)) (fun _ => ⟨pk_in (c * 8 + 2 * i) 512 (by omega) (zx_8 c _), pk_in (c * 8 + 2 * i + 1) 512 (by omega) (zx_81 c _), ?_⟩) e3⟩
      rw [ei, ej]
      refine zw_stretch (by omega) (by omega) (fun x hx => nm_e (nm_r (zx_p2 i) (hw _ (fun j hj => ?_))))
      rw [zb_or, Bool.or_eq_true, hs j hj, hx j hj, decide_eq_true_eq]
      constructor
      · rintro (⟨k, k1, k2⟩ | z)
        · exact ⟨k, by omega, k2⟩
        · exact ⟨i, by omega, by omega, by omega⟩
      · rintro ⟨k, k1, k2, k3⟩
        by_cases e : k = i
        · subst e
          exact Or.inr ⟨k2, by omega⟩
        · exact Or.inl ⟨k, by omega, k2, k3⟩
/-! ===== store ===== -/
theorem zw_storeList {post : St1 → Prop} {m : Int32} {a1 a2 a3 a4 : Nat → Int32} {a5 a6 : Nat → Int64} {a7 : Nat → Int32} {c : Nat} {w : Int64} (hc : c < 64) (h8 : zc_n (zb w) 64 ≤ 8) (h2 : a2 c = nI (zc_n (zb w) 64))
    (H : ∀ b4, zk_s4 c a4 b4 → (∀ k, k < zc_n (zb w) 64 → zk_sel (zb w) k (b4 (c * 8 + k))) → post (m, upd a1 c 0, a2, upd a3 c (nI (zc_n (zb w) 64)), b4, a5, a6, a7)) :
    wpX_storeList post (m, a1, a2, a3, a4, a5, a6, a7) (nI c) w := by
  have ec : (nI c).toNatClampNeg = c := nI_clamp (by omega)
  have hin : vp_in (nI c) 64 := pk_in c 64 hc
  have e2 : a2 (nI c).toNatClampNeg = nI (zc_n (zb w) 64) := by rw [ec]; exact h2
  refine ⟨hin, nm_r (show _ = upd a1 c 0 by rw [ec]) ?_⟩
  refine pk_loop (fun n i s => wX_storeList_13 post (nI c) m n s.1 (nI i) (upd a1 c 0) a2 a3 s.2 a5 a6 a7) (fun i (s : Int64 × (Nat → Int32)) => (∀ j, j < 64 → zb s.1 j = (zb w j && decide (i ≤ zc_n (zb w) j))) ∧ zk_s4 c a4 s.2 ∧ ∀ k, k < i → zk_sel (zb w) k (s.2 (c * 8 + k))) (zc_n (zb w) 64) 0 (w, a4) (Nat.zero_le _) ⟨fun j hj => ?_, zk_s4_0, fun k hk => absurd hk (by omega)⟩ (fun n s hs => ?_) (fun n i s hi hs hw => ?_)
  · show zb w j = _
    rw [decide_eq_true (Nat.zero_le _), Bool.and_true]
  · obtain ⟨_, s2, s3⟩ := hs
    refine ⟨hin, pk_le (zc_n (zb w) 64) (zc_n (zb w) 64) (fun _ => ⟨hin, hin, nm_r (show _ = upd a3 c (nI (zc_n (zb w) 64)) by rw [ec, h2]) (H _ s2 s3)⟩) (fun z => absurd z (by omega)) e2⟩
  · obtain ⟨s1, s2, s3⟩ := hs
    obtain ⟨v, v1, v2, v3⟩ := zc_sel hi
    have ei : (nI c * 8 + nI i).toNatClampNeg = c * 8 + i := by rw [zx_8]; exact nI_clamp (by omega)
    have r1 : zb s.1 v = true := by rw [s1 v v1, v2, v3, decide_eq_true (Nat.le_refl i)]; rfl
    have r2 : ∀ j, j < v → zb s.1 j = false := by
      intro j hj
      rw [s1 j (by omega)]
      cases e : zb w j
      · rfl
      · have := zc_lt hj e
        rw [decide_eq_false (by omega)]; rfl
    refine ⟨hin, pk_le (zc_n (zb w) 64) i (fun z => absurd z (by omega)) (fun _ => zw_lowest v1 r1 r2 ⟨pk_in (c * 8 + i) 512 (by omega) (zx_8 c i), nm_r (show _ = upd s.2 (c * 8 + i) (nI v) by rw [ei]) (nm_e (nm_r (nI_1 i) (hw (s.1 &&& (s.1 - 1), upd s.2 (c * 8 + i) (nI v)) ⟨fun j hj => ?_, zk_s4_u s2 (by omega), fun k hk => ?_⟩)))⟩) e2⟩
    · show zb (s.1 &&& (s.1 - 1)) j = _
      rw [zb_rest _ hj, s1 j hj]
      cases e : zb w j
      · rfl
      · rw [Bool.true_and, Bool.true_and]
        by_cases g : i + 1 ≤ zc_n (zb w) j
        · have vj : v < j := zc_ltI (f := zb w) (by omega)
          rw [decide_eq_true (show i ≤ zc_n (zb w) j by omega), decide_eq_true (⟨v, vj, r1⟩ : ∃ k, k < j ∧ zb s.1 k = true), decide_eq_true g]; rfl
        · rw [decide_eq_false g]
          have ne : ¬ ∃ k, k < j ∧ zb s.1 k = true := by
            rintro ⟨k, k1, k2⟩
            rw [s1 k (by omega), Bool.and_eq_true, decide_eq_true_eq] at k2
            have := zc_lt k1 k2.1
            omega
          rw [decide_eq_false ne, Bool.and_false]
    · show zk_sel (zb w) k (upd s.2 (c * 8 + i) (nI v) (c * 8 + k))
      by_cases e : k = i
      · rw [e, pk_us]
        exact ⟨v, v1, v2, v3, rfl⟩
      · rw [pk_un (by omega)]
        exact s3 k (by omega)
theorem zw_sr60 {post : St1 → Prop} {J : Int64 → Int32 → (Nat → Int32) → (Nat → Int32) → (Nat → Int32) → (Nat → Int32) → (Nat → Int64) → (Nat → Int64) → (Nat → Int32) → Prop} {m : Int32} {a1 a2 a3 a4 : Nat → Int32} {a5 a6 : Nat → Int64} {a7 : Nat → Int32} {c i v g : Nat} {x4 : Int32} {w : Int64} (hc : c < 64) (hi : i < 4) (hv : v ≤ g) (hg : g < 64)
    (H : ∀ w', (∀ j, j < 64 → zb w' j = (zb w j && !decide (v ≤ j ∧ j ≤ g))) → J w' (nI (i + 1)) a1 a2 a3 (upd (upd a4 (c * 8 + 2 * i) (nI v)) (c * 8 + (2 * i + 1)) (nI g)) a5 a6 a7) :
    wX_storeRuns_60 post J (nI c) x4 w (nI i) (nI v) (nI g) m a1 a2 a3 a4 a5 a6 a7 := by
  have e1 : (nI c * 8 + 2 * nI i).toNatClampNeg = c * 8 + 2 * i := by rw [zx_82]; exact nI_clamp (by omega)
  have e2 : (nI c * 8 + 2 * nI i + 1).toNatClampNeg = c * 8 + (2 * i + 1) := by rw [zx_821]; exact nI_clamp (by omega)
  refine ⟨pk_in (c * 8 + 2 * i) 512 (by omega) (zx_82 c i), nm_r (show _ = upd a4 (c * 8 + 2 * i) (nI v) by rw [e1]) ⟨pk_in (c * 8 + 2 * i + 1) 512 (by omega) (zx_821 c i), nm_r (show _ = upd (upd a4 (c * 8 + 2 * i) (nI v)) (c * 8 + (2 * i + 1)) (nI g) by rw [e2]) ?_⟩⟩
  rw [nI_1 g]
  refine zw_stretch (by omega) (by omega) (fun x hx => nm_e (nm_r (nI_1 i) (H _ (fun j hj => ?_))))
  rw [zb_and, zb_not _ hj, hx j hj]
  congr 2
  exact decide_eq_decide.mpr (by omega)
/-- what a stretch taken away does to the starts -/
theorem zb_st_cut {f g : Nat → Bool} {v e : Nat} (hv : f v = true) (hlo : ∀ j, j < v → f j = false) (hin : ∀ j, v ≤ j → j ≤ e → f j = true) (hve : v ≤ e) (hout : f (e + 1) = false) (hg : ∀ j, g j = (f j && !decide (v ≤ j ∧ j ≤ e))) : zb_st g v = false ∧ zb_st f v = true ∧ ∀ j, j ≠ v → zb_st f j = zb_st g j := by
  refine ⟨?_, ?_, ?_⟩
  · unfold zb_st
    rw [hg v, decide_eq_true ⟨Nat.le_refl v, hve⟩]; simp
  · unfold zb_st
    rw [hv]
    rcases Nat.eq_zero_or_pos v with z | z
    · subst z; simp
    · rw [hlo (v - 1) (by omega)]; simp
  · intro j hj
    unfold zb_st
    rw [hg j, hg (j - 1)]
    rcases Nat.lt_or_ge j v with z | z
    · rw [hlo j z]; simp
    · rcases Nat.lt_or_ge e j with y | y
      · rw [decide_eq_false (show ¬ (v ≤ j ∧ j ≤ e) by omega)]
        by_cases q : j = e + 1
        · rw [q, hout]; simp
        · rw [decide_eq_false (show ¬ (v ≤ j - 1 ∧ j - 1 ≤ e) by omega)]; simp
      · rw [hin j z y, hin (j - 1) (by omega) (by omega), decide_eq_true (⟨z, y⟩ : v ≤ j ∧ j ≤ e), decide_eq_true (show 0 < j by omega)]; simp
theorem zk_P_add {f : Nat → Bool} {i t v e : Nat} {s s' : Nat → Int32} {F G : Nat → Nat} (h : zk_P f i t s F G) (hs : ∀ k, k < 2 * i → s' k = s k) (hv : s' (2 * i) = nI v) (he : s' (2 * i + 1) = nI e) (htv : t ≤ v) (hve : v ≤ e) (h1 : ∀ j, t ≤ j → j < v → f j = false) (h2 : ∀ j, v ≤ j → j ≤ e → f j = true) :
    zk_P f (i + 1) (e + 1) s' (fun k => if k = i then v else F k) (fun k => if k = i then e else G k) := by
  obtain ⟨p1, p2, p3⟩ := h
  refine ⟨fun k hk => ?_, fun k k' hk hk' => ?_, fun j hj => ?_⟩
  · dsimp only
    by_cases q : k = i
    · rw [if_pos q, if_pos q, q]
      exact ⟨hv, he, hve, by omega⟩
    · rw [if_neg q, if_neg q, hs _ (by omega), hs _ (by omega)]
      obtain ⟨q1, q2, q3, q4⟩ := p1 k (by omega)
      exact ⟨q1, q2, q3, by omega⟩
  · dsimp only
    by_cases q : k' = i
    · rw [if_neg (by omega), if_pos q]
      have := (p1 k (by omega)).2.2.2
      omega
    · rw [if_neg (by omega), if_neg q]
      exact p2 k k' hk (by omega)
  · dsimp only
    rcases Nat.lt_or_ge j t with z | z
    · rw [p3 j z]
      constructor
      · rintro ⟨k, k1, k2, k3⟩
        exact ⟨k, by omega, by rw [if_neg (by omega)]; exact k2, by rw [if_neg (by omega)]; exact k3⟩
      · rintro ⟨k, k1, k2, k3⟩
        by_cases q : k = i
        · rw [if_pos q] at k2; omega
        · rw [if_neg q] at k2 k3
          exact ⟨k, by omega, k2, k3⟩
    · rcases Nat.lt_or_ge j v with y | y
      · rw [h1 j z y]
        refine ⟨fun z => absurd z (by simp), ?_⟩
        rintro ⟨k, k1, k2, k3⟩
        by_cases q : k = i
        · rw [if_pos q] at k2; omega
        · rw [if_neg q] at k3
          have := (p1 k (by omega)).2.2.2
          omega
      · rw [h2 j y (by omega)]
        exact ⟨fun _ => ⟨i, by omega, by rw [if_pos rfl]; exact y, by rw [if_pos rfl]; omega⟩, fun _ => rfl⟩
theorem zw_storeRuns {post : St1 → Prop} {m : Int32} {a1 a2 a3 a4 : Nat → Int32} {a5 a6 : Nat → Int64} {a7 : Nat → Int32} {c : Nat} {w : Int64} (hc : c < 64) (h4 : zc_n (zb_st (zb w)) 64 ≤ 4)
    (H : ∀ b4 F G, zk_s4 c a4 b4 → zk_P (zb w) (zc_n (zb_st (zb w)) 64) 64 (fun k => b4 (c * 8 + k)) F G → post (m, upd a1 c 2, a2, upd a3 c (nI (2 * zc_n (zb_st (zb w)) 64)), b4, a5, a6, a7)) :
    wpX_storeRuns post (m, a1, a2, a3, a4, a5, a6, a7) (nI c) w (nI (zc_n (zb_st (zb w)) 64)) := by
  have ec : (nI c).toNatClampNeg = c := nI_clamp (by omega)
  have hin : vp_in (nI c) 64 := pk_in c 64 hc
  generalize hr : zc_n (zb_st (zb w)) 64 = r at h4 H ⊢
  refine ⟨hin, nm_r (show _ = upd a1 c 2 by rw [ec]) ?_⟩
  refine pk_loop (fun n i s => wX_storeRuns_13 post (nI c) (nI r) m n s.1 (nI i) (upd a1 c 2) a2 a3 s.2 a5 a6 a7) (fun i (s : Int64 × (Nat → Int32)) => ∃ t F G, t ≤ 64 ∧ (∀ j, j < 64 → zb s.1 j = (zb w j && decide (t ≤ j))) ∧ zc_n (zb_st (zb s.1)) 64 + i = r ∧ zk_s4 c a4 s.2 ∧ zk_P (zb w) i t (fun k => s.2 (c * 8 + k)) F G) r 0 (w, a4) (Nat.zero_le _) ⟨0, fun _ => 0, fun _ => 0, Nat.zero_le _, fun j hj => ?_, hr, zk_s4_0, fun k hk => absurd hk (by omega), fun k k' _ hk => absurd hk (by omega), fun k hk => absurd hk (by omega)⟩ (fun n s hs => ?_) (fun n i s hi hs hw => ?_)
  · show zb w j = _
    rw [decide_eq_true (Nat.zero_le _), Bool.and_true]
  · obtain ⟨t, F, G, ht, s1, s2, s3, p1, p2, p3⟩ := hs
    have hz : ∀ j, j < 64 → zb s.1 j = false := by
      intro j hj
      cases e : zb s.1 j
      · rfl
      · obtain ⟨v, v1, v2, v3, v4⟩ := zc_least (n := 64) hj e
        have sv : zb_st (zb s.1) v = true := by
          unfold zb_st
          rw [v3]
          rcases Nat.eq_zero_or_pos v with z | z
          · subst z; simp
          · rw [v4 (v - 1) (by omega)]; simp
        have := zc_lt v2 sv
        omega
    refine pk_le r r (fun _ => ⟨hin, nm_r (show _ = upd a3 c (nI (2 * r)) by rw [ec, zx_2]) (H _ F G s3 ⟨fun k hk => ?_, p2, fun j hj => ?_⟩)⟩) (fun z => absurd z (by omega))
    · obtain ⟨q1, q2, q3, q4⟩ := p1 k hk
      exact ⟨q1, q2, q3, by omega⟩
    · rcases Nat.lt_or_ge j t with z | z
      · exact p3 j z
      · have hw : zb w j = false := by
          have := s1 j hj
          rw [hz j hj, decide_eq_true z, Bool.and_true] at this
          exact this.symm
        rw [hw]
        refine ⟨fun z => absurd z (by simp), ?_⟩
        rintro ⟨k, k1, k2, k3⟩
        have := (p1 k k1).2.2.2
        omega
  · obtain ⟨t, F, G, ht, s1, s2, s3, sp⟩ := hs
    obtain ⟨x, x1, x2, x3⟩ := zc_sel (f := zb_st (zb s.1)) (n := 64) (k := 0) (by omega)
    have x4 : zb s.1 x = true := by
      unfold zb_st at x2
      rw [Bool.and_eq_true] at x2
      exact x2.1
    obtain ⟨v, v1, v2, v3, v4⟩ := zc_least (n := 64) x1 x4
    have tv : t ≤ v := by
      rw [s1 v v2, Bool.and_eq_true, decide_eq_true_eq] at v3
      exact v3.2
    have hw0 : ∀ j, t ≤ j → j < v → zb w j = false := by
      intro j h1 h2
      have := v4 j h2
      rw [s1 j (by omega), decide_eq_true h1, Bool.and_true] at this
      exact this
    have main : ∀ e, v ≤ e → e < 64 → (∀ j, v ≤ j → j ≤ e → zb s.1 j = true) → zb s.1 (e + 1) = false → wX_storeRuns_60 post (wX_storeRuns_13 post (nI c) (nI r) m n) (nI c) (nI r) s.1 (nI i) (nI v) (nI e) m (upd a1 c 2) a2 a3 s.2 a5 a6 a7 := by
      intro e he he2 hin2 hout
      refine zw_sr60 hc (by omega) he he2 (fun w' hw' => hw (w', _) ⟨e + 1, _, _, by omega, fun j hj => ?_, ?_, zk_s4_u (zk_s4_u s3 (by omega)) (by omega), zk_P_add sp (v := v) (e := e) (fun k hk => ?_) ?_ ?_ tv he hw0 (fun j h1 h2 => ?_)⟩)
      · show zb w' j = _
        rw [hw' j hj, s1 j hj]
        rcases Nat.lt_or_ge e j with z | z
        · rw [decide_eq_true (show t ≤ j by omega), decide_eq_false (show ¬ (v ≤ j ∧ j ≤ e) by omega), decide_eq_true (show e + 1 ≤ j by omega)]; simp
        · rw [decide_eq_false (show ¬ e + 1 ≤ j by omega), Bool.and_false]
          rcases Nat.lt_or_ge j v with y | y
          · have := v4 j y
            rw [s1 j hj] at this
            rw [this]; rfl
          · rw [decide_eq_true (⟨y, z⟩ : v ≤ j ∧ j ≤ e)]; simp
      · show zc_n (zb_st (zb w')) 64 + (i + 1) = r
        have hg : ∀ j, zb w' j = (zb s.1 j && !decide (v ≤ j ∧ j ≤ e)) := by
          intro j
          rcases Nat.lt_or_ge j 64 with z | z
          · exact hw' j z
          · rw [zb_big z, zb_big z]; rfl
        obtain ⟨c1, c2, c3⟩ := zb_st_cut v3 v4 hin2 he hout hg
        have := zc_put c1 c2 c3 64
        rw [if_pos v2] at this
        omega
      · show upd (upd s.2 (c * 8 + 2 * i) (nI v)) (c * 8 + (2 * i + 1)) (nI e) (c * 8 + k) = s.2 (c * 8 + k)
        rw [pk_un (by omega), pk_un (by omega)]
      · show upd (upd s.2 (c * 8 + 2 * i) (nI v)) (c * 8 + (2 * i + 1)) (nI e) (c * 8 + 2 * i) = nI v
        rw [pk_un (by omega), pk_us]
      · show upd (upd s.2 (c * 8 + 2 * i) (nI v)) (c * 8 + (2 * i + 1)) (nI e) (c * 8 + (2 * i + 1)) = nI e
        rw [pk_us]
      · have := hin2 j h1 h2
        rw [s1 j (by omega), Bool.and_eq_true] at this
        exact this.1
    refine pk_le r i (fun z => absurd z (by omega)) (fun _ => zw_lowest v2 v3 v4 (nm_e ?_))
    have hb : ∀ j, j < 64 → zb ((s.1 ^^^ (-1)) &&& (-((1 : Int64) <<< ((nI v).toInt64 &&& 63)))) j = (!zb s.1 j && decide (v ≤ j)) := by
      intro j hj
      rw [zb_and, zb_not _ hj, zb_from v2 hj]
    refine br_c (fun z => ?_) (fun z => ?_)
    · refine main 63 (by omega) (by omega) (fun j h1 h2 => ?_) (zb_big (by omega))
      have := hb j (by omega)
      rw [z, zb_0, decide_eq_true h1, Bool.and_true] at this
      cases e : zb s.1 j
      · rw [e] at this; exact absurd this (by simp)
      · rfl
    · obtain ⟨y, y1, y2⟩ := zb_nz z
      obtain ⟨e, e1, e2, e3, e4⟩ := zc_least (n := 64) y1 y2
      have e5 := e3
      rw [hb e e2, Bool.and_eq_true, decide_eq_true_eq] at e5
      have e6 : zb s.1 e = false := by
        have := e5.1
        cases q : zb s.1 e
        · rfl
        · rw [q] at this; exact absurd this (by simp)
      have ne : e ≠ v := by
        intro q
        rw [q, v3] at e6
        exact absurd e6 (by simp)
      refine zw_lowest e2 e3 e4 ?_
      have em : nI e - 1 = nI (e - 1) := by
        have := nI_pred (e - 1)
        rw [show e - 1 + 1 = e by omega] at this
        exact this
      rw [em]
      refine main (e - 1) (by omega) (by omega) (fun j h1 h2 => ?_) (by rw [show e - 1 + 1 = e by omega]; exact e6)
      have := e4 j (by omega)
      rw [hb j (by omega), decide_eq_true h1, Bool.and_true] at this
      cases q : zb s.1 j
      · rw [q] at this; exact absurd this (by simp)
      · rfl
theorem zw_store46 {post : St1 → Prop} {m : Int32} {a1 a2 a3 a4 : Nat → Int32} {a5 a6 : Nat → Int64} {a7 : Nat → Int32} {c : Nat} {w : Int64} (hc : c < 64)
    (H : ∀ b1 b2 b3 b4 b5, zk_fr c a1 a2 a3 a4 a5 b1 b2 b3 b4 b5 → zk_c b1 b2 b3 b4 b5 c w → post (m, b1, b2, b3, b4, b5, a6, a7)) :
    wX_store_46 post (nI c) w (nI (zc_n (zb w) 64)) m a1 (upd a2 c (nI (zc_n (zb w) 64))) a3 a4 a5 a6 a7 := by
  have ec : (nI c).toNatClampNeg = c := nI_clamp (by omega)
  have hin : vp_in (nI c) 64 := pk_in c 64 hc
  have hN : zc_n (zb w) 64 ≤ 64 := zc_le _ _
  refine pk_lt 8 (zc_n (zb w) 64) (fun z => ⟨hin, nm_r (show _ = upd a1 c 1 by rw [ec]) ⟨hin, nm_r (show _ = vp_updL a5 c w by rw [ec]) (H _ _ _ _ _ (zk_fr_mk (fun d hd => pk_un hd) (fun d hd => pk_un hd) (fun _ _ => rfl) (fun d hd => pk_uLn hd) zk_s4_0) ⟨pk_us, Or.inr (Or.inl ⟨pk_us, pk_uLs⟩)⟩)⟩⟩) (fun z => ?_)
  refine zw_storeList hc z pk_us (fun b4 h4 hs => H _ _ _ _ _ (zk_fr_mk (fun d hd => pk_un hd) (fun d hd => pk_un hd) (fun d hd => pk_un hd) (fun _ _ => rfl) h4) ⟨pk_us, Or.inl ⟨pk_us, z, pk_us, hs⟩⟩)
theorem zw_store {post : St1 → Prop} {m : Int32} {a1 a2 a3 a4 : Nat → Int32} {a5 a6 : Nat → Int64} {a7 : Nat → Int32} {c : Nat} {w : Int64} (hc : c < 64)
    (H : ∀ b1 b2 b3 b4 b5, zk_fr c a1 a2 a3 a4 a5 b1 b2 b3 b4 b5 → zk_c b1 b2 b3 b4 b5 c w → post (m, b1, b2, b3, b4, b5, a6, a7)) :
    wpX_store post (m, a1, a2, a3, a4, a5, a6, a7) (nI c) w := by
  have ec : (nI c).toNatClampNeg = c := nI_clamp (by omega)
  have hin : vp_in (nI c) 64 := pk_in c 64 hc
  have hN : zc_n (zb w) 64 ≤ 64 := zc_le _ _
  have hR : zc_n (zb_st (zb w)) 64 ≤ 64 := zc_le _ _
  unfold wpX_store
  dsimp only
  refine zw_ones ?_
  refine zw_runsIn ?_
  refine ⟨hin, nm_r (show _ = upd a2 c (nI (zc_n (zb w) 64)) by rw [ec]) (pk_le (zc_n (zb w) 64) (2 * zc_n (zb_st (zb w)) 64) (fun _ => zw_store46 hc H) (fun z => pk_lt 4 (zc_n (zb_st (zb w)) 64) (fun _ => zw_store46 hc H) (fun z2 => ?_)) rfl (zx_2 _))⟩
  refine zw_storeRuns hc z2 (fun b4 F G h4 hp => H _ _ _ _ _ (zk_fr_mk (fun d hd => pk_un hd) (fun d hd => pk_un hd) (fun d hd => pk_un hd) (fun _ _ => rfl) h4) ⟨pk_us, Or.inr (Or.inr ⟨pk_us, _, F, G, ?_, z2, pk_us, hp⟩)⟩)
  rcases Nat.eq_zero_or_pos (zc_n (zb_st (zb w)) 64) with q | q
  · exfalso
    obtain ⟨x, x1, x2, x3⟩ := zc_sel (f := zb w) (n := 64) (k := 0) (by omega)
    have sx : zb_st (zb w) x = true := by
      unfold zb_st
      rw [x2]
      rcases Nat.eq_zero_or_pos x with y | y
      · subst y; simp
      · rw [zc_none' (f := zb w) (a := 0) (b := x) (by rw [x3]; exact Nat.le_refl 0) (Nat.zero_le _) (show x - 1 < x by omega)]; simp
    have := zc_lt x1 sx
    omega
  · exact q
end
section
/-! ===== a list: seek, contains, insert, erase ===== -/
theorem zx_half {a b : Nat} (h : a + b < 2 ^ 31) : (nI a + nI b) / 2 = nI ((a + b) / 2) := by
  rw [nI_add]
  exact pk_div (d := 2) h (by decide) (by decide)
theorem zx_shr6 {x : Nat} (h : x < 2 ^ 31) : nI x >>> ((6 : Int32) &&& 31) = nI (x / 64) := pk_shrN h _ 6 (by decide)
theorem zx_and6 {x : Nat} (h : x < 2 ^ 31) : nI x &&& 63 = nI (x % 64) := pk_andN (by omega) 6 (by decide)
theorem zw_seek {post : Int32 → Prop} {m : Int32} {a1 a2 a3 a4 : Nat → Int32} {a5 a6 : Nat → Int64} {a7 : Nat → Int32} {c v : Nat} {w : Int64} (hc : c < 64) (hv : v ≤ 64) (hL : zk_L (zb w) (a3 c) (fun k => a4 (c * 8 + k))) (h : post (nI (zc_n (zb w) v))) : wpX_seek post (m, a1, a2, a3, a4, a5, a6, a7) (nI c) (nI v) := by
  have ec : (nI c).toNatClampNeg = c := nI_clamp (by omega)
  obtain ⟨l1, l2, l3⟩ := hL
  have hR : zc_n (zb w) v ≤ zc_n (zb w) 64 := zc_mono hv
  refine ⟨pk_in c 64 hc, nm_r (show _ = nI (zc_n (zb w) 64) by rw [ec, l2]) ?_⟩
  refine loop_m (fun n (s : Nat × Nat) => wX_seek_10 post (nI c) (nI v) m a1 a2 a3 a4 a5 a6 a7 n (nI s.1) (nI s.2)) (fun s => s.1 ≤ zc_n (zb w) v ∧ zc_n (zb w) v ≤ s.2 ∧ s.2 ≤ zc_n (zb w) 64) (fun s => s.2 - s.1) (fun n s hs hw => ?_) (0, zc_n (zb w) 64) ⟨Nat.zero_le _, hR, Nat.le_refl _⟩
  obtain ⟨s1, s2, s3⟩ := hs
  refine pk_le s.2 s.1 (fun z => ?_) (fun z => ⟨by decide, nm_r (zx_half (by omega)) ?_⟩)
  · rw [show s.1 = zc_n (zb w) v by omega]
    exact h
  · obtain ⟨u, u1, u2, u3, u4⟩ := l3 ((s.1 + s.2) / 2) (by omega)
    have u5 : a4 (nI c * 8 + nI ((s.1 + s.2) / 2)).toNatClampNeg = nI u := by rw [zx_8, nI_clamp (by omega)]; exact u4
    refine ⟨pk_in (c * 8 + (s.1 + s.2) / 2) 512 (by omega) (zx_8 c _), pk_le v u (fun q => hw (s.1, (s.1 + s.2) / 2) ⟨s1, ?_, by show (s.1 + s.2) / 2 ≤ _; omega⟩ (by show (s.1 + s.2) / 2 - s.1 < s.2 - s.1; omega)) (fun q => nm_r (nI_1 _) (hw ((s.1 + s.2) / 2 + 1, s.2) ⟨?_, s2, s3⟩ (by show s.2 - ((s.1 + s.2) / 2 + 1) < s.2 - s.1; omega))) rfl u5⟩
    · show zc_n (zb w) v ≤ (s.1 + s.2) / 2
      rw [← u3]
      exact zc_mono q
    · show (s.1 + s.2) / 2 + 1 ≤ zc_n (zb w) v
      rw [← u3]
      exact zc_lt q u2
theorem zk_L_has {f : Nat → Bool} {v u : Nat} (hu : f u = true) (hz : zc_n f u = zc_n f v) (h : f v = true) : u = v := zc_uniq hu h hz
theorem zw_contains {post : Int32 → Prop} {m : Int32} {a1 a2 a3 a4 : Nat → Int32} {a5 a6 : Nat → Int64} {a7 : Nat → Int32} {c v : Nat} {w : Int64} (hc : c < 64) (hk : zk_c a1 a2 a3 a4 a5 c w) (hv : v < 64) (h1 : zb w v = true → post 1) (h0 : zb w v = false → post 0) : wpX_contains post (m, a1, a2, a3, a4, a5, a6, a7) (nI c) (nI v) := by
  have ec : (nI c).toNatClampNeg = c := nI_clamp (by omega)
  have hin : vp_in (nI c) 64 := pk_in c 64 hc
  have h0' : ¬ zb w v = true → post 0 := fun z => h0 (by revert z; cases zb w v <;> simp)
  unfold wpX_contains
  dsimp only
  rw [ec]
  rcases hk.2 with ⟨k1, hL⟩ | ⟨k1, k2⟩ | ⟨k1, r, F, G, r1, r2, r3, p1, p2, p3⟩
  · refine ⟨hin, br_f (by rw [k1]; decide) ⟨hin, br_t k1 (zw_seek hc (by omega) hL ?_)⟩⟩
    obtain ⟨l1, l2, l3⟩ := hL
    refine ⟨hin, pk_le (zc_n (zb w) 64) (zc_n (zb w) v) (fun z => h0' (fun q => ?_)) (fun z => ?_) l2 rfl (by omega) (by have := zc_le (zb w) v; omega)⟩
    · have := zk_c_in hv q
      omega
    · obtain ⟨u, u1, u2, u3, u4⟩ := l3 _ z
      have u5 : a4 (nI c * 8 + nI (zc_n (zb w) v)).toNatClampNeg = nI u := by rw [zx_8, nI_clamp (by omega)]; exact u4
      refine ⟨pk_in (c * 8 + zc_n (zb w) v) 512 (by omega) (zx_8 c _), pk_eq u v (fun q => h1 (by rw [← q]; exact u2)) (fun q => h0' (fun t => q (zc_uniq u2 t u3))) u5⟩
  · refine ⟨hin, br_t k1 ⟨hin, ?_⟩⟩
    rw [k2]
    exact ek_if (zb_ask w hv) h1 h0'
  · refine ⟨hin, br_f (by rw [k1]; decide) ⟨hin, br_f (by rw [k1]; decide) ?_⟩⟩
    have e3 : a3 (nI c).toNatClampNeg = nI (2 * r) := by rw [ec]; exact r3
    refine pk_loop (σ := Unit) (fun n i _ => wX_contains_80 post (nI c) (nI v) m a1 a2 a3 a4 a5 a6 a7 n (nI (2 * i))) (fun i _ => ∀ k, k < i → ¬ (F k ≤ v ∧ v ≤ G k)) r 0 () (Nat.zero_le _) (fun k hk => absurd hk (by omega)) (fun n s hs => ?_) (fun n i s hi hs hw => ?_)
    · refine ⟨hin, pk_le (2 * r) (2 * r) (fun _ => h0' (fun q => ?_)) (fun z => absurd z (by omega)) e3⟩
      obtain ⟨k, k1, k2⟩ := (p3 v hv).mp q
      exact hs k k1 k2
    · obtain ⟨q1, q2, q3, q4⟩ := p1 i hi
      have q1' : a4 (nI c * 8 + nI (2 * i)).toNatClampNeg = nI (F i) := by rw [zx_8, nI_clamp (by omega)]; exact q1
      have q2' : a4 (nI c * 8 + nI (2 * i) + 1).toNatClampNeg = nI (G i) := by rw [zx_81, nI_clamp (by omega)]; exact q2
      have nx : ¬ (F i ≤ v ∧ v ≤ G i) → ∀ k, k < i + 1 → ¬ (F k ≤ v ∧ v ≤ G k) := by
        intro z k hk
        by_cases e : k = i
        · rw [e]; exact z
        · exact hs k (by omega)
      refine ⟨hin, pk_le (2 * r) (2 * i) (fun z => absurd z (by omega)) (fun _ => ⟨pk_in (c * 8 + 2 * i) 512 (by omega) (zx_8 c _), pk_lt v (F i) (fun z => nm_r (zx_p2 i) (hw () (nx (by omega)))) (fun z => ⟨pk_in (c * 8 + 2 * i + 1) 512 (by omega) (zx_81 c _), pk_lt (G i) v (fun y => nm_r (zx_p2 i) (hw () (nx (by omega)))) (fun y => h1 ((p3 v hv).mpr ⟨i, hi, z, y⟩)) q2'⟩) rfl q1'⟩) e3⟩
/-! insert -/
theorem zb_set {w : Int64} {v : Nat} (hv : v < 64) : zb (w ||| ((1 : Int64) <<< ((nI v).toInt64 &&& 63))) v = true ∧ ∀ j, j ≠ v → zb (w ||| ((1 : Int64) <<< ((nI v).toInt64 &&& 63))) j = zb w j := by
  constructor
  · rw [zb_or, zb_one hv, decide_eq_true rfl, Bool.or_true]
  · intro j hj
    rw [zb_or, zb_one hv, decide_eq_false hj, Bool.or_false]
theorem zb_cut {w : Int64} {v : Nat} (hv : v < 64) : zb (w &&& (((1 : Int64) <<< ((nI v).toInt64 &&& 63)) ^^^ (-1))) v = false ∧ ∀ j, j ≠ v → zb w j = zb (w &&& (((1 : Int64) <<< ((nI v).toInt64 &&& 63)) ^^^ (-1))) j := by
  constructor
  · rw [zb_and, zb_not _ hv, zb_one hv, decide_eq_true rfl]; simp
  · intro j hj
    rcases Nat.lt_or_ge j 64 with z | z
    · rw [zb_and, zb_not _ z, zb_one hv, decide_eq_false hj]; simp
    · rw [zb_big z, zb_big z]
theorem zk_put_L {f g : Nat → Bool} {v : Nat} {s s' : Nat → Int32} (hv : v < 64) (fv : f v = false) (gv : g v = true) (hg : ∀ j, j ≠ v → g j = f j) (hs : ∀ k, k < zc_n f 64 → zk_sel f k (s k)) (h1 : ∀ k, k < zc_n f v → s' k = s k) (h2 : s' (zc_n f v) = nI v) (h3 : ∀ k, zc_n f v < k → k < zc_n f 64 + 1 → s' k = s (k - 1)) : ∀ k, k < zc_n f 64 + 1 → zk_sel g k (s' k) := by
  intro k hk
  have hput := zc_put fv gv hg
  have hR : zc_n f v ≤ zc_n f 64 := zc_mono (by omega)
  rcases Nat.lt_trichotomy k (zc_n f v) with z | z | z
  · rw [h1 k z]
    obtain ⟨u, u1, u2, u3, u4⟩ := hs k (by omega)
    have uv : u < v := zc_ltI (f := f) (by omega)
    refine ⟨u, u1, by rw [hg u (by omega)]; exact u2, ?_, u4⟩
    rw [hput u, if_neg (by omega)]
    exact u3
  · rw [z, h2]
    refine ⟨v, hv, gv, ?_, rfl⟩
    rw [hput v, if_neg (by omega)]
    rfl
  · rw [h3 k z hk]
    obtain ⟨u, u1, u2, u3, u4⟩ := hs (k - 1) (by omega)
    have uv : v < u := by
      rcases Nat.lt_trichotomy u v with y | y | y
      · have := zc_lt y u2; omega
      · rw [y, fv] at u2; exact absurd u2 (by simp)
      · exact y
    refine ⟨u, u1, by rw [hg u (by omega)]; exact u2, ?_, u4⟩
    rw [hput u, if_pos uv]
    omega
theorem zk_cut_L {f g : Nat → Bool} {v : Nat} {s s' : Nat → Int32} (hv : v < 64) (fv : f v = true) (gv : g v = false) (hg : ∀ j, j ≠ v → f j = g j) (hs : ∀ k, k < zc_n f 64 → zk_sel f k (s k)) (h1 : ∀ k, k < zc_n f v → s' k = s k) (h3 : ∀ k, zc_n f v ≤ k → k < zc_n f 64 - 1 → s' k = s (k + 1)) : ∀ k, k < zc_n f 64 - 1 → zk_sel g k (s' k) := by
  intro k hk
  have hput := zc_put gv fv hg
  have hR : zc_n f v < zc_n f 64 := zc_lt hv fv
  rcases Nat.lt_or_ge k (zc_n f v) with z | z
  · rw [h1 k z]
    obtain ⟨u, u1, u2, u3, u4⟩ := hs k (by omega)
    have uv : u < v := zc_ltI (f := f) (by omega)
    refine ⟨u, u1, by rw [← hg u (by omega)]; exact u2, ?_, u4⟩
    have := hput u
    rw [if_neg (by omega)] at this
    omega
  · rw [h3 k z hk]
    obtain ⟨u, u1, u2, u3, u4⟩ := hs (k + 1) (by omega)
    have uv : v < u := zc_ltI (f := f) (by omega)
    refine ⟨u, u1, by rw [← hg u (by omega)]; exact u2, ?_, u4⟩
    have := hput u
    rw [if_pos uv] at this
    omega
theorem zw_ins108 {post : St1 → Prop} {m : Int32} {a1 a2 a3 a4 : Nat → Int32} {a5 a6 : Nat → Int64} {a7 : Nat → Int32} {c v : Nat} {w : Int64} (hc : c < 64) (hk : zk_c a1 a2 a3 a4 a5 c w) (hv : v < 64) (hn : zb w v = false)
    (H : ∀ b1 b2 b3 b4 b5 w', zk_fr c a1 a2 a3 a4 a5 b1 b2 b3 b4 b5 → zk_c b1 b2 b3 b4 b5 c w' → post (m, b1, b2, b3, b4, b5, a6, a7)) :
    wX_insert_108 post (nI c) (nI v) m a1 a2 a3 a4 a5 a6 a7 := by
  have ec : (nI c).toNatClampNeg = c := nI_clamp (by omega)
  have hin : vp_in (nI c) 64 := pk_in c 64 hc
  unfold wX_insert_108
  rw [ec]
  refine ⟨hin, br_c (fun k1 => ⟨hin, hin, nm_e ⟨hin, hin, nm_e ?_⟩⟩) (fun k1 => zw_wordOf hc hk (nm_e (zw_store hc (fun b1 b2 b3 b4 b5 hf hw => H b1 b2 b3 b4 b5 _ hf hw))))⟩
  rcases hk.2 with ⟨q, _⟩ | ⟨_, k2⟩ | ⟨q, _⟩
  · rw [q] at k1; exact absurd k1 (by decide)
  · refine H _ _ _ _ _ (w ||| ((1 : Int64) <<< ((nI v).toInt64 &&& 63))) (zk_fr_mk (fun _ _ => rfl) (fun d hd => pk_un hd) (fun _ _ => rfl) (fun d hd => pk_uLn hd) zk_s4_0) ⟨?_, Or.inr (Or.inl ⟨k1, by rw [pk_uLs, k2]⟩)⟩
    have e := zc_put hn (zb_set hv).1 (zb_set hv).2 64
    rw [if_pos hv] at e
    rw [pk_us, hk.1, e, nI_1]
  · rw [q] at k1; exact absurd k1 (by decide)
theorem zw_insert {post : St1 → Prop} {m : Int32} {a1 a2 a3 a4 : Nat → Int32} {a5 a6 : Nat → Int64} {a7 : Nat → Int32} {c v : Nat} {w : Int64} (hc : c < 64) (hk : zk_c a1 a2 a3 a4 a5 c w) (hv : v < 64) (hn : zb w v = false)
    (H : ∀ b1 b2 b3 b4 b5 w', zk_fr c a1 a2 a3 a4 a5 b1 b2 b3 b4 b5 → zk_c b1 b2 b3 b4 b5 c w' → post (m, b1, b2, b3, b4, b5, a6, a7)) :
    wpX_insert post (m, a1, a2, a3, a4, a5, a6, a7) (nI c) (nI v) := by
  have ec : (nI c).toNatClampNeg = c := nI_clamp (by omega)
  have hin : vp_in (nI c) 64 := pk_in c 64 hc
  unfold wpX_insert
  dsimp only
  rw [ec]
  refine ⟨hin, br_c (fun k1 => ⟨hin, ?_⟩) (fun k1 => zw_ins108 hc hk hv hn H)⟩
  have hL : zk_L (zb w) (a3 c) (fun k => a4 (c * 8 + k)) := by
    rcases hk.2 with ⟨_, q⟩ | ⟨q, _⟩ | ⟨q, _⟩
    · exact q
    · rw [q] at k1; exact absurd k1 (by decide)
    · rw [q] at k1; exact absurd k1 (by decide)
  have l1 := hL.1
  have l2 := hL.2.1
  have l3 := hL.2.2
  refine pk_le 8 (zc_n (zb w) 64) (fun z => zw_ins108 hc hk hv hn H) (fun z => zw_seek hc (by omega) hL ⟨hin, nm_r l2 ?_⟩) rfl l2
  have hR : zc_n (zb w) v ≤ zc_n (zb w) 64 := zc_mono (by omega)
  have eR : (nI c * 8 + nI (zc_n (zb w) v)).toNatClampNeg = c * 8 + zc_n (zb w) v := by rw [zx_8]; exact nI_clamp (by omega)
  refine loop_m (fun n (s : Nat × (Nat → Int32)) => wX_insert_35 post (nI c) (nI v) (nI (zc_n (zb w) v)) m n (nI s.1) a1 a2 a3 s.2 a5 a6 a7) (fun s => zc_n (zb w) v ≤ s.1 ∧ s.1 ≤ zc_n (zb w) 64 ∧ zk_s4 c a4 s.2 ∧ (∀ k, k ≤ s.1 → k < 8 → s.2 (c * 8 + k) = a4 (c * 8 + k)) ∧ (∀ k, s.1 < k → k ≤ zc_n (zb w) 64 → s.2 (c * 8 + k) = a4 (c * 8 + (k - 1)))) (fun s => s.1) (fun n s hs hw => ?_) (zc_n (zb w) 64, a4) ⟨hR, Nat.le_refl _, zk_s4_0, fun _ _ _ => rfl, fun k h1 h2 => absurd h1 (by show ¬ zc_n (zb w) 64 < k; omega)⟩
  obtain ⟨s1, s2, s3, s4, s5⟩ := hs
  refine pk_le s.1 (zc_n (zb w) v) (fun y => ⟨pk_in (c * 8 + zc_n (zb w) v) 512 (by omega) (zx_8 c _), nm_r (show _ = upd s.2 (c * 8 + zc_n (zb w) v) (nI v) by rw [eR]) ⟨hin, hin, nm_r (show _ = upd a3 c (nI (zc_n (zb w) 64 + 1)) by rw [ec, l2, nI_1]) ⟨hin, hin, nm_r (show _ = upd a2 c (nI (zc_n (zb w) 64 + 1)) by rw [ec, hk.1, nI_1]) ?_⟩⟩⟩) (fun y => ?_)
  · have e := zc_put hn (zb_set hv).1 (zb_set hv).2 64
    rw [if_pos hv] at e
    refine H _ _ _ _ _ (w ||| ((1 : Int64) <<< ((nI v).toInt64 &&& 63))) (zk_fr_mk (fun _ _ => rfl) (fun d hd => pk_un hd) (fun d hd => pk_un hd) (fun _ _ => rfl) (zk_s4_u s3 (by omega))) ⟨?_, Or.inl ⟨k1, ?_, ?_, ?_⟩⟩
    · rw [pk_us, e]
    · omega
    · rw [pk_us, e]
    · rw [e]
      refine zk_put_L (s := fun k => a4 (c * 8 + k)) hv hn (zb_set hv).1 (zb_set hv).2 l3 (fun k hk2 => ?_) ?_ (fun k h1 h2 => ?_)
      · show upd s.2 (c * 8 + zc_n (zb w) v) (nI v) (c * 8 + k) = a4 (c * 8 + k)
        rw [pk_un (by omega)]
        exact s4 k (by omega) (by omega)
      · show upd s.2 (c * 8 + zc_n (zb w) v) (nI v) (c * 8 + zc_n (zb w) v) = nI v
        rw [pk_us]
      · show upd s.2 (c * 8 + zc_n (zb w) v) (nI v) (c * 8 + k) = a4 (c * 8 + (k - 1))
        rw [pk_un (by omega)]
        exact s5 k (by omega) (by omega)
  · have em : nI c * 8 + nI s.1 - 1 = nI (c * 8 + (s.1 - 1)) := by
      rw [zx_8]
      have := nI_pred (c * 8 + (s.1 - 1))
      rw [show c * 8 + (s.1 - 1) + 1 = c * 8 + s.1 by omega] at this
      exact this
    have e1 : (nI c * 8 + nI s.1).toNatClampNeg = c * 8 + s.1 := by rw [zx_8]; exact nI_clamp (by omega)
    have e2 : (nI c * 8 + nI s.1 - 1).toNatClampNeg = c * 8 + (s.1 - 1) := by rw [em]; exact nI_clamp (by omega)
    have e4 : nI s.1 + (-1) = nI (s.1 - 1) := by
      have := pk_m1 (s.1 - 1)
      rw [show s.1 - 1 + 1 = s.1 by omega] at this
      exact this
    refine ⟨pk_in (c * 8 + (s.1 - 1)) 512 (by omega) em, pk_in (c * 8 + s.1) 512 (by omega) (zx_8 c _), nm_r (show _ = upd s.2 (c * 8 + s.1) (a4 (c * 8 + (s.1 - 1))) by rw [e1, e2, s4 (s.1 - 1) (by omega) (by omega)]) (nm_r e4 (hw (s.1 - 1, upd s.2 (c * 8 + s.1) (a4 (c * 8 + (s.1 - 1)))) ⟨?_, ?_, zk_s4_u s3 (by omega), fun k h1 h2 => ?_, fun k h1 h2 => ?_⟩ (by show s.1 - 1 < s.1; omega)))⟩
    · show zc_n (zb w) v ≤ s.1 - 1
      omega
    · show s.1 - 1 ≤ zc_n (zb w) 64
      omega
    · have h1' : k ≤ s.1 - 1 := h1
      show upd s.2 (c * 8 + s.1) (a4 (c * 8 + (s.1 - 1))) (c * 8 + k) = _
      rw [pk_un (by omega)]
      exact s4 k (by omega) h2
    · have h1' : s.1 - 1 < k := h1
      show upd s.2 (c * 8 + s.1) (a4 (c * 8 + (s.1 - 1))) (c * 8 + k) = _
      by_cases q : k = s.1
      · rw [q, pk_us]
      · rw [pk_un (by omega)]
        exact s5 k (by omega) h2
theorem zw_erase {post : St1 → Prop} {m : Int32} {a1 a2 a3 a4 : Nat → Int32} {a5 a6 : Nat → Int64} {a7 : Nat → Int32} {c v : Nat} {w : Int64} (hc : c < 64) (hk : zk_c a1 a2 a3 a4 a5 c w) (hv : v < 64) (hn : zb w v = true)
    (H : ∀ b1 b2 b3 b4 b5 w', zk_fr c a1 a2 a3 a4 a5 b1 b2 b3 b4 b5 → zk_c b1 b2 b3 b4 b5 c w' → post (m, b1, b2, b3, b4, b5, a6, a7)) :
    wpX_erase post (m, a1, a2, a3, a4, a5, a6, a7) (nI c) (nI v) := by
  have ec : (nI c).toNatClampNeg = c := nI_clamp (by omega)
  have hin : vp_in (nI c) 64 := pk_in c 64 hc
  unfold wpX_erase
  dsimp only
  rw [ec]
  refine ⟨hin, br_c (fun k1 => ?_) (fun k1 => zw_wordOf hc hk (nm_e (zw_store hc (fun b1 b2 b3 b4 b5 hf hw => H b1 b2 b3 b4 b5 _ hf hw))))⟩
  have hL : zk_L (zb w) (a3 c) (fun k => a4 (c * 8 + k)) := by
    rcases hk.2 with ⟨_, q⟩ | ⟨q, _⟩ | ⟨q, _⟩
    · exact q
    · rw [q] at k1; exact absurd k1 (by decide)
    · rw [q] at k1; exact absurd k1 (by decide)
  have l1 := hL.1
  have l2 := hL.2.1
  have l3 := hL.2.2
  have hR : zc_n (zb w) v < zc_n (zb w) 64 := zc_lt hv hn
  have ep : nI (zc_n (zb w) 64) - 1 = nI (zc_n (zb w) 64 - 1) := by
    have := nI_pred (zc_n (zb w) 64 - 1)
    rw [show zc_n (zb w) 64 - 1 + 1 = zc_n (zb w) 64 by omega] at this
    exact this
  refine zw_seek hc (by omega) hL ⟨hin, hin, nm_r (show _ = upd a3 c (nI (zc_n (zb w) 64 - 1)) by rw [l2, ep]) ⟨hin, hin, nm_r (show _ = upd a2 c (nI (zc_n (zb w) 64 - 1)) by rw [hk.1, ep]) ?_⟩⟩
  have e3 : upd a3 c (nI (zc_n (zb w) 64 - 1)) (nI c).toNatClampNeg = nI (zc_n (zb w) 64 - 1) := by rw [ec, pk_us]
  refine pk_loop (fun n i (s : Nat → Int32) => wX_erase_39 post (nI c) m n (nI i) a1 (upd a2 c (nI (zc_n (zb w) 64 - 1))) (upd a3 c (nI (zc_n (zb w) 64 - 1))) s a5 a6 a7) (fun i s => zc_n (zb w) v ≤ i ∧ zk_s4 c a4 s ∧ (∀ k, k < zc_n (zb w) v → s (c * 8 + k) = a4 (c * 8 + k)) ∧ (∀ k, zc_n (zb w) v ≤ k → k < i → s (c * 8 + k) = a4 (c * 8 + (k + 1))) ∧ (∀ k, i ≤ k → k < 8 → s (c * 8 + k) = a4 (c * 8 + k))) (zc_n (zb w) 64 - 1) (zc_n (zb w) v) a4 (by omega) ⟨Nat.le_refl _, zk_s4_0, fun _ _ => rfl, fun k h1 h2 => absurd h1 (by omega), fun _ _ _ => rfl⟩ (fun n s hs => ?_) (fun n i s hi hs hw => ?_)
  · obtain ⟨s0, s1, s2, s3, s4⟩ := hs
    refine ⟨hin, pk_le (zc_n (zb w) 64 - 1) (zc_n (zb w) 64 - 1) (fun _ => ?_) (fun z => absurd z (by omega)) e3⟩
    have e := zc_put (zb_cut hv).1 hn (zb_cut hv).2 64
    rw [if_pos hv] at e
    have e' : zc_n (zb (w &&& (((1 : Int64) <<< ((nI v).toInt64 &&& 63)) ^^^ (-1)))) 64 = zc_n (zb w) 64 - 1 := by omega
    refine H _ _ _ _ _ (w &&& (((1 : Int64) <<< ((nI v).toInt64 &&& 63)) ^^^ (-1))) (zk_fr_mk (fun _ _ => rfl) (fun d hd => pk_un hd) (fun d hd => pk_un hd) (fun _ _ => rfl) s1) ⟨?_, Or.inl ⟨k1, ?_, ?_, ?_⟩⟩
    · rw [pk_us, e']
    · omega
    · rw [pk_us, e']
    · rw [e']
      exact zk_cut_L (s := fun k => a4 (c * 8 + k)) hv hn (zb_cut hv).1 (zb_cut hv).2 l3 s2 s3
  · obtain ⟨s0, s1, s2, s3, s4⟩ := hs
    have e1 : (nI c * 8 + nI i).toNatClampNeg = c * 8 + i := by rw [zx_8]; exact nI_clamp (by omega)
    have e2 : (nI c * 8 + nI i + 1).toNatClampNeg = c * 8 + (i + 1) := by rw [zx_81]; exact nI_clamp (by omega)
    refine ⟨hin, pk_le (zc_n (zb w) 64 - 1) i (fun z => absurd z (by omega)) (fun z => ⟨pk_in (c * 8 + i + 1) 512 (by omega) (zx_81 c _), pk_in (c * 8 + i) 512 (by omega) (zx_8 c _), nm_r (show _ = upd s (c * 8 + i) (a4 (c * 8 + (i + 1))) by rw [e1, e2, s4 (i + 1) (by omega) (by omega)]) (nm_r (nI_1 i) (hw _ ⟨by omega, zk_s4_u s1 (by omega), fun k hk => ?_, fun k h1 h2 => ?_, fun k h1 h2 => ?_⟩))⟩) e3⟩
    · rw [pk_un (by omega)]
      exact s2 k hk
    · by_cases q : k = i
      · rw [q, pk_us]
      · rw [pk_un (by omega)]
        exact s3 k h1 (by omega)
    · rw [pk_un (by omega)]
      exact s4 k (by omega) h2
end
section
/-! ===== a set of 1024: sixteen words ===== -/
def zm (W : Nat → Int64) (s x : Nat) : Bool := zb (W (s * 16 + x / 64)) (x % 64)
theorem zm_at (W : Nat → Int64) (s p : Nat) {j : Nat} (hj : j < 64) : zm W s (64 * p + j) = zb (W (s * 16 + p)) j := by
  unfold zm
  rw [show (64 * p + j) / 64 = p by omega, show (64 * p + j) % 64 = j by omega]
theorem zm_cnt (W : Nat → Int64) (s p : Nat) {r : Nat} (hr : r ≤ 64) : zc_n (zm W s) (64 * p + r) = zc_n (zm W s) (64 * p) + zc_n (zb (W (s * 16 + p))) r := by
  rw [zc_app]
  congr 1
  apply zc_eq
  intro j hj
  exact zm_at W s p (by omega)
theorem zm_suc (W : Nat → Int64) (s p : Nat) : zc_n (zm W s) (64 * (p + 1)) = zc_n (zm W s) (64 * p) + zc_n (zb (W (s * 16 + p))) 64 := by
  rw [show 64 * (p + 1) = 64 * p + 64 by omega]
  exact zm_cnt W s p (Nat.le_refl _)
/-- a set's number of members -/
def zm_sz (W : Nat → Int64) (s : Nat) : Nat := zc_n (zm W s) 1024
theorem zm_sz_le (W : Nat → Int64) (s : Nat) : zm_sz W s ≤ 1024 := zc_le _ _
theorem zw_bad {post : Int32 → Prop} {s : Nat} (hs : s < 4) (h : post 0) : wpX_bad post () (nI s) := br_f (nI_pos (by omega)) (br_t (nI_lt (b := 4) hs (by decide)) h)
theorem zw_badNumber {post : Int32 → Prop} {x : Nat} (hx : x < 1024) (h : post 0) : wpX_badNumber post () (nI x) := br_f (nI_pos (by omega)) (br_t (nI_lt (b := 1024) hx (by decide)) h)
theorem zw_badNumber1 {post : Int32 → Prop} {x : Nat} (hx : 1024 ≤ x) (hx2 : x < 2 ^ 31) (h : post 1) : wpX_badNumber post () (nI x) := br_f (nI_pos (by omega)) (br_f (nI_nlt (b := 1024) hx hx2) h)
theorem zx_b16 (s : Nat) : nI s * 16 + 16 = nI (s * 16 + 16) := zx_16 s 16
theorem zx_s16 (s : Nat) : nI s * 16 = nI (s * 16) := pk_mul s 16
theorem zw_total {post : Int32 → Prop} {m : Int32} {a1 a2 a3 a4 : Nat → Int32} {a5 a6 W : Nat → Int64} {a7 : Nat → Int32} {s : Nat} (hI : zk_I a1 a2 a3 a4 a5 W) (hs : s < 4) (h : post (nI (zm_sz W s))) : wpX_total post (m, a1, a2, a3, a4, a5, a6, a7) (nI s) := by
  refine nm_r (zx_s16 s) ?_
  refine pk_loop (σ := Unit) (fun n p _ => wX_total_7 post (nI s) m a1 a2 a3 a4 a5 a6 a7 n (nI (zc_n (zm W s) (64 * p))) (nI (s * 16 + p))) (fun _ _ => True) 16 0 () (by omega) trivial (fun n _ _ => ?_) (fun n p _ hp _ hw => ?_)
  · exact pk_le (s * 16 + 16) (s * 16 + 16) (fun _ => h) (fun z => absurd z (by omega)) (zx_b16 s)
  · refine pk_le (s * 16 + 16) (s * 16 + p) (fun z => absurd z (by omega)) (fun _ => ⟨pk_in (s * 16 + p) 64 (by omega), nm_r ?_ (nm_r (nI_1 _) (hw () trivial))⟩) (zx_b16 s)
    rw [nI_clamp (by omega), (hI (s * 16 + p) (by omega)).1, nI_add, zm_suc]
theorem zw_size {post : Int32 → Prop} {m : Int32} {a1 a2 a3 a4 : Nat → Int32} {a5 a6 W : Nat → Int64} {a7 : Nat → Int32} {s : Nat} (hI : zk_I a1 a2 a3 a4 a5 W) (hs : s < 4) (h : post (nI (zm_sz W s))) : wpX_size post (m, a1, a2, a3, a4, a5, a6, a7) (nI s) := by
  unfold wpX_size
  dsimp only
  exact zw_bad hs (br_t rfl (zw_total hI hs h))
theorem zk_I_same {c : Nat} {a1 a2 a3 a4 : Nat → Int32} {a5 W : Nat → Int64} (h : zk_I a1 a2 a3 a4 a5 (vp_updL W c (W c))) : zk_I a1 a2 a3 a4 a5 W := by
  intro d hd
  have t := h d hd
  by_cases e : d = c
  · rw [e, pk_uLs] at t
    rw [e]
    exact t
  · rw [pk_uLn e] at t
    exact t
theorem zw_tidy {post : Int32 → St1 → Prop} {m : Int32} {a1 a2 a3 a4 : Nat → Int32} {a5 a6 W : Nat → Int64} {a7 : Nat → Int32} {s : Nat} (hI : zk_I a1 a2 a3 a4 a5 W) (hs : s < 4)
    (H : ∀ b1 b2 b3 b4 b5, zk_I b1 b2 b3 b4 b5 W → post 0 (m, b1, b2, b3, b4, b5, a6, a7)) : wpX_tidy post (m, a1, a2, a3, a4, a5, a6, a7) (nI s) := by
  unfold wpX_tidy
  dsimp only
  refine zw_bad hs (br_t rfl (nm_r (zx_s16 s) ?_))
  refine pk_loop (fun n p (u : (Nat → Int32) × (Nat → Int32) × (Nat → Int32) × (Nat → Int32) × (Nat → Int64)) => wX_tidy_14 post (nI s) n (nI (s * 16 + p)) m u.1 u.2.1 u.2.2.1 u.2.2.2.1 u.2.2.2.2 a6 a7) (fun _ u => zk_I u.1 u.2.1 u.2.2.1 u.2.2.2.1 u.2.2.2.2 W) 16 0 (a1, a2, a3, a4, a5) (by omega) hI (fun n u hu => ?_) (fun n p u hp hu hw => ?_)
  · exact pk_le (s * 16 + 16) (s * 16 + 16) (fun _ => H _ _ _ _ _ hu) (fun z => absurd z (by omega)) (zx_b16 s)
  · refine pk_le (s * 16 + 16) (s * 16 + p) (fun z => absurd z (by omega)) (fun _ => ?_) (zx_b16 s)
    refine zw_wordOf (by omega) (hu (s * 16 + p) (by omega)) ?_
    refine zw_store (by omega) (fun b1 b2 b3 b4 b5 hf hc => nm_r (nI_1 _) (hw (b1, b2, b3, b4, b5) ?_))
    exact zk_I_same (zk_I_upd hf hu hc)
/-- what a turn leaves: an answer that isn't negative, and some picture -/
def zm_H (post : Int32 → St1 → Prop) : Prop := ∀ r m b1 b2 b3 b4 b5 b6 b7 W, r ≤ 1024 → zk_I b1 b2 b3 b4 b5 W → post (nI r) (m, b1, b2, b3, b4, b5, b6, b7)
theorem zw_clear {post : Int32 → St1 → Prop} {m : Int32} {a1 a2 a3 a4 : Nat → Int32} {a5 a6 W : Nat → Int64} {a7 : Nat → Int32} {s : Nat} (hI : zk_I a1 a2 a3 a4 a5 W) (hs : s < 4) (H : zm_H post) : wpX_clear post (m, a1, a2, a3, a4, a5, a6, a7) (nI s) := by
  unfold wpX_clear
  dsimp only
  refine zw_bad hs (br_t rfl (zw_total hI hs (nm_r (zx_s16 s) ?_)))
  have hz := zm_sz_le W s
  refine pk_loop (fun n p (u : (Nat → Int32) × (Nat → Int32) × (Nat → Int32) × (Nat → Int32) × (Nat → Int64)) => wX_clear_20 post (nI s) (nI (zm_sz W s)) n (nI (s * 16 + p)) m u.1 u.2.1 u.2.2.1 u.2.2.2.1 u.2.2.2.2 a6 a7) (fun _ u => ∃ W', zk_I u.1 u.2.1 u.2.2.1 u.2.2.2.1 u.2.2.2.2 W') 16 0 (a1, a2, a3, a4, a5) (by omega) ⟨W, hI⟩ (fun n u hu => ?_) (fun n p u hp hu hw => ?_)
  · obtain ⟨W', hu⟩ := hu
    exact pk_le (s * 16 + 16) (s * 16 + 16) (fun _ => H _ _ _ _ _ _ _ _ _ W' hz hu) (fun z => absurd z (by omega)) (zx_b16 s)
  · obtain ⟨W', hu⟩ := hu
    refine pk_le (s * 16 + 16) (s * 16 + p) (fun z => absurd z (by omega)) (fun _ => ?_) (zx_b16 s)
    refine zw_store (by omega) (fun b1 b2 b3 b4 b5 hf hc => nm_r (nI_1 _) (hw (b1, b2, b3, b4, b5) ?_))
    exact ⟨_, zk_I_upd hf hu hc⟩
theorem zw_add {post : Int32 → St1 → Prop} {m : Int32} {a1 a2 a3 a4 : Nat → Int32} {a5 a6 W : Nat → Int64} {a7 : Nat → Int32} {s x : Nat} (hI : zk_I a1 a2 a3 a4 a5 W) (hs : s < 4) (hx : x < 1024) (H : zm_H post) : wpX_add post (m, a1, a2, a3, a4, a5, a6, a7) (nI s) (nI x) := by
  unfold wpX_add
  dsimp only
  refine zw_bad hs (br_t rfl (zw_badNumber hx (br_t rfl (nm_r (show _ = nI (s * 16 + x / 64) by rw [zx_shr6 (by omega), zx_16]) ?_))))
  rw [zx_and6 (by omega)]
  refine zw_contains (by omega) (hI _ (by omega)) (by omega) (fun h => br_f (by decide) (H 0 _ _ _ _ _ _ _ _ W (by omega) hI)) (fun h => br_t rfl ?_)
  exact zw_insert (by omega) (hI _ (by omega)) (by omega) h (fun b1 b2 b3 b4 b5 w' hf hc => H 1 _ _ _ _ _ _ _ _ _ (by omega) (zk_I_upd hf hI hc))
theorem zw_remove {post : Int32 → St1 → Prop} {m : Int32} {a1 a2 a3 a4 : Nat → Int32} {a5 a6 W : Nat → Int64} {a7 : Nat → Int32} {s x : Nat} (hI : zk_I a1 a2 a3 a4 a5 W) (hs : s < 4) (hx : x < 1024) (H : zm_H post) : wpX_remove post (m, a1, a2, a3, a4, a5, a6, a7) (nI s) (nI x) := by
  unfold wpX_remove
  dsimp only
  refine zw_bad hs (br_t rfl (zw_badNumber hx (br_t rfl (nm_r (show _ = nI (s * 16 + x / 64) by rw [zx_shr6 (by omega), zx_16]) ?_))))
  rw [zx_and6 (by omega)]
  refine zw_contains (by omega) (hI _ (by omega)) (by omega) (fun h => br_f (by decide) ?_) (fun h => br_t rfl (H 0 _ _ _ _ _ _ _ _ W (by omega) hI))
  exact zw_erase (by omega) (hI _ (by omega)) (by omega) h (fun b1 b2 b3 b4 b5 w' hf hc => H 1 _ _ _ _ _ _ _ _ _ (by omega) (zk_I_upd hf hI hc))
/-! shift: only that some picture is left -/
theorem zw_sh112 {post : Int32 → St1 → Prop} {J : Int32 → (Nat → Int32) → (Nat → Int32) → (Nat → Int32) → (Nat → Int32) → (Nat → Int64) → (Nat → Int64) → (Nat → Int32) → Prop} {x1 x3 x4 m : Int32} {x7 z0 : Int64} {p : Nat} {a1 a2 a3 a4 : Nat → Int32} {a5 a6 : Nat → Int64} {a7 : Nat → Int32} (hp : p < 16) (HJ : ∀ b6, J (nI (p + 1)) a1 a2 a3 a4 a5 b6 a7) : wX_shift_112 post J x1 x3 x4 (nI p) x7 z0 m a1 a2 a3 a4 a5 a6 a7 :=
  br_c (fun _ => ⟨pk_in p 16 hp, nm_e (nm_r (nI_1 p) (HJ _))⟩) (fun _ => ⟨pk_in p 16 hp, nm_e (nm_r (nI_1 p) (HJ _))⟩)
theorem zx_1to16 {x : Int32} (h1 : ¬ x < 1) (h2 : ¬ 16 < x) : ∃ j, j < 16 ∧ x = nI (j + 1) := by
  rw [Int32.lt_iff_toInt_lt] at h1 h2
  have e1 : (1 : Int32).toInt = 1 := by decide
  have e2 : (16 : Int32).toInt = 16 := by decide
  obtain ⟨j, hj, rfl⟩ := nI_of (x := x) (by rw [Int32.lt_iff_toInt_lt]; have e0 : (0 : Int32).toInt = 0 := (by decide); omega)
  rw [nI_toInt hj] at h1 h2
  exact ⟨j - 1, by omega, by rw [show j - 1 + 1 = j by omega]⟩
theorem zw_sh80 {post : Int32 → St1 → Prop} {J : Int32 → (Nat → Int32) → (Nat → Int32) → (Nat → Int32) → (Nat → Int32) → (Nat → Int64) → (Nat → Int64) → (Nat → Int32) → Prop} {x3 x4 x6 m : Int32} {z0 : Int64} {s p : Nat} {a1 a2 a3 a4 : Nat → Int32} {a5 a6 W : Nat → Int64} {a7 : Nat → Int32} (hI : zk_I a1 a2 a3 a4 a5 W) (hs : s < 4) (hp : p < 16) (HJ : ∀ b6, J (nI (p + 1)) a1 a2 a3 a4 a5 b6 a7) : wX_shift_80 post J (nI s) x3 x4 (nI p) x6 z0 m a1 a2 a3 a4 a5 a6 a7 := by
  refine br_c (fun _ => zw_sh112 hp HJ) (fun h1 => br_c (fun _ => zw_sh112 hp HJ) (fun h2 => ?_))
  obtain ⟨j, hj, rfl⟩ := zx_1to16 h1 h2
  rw [show nI s * 16 + nI (j + 1) - 1 = nI (s * 16 + j) from by rw [zx_16]; exact nI_pred (s * 16 + j)]
  exact zw_wordOf (by omega) (hI _ (by omega)) (zw_sh112 hp HJ)
theorem zw_sh154 {post : Int32 → St1 → Prop} {m : Int32} {a1 a2 a3 a4 : Nat → Int32} {a5 a6 W : Nat → Int64} {a7 : Nat → Int32} {s : Nat} (hI : zk_I a1 a2 a3 a4 a5 W) (hs : s < 4) (H : zm_H post) : ∃ n, wX_shift_154 post (nI s) n 0 m a1 a2 a3 a4 a5 a6 a7 := by
  refine pk_loop (fun n p (u : (Nat → Int32) × (Nat → Int32) × (Nat → Int32) × (Nat → Int32) × (Nat → Int64)) => wX_shift_154 post (nI s) n (nI p) m u.1 u.2.1 u.2.2.1 u.2.2.2.1 u.2.2.2.2 a6 a7) (fun _ u => ∃ W', zk_I u.1 u.2.1 u.2.2.1 u.2.2.2.1 u.2.2.2.2 W') 16 0 (a1, a2, a3, a4, a5) (by omega) ⟨W, hI⟩ (fun n u hu => ?_) (fun n p u hp hu hw => ?_)
  · obtain ⟨W', hu⟩ := hu
    exact pk_le 16 16 (fun _ => zw_total hu hs (H _ _ _ _ _ _ _ _ _ W' (zm_sz_le W' s) hu)) (fun z => absurd z (by omega))
  · obtain ⟨W', hu⟩ := hu
    refine pk_le 16 p (fun z => absurd z (by omega)) (fun _ => ⟨pk_in p 16 hp, ?_⟩)
    rw [zx_16]
    refine zw_store (by omega) (fun b1 b2 b3 b4 b5 hf hc => nm_r (nI_1 _) (hw (b1, b2, b3, b4, b5) ?_))
    exact ⟨_, zk_I_upd hf hu hc⟩
theorem zw_shift {post : Int32 → St1 → Prop} {m x : Int32} {a1 a2 a3 a4 : Nat → Int32} {a5 a6 W : Nat → Int64} {a7 : Nat → Int32} {s : Nat} (hI : zk_I a1 a2 a3 a4 a5 W) (hs : s < 4) (h1 : ¬ x < -1023) (h2 : x ≤ 1023) (H : zm_H post) : wpX_shift post (m, a1, a2, a3, a4, a5, a6, a7) (nI s) x := by
  unfold wpX_shift
  dsimp only
  refine zw_bad hs (br_t rfl (br_f h1 (br_t h2 (nm_e (nm_e ?_)))))
  refine pk_loop (fun n p (u : Nat → Int64) => wX_shift_40 post (nI s) (x >>> ((6 : Int32) &&& 31)) (x &&& 63) m n (nI p) a1 a2 a3 a4 a5 u a7) (fun _ _ => True) 16 0 a6 (by omega) trivial (fun n u _ => ?_) (fun n p u hp _ hw => ?_)
  · exact pk_le 16 16 (fun _ => zw_sh154 hI hs H) (fun z => absurd z (by omega))
  · refine pk_le 16 p (fun z => absurd z (by omega)) (fun _ => nm_e ?_)
    rcases pk_ix (nI p - x >>> ((6 : Int32) &&& 31)) (n := 16) (by decide) with z | z | ⟨j, hj, z⟩
    · exact br_t z (zw_sh80 hI hs hp (fun b6 => hw b6 trivial))
    · exact br_c (fun _ => zw_sh80 hI hs hp (fun b6 => hw b6 trivial)) (fun _ => br_t z (zw_sh80 hI hs hp (fun b6 => hw b6 trivial)))
    · rw [z]
      refine br_f (nI_pos (by omega)) (br_f (nI_ge (b := 16) hj (by decide)) ?_)
      rw [zx_16]
      exact zw_wordOf (by omega) (hI _ (by omega)) (zw_sh80 hI hs hp (fun b6 => hw b6 trivial))
end
section
/-! ===== two lists ===== -/
/-- what mergeLists keeps -/
def zg_f (x y : Int64) (b : Bool) (j : Nat) : Bool := zb x j && (zb y j == b)
def zg_i (b : Bool) : Int32 := if b = true then 1 else 0
theorem zg_eq {b d : Bool} {A B : Prop} (h1 : b = d → A) (h2 : b ≠ d → B) : (zg_i b = zg_i d → A) ∧ (¬ zg_i b = zg_i d → B) := by
  cases b <;> cases d
  · exact br_t rfl (h1 rfl)
  · exact br_f (by decide) (h2 (by simp))
  · exact br_f (by decide) (h2 (by simp))
  · exact br_t rfl (h1 rfl)
theorem zw_m36 {post : St1 → Prop} {J : Int32 → Int32 → Int32 → (Nat → Int32) → (Nat → Int32) → (Nat → Int32) → (Nat → Int32) → (Nat → Int64) → (Nat → Int64) → (Nat → Int32) → Prop} {m x1 x3 x5 : Int32} {a1 a2 a3 a4 : Nat → Int32} {a5 a6 : Nat → Int64} {a7 : Nat → Int32} {d k v : Nat} {y : Int64} (hd : d < 64) (hv : v < 64) (hL : zk_L (zb y) (a3 d) (fun k => a4 (d * 8 + k))) (hk : k ≤ zc_n (zb y) v)
    (H : wX_mergeLists_70 post J x1 (nI d) x3 (nI (zc_n (zb y) v)) x5 (nI v) m a1 a2 a3 a4 a5 a6 a7) : ∃ n, wX_mergeLists_36 post J x1 (nI d) x3 x5 (nI v) m a1 a2 a3 a4 a5 a6 a7 n (nI k) := by
  have ed : (nI d).toNatClampNeg = d := nI_clamp (by omega)
  have hin : vp_in (nI d) 64 := pk_in d 64 hd
  obtain ⟨l1, l2, l3⟩ := hL
  have e3 : a3 (nI d).toNatClampNeg = nI (zc_n (zb y) 64) := by rw [ed]; exact l2
  have hR : zc_n (zb y) v ≤ zc_n (zb y) 64 := zc_mono (by omega)
  refine pk_loop (σ := Unit) (fun n i _ => wX_mergeLists_36 post J x1 (nI d) x3 x5 (nI v) m a1 a2 a3 a4 a5 a6 a7 n (nI i)) (fun _ _ => True) (zc_n (zb y) v) k () hk trivial (fun n _ _ => ?_) (fun n i _ hi _ hw => ?_)
  · refine ⟨hin, pk_le (zc_n (zb y) 64) (zc_n (zb y) v) (fun _ => H) (fun z => ?_) e3⟩
    obtain ⟨u, u1, u2, u3, u4⟩ := l3 _ z
    have u5 : a4 (nI d * 8 + nI (zc_n (zb y) v)).toNatClampNeg = nI u := by rw [zx_8, nI_clamp (by omega)]; exact u4
    refine ⟨pk_in (d * 8 + zc_n (zb y) v) 512 (by omega) (zx_8 d _), pk_le v u (fun _ => H) (fun q => ?_) rfl u5⟩
    have := zc_lt q u2
    omega
  · obtain ⟨u, u1, u2, u3, u4⟩ := l3 i (by omega)
    have u5 : a4 (nI d * 8 + nI i).toNatClampNeg = nI u := by rw [zx_8, nI_clamp (by omega)]; exact u4
    refine ⟨hin, pk_le (zc_n (zb y) 64) i (fun z => absurd z (by omega)) (fun _ => ⟨pk_in (d * 8 + i) 512 (by omega) (zx_8 d _), pk_le v u (fun q => ?_) (fun _ => nm_r (nI_1 i) (hw () trivial)) rfl u5⟩) e3⟩
    have : zc_n (zb y) v ≤ zc_n (zb y) u := zc_mono q
    omega
theorem zw_m70 {post : St1 → Prop} {J : Int32 → Int32 → Int32 → (Nat → Int32) → (Nat → Int32) → (Nat → Int32) → (Nat → Int32) → (Nat → Int64) → (Nat → Int64) → (Nat → Int32) → Prop} {m x1 x3 x5 : Int32} {a1 a2 a3 a4 : Nat → Int32} {a5 a6 : Nat → Int64} {a7 : Nat → Int32} {d v : Nat} {y : Int64} (hd : d < 64) (hv : v < 64) (hL : zk_L (zb y) (a3 d) (fun k => a4 (d * 8 + k)))
    (H : wX_mergeLists_103 post J x1 (nI d) x3 (nI (zc_n (zb y) v)) x5 (nI v) (zg_i (zb y v)) m a1 a2 a3 a4 a5 a6 a7) : wX_mergeLists_70 post J x1 (nI d) x3 (nI (zc_n (zb y) v)) x5 (nI v) m a1 a2 a3 a4 a5 a6 a7 := by
  have ed : (nI d).toNatClampNeg = d := nI_clamp (by omega)
  have hin : vp_in (nI d) 64 := pk_in d 64 hd
  obtain ⟨l1, l2, l3⟩ := hL
  have e3 : a3 (nI d).toNatClampNeg = nI (zc_n (zb y) 64) := by rw [ed]; exact l2
  have hR : zc_n (zb y) v ≤ zc_n (zb y) 64 := zc_mono (by omega)
  have h0 : zb y v = false → wX_mergeLists_102 post J x1 (nI d) x3 (nI (zc_n (zb y) v)) x5 (nI v) m a1 a2 a3 a4 a5 a6 a7 := by
    intro z
    rw [z] at H
    exact H
  have h0' : ¬ zb y v = true → wX_mergeLists_102 post J x1 (nI d) x3 (nI (zc_n (zb y) v)) x5 (nI v) m a1 a2 a3 a4 a5 a6 a7 := fun z => h0 (by revert z; cases zb y v <;> simp)
  refine ⟨hin, pk_le (zc_n (zb y) 64) (zc_n (zb y) v) (fun z => h0' (fun q => ?_)) (fun z => ?_) e3⟩
  · have := zk_c_in hv q
    omega
  · obtain ⟨u, u1, u2, u3, u4⟩ := l3 _ z
    have u5 : a4 (nI d * 8 + nI (zc_n (zb y) v)).toNatClampNeg = nI u := by rw [zx_8, nI_clamp (by omega)]; exact u4
    refine ⟨pk_in (d * 8 + zc_n (zb y) v) 512 (by omega) (zx_8 d _), pk_eq u v (fun q => ?_) (fun q => h0' (fun t => q (zc_uniq u2 t u3))) u5⟩
    have t : zb y v = true := by rw [← q]; exact u2
    rw [t] at H
    exact H
theorem zw_mergeLists {post : St1 → Prop} {m : Int32} {a1 a2 a3 a4 : Nat → Int32} {a5 a6 : Nat → Int64} {a7 : Nat → Int32} {c d : Nat} {x y : Int64} {b : Bool} (hc : c < 64) (hd : d < 64) (hLc : zk_L (zb x) (a3 c) (fun k => a4 (c * 8 + k))) (hLd : zk_L (zb y) (a3 d) (fun k => a4 (d * 8 + k)))
    (H : ∀ b7, zc_n (zg_f x y b) 64 ≤ 8 → (∀ k, k < zc_n (zg_f x y b) 64 → zk_sel (zg_f x y b) k (b7 k)) → post (nI (zc_n (zg_f x y b) 64), a1, a2, a3, a4, a5, a6, b7)) :
    wpX_mergeLists post (m, a1, a2, a3, a4, a5, a6, a7) (nI c) (nI d) (zg_i b) := by
  have ec : (nI c).toNatClampNeg = c := nI_clamp (by omega)
  have hin : vp_in (nI c) 64 := pk_in c 64 hc
  obtain ⟨l1, l2, l3⟩ := hLc
  have e3 : a3 (nI c).toNatClampNeg = nI (zc_n (zb x) 64) := by rw [ec]; exact l2
  have hle : ∀ t, zc_n (zg_f x y b) t ≤ zc_n (zb x) t := fun t => zc_andle (zb x) (fun j => zb y j == b) t
  refine pk_loop (fun n i (s : Nat × Nat × (Nat → Int32)) => wX_mergeLists_11 post (nI c) (nI d) (zg_i b) n (nI s.1) (nI i) (nI s.2.1) a1 a2 a3 a4 a5 a6 s.2.2) (fun i s => ∃ t, t ≤ 64 ∧ zc_n (zb x) t = i ∧ s.1 ≤ zc_n (zb y) t ∧ s.2.1 = zc_n (zg_f x y b) t ∧ ∀ q, q < s.2.1 → zk_sel (zg_f x y b) q (s.2.2 q)) (zc_n (zb x) 64) 0 (0, 0, a7) (Nat.zero_le _) ⟨0, Nat.zero_le _, rfl, Nat.zero_le _, rfl, fun q hq => absurd hq (Nat.not_lt_zero q)⟩ (fun n s hs => ?_) (fun n i s hi hs hw => ?_)
  · obtain ⟨t, t1, t2, t3, t4, t5⟩ := hs
    have e : zc_n (zg_f x y b) 64 = zc_n (zg_f x y b) t := by
      apply zc_none t1
      intro j h1 h2
      have := zc_none' (f := zb x) (a := t) (b := 64) (by omega) h1 h2
      unfold zg_f
      rw [this]; rfl
    refine ⟨hin, pk_le (zc_n (zb x) 64) (zc_n (zb x) 64) (fun _ => ?_) (fun z => absurd z (by omega)) e3⟩
    rw [t4, ← e]
    refine H _ ?_ ?_
    · have := hle 64
      omega
    · rw [e, ← t4]
      exact t5
  · obtain ⟨t, t1, t2, t3, t4, t5⟩ := hs
    obtain ⟨v, v1, v2, v3, v4⟩ := l3 i hi
    have v5 : a4 (nI c * 8 + nI i).toNatClampNeg = nI v := by rw [zx_8, nI_clamp (by omega)]; exact v4
    have tv : t ≤ v := by
      rcases Nat.lt_or_ge v t with z | z
      · have := zc_lt z v2; omega
      · exact z
    have ev : zc_n (zg_f x y b) v = zc_n (zg_f x y b) t := by
      apply zc_none tv
      intro j h1 h2
      have := zc_none' (f := zb x) (a := t) (b := v) (by omega) h1 h2
      unfold zg_f
      rw [this]; rfl
    have kv : s.1 ≤ zc_n (zb y) v := Nat.le_trans t3 (zc_mono tv)
    have yv : zc_n (zb y) v ≤ zc_n (zb y) (v + 1) := zc_mono (by omega)
    have xv : zc_n (zb x) (v + 1) = i + 1 := by rw [zc_t v2, v3]
    have hm8 : s.2.1 < 8 := by
      have := hle t
      omega
    refine ⟨hin, pk_le (zc_n (zb x) 64) i (fun z => absurd z (by omega)) (fun _ => ⟨pk_in (c * 8 + i) 512 (by omega) (zx_8 c _), nm_r v5 (zw_m36 hd v1 hLd kv (zw_m70 hd v1 hLd ?_))⟩) e3⟩
    refine zg_eq (fun z => ?_) (fun z => ?_)
    · have fv : zg_f x y b v = true := by
        unfold zg_f
        rw [v2, z]
        cases b <;> rfl
      refine ⟨pk_in s.2.1 8 hm8, nm_r (show _ = upd s.2.2 s.2.1 (nI v) by rw [nI_clamp (by omega)]) (nm_r (nI_1 _) (nm_r (nI_1 _) (hw (zc_n (zb y) v, s.2.1 + 1, upd s.2.2 s.2.1 (nI v)) ⟨v + 1, by omega, xv, yv, ?_, fun q hq => ?_⟩)))⟩
      · show s.2.1 + 1 = _
        rw [zc_t fv]
        omega
      · have hq' : q < s.2.1 + 1 := hq
        show zk_sel _ q (upd s.2.2 s.2.1 (nI v) q)
        by_cases e : q = s.2.1
        · rw [e, pk_us]
          exact ⟨v, v1, fv, by omega, rfl⟩
        · rw [pk_un e]
          exact t5 q (by omega)
    · have fv : zg_f x y b v = false := by
        unfold zg_f
        rw [v2]
        revert z
        cases zb y v <;> cases b <;> simp
      refine nm_r (nI_1 _) (hw (zc_n (zb y) v, s.2.1, s.2.2) ⟨v + 1, by omega, xv, yv, ?_, t5⟩)
      show s.2.1 = _
      rw [zc_f fv]
      omega
theorem zw_storeMerged {post : St1 → Prop} {a1 a2 a3 a4 : Nat → Int32} {a5 a6 : Nat → Int64} {a7 : Nat → Int32} {c M : Nat} (hc : c < 64) (hM : M ≤ 8)
    (H : ∀ b4, zk_s4 c a4 b4 → (∀ k, k < M → b4 (c * 8 + k) = a7 k) → post (nI M, upd a1 c 0, upd a2 c (nI M), upd a3 c (nI M), b4, a5, a6, a7)) :
    wpX_storeMerged post (nI M, a1, a2, a3, a4, a5, a6, a7) (nI c) := by
  have ec : (nI c).toNatClampNeg = c := nI_clamp (by omega)
  have hin : vp_in (nI c) 64 := pk_in c 64 hc
  refine ⟨hin, nm_r (show _ = upd a1 c 0 by rw [ec]) ⟨hin, nm_r (show _ = upd a2 c (nI M) by rw [ec]) ⟨hin, nm_r (show _ = upd a3 c (nI M) by rw [ec]) ?_⟩⟩⟩
  refine pk_loop (fun n i (s : Nat → Int32) => wX_storeMerged_29 post (nI c) (nI M) n (nI i) (upd a1 c 0) (upd a2 c (nI M)) (upd a3 c (nI M)) s a5 a6 a7) (fun i s => zk_s4 c a4 s ∧ ∀ k, k < i → s (c * 8 + k) = a7 k) M 0 a4 (Nat.zero_le _) ⟨zk_s4_0, fun k hk => absurd hk (by omega)⟩ (fun n s hs => ?_) (fun n i s hi hs hw => ?_)
  · exact pk_le M M (fun _ => H _ hs.1 hs.2) (fun z => absurd z (by omega))
  · have ei : (nI c * 8 + nI i).toNatClampNeg = c * 8 + i := by rw [zx_8]; exact nI_clamp (by omega)
    refine pk_le M i (fun z => absurd z (by omega)) (fun _ => ⟨pk_in i 8 (by omega), pk_in (c * 8 + i) 512 (by omega) (zx_8 c _), nm_r (show _ = upd s (c * 8 + i) (a7 i) by rw [ei, nI_clamp (by omega)]) (nm_r (nI_1 i) (hw _ ⟨zk_s4_u hs.1 (by omega), fun k hk => ?_⟩))⟩)
    by_cases e : k = i
    · rw [e, pk_us]
    · rw [pk_un (by omega)]
      exact hs.2 k (by omega)
/-! ===== combine ===== -/
def zm_comb (how : Nat) (x y : Int64) : Int64 := if how = 0 then x ||| y else if how = 1 then x &&& y else if how = 2 then x &&& (y ^^^ (-1)) else x ^^^ y
def zm_cb (how : Nat) (x y : Bool) : Bool := if how = 0 then x || y else if how = 1 then x && y else if how = 2 then x && !y else x ^^ y
theorem zm_comb_b (how : Nat) (x y : Int64) {j : Nat} (hj : j < 64) : zb (zm_comb how x y) j = zm_cb how (zb x j) (zb y j) := by
  unfold zm_comb zm_cb
  by_cases h0 : how = 0
  · rw [if_pos h0, if_pos h0, zb_or]
  · rw [if_neg h0, if_neg h0]
    by_cases h1 : how = 1
    · rw [if_pos h1, if_pos h1, zb_and]
    · rw [if_neg h1, if_neg h1]
      by_cases h2 : how = 2
      · rw [if_pos h2, if_pos h2, zb_and, zb_not _ hj]
      · rw [if_neg h2, if_neg h2, zb_xor]
theorem zw_combined {post : Int64 → Prop} {x y : Int64} {how : Nat} (hh : how < 4) (h : post (zm_comb how x y)) : wpX_combined post () x y (nI how) := by
  refine br_f (nI_pos (by omega)) (pk_lt 2 how (fun z => ?_) (fun z => ?_))
  · have e : how = 3 := by omega
    subst e
    exact h
  · refine pk_eq how 0 (fun e => ?_) (fun e => pk_eq how 1 (fun e => ?_) (fun e => pk_eq how 2 (fun e => ?_) (fun e => trivial)))
    · subst e; exact h
    · subst e; exact h
    · subst e; exact h
theorem zw_cp53 {post : St1 → Prop} {m : Int32} {a1 a2 a3 a4 : Nat → Int32} {a5 a6 : Nat → Int64} {a7 : Nat → Int32} {t c d how : Nat} {x y : Int64} (ht : t < 64) (hc : c < 64) (hd : d < 64) (hx : zk_c a1 a2 a3 a4 a5 c x) (hy : zk_c a1 a2 a3 a4 a5 d y) (hh : how < 4)
    (H : ∀ m' b1 b2 b3 b4 b5 b7, zk_fr t a1 a2 a3 a4 a5 b1 b2 b3 b4 b5 → zk_c b1 b2 b3 b4 b5 t (zm_comb how x y) → post (m', b1, b2, b3, b4, b5, a6, b7)) : wX_combinePart_53 post (nI t) (nI c) (nI d) (nI how) m a1 a2 a3 a4 a5 a6 a7 := by
  unfold wX_combinePart_53
  refine zw_wordOf hc hx ?_
  refine zw_wordOf hd hy ?_
  refine zw_combined hh ?_
  exact zw_store ht (fun b1 b2 b3 b4 b5 hf hw => H _ b1 b2 b3 b4 b5 _ hf hw)
theorem zk_isL {a1 a2 a3 a4 : Nat → Int32} {a5 : Nat → Int64} {c : Nat} {w : Int64} (h : zk_c a1 a2 a3 a4 a5 c w) (k1 : a1 c = 0) : zk_L (zb w) (a3 c) (fun k => a4 (c * 8 + k)) := by
  rcases h.2 with ⟨_, q⟩ | ⟨q, _⟩ | ⟨q, _⟩
  · exact q
  · rw [q] at k1; exact absurd k1 (by decide)
  · rw [q] at k1; exact absurd k1 (by decide)
theorem zk_sel_eq {f g : Nat → Bool} {k : Nat} {x : Int32} (h : ∀ j, j < 64 → f j = g j) (hs : zk_sel f k x) : zk_sel g k x := by
  obtain ⟨v, v1, v2, v3, v4⟩ := hs
  exact ⟨v, v1, by rw [← h v v1]; exact v2, by rw [← zc_eq (f := f) (fun j hj => h j (by omega))]; exact v3, v4⟩
theorem zw_cp44 {post : St1 → Prop} {m : Int32} {a1 a2 a3 a4 : Nat → Int32} {a5 a6 : Nat → Int64} {a7 : Nat → Int32} {t c d how : Nat} {x y : Int64} {b : Bool} (ht : t < 64) (hc : c < 64) (hd : d < 64) (hx : zk_c a1 a2 a3 a4 a5 c x) (hy : zk_c a1 a2 a3 a4 a5 d y) (kx : a1 c = 0) (ky : a1 d = 0) (hb : ∀ j, j < 64 → zg_f x y b j = zb (zm_comb how x y) j)
    (H : ∀ m' b1 b2 b3 b4 b5 b7, zk_fr t a1 a2 a3 a4 a5 b1 b2 b3 b4 b5 → zk_c b1 b2 b3 b4 b5 t (zm_comb how x y) → post (m', b1, b2, b3, b4, b5, a6, b7)) : wX_combinePart_44 post (nI t) (zg_i b) (nI d) (nI c) m a1 a2 a3 a4 a5 a6 a7 := by
  unfold wX_combinePart_44
  refine zw_mergeLists hc hd (zk_isL hx kx) (zk_isL hy ky) (fun b7 h8 hs => ?_)
  refine zw_storeMerged ht h8 (fun b4 h4 he => ?_)
  have ez : zc_n (zg_f x y b) 64 = zc_n (zb (zm_comb how x y)) 64 := zc_eq hb
  refine H _ _ _ _ _ _ _ (zk_fr_mk (fun q hq => pk_un hq) (fun q hq => pk_un hq) (fun q hq => pk_un hq) (fun _ _ => rfl) h4) ⟨?_, Or.inl ⟨pk_us, ?_, ?_, fun k hk => ?_⟩⟩
  · rw [pk_us, ez]
  · rw [← ez]; exact h8
  · rw [pk_us, ez]
  · show zk_sel _ k (b4 (t * 8 + k))
    rw [he k (by omega)]
    exact zk_sel_eq hb (hs k (by omega))
theorem zw_combinePart {post : St1 → Prop} {m : Int32} {a1 a2 a3 a4 : Nat → Int32} {a5 a6 : Nat → Int64} {a7 : Nat → Int32} {t c d how : Nat} {x y : Int64} (ht : t < 64) (hc : c < 64) (hd : d < 64) (hx : zk_c a1 a2 a3 a4 a5 c x) (hy : zk_c a1 a2 a3 a4 a5 d y) (hh : how < 4)
    (H : ∀ m' b1 b2 b3 b4 b5 b7, zk_fr t a1 a2 a3 a4 a5 b1 b2 b3 b4 b5 → zk_c b1 b2 b3 b4 b5 t (zm_comb how x y) → post (m', b1, b2, b3, b4, b5, a6, b7)) : wpX_combinePart post (m, a1, a2, a3, a4, a5, a6, a7) (nI t) (nI c) (nI d) (nI how) := by
  have ec : (nI c).toNatClampNeg = c := nI_clamp (by omega)
  have ed : (nI d).toNatClampNeg = d := nI_clamp (by omega)
  have z53 := zw_cp53 (m := m) (a7 := a7) ht hc hd hx hy hh H
  unfold wpX_combinePart
  dsimp only
  rw [ec, ed]
  refine ⟨pk_in c 64 hc, br_c (fun kx => ⟨pk_in d 64 hd, br_c (fun ky => ?_) (fun _ => z53)⟩) (fun _ => z53)⟩
  refine pk_eq how 1 (fun e => ?_) (fun e => pk_eq how 2 (fun e2 => ?_) (fun _ => z53))
  · subst e
    refine br_t rfl (zw_cp44 (b := true) (how := 1) ht hc hd hx hy kx ky (fun j hj => ?_) H)
    rw [zm_comb_b 1 x y hj]
    unfold zg_f
    show _ = (zb x j && zb y j)
    cases zb y j <;> simp
  · subst e2
    refine br_f (by decide) (zw_cp44 (b := false) (how := 2) ht hc hd hx hy kx ky (fun j hj => ?_) H)
    rw [zm_comb_b 2 x y hj]
    unfold zg_f
    show _ = (zb x j && !zb y j)
    cases zb y j <;> simp
/-- W' is W but for the first p words of set t, which hold g -/
def zm_new (W W' : Nat → Int64) (t p : Nat) (g : Nat → Nat → Bool) : Prop := (∀ c, c < t * 16 ∨ t * 16 + p ≤ c → W' c = W c) ∧ ∀ q, q < p → ∀ j, j < 64 → zb (W' (t * 16 + q)) j = g q j
theorem zm_new_0 {W : Nat → Int64} {t : Nat} {g : Nat → Nat → Bool} : zm_new W W t 0 g := ⟨fun _ _ => rfl, fun q hq => absurd hq (Nat.not_lt_zero q)⟩
theorem zm_new_s {W W' : Nat → Int64} {t p : Nat} {g : Nat → Nat → Bool} {w : Int64} (h : zm_new W W' t p g) (hw : ∀ j, j < 64 → zb w j = g p j) : zm_new W (vp_updL W' (t * 16 + p) w) t (p + 1) g := by
  refine ⟨fun c hc => ?_, fun q hq j hj => ?_⟩
  · rw [pk_uLn (by omega)]
    exact h.1 c (by omega)
  · by_cases e : q = p
    · rw [e, pk_uLs]
      exact hw j hj
    · rw [pk_uLn (by omega)]
      exact h.2 q (by omega) j hj
theorem zm_new_k {W W' : Nat → Int64} {t p : Nat} {g : Nat → Nat → Bool} (h : zm_new W W' t p g) (hw : ∀ j, j < 64 → zb (W (t * 16 + p)) j = g p j) : zm_new W W' t (p + 1) g := by
  refine ⟨fun c hc => h.1 c (by omega), fun q hq j hj => ?_⟩
  by_cases e : q = p
  · rw [e, h.1 (t * 16 + p) (by omega)]
    exact hw j hj
  · exact h.2 q (by omega) j hj
/-- what a change of set t left, set by set -/
def zm_fin (W W' : Nat → Int64) (t : Nat) (g : Nat → Bool) : Prop := (∀ x, x < 1024 → zm W' t x = g x) ∧ ∀ r, r ≠ t → ∀ x, x < 1024 → zm W' r x = zm W r x
theorem zm_new_f {W W' : Nat → Int64} {t : Nat} {g : Nat → Nat → Bool} {f : Nat → Bool} (h : zm_new W W' t 16 g) (hf : ∀ x, x < 1024 → g (x / 64) (x % 64) = f x) : zm_fin W W' t f := by
  refine ⟨fun x hx => ?_, fun r hr x hx => ?_⟩
  · unfold zm
    rw [h.2 (x / 64) (by omega) (x % 64) (by omega)]
    exact hf x hx
  · unfold zm
    rw [h.1 _ (by omega)]
theorem zw_combine {post : Int32 → St1 → Prop} {m : Int32} {a1 a2 a3 a4 : Nat → Int32} {a5 a6 W : Nat → Int64} {a7 : Nat → Int32} {t c d how : Nat} (hI : zk_I a1 a2 a3 a4 a5 W) (ht : t < 4) (hc : c < 4) (hd : d < 4) (hh : how < 4)
    (H : ∀ m' b1 b2 b3 b4 b5 b7 W', zk_I b1 b2 b3 b4 b5 W' → zm_fin W W' t (fun x => zm_cb how (zm W c x) (zm W d x)) → post (nI (zm_sz W' t)) (m', b1, b2, b3, b4, b5, a6, b7)) :
    wpX_combine post (m, a1, a2, a3, a4, a5, a6, a7) (nI t) (nI c) (nI d) (nI how) := by
  unfold wpX_combine
  dsimp only
  refine zw_bad ht (br_t rfl (zw_bad hc (br_t rfl (zw_bad hd (br_t rfl (br_f (nI_pos (by omega)) (br_t (nI_le (b := 3) (by omega) (by decide)) ?_)))))))
  refine pk_loop (fun n p (u : Int32 × (Nat → Int32) × (Nat → Int32) × (Nat → Int32) × (Nat → Int32) × (Nat → Int64) × (Nat → Int32)) => wX_combine_40 post (nI t) (nI c) (nI d) (nI how) n (nI p) u.1 u.2.1 u.2.2.1 u.2.2.2.1 u.2.2.2.2.1 u.2.2.2.2.2.1 a6 u.2.2.2.2.2.2) (fun p u => ∃ W', zk_I u.2.1 u.2.2.1 u.2.2.2.1 u.2.2.2.2.1 u.2.2.2.2.2.1 W' ∧ zm_new W W' t p (fun q j => zm_cb how (zb (W (c * 16 + q)) j) (zb (W (d * 16 + q)) j))) 16 0 (m, a1, a2, a3, a4, a5, a7) (by omega) ⟨W, hI, zm_new_0⟩ (fun n u hu => ?_) (fun n p u hp hu hw => ?_)
  · obtain ⟨W', hu, hn⟩ := hu
    exact pk_le 16 16 (fun _ => zw_total hu ht (H _ _ _ _ _ _ _ W' hu (zm_new_f hn (fun x hx => rfl)))) (fun z => absurd z (by omega))
  · obtain ⟨W', hu, hn⟩ := hu
    refine pk_le 16 p (fun z => absurd z (by omega)) (fun _ => ?_)
    rw [zx_16, zx_16, zx_16]
    refine zw_combinePart (by omega) (by omega) (by omega) (hu _ (by omega)) (hu _ (by omega)) hh (fun m' b1 b2 b3 b4 b5 b7 hf hw' => nm_r (nI_1 _) (hw (m', b1, b2, b3, b4, b5, b7) ⟨_, zk_I_upd hf hu hw', zm_new_s hn (fun j hj => ?_)⟩))
    rw [zm_comb_b how _ _ hj, hn.1 (c * 16 + p) (by omega), hn.1 (d * 16 + p) (by omega)]
end
section
/-! ===== common, within ===== -/
theorem zw_ci30 {post : Int32 → St1 → Prop} {m : Int32} {a1 a2 a3 a4 : Nat → Int32} {a5 a6 : Nat → Int64} {a7 : Nat → Int32} {c d : Nat} {x y : Int64} (hc : c < 64) (hd : d < 64) (hx : zk_c a1 a2 a3 a4 a5 c x) (hy : zk_c a1 a2 a3 a4 a5 d y)
    (H : ∀ m' b7, post (nI (zc_n (fun j => zb x j && zb y j) 64)) (m', a1, a2, a3, a4, a5, a6, b7)) : wX_commonIn_30 post (nI c) (nI d) m a1 a2 a3 a4 a5 a6 a7 := by
  unfold wX_commonIn_30
  refine zw_wordOf hc hx ?_
  refine zw_wordOf hd hy ?_
  refine zw_ones ?_
  have e : zc_n (zb (x &&& y)) 64 = zc_n (fun j => zb x j && zb y j) 64 := zc_eq (fun j hj => zb_and x y j)
  rw [e]
  exact H m a7
theorem zw_commonIn {post : Int32 → St1 → Prop} {m : Int32} {a1 a2 a3 a4 : Nat → Int32} {a5 a6 : Nat → Int64} {a7 : Nat → Int32} {c d : Nat} {x y : Int64} (hc : c < 64) (hd : d < 64) (hx : zk_c a1 a2 a3 a4 a5 c x) (hy : zk_c a1 a2 a3 a4 a5 d y)
    (H : ∀ m' b7, post (nI (zc_n (fun j => zb x j && zb y j) 64)) (m', a1, a2, a3, a4, a5, a6, b7)) : wpX_commonIn post (m, a1, a2, a3, a4, a5, a6, a7) (nI c) (nI d) := by
  have ec : (nI c).toNatClampNeg = c := nI_clamp (by omega)
  have ed : (nI d).toNatClampNeg = d := nI_clamp (by omega)
  have z30 := zw_ci30 (m := m) (a7 := a7) hc hd hx hy H
  unfold wpX_commonIn
  dsimp only
  rw [ec, ed]
  refine ⟨pk_in c 64 hc, br_c (fun kx => ⟨pk_in d 64 hd, br_c (fun ky => ?_) (fun _ => z30)⟩) (fun _ => z30)⟩
  refine zw_mergeLists (b := true) hc hd (zk_isL hx kx) (zk_isL hy ky) (fun b7 h8 hs => ?_)
  have e : zc_n (zg_f x y true) 64 = zc_n (fun j => zb x j && zb y j) 64 := by
    apply zc_eq
    intro j hj
    show (zb x j && (zb y j == true)) = _
    cases zb y j <;> simp
  rw [e]
  exact H _ _
theorem zm_blk (f : Nat → Bool) (p : Nat) : zc_n f (64 * (p + 1)) = zc_n f (64 * p) + zc_n (fun j => f (64 * p + j)) 64 := by
  rw [show 64 * (p + 1) = 64 * p + 64 by omega, zc_app]
theorem zw_common {post : Int32 → St1 → Prop} {m : Int32} {a1 a2 a3 a4 : Nat → Int32} {a5 a6 W : Nat → Int64} {a7 : Nat → Int32} {s t : Nat} (hI : zk_I a1 a2 a3 a4 a5 W) (hs : s < 4) (ht : t < 4)
    (H : ∀ m' b7, post (nI (zc_n (fun x => zm W s x && zm W t x) 1024)) (m', a1, a2, a3, a4, a5, a6, b7)) : wpX_common post (m, a1, a2, a3, a4, a5, a6, a7) (nI s) (nI t) := by
  unfold wpX_common
  dsimp only
  refine zw_bad hs (br_t rfl (zw_bad ht (br_t rfl ?_)))
  refine pk_loop (fun n p (u : Int32 × (Nat → Int32)) => wX_common_21 post (nI s) (nI t) n (nI (zc_n (fun x => zm W s x && zm W t x) (64 * p))) (nI p) u.1 a1 a2 a3 a4 a5 a6 u.2) (fun _ _ => True) 16 0 (m, a7) (by omega) trivial (fun n u _ => ?_) (fun n p u hp _ hw => ?_)
  · exact pk_le 16 16 (fun _ => H _ _) (fun z => absurd z (by omega))
  · refine pk_le 16 p (fun z => absurd z (by omega)) (fun _ => ?_)
    rw [zx_16, zx_16]
    refine zw_commonIn (by omega) (by omega) (hI _ (by omega)) (hI _ (by omega)) (fun m' b7 => nm_r ?_ (nm_r (nI_1 _) (hw (m', b7) trivial)))
    rw [nI_add, zm_blk]
    congr 2
    apply zc_eq
    intro j hj
    show _ = (zm W s (64 * p + j) && zm W t (64 * p + j))
    rw [zm_at W s p hj, zm_at W t p hj]
theorem zw_within {post : Int32 → St1 → Prop} {m : Int32} {a1 a2 a3 a4 : Nat → Int32} {a5 a6 W : Nat → Int64} {a7 : Nat → Int32} {s t : Nat} (hI : zk_I a1 a2 a3 a4 a5 W) (hs : s < 4) (ht : t < 4)
    (H1 : (∀ x, x < 1024 → zm W s x = true → zm W t x = true) → ∀ m' b7, post 1 (m', a1, a2, a3, a4, a5, a6, b7))
    (H0 : ¬ (∀ x, x < 1024 → zm W s x = true → zm W t x = true) → ∀ m' b7, post 0 (m', a1, a2, a3, a4, a5, a6, b7)) : wpX_within post (m, a1, a2, a3, a4, a5, a6, a7) (nI s) (nI t) := by
  unfold wpX_within
  dsimp only
  refine zw_bad hs (br_t rfl (zw_bad ht (br_t rfl ?_)))
  refine pk_loop (fun n p (u : Int32 × (Nat → Int32)) => wX_within_18 post (nI s) (nI t) n (nI p) u.1 a1 a2 a3 a4 a5 a6 u.2) (fun p _ => ∀ x, x < 64 * p → zm W s x = true → zm W t x = true) 16 0 (m, a7) (by omega) (fun x hx => absurd hx (by omega)) (fun n u hu => ?_) (fun n p u hp hu hw => ?_)
  · exact pk_le 16 16 (fun _ => H1 hu _ _) (fun z => absurd z (by omega))
  · refine pk_le 16 p (fun z => absurd z (by omega)) (fun _ => ?_)
    have hn1 : zc_n (zb (W (s * 16 + p))) 64 ≤ 64 := zc_le _ _
    have hn2 : zc_n (fun j => zb (W (s * 16 + p)) j && zb (W (t * 16 + p)) j) 64 ≤ 64 := zc_le _ _
    rw [zx_16, zx_16]
    refine zw_commonIn (by omega) (by omega) (hI _ (by omega)) (hI _ (by omega)) (fun m' b7 => ⟨pk_in (s * 16 + p) 64 (by omega), pk_le (zc_n (zb (W (s * 16 + p))) 64) (zc_n (fun j => zb (W (s * 16 + p)) j && zb (W (t * 16 + p)) j) 64) (fun z => nm_r (nI_1 _) (hw (m', b7) (fun x hx hx1 => ?_))) (fun z => H0 (fun q => ?_) _ _) (by rw [nI_clamp (by omega)]; exact (hI _ (by omega)).1)⟩)
    · rcases Nat.lt_or_ge x (64 * p) with y | y
      · exact hu x y hx1
      · have e : x = 64 * p + (x - 64 * p) := by omega
        have hj : x - 64 * p < 64 := by omega
        rw [e, zm_at W s p hj] at hx1
        rw [e, zm_at W t p hj]
        exact zc_subI z (x - 64 * p) hj hx1
    · have := zc_sub (f := zb (W (s * 16 + p))) (g := zb (W (t * 16 + p))) (n := 64) (fun j hj h1 => by
        rw [← zm_at W t p hj]
        rw [← zm_at W s p hj] at h1
        exact q _ (by omega) h1)
      omega
/-! ===== range ===== -/
theorem zw_po32 {post : Int64 → Prop} {A B : Nat} (hB : B ≤ 64) (hA : A ≤ 1024) (h : ∀ M, (∀ j, j < 64 → zb M j = decide (A ≤ j ∧ j < B)) → post M) : wX_partOf_32 post (nI A) (nI B) := by
  refine pk_le B A (fun z => h 0 (fun j hj => ?_)) (fun z => zw_stretch (by omega) hB h)
  rw [zb_0]
  exact (decide_eq_false (by omega)).symm
theorem zw_po21 {post : Int64 → Prop} {p a b : Nat} (hp : p < 16) (ha : a ≤ 1024) (hb : b ≤ 1024) (h : ∀ M, (∀ j, j < 64 → zb M j = decide (a ≤ 64 * p + j ∧ 64 * p + j < b)) → post M) : wX_partOf_21 post (nI (a - 64 * p)) (nI b - nI (64 * p)) := by
  rcases Nat.lt_or_ge b (64 * p) with z | z
  · have hn : (nI b - nI (64 * p)).toInt < 0 := by
      rw [pk_sub_toInt (by omega) (by omega)]
      omega
    have e64 : (64 : Int32).toInt = 64 := by decide
    have eA : (nI (a - 64 * p)).toInt = ((a - 64 * p : Nat) : Int) := nI_toInt (by omega)
    refine br_t (by rw [Int32.le_iff_toInt_le]; omega) (br_t (by rw [Int32.le_iff_toInt_le]; omega) (h 0 (fun j hj => ?_)))
    rw [zb_0]
    exact (decide_eq_false (by omega)).symm
  · rw [pk_sub z]
    refine pk_le (b - 64 * p) 64 (fun y => zw_po32 y (by omega) (fun M hM => h M (fun j hj => ?_))) (fun y => zw_po32 (B := 64) (by omega) (by omega) (fun M hM => h M (fun j hj => ?_)))
    · rw [hM j hj]
      exact decide_eq_decide.mpr (by omega)
    · rw [hM j hj]
      exact decide_eq_decide.mpr (by omega)
theorem zw_partOf {post : Int64 → Prop} {p a b : Nat} (hp : p < 16) (ha : a ≤ 1024) (hb : b ≤ 1024) (h : ∀ M, (∀ j, j < 64 → zb M j = decide (a ≤ 64 * p + j ∧ 64 * p + j < b)) → post M) : wpX_partOf post () (nI p) (nI a) (nI b) := by
  have e : 64 * nI p = nI (64 * p) := pk_mul 64 p
  refine nm_r (show _ = nI a - nI (64 * p) by rw [e]) (nm_r (show _ = nI b - nI (64 * p) by rw [e]) ?_)
  rcases Nat.lt_or_ge a (64 * p) with z | z
  · have hn : (nI a - nI (64 * p)).toInt < 0 := by
      rw [pk_sub_toInt (by omega) (by omega)]
      omega
    have e0 : (0 : Int32).toInt = 0 := by decide
    have t := zw_po21 hp ha hb h
    rw [show a - 64 * p = 0 by omega] at t
    exact br_f (by rw [Int32.le_iff_toInt_le]; omega) t
  · rw [pk_sub z]
    exact br_t (nI_pos' (by omega)) (zw_po21 hp ha hb h)
def zm_hw (how : Nat) (x y : Bool) : Bool := if how = 0 then x || y else if how = 1 then x && !y else x ^^ y
theorem zw_cp32 {post : St1 → Prop} {m : Int32} {a1 a2 a3 a4 : Nat → Int32} {a5 a6 : Nat → Int64} {a7 : Nat → Int32} {c how : Nat} {w M : Int64} (hc : c < 64) (hk : zk_c a1 a2 a3 a4 a5 c w) (hh : how < 3)
    (H : ∀ b1 b2 b3 b4 b5 w', zk_fr c a1 a2 a3 a4 a5 b1 b2 b3 b4 b5 → (∀ j, j < 64 → zb w' j = zm_hw how (zb w j) (zb M j)) → zk_c b1 b2 b3 b4 b5 c w' → post (m, b1, b2, b3, b4, b5, a6, a7)) : wX_changePart_32 post (nI c) M (nI how) m a1 a2 a3 a4 a5 a6 a7 := by
  unfold wX_changePart_32
  refine zw_wordOf hc hk ?_
  refine pk_eq how 0 (fun e => nm_e ?_) (fun e => pk_eq how 1 (fun e1 => nm_e ?_) (fun e1 => nm_e ?_))
  · exact zw_store hc (fun b1 b2 b3 b4 b5 hf hw => H b1 b2 b3 b4 b5 _ hf (fun j hj => by subst e; exact zb_or w M j) hw)
  · refine zw_store hc (fun b1 b2 b3 b4 b5 hf hw => H b1 b2 b3 b4 b5 _ hf (fun j hj => ?_) hw)
    subst e1
    rw [zb_and, zb_not _ hj]
    rfl
  · refine zw_store hc (fun b1 b2 b3 b4 b5 hf hw => H b1 b2 b3 b4 b5 _ hf (fun j hj => ?_) hw)
    have e2 : how = 2 := by omega
    subst e2
    exact zb_xor w M j
theorem zw_changePart {post : St1 → Prop} {m : Int32} {a1 a2 a3 a4 : Nat → Int32} {a5 a6 : Nat → Int64} {a7 : Nat → Int32} {c how : Nat} {w M : Int64} (hc : c < 64) (hk : zk_c a1 a2 a3 a4 a5 c w) (hh : how < 3)
    (H : ∀ b1 b2 b3 b4 b5 w', zk_fr c a1 a2 a3 a4 a5 b1 b2 b3 b4 b5 → (∀ j, j < 64 → zb w' j = zm_hw how (zb w j) (zb M j)) → zk_c b1 b2 b3 b4 b5 c w' → post (m, b1, b2, b3, b4, b5, a6, a7)) : wpX_changePart post (m, a1, a2, a3, a4, a5, a6, a7) (nI c) M (nI how) := by
  refine br_c (fun e => pk_le 2 how (fun _ => zw_cp32 hc hk hh H) (fun _ => pk_eq how 0 (fun e0 => ?_) (fun e0 => ?_))) (fun _ => zw_cp32 hc hk hh H)
  · refine zw_store hc (fun b1 b2 b3 b4 b5 hf hw => H b1 b2 b3 b4 b5 _ hf (fun j hj => ?_) hw)
    subst e0
    rw [e, zb_m1 j hj]
    show true = (zb w j || true)
    rw [Bool.or_true]
  · refine zw_store hc (fun b1 b2 b3 b4 b5 hf hw => H b1 b2 b3 b4 b5 _ hf (fun j hj => ?_) hw)
    have e1 : how = 1 := by omega
    subst e1
    rw [e, zb_m1 j hj, zb_0]
    show false = (zb w j && !true)
    rw [Bool.not_true, Bool.and_false]
theorem zm_hw_f (how : Nat) (x : Bool) : zm_hw how x false = x := by
  unfold zm_hw
  by_cases h0 : how = 0
  · rw [if_pos h0, Bool.or_false]
  · rw [if_neg h0]
    by_cases h1 : how = 1
    · rw [if_pos h1]; simp
    · rw [if_neg h1]; simp
theorem zw_range {post : Int32 → St1 → Prop} {m : Int32} {a1 a2 a3 a4 : Nat → Int32} {a5 a6 W : Nat → Int64} {a7 : Nat → Int32} {s a b how : Nat} (hI : zk_I a1 a2 a3 a4 a5 W) (hs : s < 4) (ha : a ≤ 1024) (hb : b ≤ 1024) (hh : how < 3)
    (H : ∀ b1 b2 b3 b4 b5 W', zk_I b1 b2 b3 b4 b5 W' → zm_fin W W' s (fun x => zm_hw how (zm W s x) (decide (a ≤ x ∧ x < b))) → post (nI (zm_sz W' s)) (m, b1, b2, b3, b4, b5, a6, a7)) :
    wpX_range post (m, a1, a2, a3, a4, a5, a6, a7) (nI s) (nI (a + 2048 * b)) (nI how) := by
  have e1 : nI (a + 2048 * b) &&& 2047 = nI a := by
    rw [pk_andN (by omega) 11 (by decide)]
    congr 1
    omega
  have e2 : (nI (a + 2048 * b) >>> ((11 : Int32) &&& 31)) &&& 2047 = nI b := by
    rw [pk_shrN (by omega) _ 11 (by decide), pk_andN (by omega) 11 (by decide)]
    congr 1
    omega
  unfold wpX_range wpX_badEnds
  dsimp only
  rw [e1, e2]
  refine zw_bad hs (br_t rfl (br_f (nI_nlt (a := 1024) ha (by decide)) (br_t (nI_le (b := 1024) hb (by decide)) (br_t rfl (br_f (nI_pos (by omega)) (br_t (nI_le (b := 2) (by omega) (by decide)) (nm_e (nm_e ?_))))))))
  refine pk_loop (fun n p (u : (Nat → Int32) × (Nat → Int32) × (Nat → Int32) × (Nat → Int32) × (Nat → Int64)) => wX_range_48 post (nI s) (nI how) (nI a) (nI b) n (nI p) m u.1 u.2.1 u.2.2.1 u.2.2.2.1 u.2.2.2.2 a6 a7) (fun p u => ∃ W', zk_I u.1 u.2.1 u.2.2.1 u.2.2.2.1 u.2.2.2.2 W' ∧ zm_new W W' s p (fun q j => zm_hw how (zb (W (s * 16 + q)) j) (decide (a ≤ 64 * q + j ∧ 64 * q + j < b)))) 16 0 (a1, a2, a3, a4, a5) (by omega) ⟨W, hI, zm_new_0⟩ (fun n u hu => ?_) (fun n p u hp hu hw => ?_)
  · obtain ⟨W', hu, hn⟩ := hu
    refine pk_le 16 16 (fun _ => zw_total hu hs (H _ _ _ _ _ W' hu (zm_new_f hn (fun x hx => ?_)))) (fun z => absurd z (by omega))
    show zm_hw how (zm W s x) _ = _
    rw [show 64 * (x / 64) + x % 64 = x by omega]
  · obtain ⟨W', hu, hn⟩ := hu
    refine pk_le 16 p (fun z => absurd z (by omega)) (fun _ => zw_partOf hp ha hb (fun M hM => br_c (fun z => nm_r (nI_1 _) (hw u ⟨W', hu, zm_new_k hn (fun j hj => ?_)⟩)) (fun z => ?_)))
    · rw [← hM j hj, z, zb_0, zm_hw_f]
    · rw [zx_16]
      refine zw_changePart (by omega) (hu _ (by omega)) hh (fun b1 b2 b3 b4 b5 w' hf hb' hw' => nm_r (nI_1 _) (hw (b1, b2, b3, b4, b5) ⟨_, zk_I_upd hf hu hw', zm_new_s hn (fun j hj => ?_)⟩))
      rw [hb' j hj, hM j hj, hn.1 (s * 16 + p) (by omega)]
end
section
/-! ===== questions: below, rank, pick, select, next, has ===== -/
/-- the end of the stretches ahead of the i-th -/
def zk_e (G : Nat → Nat) (i : Nat) : Nat := if i = 0 then 0 else G (i - 1) + 1
theorem zk_e_s (G : Nat → Nat) (i : Nat) : zk_e G (i + 1) = G i + 1 := by
  unfold zk_e
  rw [if_neg (by omega), Nat.add_sub_cancel]
theorem zk_e_le {f : Nat → Bool} {r : Nat} {s : Nat → Int32} {F G : Nat → Nat} (h : zk_P f r 64 s F G) {i : Nat} (hi : i < r) : zk_e G i ≤ F i := by
  cases i with
  | zero => exact Nat.zero_le _
  | succ i => rw [zk_e_s]; exact h.2.1 i (i + 1) (by omega) hi
theorem zk_e_64 {f : Nat → Bool} {r : Nat} {s : Nat → Int32} {F G : Nat → Nat} (h : zk_P f r 64 s F G) {i : Nat} (hi : i ≤ r) : zk_e G i ≤ 64 := by
  cases i with
  | zero => exact Nat.zero_le _
  | succ i => rw [zk_e_s]; exact (h.1 i (by omega)).2.2.2
/-- nothing between two stretches -/
theorem zk_gap {f : Nat → Bool} {r : Nat} {s : Nat → Int32} {F G : Nat → Nat} (h : zk_P f r 64 s F G) {i : Nat} (hi : i ≤ r) {j : Nat} (h1 : zk_e G i ≤ j) (h2 : i < r → j < F i) (hj : j < 64) : f j = false := by
  cases e : f j
  · rfl
  · exfalso
    obtain ⟨k, k1, k2, k3⟩ := (h.2.2 j hj).mp e
    rcases Nat.lt_or_ge k i with z | z
    · have e1 : zk_e G i = G (i - 1) + 1 := if_neg (by omega)
      rcases Nat.lt_or_ge k (i - 1) with y | y
      · have a1 := h.2.1 k (i - 1) y (by omega)
        have a2 := (h.1 (i - 1) (by omega)).2.2.1
        omega
      · have : k = i - 1 := by omega
        subst this
        omega
    · have a0 := h2 (by omega)
      rcases Nat.lt_or_ge i k with y | y
      · have a1 := h.2.1 i k y k1
        have a2 := (h.1 i (by omega)).2.2.1
        omega
      · have : k = i := by omega
        subst this
        omega
theorem zk_in {f : Nat → Bool} {r : Nat} {s : Nat → Int32} {F G : Nat → Nat} (h : zk_P f r 64 s F G) {i : Nat} (hi : i < r) {j : Nat} (h1 : F i ≤ j) (h2 : j ≤ G i) : f j = true :=
  (h.2.2 j (by have := (h.1 i hi).2.2.2; omega)).mpr ⟨i, hi, h1, h2⟩
theorem zk_cF {f : Nat → Bool} {r : Nat} {s : Nat → Int32} {F G : Nat → Nat} (h : zk_P f r 64 s F G) {i : Nat} (hi : i < r) {v : Nat} (h1 : zk_e G i ≤ v) (h2 : v ≤ F i) : zc_n f v = zc_n f (zk_e G i) :=
  zc_none h1 (fun j a b => zk_gap h (by omega) a (fun _ => by omega) (by have := (h.1 i hi).2.2; omega))
theorem zk_cG {f : Nat → Bool} {r : Nat} {s : Nat → Int32} {F G : Nat → Nat} (h : zk_P f r 64 s F G) {i : Nat} (hi : i < r) {v : Nat} (h1 : F i ≤ v) (h2 : v ≤ G i + 1) : zc_n f v = zc_n f (F i) + (v - F i) :=
  zc_full h1 (fun j a b => zk_in h hi a (by omega))
theorem zw_below {post : Int32 → Prop} {m : Int32} {a1 a2 a3 a4 : Nat → Int32} {a5 a6 : Nat → Int64} {a7 : Nat → Int32} {c v : Nat} {w : Int64} (hc : c < 64) (hk : zk_c a1 a2 a3 a4 a5 c w) (hv : v < 64) (h : post (nI (zc_n (zb w) v))) : wpX_below post (m, a1, a2, a3, a4, a5, a6, a7) (nI c) (nI v) := by
  have ec : (nI c).toNatClampNeg = c := nI_clamp (by omega)
  have hin : vp_in (nI c) 64 := pk_in c 64 hc
  unfold wpX_below
  dsimp only
  rw [ec]
  rcases hk.2 with ⟨k1, hL⟩ | ⟨k1, k2⟩ | ⟨k1, r, F, G, r1, r2, r3, hP⟩
  · exact ⟨hin, br_t k1 (zw_seek hc (by omega) hL h)⟩
  · refine ⟨hin, br_f (by rw [k1]; decide) ⟨hin, br_t k1 ?_⟩⟩
    refine zw_stretch (a := 0) (by omega) (by omega) (fun M hM => ⟨hin, zw_ones ?_⟩)
    have e : zc_n (zb (a5 c &&& M)) 64 = zc_n (zb w) v := by
      rw [k2]
      have t1 := zc_none (f := zb (w &&& M)) (show v ≤ 64 by omega) (fun j h1 h2 => by
        rw [zb_and, hM j h2, decide_eq_false (by omega), Bool.and_false])
      rw [t1]
      apply zc_eq
      intro j hj
      rw [zb_and, hM j (by omega), decide_eq_true ⟨Nat.zero_le j, hj⟩, Bool.and_true]
    rw [e]
    exact h
  · refine ⟨hin, br_f (by rw [k1]; decide) ⟨hin, br_f (by rw [k1]; decide) ?_⟩⟩
    have e3 : a3 (nI c).toNatClampNeg = nI (2 * r) := by rw [ec]; exact r3
    refine pk_loop (σ := Unit) (fun n i _ => wX_below_49 post (nI c) (nI v) m a1 a2 a3 a4 a5 a6 a7 n (nI (zc_n (zb w) (min v (zk_e G i)))) (nI (2 * i))) (fun _ _ => True) r 0 () (Nat.zero_le _) trivial (fun n _ _ => ?_) (fun n i _ hi _ hw => ?_) |> fun ⟨n, hn⟩ => ⟨n, ?_⟩
    · refine ⟨hin, pk_le (2 * r) (2 * r) (fun _ => ?_) (fun z => absurd z (by omega)) e3⟩
      have e : zc_n (zb w) (min v (zk_e G r)) = zc_n (zb w) v := by
        rcases Nat.lt_or_ge v (zk_e G r) with z | z
        · rw [Nat.min_eq_left (by omega)]
        · rw [Nat.min_eq_right z]
          exact (zc_none z (fun j h1 h2 => zk_gap hP (Nat.le_refl r) h1 (fun q => absurd q (by omega)) (by omega))).symm
      rw [e]
      exact h
    · obtain ⟨q1, q2, q3, q4⟩ := hP.1 i hi
      have q1' : a4 (nI c * 8 + nI (2 * i)).toNatClampNeg = nI (F i) := by rw [zx_8, nI_clamp (by omega)]; exact q1
      have q2' : a4 (nI c * 8 + nI (2 * i) + 1).toNatClampNeg + 1 = nI (G i + 1) := by rw [zx_81, nI_clamp (by omega), show a4 (c * 8 + 2 * i + 1) = nI (G i) from q2, nI_1]
      have eF := zk_e_le hP hi
      have hw' := hw () trivial
      rw [zk_e_s] at hw'
      refine ⟨hin, pk_le (2 * r) (2 * i) (fun z => absurd z (by omega)) (fun _ => ⟨pk_in (c * 8 + 2 * i) 512 (by omega) (zx_8 c _), nm_r q1' ⟨pk_in (c * 8 + 2 * i + 1) 512 (by omega) (zx_81 c _), nm_r q2' (pk_le v (F i) (fun z => nm_r (zx_p2 i) ?_) (fun z => pk_le (G i + 1) v (fun y => nm_r ?_ (nm_r (zx_p2 i) hw')) (fun y => nm_r ?_ (nm_r (zx_p2 i) hw'))))⟩⟩) e3⟩
      · have e : zc_n (zb w) (min v (G i + 1)) = zc_n (zb w) (min v (zk_e G i)) := by
          rw [Nat.min_eq_left (by omega)]
          rcases Nat.lt_or_ge v (zk_e G i) with y | y
          · rw [Nat.min_eq_left (by omega)]
          · rw [Nat.min_eq_right y]
            exact zk_cF hP hi y z
        rw [e] at hw'
        exact hw'
      · rw [pk_sub (by omega), nI_add, Nat.min_eq_right (show zk_e G i ≤ v by omega), Nat.min_eq_right (show G i + 1 ≤ v by omega), zk_cG hP hi (v := G i + 1) (by omega) (Nat.le_refl _), zk_cF hP hi (v := F i) eF (Nat.le_refl _)]
      · rw [pk_sub (by omega), nI_add, Nat.min_eq_right (show zk_e G i ≤ v by omega), Nat.min_eq_left (show v ≤ G i + 1 by omega), zk_cG hP hi (v := v) (by omega) (by omega), zk_cF hP hi (v := F i) eF (Nat.le_refl _)]
    · have t : min v (zk_e G 0) = 0 := Nat.min_eq_right (Nat.zero_le v)
      have hn' : wX_below_49 post (nI c) (nI v) m a1 a2 a3 a4 a5 a6 a7 n (nI (zc_n (zb w) (min v (zk_e G 0)))) (nI (2 * 0)) := hn
      rw [t] at hn'
      exact hn'
theorem zw_rankOf {post : Int32 → Prop} {m : Int32} {a1 a2 a3 a4 : Nat → Int32} {a5 a6 W : Nat → Int64} {a7 : Nat → Int32} {s x : Nat} (hI : zk_I a1 a2 a3 a4 a5 W) (hs : s < 4) (hx : x ≤ 1024) (h : post (nI (zc_n (zm W s) x))) : wpX_rankOf post (m, a1, a2, a3, a4, a5, a6, a7) (nI s) (nI x) := by
  refine nm_r (zx_shr6 (by omega)) ?_
  refine pk_loop (σ := Unit) (fun n p _ => wX_rankOf_11 post (nI s) (nI x) (nI (x / 64)) m a1 a2 a3 a4 a5 a6 a7 n (nI (zc_n (zm W s) (64 * p))) (nI p)) (fun _ _ => True) (x / 64) 0 () (Nat.zero_le _) trivial (fun n _ _ => ?_) (fun n p _ hp _ hw => ?_)
  · refine pk_le (x / 64) (x / 64) (fun _ => pk_le 16 (x / 64) (fun z => ?_) (fun z => ?_)) (fun z => absurd z (by omega))
    · rw [show 64 * (x / 64) = x by omega]
      exact h
    · rw [zx_16, zx_and6 (by omega)]
      refine zw_below (by omega) (hI _ (by omega)) (by omega) ?_
      rw [nI_add, ← zm_cnt W s (x / 64) (show x % 64 ≤ 64 by omega), show 64 * (x / 64) + x % 64 = x by omega]
      exact h
  · refine pk_le (x / 64) p (fun z => absurd z (by omega)) (fun _ => ⟨pk_in (s * 16 + p) 64 (by omega) (zx_16 s p), nm_r ?_ (nm_r (nI_1 _) (hw () trivial))⟩)
    rw [zx_16, nI_clamp (by omega), (hI (s * 16 + p) (by omega)).1, nI_add, zm_suc]
theorem zw_rank {post : Int32 → Prop} {m : Int32} {a1 a2 a3 a4 : Nat → Int32} {a5 a6 W : Nat → Int64} {a7 : Nat → Int32} {s x : Nat} (hI : zk_I a1 a2 a3 a4 a5 W) (hs : s < 4) (hx : x ≤ 1024) (h : post (nI (zc_n (zm W s) x))) : wpX_rank post (m, a1, a2, a3, a4, a5, a6, a7) (nI s) (nI x) := by
  unfold wpX_rank
  dsimp only
  exact zw_bad hs (br_t rfl (br_f (nI_pos (by omega)) (br_t (nI_le (b := 1024) hx (by decide)) (zw_rankOf hI hs hx h))))
theorem zw_pick {post : Int32 → Prop} {m : Int32} {a1 a2 a3 a4 : Nat → Int32} {a5 a6 : Nat → Int64} {a7 : Nat → Int32} {c k : Nat} {w : Int64} (hc : c < 64) (hk : zk_c a1 a2 a3 a4 a5 c w) (hkk : k < zc_n (zb w) 64) (h : ∀ v, v < 64 → zb w v = true → zc_n (zb w) v = k → post (nI v)) : wpX_pick post (m, a1, a2, a3, a4, a5, a6, a7) (nI c) (nI k) := by
  have ec : (nI c).toNatClampNeg = c := nI_clamp (by omega)
  have hin : vp_in (nI c) 64 := pk_in c 64 hc
  have h64 : zc_n (zb w) 64 ≤ 64 := zc_le _ _
  unfold wpX_pick
  dsimp only
  rw [ec]
  rcases hk.2 with ⟨k1, l1, l2, l3⟩ | ⟨k1, k2⟩ | ⟨k1, r, F, G, r1, r2, r3, hP⟩
  · obtain ⟨v, v1, v2, v3, v4⟩ := l3 k hkk
    refine ⟨hin, br_t k1 ⟨pk_in (c * 8 + k) 512 (by omega) (zx_8 c k), ?_⟩⟩
    rw [zx_8, nI_clamp (by omega), show a4 (c * 8 + k) = nI v from v4]
    exact h v v1 v2 v3
  · refine ⟨hin, br_f (by rw [k1]; decide) ⟨hin, br_t k1 ⟨hin, nm_r k2 ?_⟩⟩⟩
    obtain ⟨v, v1, v2, v3⟩ := zc_sel hkk
    refine pk_loop (fun n i (u : Int64) => wX_pick_41 post (nI k) m a1 a2 a3 a4 a5 a6 a7 n u (nI i)) (fun i u => ∀ j, j < 64 → zb u j = (zb w j && decide (i ≤ zc_n (zb w) j))) k 0 w (Nat.zero_le _) (fun j hj => ?_) (fun n u hu => ?_) (fun n i u hi hu hw => ?_)
    · rw [decide_eq_true (Nat.zero_le _), Bool.and_true]
    · refine pk_le k k (fun _ => zw_lowest (v := v) v1 ?_ (fun j hj => ?_) (h v v1 v2 v3)) (fun z => absurd z (by omega))
      · rw [hu v v1, v2, v3, decide_eq_true (Nat.le_refl k)]; rfl
      · rw [hu j (by omega)]
        cases e : zb w j
        · rfl
        · have := zc_lt hj e
          rw [decide_eq_false (by omega)]; rfl
    · refine pk_le k i (fun z => absurd z (by omega)) (fun _ => nm_e (nm_r (nI_1 i) (hw _ (fun j hj => ?_))))
      obtain ⟨x, x1, x2, x3⟩ := zc_sel (f := zb w) (n := 64) (k := i) (by omega)
      have ux : zb u x = true := by rw [hu x x1, x2, x3, decide_eq_true (Nat.le_refl i)]; rfl
      rw [zb_rest _ hj, hu j hj]
      cases e : zb w j
      · rfl
      · rw [Bool.true_and, Bool.true_and]
        by_cases g : i + 1 ≤ zc_n (zb w) j
        · have vj : x < j := zc_ltI (f := zb w) (by omega)
          rw [decide_eq_true (show i ≤ zc_n (zb w) j by omega), decide_eq_true (⟨x, vj, ux⟩ : ∃ q, q < j ∧ zb u q = true), decide_eq_true g]; rfl
        · rw [decide_eq_false g]
          have ne : ¬ ∃ q, q < j ∧ zb u q = true := by
            rintro ⟨q, q1, q2⟩
            rw [hu q (by omega), Bool.and_eq_true, decide_eq_true_eq] at q2
            have := zc_lt q1 q2.1
            omega
          rw [decide_eq_false ne, Bool.and_false]
  · have e3 : a3 (nI c).toNatClampNeg = nI (2 * r) := by rw [ec]; exact r3
    have sl : ∀ i, i < r → a4 (nI c * 8 + nI (2 * i)).toNatClampNeg = nI (F i) ∧ a4 (nI c * 8 + nI (2 * i) + 1).toNatClampNeg = nI (G i) := by
      intro i hi
      obtain ⟨q1, q2, q3, q4⟩ := hP.1 i hi
      exact ⟨by rw [zx_8, nI_clamp (by omega)]; exact q1, by rw [zx_81, nI_clamp (by omega)]; exact q2⟩
    have len : ∀ i, i < r → nI (G i) - nI (F i) + 1 = nI (G i - F i + 1) := by
      intro i hi
      rw [pk_sub (hP.1 i hi).2.2.1, nI_1]
    have s0 := sl 0 (by omega)
    have f0 : a4 (nI c * 8).toNatClampNeg = nI (F 0) := by
      have := (hP.1 0 (by omega)).1
      rw [show nI c * 8 = nI (c * 8) from pk_mul c 8, nI_clamp (by omega)]
      exact this
    have g0 : a4 (nI c * 8 + 1).toNatClampNeg = nI (G 0) := by
      have := (hP.1 0 (by omega)).2.1
      rw [show nI c * 8 + 1 = nI (c * 8 + 1) from zx_8 c 1, nI_clamp (by omega)]
      exact this
    refine ⟨hin, br_f (by rw [k1]; decide) ⟨hin, br_f (by rw [k1]; decide) ⟨pk_in (c * 8 + 1) 512 (by omega) (zx_8 c 1), pk_in (c * 8) 512 (by omega) (pk_mul c 8), nm_r (show _ = nI (G 0 - F 0 + 1) by rw [g0, f0]; exact len 0 (by omega)) ?_⟩⟩⟩
    have c0 : zc_n (zb w) (F 0) = 0 := zk_cF hP (i := 0) (by omega) (v := F 0) (Nat.zero_le _) (Nat.le_refl _)
    have fin : ∀ i, i < r → zc_n (zb w) (F i) ≤ k → k < zc_n (zb w) (G i + 1) → wX_pick_155 post (nI c) (nI (k - zc_n (zb w) (F i))) (nI (2 * i)) m a1 a2 a3 a4 a5 a6 a7 := by
      intro i hi b1 b2
      obtain ⟨q1, q2, q3, q4⟩ := hP.1 i hi
      have t := zk_cG hP hi (v := G i + 1) (by omega) (Nat.le_refl _)
      refine ⟨pk_in (c * 8 + 2 * i) 512 (by omega) (zx_8 c _), ?_⟩
      rw [(sl i hi).1, nI_add]
      refine h _ (by omega) (zk_in hP hi (by omega) (by omega)) ?_
      rw [zk_cG hP hi (v := F i + (k - zc_n (zb w) (F i))) (by omega) (by omega)]
      omega
    refine loop_m (fun n (i : Nat) => wX_pick_94 post (nI c) m a1 a2 a3 a4 a5 a6 a7 n (nI (k - zc_n (zb w) (F i))) (nI (2 * i)) (nI (G i - F i + 1))) (fun i => i < r ∧ zc_n (zb w) (F i) ≤ k) (fun i => r - i) (fun n i hi hw => ?_) 0 ⟨by omega, by omega⟩ |> fun ⟨n, hn⟩ => ⟨n, ?_⟩
    · obtain ⟨i1, i2⟩ := hi
      obtain ⟨q1, q2, q3, q4⟩ := hP.1 i i1
      have t := zk_cG hP i1 (v := G i + 1) (by omega) (Nat.le_refl _)
      refine ⟨hin, pk_le (2 * r) (2 * i + 2) (fun z => fin i i1 i2 ?_) (fun z => pk_lt (k - zc_n (zb w) (F i)) (G i - F i + 1) (fun y => fin i i1 i2 (by omega)) (fun y => ?_)) e3 (zx_p2 i)⟩
      · have er : i + 1 = r := by omega
        have e : zc_n (zb w) 64 = zc_n (zb w) (G i + 1) := by
          refine zc_none (by omega) (fun j h1 h2 => zk_gap hP (Nat.le_refl r) ?_ (fun q => absurd q (by omega)) h2)
          rw [← er, zk_e_s]
          exact h1
        omega
      · have i3 : i + 1 < r := by omega
        obtain ⟨p1, p2, p3, p4⟩ := hP.1 (i + 1) i3
        have t2 : zc_n (zb w) (F (i + 1)) = zc_n (zb w) (G i + 1) := by
          have := zk_cF hP i3 (v := F (i + 1)) (zk_e_le hP i3) (Nat.le_refl _)
          rw [zk_e_s] at this
          exact this
        refine nm_r (show _ = nI (k - zc_n (zb w) (F (i + 1))) by rw [pk_sub (by omega)]; congr 1; omega) (nm_r (zx_p2 i) ⟨pk_in (c * 8 + 2 * (i + 1) + 1) 512 (by omega) (zx_81 c _), pk_in (c * 8 + 2 * (i + 1)) 512 (by omega) (zx_8 c _), nm_r (show _ = nI (G (i + 1) - F (i + 1) + 1) by rw [(sl (i + 1) i3).1, (sl (i + 1) i3).2]; exact len (i + 1) i3) (hw (i + 1) ⟨i3, by omega⟩ (by omega))⟩)
    · have hn' : wX_pick_94 post (nI c) m a1 a2 a3 a4 a5 a6 a7 n (nI (k - zc_n (zb w) (F 0))) (nI (2 * 0)) (nI (G 0 - F 0 + 1)) := hn
      rw [c0, Nat.sub_zero] at hn'
      exact hn'
theorem zw_select {post : Int32 → Prop} {m : Int32} {a1 a2 a3 a4 : Nat → Int32} {a5 a6 W : Nat → Int64} {a7 : Nat → Int32} {s k : Nat} (hI : zk_I a1 a2 a3 a4 a5 W) (hs : s < 4) (hk : k ≤ 1024) (H1 : ∀ v, v < 1024 → zm W s v = true → zc_n (zm W s) v = k → post (nI v)) (H0 : zm_sz W s ≤ k → post (-3)) : wpX_select post (m, a1, a2, a3, a4, a5, a6, a7) (nI s) (nI k) := by
  unfold wpX_select
  dsimp only
  refine zw_bad hs (br_t rfl (br_t (nI_pos' (by omega)) ?_))
  refine loop_m (fun n (p : Nat) => wX_select_21 post (nI s) m a1 a2 a3 a4 a5 a6 a7 n (nI (k - zc_n (zm W s) (64 * p))) (nI p)) (fun p => p ≤ 16 ∧ zc_n (zm W s) (64 * p) ≤ k) (fun p => 16 - p) (fun n p hp hw => ?_) 0 ⟨by omega, Nat.zero_le _⟩
  obtain ⟨p1, p2⟩ := hp
  refine pk_le 16 p (fun z => ?_) (fun z => nm_r (zx_16 s p) ⟨pk_in (s * 16 + p) 64 (by omega), ?_⟩)
  · have e : p = 16 := by omega
    subst e
    exact H0 p2
  · have hc := (hI (s * 16 + p) (by omega)).1
    have h64 : zc_n (zb (W (s * 16 + p))) 64 ≤ 64 := zc_le _ _
    have es := zm_suc W s p
    rw [nI_clamp (by omega)]
    refine pk_le (zc_n (zb (W (s * 16 + p))) 64) (k - zc_n (zm W s) (64 * p)) (fun y => ⟨pk_in (s * 16 + p) 64 (by omega), nm_r (show _ = nI (k - zc_n (zm W s) (64 * (p + 1))) by rw [hc, pk_sub y]; congr 1; omega) (nm_r (nI_1 p) (hw (p + 1) ⟨by omega, by omega⟩ (by omega)))⟩) (fun y => ?_) hc
    refine zw_pick (by omega) (hI _ (by omega)) y (fun v v1 v2 v3 => ?_)
    rw [show 64 * nI p = nI (64 * p) from pk_mul 64 p, nI_add]
    refine H1 (64 * p + v) (by omega) (by rw [zm_at W s p v1]; exact v2) ?_
    rw [zm_cnt W s p (by omega)]
    omega
theorem zw_selectN {post : Int32 → Prop} {m : Int32} {a1 a2 a3 a4 : Nat → Int32} {a5 a6 : Nat → Int64} {a7 : Nat → Int32} {s : Nat} (hs : s < 4) (h : post (-3)) : wpX_select post (m, a1, a2, a3, a4, a5, a6, a7) (nI s) (-1) := by
  unfold wpX_select
  dsimp only
  exact zw_bad hs (br_t rfl (br_f (by decide) h))
theorem zw_next {post : Int32 → Prop} {m : Int32} {a1 a2 a3 a4 : Nat → Int32} {a5 a6 W : Nat → Int64} {a7 : Nat → Int32} {s x : Nat} (hI : zk_I a1 a2 a3 a4 a5 W) (hs : s < 4) (hx : x < 1024) (H1 : ∀ v, v < 1024 → zm W s v = true → zc_n (zm W s) v = zc_n (zm W s) x → post (nI v)) (H0 : zm_sz W s ≤ zc_n (zm W s) x → post (-3)) : wpX_next post (m, a1, a2, a3, a4, a5, a6, a7) (nI s) (nI x) := by
  unfold wpX_next
  dsimp only
  refine zw_bad hs (br_t rfl (zw_badNumber hx (br_t rfl (zw_rankOf hI hs (by omega) ?_))))
  exact zw_select hI hs (by have := zc_le (zm W s) x; omega) H1 H0
theorem zx_nar0 : narrow .boolean (.int 0) = .int 0 := by rfl
theorem zx_nar1 : narrow .boolean (.int 1) = .int 1 := by rfl
/-- has, of any number from 0 on -/
def zm_has (W : Nat → Int64) (s x : Nat) : Bool := decide (x < 1024) && zm W s x
theorem zw_has {post : Int32 → Prop} {m : Int32} {a1 a2 a3 a4 : Nat → Int32} {a5 a6 W : Nat → Int64} {a7 : Nat → Int32} {s x : Nat} (hI : zk_I a1 a2 a3 a4 a5 W) (hs : s < 4) (hx : x < 2 ^ 31) (H1 : zm_has W s x = true → post 1) (H0 : zm_has W s x = false → post 0) : wpX_has post (m, a1, a2, a3, a4, a5, a6, a7) (nI s) (nI x) := by
  unfold wpX_has
  dsimp only
  rcases Nat.lt_or_ge x 1024 with z | z
  · have e : zm_has W s x = zm W s x := by unfold zm_has; rw [decide_eq_true z, Bool.true_and]
    refine zw_bad hs (br_t rfl (zw_badNumber z (br_t rfl ?_)))
    rw [zx_shr6 hx, zx_16, zx_and6 hx]
    exact zw_contains (by omega) (hI _ (by omega)) (by omega) (fun q => ⟨zx_nar1, H1 (e.trans q)⟩) (fun q => ⟨zx_nar0, H0 (e.trans q)⟩)
  · have e : zm_has W s x = false := by unfold zm_has; rw [decide_eq_false (by omega), Bool.false_and]
    exact zw_bad hs (br_t rfl (zw_badNumber1 z hx (br_f (by decide) (H0 e))))
end
section
/-! ===== the law's own methods: turn, has, lists ===== -/
theorem zl_rangeE {a d : Nat} (ha : a < 1024) (hd : d < 256) : nI a + 2048 * ((nI a + nI d) - (nI a + nI d) / 1025 * 1025) = nI (a + 2048 * ((a + d) % 1025)) := by
  rw [nI_add]
  show nI a + nI 2048 * (nI (a + d) - nI (a + d) / nI 1025 * nI 1025) = _
  rw [pk_rem (by omega) (by decide) (by decide), pk_mul, nI_add]
theorem zl_rem3 {j : Nat} (hj : j < 2 ^ 31) : nI j - nI j / 3 * 3 = nI (j % 3) := pk_rem (d := 3) hj (by decide) (by decide)
theorem zl_shA {j : Nat} (hj : j < 256) : ¬ (nI j - 128 < -1023) ∧ nI j - 128 ≤ 1023 := by
  have e : (nI j - 128).toInt = (j : Int) - 128 := pk_sub_toInt (b := 128) (by omega) (by omega)
  have e1 : (-1023 : Int32).toInt = -1023 := by decide
  have e2 : (1023 : Int32).toInt = 1023 := by decide
  rw [Int32.lt_iff_toInt_lt, Int32.le_iff_toInt_le]
  omega
theorem zl_turn {post : Int32 → St1 → Prop} {m v w : Int32} {a1 a2 a3 a4 : Nat → Int32} {a5 a6 W : Nat → Int64} {a7 : Nat → Int32} {o s : Nat} (hI : zk_I a1 a2 a3 a4 a5 W) (ho : o < 16) (hs : s < 4) (H : zm_H post) : wpL_turn post (m, a1, a2, a3, a4, a5, a6, a7) (nI o) (nI s) v w := by
  obtain ⟨x, hx, ex⟩ := pk_andE v (m := 1023) 10 (by decide)
  have hx' : x < 1024 := hx
  unfold wpL_turn
  dsimp only
  refine pk_lt 4 o (fun _ => pk_eq o 5 (fun _ => ?_) (fun _ => pk_lt 9 o (fun _ => pk_lt 12 o (fun _ => pk_eq o 13 (fun _ => ?_) (fun _ => br_c (fun _ => ?_) (fun _ => H 0 _ _ _ _ _ _ _ _ W (by omega) hI))) (fun _ => ?_)) (fun _ => ⟨by decide, by decide, ?_⟩))) (fun _ => ?_)
  · rw [ex]
    exact zw_remove hI hs hx' (fun r m b1 b2 b3 b4 b5 b6 b7 W h1 h2 => H r m b1 b2 b3 b4 b5 b6 b7 W h1 h2)
  · obtain ⟨j, hj, ej⟩ := pk_andE v (m := 255) 8 (by decide)
    rw [ej]
    have t := zl_shA (show j < 256 from hj)
    exact zw_shift hI hs t.1 t.2 (fun r m b1 b2 b3 b4 b5 b6 b7 W h1 h2 => H r m b1 b2 b3 b4 b5 b6 b7 W h1 h2)
  · exact zw_clear hI hs (fun r m b1 b2 b3 b4 b5 b6 b7 W h1 h2 => H r m b1 b2 b3 b4 b5 b6 b7 W h1 h2)
  · obtain ⟨i, hi, ei⟩ := pk_andE v (m := 3) 2 (by decide)
    obtain ⟨j, hj, ej⟩ := pk_andE (v >>> ((2 : Int32) &&& 31)) (m := 3) 2 (by decide)
    obtain ⟨k, hk, ek⟩ := pk_andE (v >>> ((4 : Int32) &&& 31)) (m := 3) 2 (by decide)
    rw [ei, ej, ek]
    exact zw_combine hI hs hi hj hk (fun m' b1 b2 b3 b4 b5 b7 W' h1 _ => H _ m' b1 b2 b3 b4 b5 a6 b7 W' (zm_sz_le W' s) h1)
  · obtain ⟨d, hd, ed⟩ := pk_andE w (m := 255) 8 (by decide)
    obtain ⟨k, hk, ek⟩ := pk_andE (w >>> ((8 : Int32) &&& 31)) (m := 1023) 10 (by decide)
    rw [ex, ed, ek, zl_rangeE hx' hd, zl_rem3 (by omega)]
    exact zw_range hI hs (by omega) (by omega) (by omega) (fun b1 b2 b3 b4 b5 W' h1 _ => H _ m b1 b2 b3 b4 b5 a6 a7 W' (zm_sz_le W' s) h1)
  · rw [ex]
    exact zw_add hI hs hx' (fun r m b1 b2 b3 b4 b5 b6 b7 W h1 h2 => H r m b1 b2 b3 b4 b5 b6 b7 W h1 h2)
/-- the word that has makes -/
def zl_w (g : Nat → Bool) : Nat → Int64
  | 0 => 0
  | k + 1 => if g k = true then zl_w g k ||| ((1 : Int64) <<< ((nI k).toInt64 &&& 63)) else zl_w g k
theorem zl_w_eq {g h : Nat → Bool} {n : Nat} (e : ∀ k, k < n → g k = h k) : zl_w g n = zl_w h n := by
  induction n with
  | zero => rfl
  | succ n ih =>
    show (if g n = true then zl_w g n ||| ((1 : Int64) <<< ((nI n).toInt64 &&& 63)) else zl_w g n) = (if h n = true then zl_w h n ||| ((1 : Int64) <<< ((nI n).toInt64 &&& 63)) else zl_w h n)
    rw [ih (fun k hk => e k (by omega)), e n (by omega)]
def zl_hw (W : Nat → Int64) (s f : Nat) : Int64 := zl_w (fun k => zm_has W s (f + k)) 64
theorem zl_hw_eq {W W' : Nat → Int64} {s f : Nat} (h : ∀ x, x < 1024 → zm W' s x = zm W s x) : zl_hw W' s f = zl_hw W s f := by
  apply zl_w_eq
  intro k _
  show (decide (f + k < 1024) && zm W' s (f + k)) = (decide (f + k < 1024) && zm W s (f + k))
  by_cases z : f + k < 1024
  · rw [h _ z]
  · rw [decide_eq_false z]; rfl
theorem zl_has {post : Int64 → Prop} {m : Int32} {a1 a2 a3 a4 : Nat → Int32} {a5 a6 W : Nat → Int64} {a7 : Nat → Int32} {s f : Nat} (hI : zk_I a1 a2 a3 a4 a5 W) (hs : s < 4) (hf : f < 1024) (h : post (zl_hw W s f)) : wpL_has post (m, a1, a2, a3, a4, a5, a6, a7) (nI s) (nI f) := by
  refine pk_loop (σ := Unit) (fun n k _ => wL_has_5 post (nI s) (nI f) m a1 a2 a3 a4 a5 a6 a7 n (zl_w (fun k => zm_has W s (f + k)) k) (nI k)) (fun _ _ => True) 64 0 () (by omega) trivial (fun n _ _ => ?_) (fun n k _ hk _ hw => ?_)
  · exact pk_le 64 64 (fun _ => h) (fun z => absurd z (by omega))
  · have hw' := hw () trivial
    refine pk_le 64 k (fun z => absurd z (by omega)) (fun _ => ?_)
    rw [nI_add]
    refine zw_has hI hs (by omega) (fun q => br_f (by decide) (nm_e (nm_r (nI_1 k) ?_))) (fun q => br_t rfl (nm_r (nI_1 k) ?_))
    · have e : zl_w (fun k => zm_has W s (f + k)) (k + 1) = zl_w (fun k => zm_has W s (f + k)) k ||| ((1 : Int64) <<< ((nI k).toInt64 &&& 63)) := if_pos q
      rw [e] at hw'
      exact hw'
    · have e : zl_w (fun k => zm_has W s (f + k)) (k + 1) = zl_w (fun k => zm_has W s (f + k)) k := if_neg (by show ¬ zm_has W s (f + k) = true; rw [q]; simp)
      rw [e] at hw'
      exact hw'
theorem zl_152 {post : Int32 → Prop} {m : Int32} {a1 a2 a3 a4 : Nat → Int32} {a5 a6 W : Nat → Int64} {a7 : Nat → Int32} {s : Nat} (hI : zk_I a1 a2 a3 a4 a5 W) (hs : s < 4) (h : post 1) : wL_lists_152 post (nI s) (nI (zm_sz W s)) m a1 a2 a3 a4 a5 a6 a7 := by
  unfold wL_lists_152
  refine zw_select hI hs (zm_sz_le W s) (fun v v1 v2 v3 => ?_) (fun _ => br_t rfl (zw_selectN hs (br_t rfl (zw_rank (x := 1024) hI hs (by omega) (br_t rfl h)))))
  have : zc_n (zm W s) v < zm_sz W s := zc_lt v1 v2
  omega
theorem zl_lastn {L v : Nat} (h : L ≤ v) (hv : v < 1024) : ¬ nI v ≤ nI L - 1 := by
  rw [Int32.le_iff_toInt_le, nI_toInt (by omega)]
  have e : (nI L - 1).toInt = (L : Int) - 1 := pk_sub_toInt (b := 1) (by omega) (by omega)
  omega
theorem zl_48 {post : Int32 → Prop} {m : Int32} {a1 a2 a3 a4 : Nat → Int32} {a5 a6 W : Nat → Int64} {a7 : Nat → Int32} {s b : Nat} (hI : zk_I a1 a2 a3 a4 a5 W) (hs : s < 4) (hb : b ≤ 1024) (h : post 1) {L0 k0 : Nat} (h1 : L0 ≤ 1024) (h2 : zc_n (zm W s) L0 = k0) (h3 : k0 ≤ zm_sz W s) : ∃ n, wL_lists_48 post (nI s) (nI (zm_sz W s)) (nI b) m a1 a2 a3 a4 a5 a6 a7 n (nI L0 - 1) (nI k0) := by
  have hN := zm_sz_le W s
  refine loop_m (fun n (u : Nat × Nat) => wL_lists_48 post (nI s) (nI (zm_sz W s)) (nI b) m a1 a2 a3 a4 a5 a6 a7 n (nI u.1 - 1) (nI u.2)) (fun u => u.1 ≤ 1024 ∧ zc_n (zm W s) u.1 = u.2 ∧ u.2 ≤ zm_sz W s) (fun u => zm_sz W s - u.2) (fun n u hu hw => ?_) (L0, k0) ⟨h1, h2, h3⟩
  obtain ⟨u1, u2, u3⟩ := hu
  refine pk_le (zm_sz W s) u.2 (fun _ => zl_152 hI hs h) (fun z => pk_le (b + 40) u.2 (fun _ => zl_152 hI hs h) (fun _ => ?_) (nI_add b 40))
  refine zw_select hI hs (by omega) (fun v v1 v2 v3 => ?_) (fun q => absurd q (by omega))
  have Lv : u.1 ≤ v := by
    rcases Nat.lt_or_ge v u.1 with y | y
    · have := zc_lt y v2
      omega
    · exact y
  have hv1 : zm_has W s v = true := by unfold zm_has; rw [decide_eq_true v1, v2]; rfl
  refine br_f (zl_lastn Lv v1) (br_f (nI_nlt (a := 1023) (by omega) (by decide)) (zw_has hI hs (by omega) (fun _ => br_f (by decide) ?_) (fun q => ?_)))
  · refine zw_rank hI hs (by omega) (br_t (by rw [v3]) ?_)
    rw [nI_1 v]
    refine zw_rank hI hs (x := v + 1) (by omega) (br_t (by rw [zc_t v2, v3, nI_1]) ?_)
    rw [Int32.sub_add_cancel]
    refine zw_next hI hs (by omega) (fun x x1 x2 x3 => ?_) (fun q => absurd q (by omega))
    have e : x = v := zc_uniq x2 v2 (by omega)
    subst e
    refine br_t rfl (nm_r (nI_1 _) ?_)
    have t := hw (x + 1, u.2 + 1) ⟨by show x + 1 ≤ 1024; omega, by show zc_n (zm W s) (x + 1) = u.2 + 1; rw [zc_t x2, v3], by show u.2 + 1 ≤ _; omega⟩ (by show zm_sz W s - (u.2 + 1) < zm_sz W s - u.2; omega)
    have t' : wL_lists_48 post (nI s) (nI (zm_sz W s)) (nI b) m a1 a2 a3 a4 a5 a6 a7 n (nI (x + 1) - 1) (nI (u.2 + 1)) := t
    rw [nI_pred] at t'
    exact t'
  · rw [hv1] at q
    exact absurd q (by simp)
theorem zl_22 {post : Int32 → Prop} {m : Int32} {a1 a2 a3 a4 : Nat → Int32} {a5 a6 W : Nat → Int64} {a7 : Nat → Int32} {s b : Nat} (hI : zk_I a1 a2 a3 a4 a5 W) (hs : s < 4) (hb : b ≤ zm_sz W s) (h : post 1) : wL_lists_22 post (nI s) (nI (zm_sz W s)) (nI b) m a1 a2 a3 a4 a5 a6 a7 := by
  have hN := zm_sz_le W s
  refine pk_le b 0 (fun z => ?_) (fun z => ?_)
  · have e : b = 0 := by omega
    subst e
    have t := zl_48 (m := m) (a6 := a6) (a7 := a7) (b := 0) hI hs (by omega) h (L0 := 0) (k0 := 0) (by omega) rfl (by omega)
    rw [show nI 0 - 1 = -1 from by decide] at t
    exact t
  · have e : nI b - 1 = nI (b - 1) := by
      have := nI_pred (b - 1)
      rw [show b - 1 + 1 = b by omega] at this
      exact this
    rw [e]
    refine zw_select hI hs (by omega) (fun v v1 v2 v3 => ?_) (fun q => absurd q (by omega))
    have t := zl_48 (m := m) (a6 := a6) (a7 := a7) (b := b) hI hs (by omega) h (L0 := v + 1) (k0 := b) (by omega) (by rw [zc_t v2]; omega) hb
    rw [nI_pred] at t
    exact t
theorem zl_lists {post : Int32 → Prop} {m : Int32} {a1 a2 a3 a4 : Nat → Int32} {a5 a6 W : Nat → Int64} {a7 : Nat → Int32} {s f : Nat} (hI : zk_I a1 a2 a3 a4 a5 W) (hs : s < 4) (hf : f < 1024) (h : post 1) : wpL_lists post (m, a1, a2, a3, a4, a5, a6, a7) (nI s) (nI f) := by
  have hN := zm_sz_le W s
  unfold wpL_lists
  dsimp only
  refine zw_size hI hs (pk_le (zm_sz W s) 40 (fun z => zl_22 (b := 0) hI hs (by omega) h) (fun z => ?_))
  have e : nI (zm_sz W s) - 39 = nI (zm_sz W s - 39) := pk_sub (b := 39) (by omega)
  rw [e, pk_rem (by omega) (by omega) (by omega)]
  refine ⟨nI_ne0 (by omega) (by omega), zl_22 hI hs ?_ h⟩
  have := Nat.mod_lt f (show 0 < zm_sz W s - 39 by omega)
  omega
end
section
/-! ===== sums ===== -/
/-- sets 0 to 2 are as they were -/
def zl_K (W W' : Nat → Int64) : Prop := ∀ r, r < 3 → ∀ x, x < 1024 → zm W' r x = zm W r x
theorem zl_K_0 {W : Nat → Int64} : zl_K W W := fun _ _ _ _ => rfl
theorem zl_K_f {W W' W'' : Nat → Int64} {g : Nat → Bool} (h : zl_K W W') (hf : zm_fin W' W'' 3 g) : zl_K W W'' := fun r hr x hx => by rw [hf.2 r (by omega) x hx]; exact h r hr x hx
theorem zl_K_sz {W W' : Nat → Int64} (h : zl_K W W') {r : Nat} (hr : r < 3) : zm_sz W' r = zm_sz W r := zc_eq (fun x hx => h r hr x hx)
/-- how many two sets share -/
def zl_c (W : Nat → Int64) (s t : Nat) : Nat := zc_n (fun x => zm W s x && zm W t x) 1024
theorem zl_c_le (W : Nat → Int64) (s t : Nat) : zl_c W s t ≤ zm_sz W s := zc_andle _ _ _
theorem zl_c_le' (W : Nat → Int64) (s t : Nat) : zl_c W s t ≤ 1024 := zc_le _ _
/-- what sums leaves -/
def zl_H (post : Int32 → St1 → Prop) (W : Nat → Int64) : Prop := ∀ m b1 b2 b3 b4 b5 b6 b7 W', zk_I b1 b2 b3 b4 b5 W' → zl_K W W' → post 1 (m, b1, b2, b3, b4, b5, b6, b7)
theorem zl_2M : (2097152 : Int32) = nI (0 + 2048 * 1024) := by decide
theorem zl_112 {post : Int32 → St1 → Prop} {m z : Int32} {a1 a2 a3 a4 : Nat → Int32} {a5 a6 V W : Nat → Int64} {a7 : Nat → Int32} {s t : Nat} (hI : zk_I a1 a2 a3 a4 a5 V) (hK : zl_K W V) (hs : s < 3) (ht : t < 3) (H : zl_H post W) : wL_sums_112 post (nI s) (nI t) (nI (zl_c W s t)) z z m a1 a2 a3 a4 a5 a6 a7 := by
  have hc := zl_c_le' W s t
  have hcs := zl_c_le W s t
  have hss := zm_sz_le W s
  unfold wL_sums_112
  refine br_t rfl ?_
  rw [zl_2M]
  refine zw_combine (t := 3) (how := 1) hI (by omega) (by omega) (by omega) (by omega) (fun m1 b1 b2 b3 b4 b5 b7 W1 I1 F1 => ?_)
  have K1 := zl_K_f hK F1
  have e1 : ∀ x, x < 1024 → zm W1 3 x = (zm W s x && zm W t x) := by
    intro x hx
    rw [F1.1 x hx]
    show (zm V s x && zm V t x) = _
    rw [hK s hs x hx, hK t ht x hx]
  have c1 : zm_sz W1 3 = zl_c W s t := zc_eq e1
  refine br_t (by rw [c1]) ?_
  refine zw_range (s := 3) (a := 0) (b := 1024) (how := 2) I1 (by omega) (by omega) (by omega) (by omega) (fun d1 d2 d3 d4 d5 W2 I2 F2 => ?_)
  have K2 := zl_K_f K1 F2
  have e2 : ∀ x, x < 1024 → zm W2 3 x = !(zm W s x && zm W t x) := by
    intro x hx
    rw [F2.1 x hx]
    show (zm W1 3 x ^^ decide (0 ≤ x ∧ x < 1024)) = _
    rw [e1 x hx, decide_eq_true ⟨Nat.zero_le x, hx⟩, Bool.xor_true]
  have c2 : zm_sz W2 3 = 1024 - zl_c W s t := by
    have t1 : zm_sz W2 3 = zc_n (fun x => !(zm W s x && zm W t x)) 1024 := zc_eq e2
    have t2 := zc_not (fun x => zm W s x && zm W t x) 1024
    unfold zl_c
    omega
  refine br_t (show nI (zm_sz W2 3) = nI 1024 - nI (zl_c W s t) by rw [c2, pk_sub hc]) ?_
  refine zw_common (s := 3) (t := s) I2 (by omega) (by omega) (fun m3 g7 => ?_)
  refine zw_size I2 (by omega) ?_
  have c3 : zc_n (fun x => zm W2 3 x && zm W2 s x) 1024 = zm_sz W s - zl_c W s t := by
    have t1 : zc_n (fun x => zm W2 3 x && zm W2 s x) 1024 = zc_n (fun x => zm W s x && !zm W t x) 1024 := by
      apply zc_eq
      intro x hx
      show (zm W2 3 x && zm W2 s x) = _
      rw [e2 x hx, K2 s hs x hx]
      cases zm W s x <;> cases zm W t x <;> rfl
    have t2 := zc_diff (zm W s) (zm W t) 1024
    unfold zl_c zm_sz
    omega
  refine br_t (by rw [c3, zl_K_sz K2 hs, pk_sub hcs]) ?_
  refine zw_range (s := 3) (a := 0) (b := 1024) (how := 2) I2 (by omega) (by omega) (by omega) (by omega) (fun f1 f2 f3 f4 f5 W3 I3 F3 => ?_)
  have K3 := zl_K_f K2 F3
  have e3 : ∀ x, x < 1024 → zm W3 3 x = (zm W s x && zm W t x) := by
    intro x hx
    rw [F3.1 x hx]
    show (zm W2 3 x ^^ decide (0 ≤ x ∧ x < 1024)) = _
    rw [e2 x hx, decide_eq_true ⟨Nat.zero_le x, hx⟩, Bool.xor_true, Bool.not_not]
  have c4 : zm_sz W3 3 = zl_c W s t := zc_eq e3
  refine br_t (by rw [c4]) ?_
  refine zw_within (s := 3) (t := s) I3 (by omega) (by omega) (fun _ m4 h7 => br_f (by decide) ?_) (fun q => absurd (fun x hx hx1 => ?_) q)
  · refine zw_within (s := 3) (t := t) I3 (by omega) (by omega) (fun _ m5 i7 => br_f (by decide) ?_) (fun q => absurd (fun x hx hx1 => ?_) q)
    · exact zw_size (s := 3) I3 (by omega) (br_t (by rw [c4]) (H _ _ _ _ _ _ _ _ W3 I3 K3))
    · rw [e3 x hx, Bool.and_eq_true] at hx1
      rw [K3 t ht x hx]
      exact hx1.2
  · rw [e3 x hx, Bool.and_eq_true] at hx1
    rw [K3 s hs x hx]
    exact hx1.1
/-- within is that all are shared -/
theorem zl_wi {W V : Nat → Int64} (hK : zl_K W V) {s t : Nat} (hs : s < 3) (ht : t < 3) : (∀ x, x < 1024 → zm V s x = true → zm V t x = true) ↔ zl_c W s t = zm_sz W s := by
  constructor
  · intro h
    refine zc_sub (fun x hx h1 => ?_)
    rw [← hK t ht x hx]
    rw [← hK s hs x hx] at h1
    exact h x hx h1
  · intro h x hx h1
    rw [hK t ht x hx]
    rw [hK s hs x hx] at h1
    exact zc_subI (f := zm W s) (g := zm W t) (n := 1024) (Nat.le_of_eq h.symm) x hx h1
theorem zl_c_comm (W : Nat → Int64) (s t : Nat) : zl_c W s t = zl_c W t s := zc_eq (fun x hx => Bool.and_comm _ _)
theorem zl_89 {post : Int32 → St1 → Prop} {m z : Int32} {a1 a2 a3 a4 : Nat → Int32} {a5 a6 V W : Nat → Int64} {a7 : Nat → Int32} {s t : Nat} (hI : zk_I a1 a2 a3 a4 a5 V) (hK : zl_K W V) (hs : s < 3) (ht : t < 3) (H : zl_H post W) : wL_sums_89 post (nI s) (nI t) (nI (zl_c W s t)) z z m a1 a2 a3 a4 a5 a6 a7 := by
  have hc := zl_c_le' W s t
  have hst := zm_sz_le W t
  have ez := zl_K_sz hK ht
  unfold wL_sums_89
  refine br_t rfl ?_
  refine zw_within (s := t) (t := s) hI (by omega) (by omega) (fun q m1 b7 => zw_size hI (by omega) ?_) (fun q m1 b7 => zw_size hI (by omega) ?_)
  · rw [zl_wi hK ht hs, zl_c_comm] at q
    exact br_t (by rw [ez, q]) (zl_112 hI hK hs ht H)
  · rw [zl_wi hK ht hs, zl_c_comm] at q
    exact br_f (by rw [ez, nI_eq (by omega) (by omega)]; exact q) (zl_112 hI hK hs ht H)
theorem zl_sums {post : Int32 → St1 → Prop} {m : Int32} {a1 a2 a3 a4 : Nat → Int32} {a5 a6 W : Nat → Int64} {a7 : Nat → Int32} {s t : Nat} (hI : zk_I a1 a2 a3 a4 a5 W) (hs : s < 3) (ht : t < 3) (H : zl_H post W) : wpL_sums post (m, a1, a2, a3, a4, a5, a6, a7) (nI s) (nI t) := by
  have hc := zl_c_le' W s t
  have hss := zm_sz_le W s
  have hst := zm_sz_le W t
  unfold wpL_sums
  dsimp only
  refine zw_common hI (by omega) (by omega) (fun m1 b7 => ?_)
  refine zw_combine (t := 3) (how := 0) hI (by omega) (by omega) (by omega) (by omega) (fun m2 b1 b2 b3 b4 b5 c7 W1 I1 F1 => ?_)
  have K1 : zl_K W W1 := zl_K_f zl_K_0 F1
  have e1 : ∀ x, x < 1024 → zm W1 3 x = (zm W s x || zm W t x) := fun x hx => F1.1 x hx
  have es := zl_K_sz K1 hs
  have et := zl_K_sz K1 ht
  refine zw_size I1 (by omega) ?_
  refine zw_size I1 (by omega) ?_
  have c1 : zm_sz W1 3 + zl_c W s t = zm_sz W s + zm_sz W t := by
    have t1 : zm_sz W1 3 = zc_n (fun x => zm W s x || zm W t x) 1024 := zc_eq e1
    have t2 := zc_ie (zm W s) (zm W t) 1024
    unfold zl_c
    rw [t1]
    exact t2
  refine br_t (show nI (zm_sz W1 3) + nI (zl_c W s t) = nI (zm_sz W1 s) + nI (zm_sz W1 t) by rw [es, et, nI_add, nI_add, c1]) ?_
  refine zw_within (s := s) (t := 3) I1 (by omega) (by omega) (fun _ m3 d7 => br_f (by decide) ?_) (fun q => absurd (fun x hx hx1 => ?_) q)
  · refine zw_within (s := t) (t := 3) I1 (by omega) (by omega) (fun _ m4 f7 => br_f (by decide) ?_) (fun q => absurd (fun x hx hx1 => ?_) q)
    · refine zw_common (s := 3) (t := t) I1 (by omega) (by omega) (fun m5 g7 => ?_)
      refine zw_size I1 (by omega) ?_
      have c2 : zc_n (fun x => zm W1 3 x && zm W1 t x) 1024 = zm_sz W1 t := by
        apply zc_eq
        intro x hx
        show (zm W1 3 x && zm W1 t x) = _
        rw [e1 x hx, K1 t ht x hx]
        cases zm W s x <;> cases zm W t x <;> rfl
      refine br_t (by rw [c2]) ?_
      refine zw_within (s := s) (t := t) I1 (by omega) (by omega) (fun q m1 b7 => zw_size I1 (by omega) ?_) (fun q m1 b7 => zw_size I1 (by omega) ?_)
      · rw [zl_wi K1 hs ht] at q
        exact br_t (show nI (zl_c W s t) = _ by rw [es, q]) (zl_89 I1 K1 hs ht H)
      · rw [zl_wi K1 hs ht] at q
        exact br_f (show ¬ nI (zl_c W s t) = _ by rw [es, nI_eq (by omega) (by omega)]; exact q) (zl_89 I1 K1 hs ht H)
    · rw [e1 x hx]
      rw [K1 t ht x hx] at hx1
      rw [hx1, Bool.or_true]
  · rw [e1 x hx]
    rw [K1 s hs x hx] at hx1
    rw [hx1, Bool.true_or]
end
section
/-! ===== the law ===== -/
theorem zl_end {L i : Nat} (hL : L ≤ 260) (hi : i < 200) : nI L - 3 < nI i ↔ L < i + 3 := by
  have e : (nI L - 3).toInt = (L : Int) - 3 := pk_sub_toInt (b := 3) (by omega) (by omega)
  rw [Int32.lt_iff_toInt_lt, e, nI_toInt (by omega)]
  omega
theorem zl_init : zk_I (upd (fun _ => 0) 0 0) (fun _ => 0) (fun _ => 0) (fun _ => 0) (fun _ => 0) (fun _ => 0) := by
  intro c hc
  have e : zc_n (zb 0) 64 = 0 := zc_allF (fun j _ => zb_0 j)
  have e1 : upd (fun _ => 0) 0 0 c = 0 := by
    by_cases z : c = 0
    · rw [z, pk_us]
    · rw [pk_un z]
  refine ⟨?_, Or.inl ⟨e1, ?_, ?_, ?_⟩⟩
  · show (0 : Int32) = nI (zc_n (zb 0) 64)
    rw [e]
    rfl
  · show zc_n (zb 0) 64 ≤ 8
    omega
  · show (0 : Int32) = nI (zc_n (zb 0) 64)
    rw [e]
    rfl
  · intro k hk
    have hk' : k < zc_n (zb 0) 64 := hk
    omega
theorem zl_loop {xs : Nat → Int32} {L : Nat} (hL : L ≤ 260) {kc ks : Nat} {m : Int32} {a1 a2 a3 a4 : Nat → Int32} {a5 a6 W : Nat → Int64} {a7 : Nat → Int32} (hI : zk_I a1 a2 a3 a4 a5 W) : ∃ n, wL_law_10 (fun r => r = 1) L xs kc ks n 0 m a1 a2 a3 a4 a5 a6 a7 := by
  refine loop_m (fun n (u : Nat × Int32 × (Nat → Int32) × (Nat → Int32) × (Nat → Int32) × (Nat → Int32) × (Nat → Int64) × (Nat → Int64) × (Nat → Int32)) => wL_law_10 (fun r => r = 1) L xs kc ks n (nI u.1) u.2.1 u.2.2.1 u.2.2.2.1 u.2.2.2.2.1 u.2.2.2.2.2.1 u.2.2.2.2.2.2.1 u.2.2.2.2.2.2.2.1 u.2.2.2.2.2.2.2.2) (fun u => u.1 < 153 ∧ ∃ W, zk_I u.2.2.1 u.2.2.2.1 u.2.2.2.2.1 u.2.2.2.2.2.1 u.2.2.2.2.2.2.1 W) (fun u => 200 - u.1) (fun n u hu hw => ?_) (0, m, a1, a2, a3, a4, a5, a6, a7) ⟨by show 0 < 153; decide, W, hI⟩
  obtain ⟨hu, V, hV⟩ := hu
  refine ek_if (zl_end hL (by omega)) (fun _ => rfl) (fun z => pk_le 150 u.1 (fun _ => rfl) (fun y => ?_))
  have hin : ∀ k, k < 3 → vp_in (nI (u.1 + k)) L := fun k hk => pk_in (u.1 + k) L (by omega)
  obtain ⟨o, ho, eo⟩ := pk_andE (xs (nI u.1).toNatClampNeg) (m := 15) 4 (by decide)
  obtain ⟨j, hj, ej⟩ := pk_andE ((xs (nI u.1).toNatClampNeg) >>> ((4 : Int32) &&& 31)) (m := 255) 8 (by decide)
  obtain ⟨f, hf, ef⟩ := pk_andE ((xs (nI u.1 + 1).toNatClampNeg) >>> ((10 : Int32) &&& 31)) (m := 1023) 10 (by decide)
  have hs : j % 3 < 3 := Nat.mod_lt _ (by decide)
  have ht : (j % 3 + 1) % 3 < 3 := Nat.mod_lt _ (by decide)
  have hj' : j < 256 := hj
  have hf' : f < 1024 := hf
  refine ⟨hin 0 (by decide), nm_r eo ⟨hin 0 (by decide), by decide, nm_r (show _ = nI (j % 3) by rw [ej, zl_rem3 (by omega)]) ⟨by decide, nm_r (show _ = nI ((j % 3 + 1) % 3) by rw [nI_1, zl_rem3 (by omega)]) ⟨by rw [nI_1]; exact hin 1 (by decide), nm_e ⟨?_, ?_⟩⟩⟩⟩⟩
  · rw [show nI u.1 + 2 = nI (u.1 + 2) from nI_add u.1 2]
    exact hin 2 (by decide)
  refine zl_turn hV ho (by omega) (fun r m1 b1 b2 b3 b4 b5 b6 b7 W1 hr I1 => ?_)
  refine br_t (nI_pos' (by omega)) (nm_r ef ?_)
  refine zl_has I1 (by omega) hf' ?_
  refine zw_tidy I1 (by omega) (fun c1 c2 c3 c4 c5 I2 => br_t rfl ?_)
  refine zl_has I2 (by omega) hf' (br_t rfl ?_)
  refine zl_lists I2 (by omega) hf' ?_
  refine zl_sums I2 hs ht (fun m3 d1 d2 d3 d4 d5 d6 d7 W3 I3 K3 => ?_)
  refine zl_sums I3 hs hs (fun m4 g1 g2 g3 g4 g5 g6 g7 W4 I4 K4 => ?_)
  refine br_f (by decide) (br_f (by decide) (br_f (by decide) ?_))
  refine zl_has I4 (by omega) hf' (br_t ?_ ?_)
  · rw [zl_hw_eq (K4 (j % 3) hs), zl_hw_eq (K3 (j % 3) hs)]
  · refine nm_r (show _ = nI (u.1 + 3) from nI_add u.1 3) (hw (u.1 + 3, m4, g1, g2, g3, g4, g5, g6, g7) ⟨by show u.1 + 3 < 153; omega, W4, I4⟩ ?_)
    show 200 - (u.1 + 3) < 200 - u.1
    omega
theorem i_vc (xs : Nat → Int32) (L : Nat) (hL : L ≤ 260) : wpL_law (fun r => r = 1) L xs := by
  refine ⟨7, 792, by decide, by decide, ?_⟩
  refine ⟨by decide, by decide, by decide, by decide, by decide, by decide, by decide, by decide, by decide, by decide, by decide, by decide, by decide, by decide, nm_e ?_⟩
  exact zl_loop hL zl_init
end
