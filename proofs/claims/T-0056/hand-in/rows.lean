section
theorem pk_us {f : Nat → Int32} {k : Nat} {x : Int32} : upd f k x k = x := if_pos rfl
theorem pk_un {f : Nat → Int32} {k j : Nat} {x : Int32} (h : j ≠ k) : upd f k x j = f j := if_neg h
theorem pk_sub {a b : Nat} (h : b ≤ a) : nI a - nI b = nI (a - b) := by
  obtain ⟨c, rfl⟩ : ∃ c, a = c + b := ⟨a - b, by omega⟩
  rw [← nI_add, Int32.add_sub_cancel, Nat.add_sub_cancel]
theorem pk_m1 (n : Nat) : nI (n + 1) + (-1) = nI n := by
  rw [← nI_1, Int32.add_assoc, show (1 : Int32) + (-1) = 0 from rfl, Int32.add_zero]
theorem pk_mul (a b : Nat) : nI a * nI b = nI (a * b) := (Int32.ofNat_mul a b).symm
theorem pk_div {a d : Nat} (ha : a < 2 ^ 31) (h0 : 0 < d) (hd : d < 2 ^ 31) : nI a / nI d = nI (a / d) := by
  apply Int32.toInt_inj.mp
  rw [lg_idiv_nonneg (by rw [nI_toInt ha]; omega) (by rw [nI_toInt hd]; omega), nI_toInt ha, nI_toInt hd, nI_toInt (Nat.lt_of_le_of_lt (Nat.div_le_self a d) ha)]
  first | rfl | exact (Int.natCast_ediv _ _).symm
theorem pk_rem {a d : Nat} (ha : a < 2 ^ 31) (h0 : 0 < d) (hd : d < 2 ^ 31) : nI a - nI a / nI d * nI d = nI (a % d) := by
  rw [pk_div ha h0 hd, pk_mul, pk_sub (Nat.div_mul_le_self a d)]
  exact congrArg nI (by have := Nat.div_add_mod' a d; omega)
theorem pk_tn {n : Nat} (h : n < 2 ^ 32) : (nI n).toBitVec.toNat = n := Nat.mod_eq_of_lt h
theorem pk_and (x : Int32) {m : Int32} (k : Nat) (hm : m.toBitVec.toNat = 2 ^ k - 1) : x &&& m = nI (x.toBitVec.toNat % 2 ^ k) := by
  apply Int32.toBitVec_inj.mp
  apply BitVec.eq_of_toNat_eq
  rw [Int32.toBitVec_and, BitVec.toNat_and, hm, Nat.and_two_pow_sub_one_eq_mod]
  show _ = (BitVec.ofNat 32 _).toNat
  rw [BitVec.toNat_ofNat]
  exact (Nat.mod_eq_of_lt (Nat.lt_of_le_of_lt (Nat.mod_le _ _) x.toBitVec.isLt)).symm
theorem pk_andN {n : Nat} (h : n < 2 ^ 32) {m : Int32} (k : Nat) (hm : m.toBitVec.toNat = 2 ^ k - 1) : nI n &&& m = nI (n % 2 ^ k) := by
  rw [pk_and _ k hm, pk_tn h]
theorem pk_shr (a s : Int32) (k : Nat) (hs : (s.toBitVec.smod 32).toNat = k) : (a >>> s).toInt = a.toInt >>> k := by
  show (a.toBitVec.sshiftRight (s.toBitVec.smod 32).toNat).toInt = _
  rw [hs, BitVec.toInt_sshiftRight]
  rfl
theorem pk_shrN {n : Nat} (h : n < 2 ^ 31) (s : Int32) (k : Nat) (hs : (s.toBitVec.smod 32).toNat = k) : nI n >>> s = nI (n / 2 ^ k) := by
  apply Int32.toInt_inj.mp
  have h2 : n / 2 ^ k ≤ n := Nat.div_le_self _ _
  rw [pk_shr _ _ k hs, nI_toInt h, nI_toInt (by omega), Int.shiftRight_eq_div_pow]
  rfl
theorem mr_6 (a : Nat) : nI a * 6 = nI (a * 6) := pk_mul a 6
theorem mr_12 {i : Nat} (h : i < 2 ^ 31) : (12 : Int32) ≤ nI i ↔ 12 ≤ i := nI_leI (a := 12) (by decide) h
theorem mr_255 {n : Nat} (h : n < 2 ^ 31) : nI n &&& 255 = nI (n % 256) := pk_andN (by omega) 8 (by decide)
theorem mr_sh8 {n : Nat} (h : n < 2 ^ 31) : nI n >>> ((8 : Int32) &&& 31) = nI (n / 256) := pk_shrN h _ 8 (by decide)
theorem mr_div {n : Nat} (h : n < 2 ^ 31) : nI n / 256 = nI (n / 256) := pk_div (d := 256) h (by decide) (by decide)
theorem mr_rem {n : Nat} (h : n < 2 ^ 31) : nI n - nI n / 256 * 256 = nI (n % 256) := pk_rem (d := 256) h (by decide) (by decide)
theorem mr_eq0 {n : Nat} (h : n < 2 ^ 31) : nI n = 0 ↔ n = 0 := nI_eq (b := 0) h (by decide)
theorem mr_arg {x : Int32} {R : Nat} (h : R < 2 ^ 31) (h0 : ¬ x < 0) (h1 : ¬ nI R ≤ x) : ∃ r : Nat, r < R ∧ x = nI r := by
  obtain ⟨j, hj, rfl⟩ := nI_of h0
  rw [nI_leI h hj] at h1
  exact ⟨j, by omega, rfl⟩
theorem mr_arg2 {x : Int32} {R : Nat} (h : R < 2 ^ 31) (h0 : ¬ x < 0) (h1 : x < nI R) : ∃ r : Nat, r < R ∧ x = nI r := by
  obtain ⟨j, hj, rfl⟩ := nI_of h0
  rw [nI_ltI hj h] at h1
  exact ⟨j, h1, rfl⟩
theorem mr_arg3 {x : Int32} (h0 : ¬ x < 0) (h1 : x ≤ 255) : ∃ d : Nat, d < 256 ∧ x = nI d := by
  obtain ⟨j, hj, e⟩ := nI_of2 (M := 255) (n := 255) (by decide) h0 h1
  exact ⟨j, by omega, e⟩
end
section
/-- the number that the limbs f 0 .. f (n-1) write, low limb first -/
def mr_val (f : Nat → Nat) : Nat → Nat
  | 0 => 0
  | n + 1 => mr_val f n + f n * 256 ^ n
/-- the carry into column n of the column sums s -/
def mr_cy (s : Nat → Nat) : Nat → Nat
  | 0 => 0
  | n + 1 => (s n + mr_cy s n) / 256
/-- the digit of column k -/
def mr_dg (s : Nat → Nat) (k : Nat) : Nat := (s k + mr_cy s k) % 256
def mr_sm (f g : Nat → Nat) : Nat → Nat := fun k => f k + g k
def mr_un (f : Nat → Nat) (k x : Nat) : Nat → Nat := fun j => if j = k then x else f j
theorem mr_val_c {f g : Nat → Nat} : ∀ n, (∀ k, k < n → f k = g k) → mr_val f n = mr_val g n := by
  intro n
  induction n with
  | zero => intro _; rfl
  | succ n ih =>
    intro h
    show mr_val f n + f n * 256 ^ n = mr_val g n + g n * 256 ^ n
    rw [ih (fun k hk => h k (by omega)), h n (by omega)]
theorem mr_val_lt {f : Nat → Nat} : ∀ n, (∀ k, k < n → f k < 256) → mr_val f n < 256 ^ n := by
  intro n
  induction n with
  | zero => intro _; exact (by decide : (0 : Nat) < 256 ^ 0)
  | succ n ih =>
    intro h
    have h1 := ih (fun k hk => h k (by omega))
    have h2 : f n * 256 ^ n ≤ 255 * 256 ^ n := Nat.mul_le_mul_right _ (by have := h n (by omega); omega)
    show mr_val f n + f n * 256 ^ n < 256 ^ (n + 1)
    rw [Nat.pow_succ]
    omega
theorem mr_two {a b p x y : Nat} (h1 : a < p) (h2 : b < p) (e : a + x * p = b + y * p) : x = y := by
  rcases Nat.lt_trichotomy x y with h | h | h
  · have h3 : (x + 1) * p ≤ y * p := Nat.mul_le_mul_right p h
    rw [Nat.add_mul, Nat.one_mul] at h3
    omega
  · exact h
  · have h3 : (y + 1) * p ≤ x * p := Nat.mul_le_mul_right p h
    rw [Nat.add_mul, Nat.one_mul] at h3
    omega
theorem mr_inj {f g : Nat → Nat} : ∀ n, (∀ k, k < n → f k < 256) → (∀ k, k < n → g k < 256) → mr_val f n = mr_val g n → ∀ k, k < n → f k = g k := by
  intro n
  induction n with
  | zero => intro _ _ _ k hk; omega
  | succ n ih =>
    intro hf hg e k hk
    have h1 := mr_val_lt n (fun k hk => hf k (by omega))
    have h2 := mr_val_lt n (fun k hk => hg k (by omega))
    have e' : mr_val f n + f n * 256 ^ n = mr_val g n + g n * 256 ^ n := e
    have hd := mr_two h1 h2 e'
    rcases Nat.lt_or_ge k n with h | h
    · refine ih (fun k hk => hf k (by omega)) (fun k hk => hg k (by omega)) ?_ k h
      rw [hd] at e'
      omega
    · obtain rfl : k = n := by omega
      exact hd
theorem mr_un_s {f : Nat → Nat} {k x : Nat} : mr_un f k x k = x := if_pos rfl
theorem mr_un_n {f : Nat → Nat} {k x j : Nat} (h : j ≠ k) : mr_un f k x j = f j := if_neg h
theorem mr_val_un {f : Nat → Nat} {k x : Nat} : ∀ n, k < n → mr_val (mr_un f k x) n + f k * 256 ^ k = mr_val f n + x * 256 ^ k := by
  intro n
  induction n with
  | zero => intro h; omega
  | succ n ih =>
    intro h
    show mr_val (mr_un f k x) n + mr_un f k x n * 256 ^ n + f k * 256 ^ k = mr_val f n + f n * 256 ^ n + x * 256 ^ k
    rcases Nat.lt_or_ge k n with hk | hk
    · have := ih hk
      rw [mr_un_n (show n ≠ k by omega)]
      omega
    · obtain rfl : k = n := by omega
      rw [mr_un_s, mr_val_c (g := f) k (fun j hj => mr_un_n (show j ≠ k by omega))]
      omega
theorem mr_val_0 {f : Nat → Nat} : ∀ n, (∀ k, k < n → f k = 0) → mr_val f n = 0 := by
  intro n
  induction n with
  | zero => intro _; rfl
  | succ n ih =>
    intro h
    show mr_val f n + f n * 256 ^ n = 0
    rw [ih (fun k hk => h k (by omega)), h n (by omega), Nat.zero_mul]
theorem mr_val_0' {f : Nat → Nat} : ∀ n, mr_val f n = 0 → ∀ k, k < n → f k = 0 := by
  intro n
  induction n with
  | zero => intro _ k hk; omega
  | succ n ih =>
    intro h k hk
    have h' : mr_val f n + f n * 256 ^ n = 0 := h
    have h2 : f n * 256 ^ n = 0 := by omega
    rcases Nat.lt_or_ge k n with hk | hk
    · exact ih (by omega) k hk
    · obtain rfl : k = n := by omega
      rcases Nat.mul_eq_zero.mp h2 with e | e
      · exact e
      · have := Nat.pow_pos (n := k) (show 0 < 256 by decide)
        omega
theorem mr_val_sp (f : Nat → Nat) (j : Nat) : ∀ m, mr_val f (j + m) = mr_val f j + 256 ^ j * mr_val (fun i => f (i + j)) m := by
  intro m
  induction m with
  | zero => rfl
  | succ m ih =>
    show mr_val f (j + m) + f (j + m) * 256 ^ (j + m) = mr_val f j + 256 ^ j * (mr_val (fun i => f (i + j)) m + f (m + j) * 256 ^ m)
    rw [ih, Nat.mul_add, Nat.pow_add, Nat.add_comm m j, Nat.mul_left_comm]
    omega
theorem mr_val_sm (f g : Nat → Nat) : ∀ n, mr_val (mr_sm f g) n = mr_val f n + mr_val g n := by
  intro n
  induction n with
  | zero => rfl
  | succ n ih =>
    show mr_val (mr_sm f g) n + (f n + g n) * 256 ^ n = (mr_val f n + f n * 256 ^ n) + (mr_val g n + g n * 256 ^ n)
    rw [ih, Nat.add_mul]
    omega
theorem mr_md (x p : Nat) : x % 256 * p + x / 256 * (p * 256) = x * p := by
  rw [Nat.mul_comm p 256, ← Nat.mul_assoc, Nat.mul_comm (x / 256) 256, ← Nat.add_mul, Nat.mod_add_div]
theorem mr_nrm (s : Nat → Nat) : ∀ n, mr_val (mr_dg s) n + mr_cy s n * 256 ^ n = mr_val s n := by
  intro n
  induction n with
  | zero => rfl
  | succ n ih =>
    show mr_val (mr_dg s) n + (s n + mr_cy s n) % 256 * 256 ^ n + (s n + mr_cy s n) / 256 * 256 ^ (n + 1) = mr_val s n + s n * 256 ^ n
    have h := mr_md (s n + mr_cy s n) (256 ^ n)
    rw [Nat.add_mul] at h
    rw [Nat.pow_succ]
    omega
theorem mr_dg_lt (s : Nat → Nat) (k : Nat) : mr_dg s k < 256 := Nat.mod_lt _ (by decide)
theorem mr_cy_le {s : Nat → Nat} {M B : Nat} (hB : (M + B) / 256 ≤ B) : ∀ n, (∀ k, k < n → s k ≤ M) → mr_cy s n ≤ B := by
  intro n
  induction n with
  | zero => intro _; exact Nat.zero_le _
  | succ n ih =>
    intro h
    have h1 := ih (fun k hk => h k (by omega))
    have h2 := h n (by omega)
    exact Nat.le_trans (Nat.div_le_div_right (Nat.add_le_add h2 h1)) hB
theorem mr_cy0 (s : Nat → Nat) (n : Nat) : mr_cy s n = 0 ↔ mr_val s n < 256 ^ n := by
  have h := mr_nrm s n
  have h2 := mr_val_lt n (fun k _ => mr_dg_lt s k)
  constructor
  · intro e
    rw [e, Nat.zero_mul] at h
    omega
  · intro hl
    rcases Nat.eq_zero_or_pos (mr_cy s n) with e | e
    · exact e
    · have : 1 * 256 ^ n ≤ mr_cy s n * 256 ^ n := Nat.mul_le_mul_right _ e
      omega
theorem mr_q {N w p q : Nat} (h : N = w + p * q) (hw : w < p) : q = 0 ↔ N < p := by
  constructor
  · intro e
    rw [e, Nat.mul_zero] at h
    omega
  · intro hl
    rcases Nat.eq_zero_or_pos q with e | e
    · exact e
    · have : p * 1 ≤ p * q := Nat.mul_le_mul_left p e
      omega
theorem mr_high_v {f : Nat → Nat} {m n : Nat} (hmn : m ≤ n) (h : ∀ k, m ≤ k → k < n → f k = 0) : mr_val f n = mr_val f m := by
  obtain ⟨d, rfl⟩ := Nat.exists_eq_add_of_le hmn
  rw [mr_val_sp f m d, mr_val_0 d (fun i hi => h (i + m) (by omega) (by omega)), Nat.mul_zero, Nat.add_zero]
theorem mr_high {f : Nat → Nat} {m n : Nat} (hmn : m ≤ n) (hf : ∀ k, k < m → f k < 256) : (∀ k, m ≤ k → k < n → f k = 0) ↔ mr_val f n < 256 ^ m := by
  have hw := mr_val_lt m hf
  constructor
  · intro h
    rw [mr_high_v hmn h]
    exact hw
  · intro h
    obtain ⟨d, rfl⟩ := Nat.exists_eq_add_of_le hmn
    have hz := mr_val_0' d ((mr_q (mr_val_sp f m d) hw).mpr h)
    intro k h1 h2
    have := hz (k - m) (by omega)
    rw [show k - m + m = k by omega] at this
    exact this
theorem mr_ai_val {V A W s : Nat → Nat} {j m : Nat} (hs : ∀ i, i < m → s i = V (i + j) + A i) (hW1 : ∀ k, k < j → W k = V k) (hW2 : ∀ i, i < m → W (i + j) = mr_dg s i) : mr_val V (j + m) + 256 ^ j * mr_val A (j + m) = mr_val W (j + m) + 256 ^ (j + m) * (mr_cy s m + mr_val (fun i => A (i + m)) j) := by
  have e1 := mr_val_sp V j m
  have e2 := mr_val_sp W j m
  have e3 := mr_val_sp A m j
  have e4 : mr_val W j = mr_val V j := mr_val_c j hW1
  have e5 : mr_val (fun i => W (i + j)) m = mr_val (mr_dg s) m := mr_val_c m hW2
  have e6 := mr_nrm s m
  have e7 : mr_val s m = mr_val (fun i => V (i + j)) m + mr_val A m := (mr_val_c m hs).trans (mr_val_sm (fun i => V (i + j)) A m)
  rw [Nat.add_comm m j] at e3
  rw [e1, e2, e3, e4, e5, Nat.pow_add]
  have e8 : 256 ^ j * mr_val (mr_dg s) m + 256 ^ j * (256 ^ m * mr_cy s m) = 256 ^ j * mr_val (fun i => V (i + j)) m + 256 ^ j * mr_val A m := by
    rw [← Nat.mul_add, ← Nat.mul_add, ← e7, ← e6, Nat.mul_comm (256 ^ m)]
  simp only [Nat.mul_add, Nat.mul_assoc]
  omega
theorem mr_ai_ok {V A W s : Nat → Nat} {j m L : Nat} (hL : j + m = L) (hs : ∀ i, i < m → s i = V (i + j) + A i) (hV : ∀ k, k < L → V k < 256) (hW1 : ∀ k, k < j → W k = V k) (hW2 : ∀ i, i < m → W (i + j) = mr_dg s i) :
    (∀ k, k < L → W k < 256) ∧ ((mr_cy s m = 0 ∧ ∀ k, m ≤ k → k < L → A k = 0) ↔ mr_val V L + 256 ^ j * mr_val A L < 256 ^ L) ∧ (mr_val V L + 256 ^ j * mr_val A L < 256 ^ L → mr_val W L = mr_val V L + 256 ^ j * mr_val A L) := by
  subst hL
  have hW : ∀ k, k < j + m → W k < 256 := by
    intro k hk
    rcases Nat.lt_or_ge k j with h | h
    · rw [hW1 k h]
      exact hV k hk
    · have := hW2 (k - j) (by omega)
      rw [show k - j + j = k by omega] at this
      rw [this]
      exact mr_dg_lt _ _
  have e := mr_ai_val hs hW1 hW2
  have hq := mr_q e (mr_val_lt _ hW)
  refine ⟨hW, ?_, ?_⟩
  · rw [← hq]
    constructor
    · intro h
      rw [h.1, mr_val_0 j (fun i hi => h.2 (i + m) (by omega) (by omega))]
    · intro h
      refine ⟨by omega, fun k h1 h2 => ?_⟩
      have := mr_val_0' j (show mr_val (fun i => A (i + m)) j = 0 by omega) (k - m) (by omega)
      rw [show k - m + m = k by omega] at this
      exact this
  · intro h
    rw [hq.mpr h, Nat.mul_zero, Nat.add_zero] at e
    exact e.symm
end
section
/-- the array f holds the registers c, S cells apart -/
def mr_Lay (S L R : Nat) (c : Nat → Nat → Nat) (f : Nat → Int32) : Prop := ∀ r, r < R → ∀ k, k < L → f (r * S + k) = nI (c r k)
/-- every limb is below 256 -/
def mr_Dg (L R : Nat) (c : Nat → Nat → Nat) : Prop := ∀ r, r < R → ∀ k, k < L → c r k < 256
def mr_st (c : Nat → Nat → Nat) (r k x : Nat) : Nat → Nat → Nat := fun r' k' => if r' = r ∧ k' = k then x else c r' k'
def mr_mx (c : Nat → Nat → Nat) (D : Nat) (t : Nat → Nat) (i : Nat) : Nat → Nat → Nat := fun r k => if r = D ∧ k < i then t k else c r k
def mr_row (c : Nat → Nat → Nat) (D : Nat) (W : Nat → Nat) : Nat → Nat → Nat := fun r k => if r = D then W k else c r k
def mr_ai (c : Nat → Nat → Nat) (D j : Nat) (s : Nat → Nat) (i : Nat) : Nat → Nat → Nat := fun r k => if r = D ∧ j ≤ k ∧ k < i + j then mr_dg s (k - j) else c r k
theorem mr_ix {D R S i L : Nat} (hD : D < R) (hR : R ≤ 3) (hi : i < L) (hS : L ≤ S) (h6 : S ≤ 6) : D * S + i < 18 := by
  have : D * S ≤ 2 * S := Nat.mul_le_mul_right S (by omega)
  omega
theorem mr_ne {S L r k r' k' : Nat} (hk : k < L) (hk' : k' < L) (hS : L ≤ S) (h : ¬ (r' = r ∧ k' = k)) : r' * S + k' ≠ r * S + k := by
  intro e
  apply h
  rcases Nat.lt_trichotomy r' r with g | g | g
  · have h3 : (r' + 1) * S ≤ r * S := Nat.mul_le_mul_right S g
    rw [Nat.add_mul, Nat.one_mul] at h3
    omega
  · subst g
    exact ⟨rfl, by omega⟩
  · have h3 : (r + 1) * S ≤ r' * S := Nat.mul_le_mul_right S g
    rw [Nat.add_mul, Nat.one_mul] at h3
    omega
theorem mr_Lay_st {S L R : Nat} {c : Nat → Nat → Nat} {f : Nat → Int32} {r k x : Nat} (h : mr_Lay S L R c f) (hk : k < L) (hS : L ≤ S) : mr_Lay S L R (mr_st c r k x) (upd f (r * S + k) (nI x)) := by
  intro r' hr' k' hk'
  by_cases e : r' = r ∧ k' = k
  · obtain ⟨rfl, rfl⟩ := e
    rw [pk_us]
    exact congrArg nI (if_pos ⟨rfl, rfl⟩).symm
  · rw [pk_un (mr_ne hk hk' hS e), h r' hr' k' hk']
    exact congrArg nI (if_neg e).symm
theorem mr_Lay_c {S L R : Nat} {c c' : Nat → Nat → Nat} {f : Nat → Int32} (h : mr_Lay S L R c f) (e : ∀ r, r < R → ∀ k, k < L → c r k = c' r k) : mr_Lay S L R c' f := by
  intro r hr k hk
  rw [h r hr k hk, e r hr k hk]
theorem mr_fill {S L R D i : Nat} {c : Nat → Nat → Nat} {t : Nat → Nat} {f : Nat → Int32} (h : mr_Lay S L R (mr_mx c D t i) f) (hi : i < L) (hS : L ≤ S) : mr_Lay S L R (mr_mx c D t (i + 1)) (upd f (D * S + i) (nI (t i))) := by
  refine mr_Lay_c (mr_Lay_st (r := D) (k := i) (x := t i) h hi hS) ?_
  intro r hr k hk
  unfold mr_st mr_mx
  by_cases hr : r = D
  · by_cases hk : k = i
    · subst hr hk
      rw [if_pos ⟨rfl, rfl⟩, if_pos ⟨rfl, by omega⟩]
    · rw [if_neg (by omega)]
      by_cases hl : k < i
      · rw [if_pos ⟨hr, hl⟩, if_pos ⟨hr, by omega⟩]
      · rw [if_neg (by omega), if_neg (by omega)]
  · rw [if_neg (by omega), if_neg (by omega), if_neg (by omega)]
theorem mr_mx0 {S L R : Nat} {c : Nat → Nat → Nat} {f : Nat → Int32} (D : Nat) (t : Nat → Nat) (h : mr_Lay S L R c f) : mr_Lay S L R (mr_mx c D t 0) f :=
  mr_Lay_c h (fun r _ k _ => (if_neg (by omega)).symm)
theorem mr_mxL {S L R D : Nat} {c : Nat → Nat → Nat} {t : Nat → Nat} {f : Nat → Int32} (h : mr_Lay S L R (mr_mx c D t L) f) : mr_Lay S L R (mr_row c D t) f := by
  refine mr_Lay_c h (fun r _ k hk => ?_)
  unfold mr_mx mr_row
  by_cases hr : r = D
  · rw [if_pos ⟨hr, hk⟩, if_pos hr]
  · rw [if_neg (by omega), if_neg hr]
theorem mr_back {S L R D : Nat} {c : Nat → Nat → Nat} {W : Nat → Nat} {f : Nat → Int32} (h : mr_Lay S L R (mr_mx (mr_row c D W) D (c D) L) f) : mr_Lay S L R c f := by
  refine mr_Lay_c (mr_mxL h) (fun r _ k hk => ?_)
  unfold mr_row
  by_cases hr : r = D
  · rw [if_pos hr, hr]
  · rw [if_neg hr, if_neg hr]
theorem mr_row_row {S L R D : Nat} {c : Nat → Nat → Nat} {W W' : Nat → Nat} {f : Nat → Int32} (h : mr_Lay S L R (mr_row (mr_row c D W) D W') f) : mr_Lay S L R (mr_row c D W') f := by
  refine mr_Lay_c h (fun r _ k hk => ?_)
  unfold mr_row
  by_cases hr : r = D
  · rw [if_pos hr, if_pos hr]
  · rw [if_neg hr, if_neg hr, if_neg hr]
theorem mr_row_c {S L R D : Nat} {c : Nat → Nat → Nat} {W W' : Nat → Nat} {f : Nat → Int32} (h : mr_Lay S L R (mr_row c D W) f) (e : ∀ k, k < L → W k = W' k) : mr_Lay S L R (mr_row c D W') f := by
  refine mr_Lay_c h (fun r _ k hk => ?_)
  unfold mr_row
  by_cases hr : r = D
  · rw [if_pos hr, if_pos hr, e k hk]
  · rw [if_neg hr, if_neg hr]
theorem mr_row_D (c : Nat → Nat → Nat) (D : Nat) (W : Nat → Nat) : mr_row c D W D = W := by
  funext k
  exact if_pos rfl
theorem mr_Dg_row {L R D : Nat} {c : Nat → Nat → Nat} {W : Nat → Nat} (h : mr_Dg L R c) (hW : ∀ k, k < L → W k < 256) : mr_Dg L R (mr_row c D W) := by
  intro r hr k hk
  unfold mr_row
  by_cases e : r = D
  · rw [if_pos e]
    exact hW k hk
  · rw [if_neg e]
    exact h r hr k hk
theorem mr_Dg_st {L R r0 k0 x : Nat} {c : Nat → Nat → Nat} (h : mr_Dg L R c) (hx : x < 256) : mr_Dg L R (mr_st c r0 k0 x) := by
  intro r hr k hk
  unfold mr_st
  by_cases e : r = r0 ∧ k = k0
  · rw [if_pos e]
    exact hx
  · rw [if_neg e]
    exact h r hr k hk
theorem mr_ai_step {L R D i j : Nat} {c : Nat → Nat → Nat} {s : Nat → Nat} {f : Nat → Int32} (h : mr_Lay L L R (mr_ai c D j s i) f) (hi : i + j < L) : mr_Lay L L R (mr_ai c D j s (i + 1)) (upd f (D * L + (i + j)) (nI (mr_dg s i))) := by
  refine mr_Lay_c (mr_Lay_st (r := D) (k := i + j) (x := mr_dg s i) h hi (Nat.le_refl L)) ?_
  intro r hr k hk
  unfold mr_st mr_ai
  by_cases hr : r = D
  · by_cases hk : k = i + j
    · subst hr hk
      rw [if_pos ⟨rfl, rfl⟩, if_pos ⟨rfl, by omega, by omega⟩, show i + j - j = i by omega]
    · rw [if_neg (by omega)]
      by_cases hl : j ≤ k ∧ k < i + j
      · rw [if_pos ⟨hr, hl⟩, if_pos ⟨hr, by omega, by omega⟩]
      · rw [if_neg (by omega), if_neg (by omega)]
  · rw [if_neg (by omega), if_neg (by omega), if_neg (by omega)]
theorem mr_ai0 {L R D j : Nat} {c : Nat → Nat → Nat} {s : Nat → Nat} {f : Nat → Int32} (h : mr_Lay L L R c f) : mr_Lay L L R (mr_ai c D j s 0) f :=
  mr_Lay_c h (fun r _ k _ => (if_neg (by omega)).symm)
theorem mr_ai_at {L R D i j : Nat} {c : Nat → Nat → Nat} {s : Nat → Nat} {f : Nat → Int32} (h : mr_Lay L L R (mr_ai c D j s i) f) (hD : D < R) (hi : i + j < L) : f (D * L + (i + j)) = nI (c D (i + j)) := by
  rw [h D hD (i + j) hi]
  exact congrArg nI (if_neg (by omega))
theorem mr_ai_row {L R D j i : Nat} {c : Nat → Nat → Nat} {s : Nat → Nat} {f : Nat → Int32} (h : mr_Lay L L R (mr_ai c D j s i) f) : mr_Lay L L R (mr_row c D (mr_ai c D j s i D)) f := by
  refine mr_Lay_c h (fun r _ k hk => ?_)
  unfold mr_row
  by_cases hr : r = D
  · rw [if_pos hr, hr]
  · rw [if_neg hr]
    exact if_neg (by omega)
end
section
section
variable {post : Int32 → SX → Prop} {R L : Nat} {c : Nat → Nat → Nat}
theorem mr_x_load47 {D p x : Nat} {tmp : Nat → Int32} (hR : R ≤ 3) (hL : L ≤ 6) (hD : D < R) (hp : p < L)
    (hpost : ∀ data, mr_Lay 6 L R (mr_st (mr_row c D (fun _ => 0)) D p x) data → post 0 (nI R, nI L, data, tmp)) :
    ∀ d i data, i + d = L → mr_Lay 6 L R (mr_mx c D (fun _ => 0) i) data → wX_load_47 post (nI p) (nI x) (nI (D * 6)) (nI R) (nI L) (d + 1) (nI i) data tmp := by
  intro d
  induction d with
  | zero =>
    intro i data hi h
    obtain rfl : i = L := by omega
    refine br_t (nI_le (Nat.le_refl _) (by omega)) ?_
    rw [nI_add (D * 6) p, nI_clamp (n := D * 6 + p) (by omega)]
    exact ⟨vp_in_nI (by omega) (by decide), nm_e (hpost _ (mr_Lay_st (mr_mxL h) hp hL))⟩
  | succ d ih =>
    intro i data hi h
    refine br_f (nI_ge (by omega) (by omega)) ?_
    rw [nI_add (D * 6) i, nI_clamp (n := D * 6 + i) (by omega), nI_1 i]
    exact ⟨vp_in_nI (by omega) (by decide), nm_e (nm_e (ih (i + 1) _ (by omega) (mr_fill h (by omega) hL)))⟩
theorem mr_x_add115 {D : Nat} {t : Nat → Nat} {tmp : Nat → Int32} (hR : R ≤ 3) (hL : L ≤ 6) (hD : D < R) (ht : ∀ k, k < L → tmp k = nI (t k))
    (hpost : ∀ data, mr_Lay 6 L R (mr_row c D t) data → post 0 (nI R, nI L, data, tmp)) :
    ∀ d i data, i + d = L → mr_Lay 6 L R (mr_mx c D t i) data → wX_add_115 post (nI (D * 6)) (nI R) (nI L) (d + 1) (nI i) data tmp := by
  intro d
  induction d with
  | zero =>
    intro i data hi h
    obtain rfl : i = L := by omega
    exact br_t (nI_le (Nat.le_refl _) (by omega)) (hpost data (mr_mxL h))
  | succ d ih =>
    intro i data hi h
    refine br_f (nI_ge (by omega) (by omega)) ?_
    rw [nI_add (D * 6) i, nI_clamp (n := D * 6 + i) (by omega), nI_clamp (n := i) (by omega), ht i (by omega), nI_1 i]
    exact ⟨vp_in_nI (by omega) (by decide), vp_in_nI (by omega) (by decide), nm_e (nm_e (ih (i + 1) _ (by omega) (mr_fill h (by omega) hL)))⟩
theorem mr_x_mul249 {D : Nat} {t : Nat → Nat} {tmp : Nat → Int32} (hR : R ≤ 3) (hL : L ≤ 6) (hD : D < R) (ht : ∀ k, k < L → tmp k = nI (t k))
    (hpost : ∀ data, mr_Lay 6 L R (mr_row c D t) data → post 0 (nI R, nI L, data, tmp)) :
    ∀ d i data, i + d = L → mr_Lay 6 L R (mr_mx c D t i) data → wX_mul_249 post (nI (D * 6)) (nI R) (nI L) (d + 1) (nI i) data tmp := by
  intro d
  induction d with
  | zero =>
    intro i data hi h
    obtain rfl : i = L := by omega
    exact br_t (nI_le (Nat.le_refl _) (by omega)) (hpost data (mr_mxL h))
  | succ d ih =>
    intro i data hi h
    refine br_f (nI_ge (by omega) (by omega)) ?_
    rw [nI_add (D * 6) i, nI_clamp (n := D * 6 + i) (by omega), nI_clamp (n := i) (by omega), ht i (by omega), nI_1 i]
    exact ⟨vp_in_nI (by omega) (by decide), vp_in_nI (by omega) (by decide), nm_e (nm_e (ih (i + 1) _ (by omega) (mr_fill h (by omega) hL)))⟩
theorem mr_x_add44 {D S : Nat} {data : Nat → Int32} {s : Nat → Nat} (hs : s = mr_sm (c D) (c S)) (hR : R ≤ 3) (hL : L ≤ 6) (hD : D < R) (hS : S < R) (hd : mr_Dg L R c) (hX : mr_Lay 6 L R c data)
    (h0 : mr_cy s L = 0 → ∀ data' tmp', mr_Lay 6 L R (mr_row c D (mr_dg s)) data' → post 0 (nI R, nI L, data', tmp'))
    (h1 : ¬ mr_cy s L = 0 → ∀ tmp', post (-8) (nI R, nI L, data, tmp')) :
    ∀ d i tmp, i + d = L → (∀ k, k < i → tmp k = nI (mr_dg s k)) → wX_add_44 post (nI (D * 6)) (nI (S * 6)) (nI R) (nI L) (d + 1) (nI (mr_cy s i)) (nI i) data tmp := by
  have hM : ∀ k, k < L → s k ≤ 510 := by
    intro k hk
    have a := hd D hD k hk
    have b := hd S hS k hk
    rw [hs]
    show c D k + c S k ≤ 510
    omega
  intro d
  induction d with
  | zero =>
    intro i tmp hi h
    obtain rfl : i = L := by omega
    have hq := mr_cy_le (s := s) (M := 510) (B := 1) (by decide) i hM
    refine br_t (nI_le (Nat.le_refl _) (by omega)) ?_
    by_cases hz : mr_cy s i = 0
    · exact br_t ((mr_eq0 (by omega)).mpr hz) ⟨i + 1, mr_x_add115 hR hL hD h (fun data' hl => h0 hz data' tmp hl) i 0 data (by omega) (mr_mx0 D _ hX)⟩
    · exact br_f (fun z => hz ((mr_eq0 (by omega)).mp z)) (h1 hz tmp)
  | succ d ih =>
    intro i tmp hi h
    have hq := mr_cy_le (s := s) (M := 510) (B := 1) (by decide) i (fun k hk => hM k (by omega))
    have hm := hM i (by omega)
    have e : s i = c D i + c S i := by rw [hs]; rfl
    refine br_f (nI_ge (by omega) (by omega)) ?_
    rw [nI_add (D * 6) i, nI_add (S * 6) i, nI_clamp (n := D * 6 + i) (by omega), nI_clamp (n := S * 6 + i) (by omega), nI_clamp (n := i) (by omega), hX D hD i (by omega), hX S hS i (by omega), nI_add (c D i) (c S i), ← e, nI_add (s i) (mr_cy s i), nI_1 i]
    refine ⟨vp_in_nI (by omega) (by decide), vp_in_nI (by omega) (by decide), nm_e ⟨vp_in_nI (by omega) (by decide), nm_r (congrArg (upd tmp i) (mr_255 (by omega))) (nm_r (mr_sh8 (by omega)) (nm_e ?_))⟩⟩
    refine ih (i + 1) _ (by omega) (fun k hk => ?_)
    rcases Nat.lt_or_ge k i with g | g
    · rw [pk_un (by omega)]
      exact h k g
    · obtain rfl : k = i := by omega
      rw [pk_us]
      rfl
theorem mr_x_add {D S : Nat} {data tmp : Nat → Int32} (hR : R ≤ 3) (hL : L ≤ 6) (hD : D < R) (hS : S < R) (hd : mr_Dg L R c) (hX : mr_Lay 6 L R c data)
    (h0 : mr_val (c D) L + mr_val (c S) L < 256 ^ L → ∀ W data' tmp', (∀ k, k < L → W k < 256) → mr_val W L = mr_val (c D) L + mr_val (c S) L → mr_Lay 6 L R (mr_row c D W) data' → post 0 (nI R, nI L, data', tmp'))
    (h1 : ¬ mr_val (c D) L + mr_val (c S) L < 256 ^ L → ∀ data' tmp', mr_Lay 6 L R c data' → post (-8) (nI R, nI L, data', tmp')) :
    ∃ n, wX_add_44 post (nI (D * 6)) (nI (S * 6)) (nI R) (nI L) n 0 0 data tmp := by
  have hc := mr_cy0 (mr_sm (c D) (c S)) L
  rw [mr_val_sm] at hc
  refine ⟨L + 1, mr_x_add44 (s := mr_sm (c D) (c S)) rfl hR hL hD hS hd hX ?_ ?_ L 0 tmp (by omega) (fun k hk => absurd hk (by omega))⟩
  · intro hz data' tmp' hl
    have hn := mr_nrm (mr_sm (c D) (c S)) L
    rw [hz, Nat.zero_mul, Nat.add_zero, mr_val_sm] at hn
    exact h0 (hc.mp hz) _ data' tmp' (fun k _ => mr_dg_lt _ k) hn hl
  · intro hz tmp'
    exact h1 (fun z => hz (hc.mpr z)) data tmp' hX
end
end
section
/-- the twelve columns behind i rows of the product, and behind j products of row i -/
def mr_TO (A B : Nat → Nat) (L i : Nat) (tmp : Nat → Int32) : Prop := ∃ T : Nat → Nat, (∀ k, k < 12 → tmp k = nI (T k)) ∧ (∀ k, k < 12 → T k ≤ i * 65025) ∧ mr_val T 12 = mr_val A i * mr_val B L
def mr_TI (A B : Nat → Nat) (L i j : Nat) (tmp : Nat → Int32) : Prop := ∃ T : Nat → Nat, (∀ k, k < 12 → tmp k = nI (T k)) ∧ (∀ k, k < 12 → T k ≤ (i + 1) * 65025) ∧ (∀ k, k < 12 → i + j ≤ k → T k ≤ i * 65025) ∧ mr_val T 12 = mr_val A i * mr_val B L + A i * 256 ^ i * mr_val B j
theorem mr_TI0 {A B : Nat → Nat} {L i : Nat} {tmp : Nat → Int32} (h : mr_TO A B L i tmp) : mr_TI A B L i 0 tmp := by
  obtain ⟨T, h1, h2, h3⟩ := h
  exact ⟨T, h1, fun k hk => Nat.le_trans (h2 k hk) (Nat.mul_le_mul_right _ (Nat.le_succ i)), fun k hk _ => h2 k hk, h3⟩
theorem mr_TIL {A B : Nat → Nat} {L i : Nat} {tmp : Nat → Int32} (h : mr_TI A B L i L tmp) : mr_TO A B L (i + 1) tmp := by
  obtain ⟨T, h1, h2, _, h3⟩ := h
  refine ⟨T, h1, h2, ?_⟩
  rw [h3, ← Nat.add_mul]
  rfl
theorem mr_TI_s {A B : Nat → Nat} {L i j : Nat} {tmp : Nat → Int32} (h : mr_TI A B L i j tmp) (hA : A i < 256) (hB : B j < 256) (hij : i + j < 12) :
    mr_TI A B L i (j + 1) (upd tmp (i + j) (tmp (i + j) + nI (A i) * nI (B j))) := by
  obtain ⟨T, h1, h2, h3, h4⟩ := h
  have hp : A i * B j ≤ 255 * 255 := Nat.mul_le_mul (by omega) (by omega)
  refine ⟨mr_un T (i + j) (T (i + j) + A i * B j), ?_, ?_, ?_, ?_⟩
  · intro k hk
    rcases Nat.lt_trichotomy k (i + j) with g | g | g
    · rw [pk_un (by omega), mr_un_n (by omega), h1 k hk]
    · rw [g, pk_us, mr_un_s, h1 (i + j) hij, pk_mul, nI_add]
    · rw [pk_un (by omega), mr_un_n (by omega), h1 k hk]
  · intro k hk
    by_cases g : k = i + j
    · rw [g, mr_un_s]
      have := h3 (i + j) hij (Nat.le_refl _)
      omega
    · rw [mr_un_n g]
      exact h2 k hk
  · intro k hk hl
    rw [mr_un_n (by omega)]
    exact h3 k hk (by omega)
  · have e := mr_val_un (f := T) (k := i + j) (x := T (i + j) + A i * B j) 12 hij
    rw [Nat.add_mul, h4] at e
    have e2 : A i * B j * 256 ^ (i + j) = A i * 256 ^ i * (B j * 256 ^ j) := by
      rw [Nat.pow_add, Nat.mul_assoc, Nat.mul_assoc, Nat.mul_left_comm (B j)]
    have e3 : A i * 256 ^ i * mr_val B (j + 1) = A i * 256 ^ i * mr_val B j + A i * 256 ^ i * (B j * 256 ^ j) := Nat.mul_add _ _ _
    rw [e2] at e
    rw [e3]
    omega
section
variable {post : Int32 → SX → Prop} {R L : Nat} {c : Nat → Nat → Nat}
theorem mr_x_mul220 {data tmp : Nat → Int32} {x4 : Int32} {G : Nat → Nat} (hL : L ≤ 6) (ht : ∀ k, k < 12 → tmp k = nI (G k)) (hG : ∀ k, k < 12 → G k < 256)
    (h0 : (∀ k, L ≤ k → k < 12 → G k = 0) → ∃ n, wX_mul_249 post x4 (nI R) (nI L) n 0 data tmp)
    (h1 : ¬ (∀ k, L ≤ k → k < 12 → G k = 0) → post (-8) (nI R, nI L, data, tmp)) :
    ∀ d i, i + d = 12 → (∀ k, L ≤ k → k < i → G k = 0) → L ≤ i → wX_mul_220 post x4 (nI R) (nI L) data tmp (d + 1) (nI i) := by
  intro d
  induction d with
  | zero =>
    intro i hi h _
    obtain rfl : i = 12 := by omega
    exact br_t ((mr_12 (by omega)).mpr (by omega)) (h0 h)
  | succ d ih =>
    intro i hi h hl
    have hg := hG i (by omega)
    refine br_f (fun z => absurd ((mr_12 (by omega)).mp z) (by omega)) ?_
    rw [nI_clamp (n := i) (by omega), ht i (by omega), nI_1 i]
    refine ⟨vp_in_nI (by omega) (by decide), ?_⟩
    by_cases hz : G i = 0
    · refine br_t ((mr_eq0 (by omega)).mpr hz) (nm_e (ih (i + 1) (by omega) (fun k h2 h3 => ?_) (by omega)))
      rcases Nat.lt_or_ge k i with g | g
      · exact h k h2 g
      · obtain rfl : k = i := by omega
        exact hz
    · exact br_f (fun z => hz ((mr_eq0 (by omega)).mp z)) (h1 (fun z => hz (z i hl (by omega))))
theorem mr_x_mul161 {data : Nat → Int32} {x4 : Int32} {T : Nat → Nat} (hT : ∀ k, k < 12 → T k ≤ 390150) (hv : mr_val T 12 < 256 ^ 12)
    (h0 : ∀ tmp, (∀ k, k < 12 → tmp k = nI (mr_dg T k)) → ∃ n, wX_mul_220 post x4 (nI R) (nI L) data tmp n (nI L)) :
    ∀ d i tmp, i + d = 12 → (∀ k, k < 12 → tmp k = nI (if k < i then mr_dg T k else T k)) → wX_mul_161 post x4 (nI R) (nI L) (d + 1) (nI (mr_cy T i)) (nI i) data tmp := by
  intro d
  induction d with
  | zero =>
    intro i tmp hi h
    obtain rfl : i = 12 := by omega
    refine br_t ((mr_12 (by omega)).mpr (by omega)) (br_t ?_ (h0 tmp (fun k hk => ?_)))
    · rw [(mr_cy0 T 12).mpr hv]
      rfl
    · rw [h k hk, if_pos hk]
  | succ d ih =>
    intro i tmp hi h
    have hq := mr_cy_le (s := T) (M := 390150) (B := 2000) (by decide) i (fun k hk => hT k (by omega))
    have hm := hT i (by omega)
    refine br_f (fun z => absurd ((mr_12 (by omega)).mp z) (by omega)) ?_
    rw [nI_clamp (n := i) (by omega), h i (by omega), if_neg (by omega), nI_add (T i) (mr_cy T i), nI_1 i]
    refine ⟨vp_in_nI (by omega) (by decide), nm_e ⟨vp_in_nI (by omega) (by decide), nm_r (congrArg (upd tmp i) (mr_255 (by omega))) (nm_r (mr_sh8 (by omega)) (nm_e ?_))⟩⟩
    refine ih (i + 1) _ (by omega) (fun k hk => ?_)
    rcases Nat.lt_trichotomy k i with g | g | g
    · rw [pk_un (by omega), h k hk, if_pos g, if_pos (by omega)]
    · rw [g, pk_us, if_pos (by omega)]
      rfl
    · rw [pk_un (by omega), h k hk, if_neg (by omega), if_neg (by omega)]
theorem mr_x_mul108 {J : Int32 → (Nat → Int32) → (Nat → Int32) → Prop} {b i : Nat} {A : Nat → Nat} {data : Nat → Int32} {x4 x5 : Int32} (hR : R ≤ 3) (hL : L ≤ 6) (hb : b < R) (hi : i < L) (hA : A i < 256) (hd : mr_Dg L R c) (hX : mr_Lay 6 L R c data)
    (hJ : ∀ tmp, mr_TO A (c b) L (i + 1) tmp → J (nI (i + 1)) data tmp) :
    ∀ d j tmp, j + d = L → mr_TI A (c b) L i j tmp → wX_mul_108 post J x4 x5 (nI (b * 6)) (nI i) (nI (A i)) (nI R) (nI L) (d + 1) (nI j) data tmp := by
  intro d
  induction d with
  | zero =>
    intro j tmp hj h
    obtain rfl : j = L := by omega
    exact br_t (nI_le (Nat.le_refl _) (by omega)) (nm_r (nI_1 i) (hJ tmp (mr_TIL h)))
  | succ d ih =>
    intro j tmp hj h
    refine br_f (nI_ge (by omega) (by omega)) ?_
    rw [nI_add i j, nI_add (b * 6) j, nI_clamp (n := i + j) (by omega), nI_clamp (n := b * 6 + j) (by omega), hX b hb j (by omega), nI_1 j]
    exact ⟨vp_in_nI (by omega) (by decide), vp_in_nI (by omega) (by decide), vp_in_nI (by omega) (by decide), nm_e (nm_e (ih (j + 1) _ (by omega) (mr_TI_s h hA (hd b hb j (by omega)) (by omega))))⟩
theorem mr_x_mul84 {a b : Nat} {data : Nat → Int32} {x4 : Int32} (hR : R ≤ 3) (hL : L ≤ 6) (ha : a < R) (hb : b < R) (hd : mr_Dg L R c) (hX : mr_Lay 6 L R c data)
    (h0 : ∀ tmp, mr_TO (c a) (c b) L L tmp → ∃ n, wX_mul_161 post x4 (nI R) (nI L) n 0 0 data tmp) :
    ∀ d i tmp, i + d = L → mr_TO (c a) (c b) L i tmp → wX_mul_84 post x4 (nI (a * 6)) (nI (b * 6)) (nI R) (nI L) (d + 1) (nI i) data tmp := by
  intro d
  induction d with
  | zero =>
    intro i tmp hi h
    obtain rfl : i = L := by omega
    exact br_t (nI_le (Nat.le_refl _) (by omega)) (h0 tmp h)
  | succ d ih =>
    intro i tmp hi h
    refine br_f (nI_ge (by omega) (by omega)) ?_
    rw [nI_add (a * 6) i, nI_clamp (n := a * 6 + i) (by omega), hX a ha i (by omega)]
    refine ⟨vp_in_nI (by omega) (by decide), nm_e ⟨L + 1, ?_⟩⟩
    exact mr_x_mul108 (A := c a) hR hL hb (by omega) (hd a ha i (by omega)) hd hX (fun tmp' h' => ih (i + 1) tmp' (by omega) h') L 0 tmp (by omega) (mr_TI0 h)
theorem mr_x_mul60 {data : Nat → Int32} {x4 x5 x6 : Int32}
    (h0 : ∀ tmp, (∀ k, k < 12 → tmp k = nI 0) → ∃ n, wX_mul_84 post x4 x5 x6 (nI R) (nI L) n 0 data tmp) :
    ∀ d i tmp, i + d = 12 → (∀ k, k < i → tmp k = nI 0) → wX_mul_60 post x4 x5 x6 (nI R) (nI L) (d + 1) (nI i) data tmp := by
  intro d
  induction d with
  | zero =>
    intro i tmp hi h
    obtain rfl : i = 12 := by omega
    exact br_t ((mr_12 (by omega)).mpr (by omega)) (h0 tmp h)
  | succ d ih =>
    intro i tmp hi h
    refine br_f (fun z => absurd ((mr_12 (by omega)).mp z) (by omega)) ?_
    rw [nI_clamp (n := i) (by omega), nI_1 i]
    refine ⟨vp_in_nI (by omega) (by decide), nm_e (nm_e (ih (i + 1) _ (by omega) (fun k hk => ?_)))⟩
    rcases Nat.lt_or_ge k i with g | g
    · rw [pk_un (by omega)]
      exact h k g
    · obtain rfl : k = i := by omega
      rw [pk_us]
      rfl
theorem mr_x_mul {D a b : Nat} {data tmp : Nat → Int32} (hR : R ≤ 3) (hL : L ≤ 6) (hD : D < R) (ha : a < R) (hb : b < R) (hd : mr_Dg L R c) (hX : mr_Lay 6 L R c data)
    (h0 : mr_val (c a) L * mr_val (c b) L < 256 ^ L → ∀ W data' tmp', (∀ k, k < L → W k < 256) → mr_val W L = mr_val (c a) L * mr_val (c b) L → mr_Lay 6 L R (mr_row c D W) data' → post 0 (nI R, nI L, data', tmp'))
    (h1 : ¬ mr_val (c a) L * mr_val (c b) L < 256 ^ L → ∀ data' tmp', mr_Lay 6 L R c data' → post (-8) (nI R, nI L, data', tmp')) :
    ∃ n, wX_mul_60 post (nI (D * 6)) (nI (a * 6)) (nI (b * 6)) (nI R) (nI L) n 0 data tmp := by
  have hN : mr_val (c a) L * mr_val (c b) L < 256 ^ 12 := by
    have e6 : 256 ^ L ≤ 256 ^ 6 := Nat.pow_le_pow_right (by decide) hL
    have e1 := mr_val_lt L (fun k hk => hd a ha k hk)
    have e2 := mr_val_lt L (fun k hk => hd b hb k hk)
    have e3 : mr_val (c a) L * mr_val (c b) L < 256 ^ 6 * 256 ^ 6 := Nat.mul_lt_mul_of_lt_of_lt (by omega) (by omega)
    exact Nat.lt_of_lt_of_le e3 (by decide)
  refine ⟨12 + 1, mr_x_mul60 ?_ 12 0 tmp (by omega) (fun k hk => absurd hk (by omega))⟩
  intro tmp1 ht1
  refine ⟨L + 1, mr_x_mul84 hR hL ha hb hd hX ?_ L 0 tmp1 (by omega) ⟨fun _ => 0, ht1, fun _ _ => Nat.zero_le _, ?_⟩⟩
  · intro tmp2 hTO
    obtain ⟨T, hT1, hT2, hT3⟩ := hTO
    refine ⟨12 + 1, mr_x_mul161 (T := T) (fun k hk => ?_) (by rw [hT3]; exact hN) ?_ 12 0 tmp2 (by omega) (fun k hk => ?_)⟩
    · have := hT2 k hk
      omega
    · intro tmp3 ht3
      have hG : ∀ k, k < 12 → mr_dg T k < 256 := fun k _ => mr_dg_lt T k
      have hv : mr_val (mr_dg T) 12 = mr_val (c a) L * mr_val (c b) L := by
        have := mr_nrm T 12
        rw [(mr_cy0 T 12).mpr (by rw [hT3]; exact hN), Nat.zero_mul, Nat.add_zero, hT3] at this
        exact this
      have hh := mr_high (f := mr_dg T) (m := L) (n := 12) (by omega) (fun k _ => mr_dg_lt T k)
      rw [hv] at hh
      refine ⟨12 - L + 1, mr_x_mul220 hL ht3 hG ?_ ?_ (12 - L) L (by omega) (fun k h2 h3 => absurd h3 (by omega)) (Nat.le_refl L)⟩
      · intro hz
        refine ⟨L + 1, mr_x_mul249 hR hL hD (fun k hk => ht3 k (by omega)) (fun data' hl => ?_) L 0 data (by omega) (mr_mx0 D _ hX)⟩
        exact h0 (hh.mp hz) (mr_dg T) data' tmp3 (fun k _ => mr_dg_lt T k) (by rw [← mr_high_v (n := 12) (by omega) hz, hv]) hl
      · intro hz
        exact h1 (fun z => hz (hh.mpr z)) data tmp3 hX
    · rw [hT1 k hk, if_neg (by omega)]
  · rw [mr_val_0 12 (fun _ _ => rfl)]
    exact (Nat.zero_mul _).symm
end
end
section
section
variable {post : Int32 → SY → Prop} {R L : Nat} {c : Nat → Nat → Nat} {pa pb sv : Nat → Int32}
theorem mr_y_load41 {D p x : Nat} (hR : R ≤ 3) (hL : L ≤ 6) (hD : D < R) (hp : p < L)
    (hpost : ∀ v, mr_Lay L L R (mr_st (mr_row c D (fun _ => 0)) D p x) v → post 0 (nI R, nI L, v, pa, pb, sv)) :
    ∀ d i v, i + d = L → mr_Lay L L R (mr_mx c D (fun _ => 0) i) v → wY_load_41 post (nI D) (nI p) (nI x) (nI R) (nI L) (d + 1) (nI i) v pa pb sv := by
  intro d
  induction d with
  | zero =>
    intro i v hi h
    obtain rfl : i = L := by omega
    have hx := mr_ix hD hR hp (Nat.le_refl i) hL
    refine br_t (nI_le (Nat.le_refl _) (by omega)) ?_
    rw [pk_mul D i, nI_add (D * i) p, nI_clamp (n := D * i + p) (by omega)]
    exact ⟨vp_in_nI hx (by decide), nm_e (hpost _ (mr_Lay_st (mr_mxL h) hp (Nat.le_refl i)))⟩
  | succ d ih =>
    intro i v hi h
    have hx := mr_ix hD hR (show i < L by omega) (Nat.le_refl L) hL
    refine br_f (nI_ge (by omega) (by omega)) ?_
    rw [pk_mul D L, nI_add (D * L) i, nI_clamp (n := D * L + i) (by omega), nI_1 i]
    exact ⟨vp_in_nI hx (by decide), nm_e (nm_e (ih (i + 1) _ (by omega) (mr_fill h (by omega) (Nat.le_refl L))))⟩
theorem mr_y_add92 {D : Nat} {t : Nat → Nat} (hR : R ≤ 3) (hL : L ≤ 6) (hD : D < R) (ht : ∀ k, k < L → sv k = nI (t k))
    (hpost : ∀ v, mr_Lay L L R (mr_mx c D t L) v → post (-8) (nI R, nI L, v, pa, pb, sv)) :
    ∀ d i v, i + d = L → mr_Lay L L R (mr_mx c D t i) v → wY_add_92 post (nI D) (nI R) (nI L) (d + 1) (nI i) v pa pb sv := by
  intro d
  induction d with
  | zero =>
    intro i v hi h
    obtain rfl : i = L := by omega
    exact br_t (nI_le (Nat.le_refl _) (by omega)) (hpost v h)
  | succ d ih =>
    intro i v hi h
    have hx := mr_ix hD hR (show i < L by omega) (Nat.le_refl L) hL
    refine br_f (nI_ge (by omega) (by omega)) ?_
    rw [pk_mul D L, nI_add (D * L) i, nI_clamp (n := D * L + i) (by omega), nI_clamp (n := i) (by omega), ht i (by omega), nI_1 i]
    exact ⟨vp_in_nI (by omega) (by decide), vp_in_nI hx (by decide), nm_e (nm_e (ih (i + 1) _ (by omega) (mr_fill h (by omega) (Nat.le_refl L))))⟩
theorem mr_y_mul192 {D : Nat} {t : Nat → Nat} (hR : R ≤ 3) (hL : L ≤ 6) (hD : D < R) (ht : ∀ k, k < L → sv k = nI (t k))
    (hpost : ∀ v, mr_Lay L L R (mr_mx c D t L) v → post (-8) (nI R, nI L, v, pa, pb, sv)) :
    ∀ d i v, i + d = L → mr_Lay L L R (mr_mx c D t i) v → wY_mul_192 post (nI D) (nI R) (nI L) (d + 1) (nI i) v pa pb sv := by
  intro d
  induction d with
  | zero =>
    intro i v hi h
    obtain rfl : i = L := by omega
    exact br_t (nI_le (Nat.le_refl _) (by omega)) (hpost v h)
  | succ d ih =>
    intro i v hi h
    have hx := mr_ix hD hR (show i < L by omega) (Nat.le_refl L) hL
    refine br_f (nI_ge (by omega) (by omega)) ?_
    rw [pk_mul D L, nI_add (D * L) i, nI_clamp (n := D * L + i) (by omega), nI_clamp (n := i) (by omega), ht i (by omega), nI_1 i]
    exact ⟨vp_in_nI (by omega) (by decide), vp_in_nI hx (by decide), nm_e (nm_e (ih (i + 1) _ (by omega) (mr_fill h (by omega) (Nat.le_refl L))))⟩
theorem mr_y_mul123 {D : Nat} (hR : R ≤ 3) (hL : L ≤ 6) (hD : D < R)
    (hpost : ∀ v, mr_Lay L L R (mr_row c D (fun _ => 0)) v → ∃ n, wY_mul_156 post (nI D) n 0 (nI R) (nI L) v pa pb sv) :
    ∀ d i v, i + d = L → mr_Lay L L R (mr_mx c D (fun _ => 0) i) v → wY_mul_123 post (nI D) (nI R) (nI L) (d + 1) (nI i) v pa pb sv := by
  intro d
  induction d with
  | zero =>
    intro i v hi h
    obtain rfl : i = L := by omega
    exact br_t (nI_le (Nat.le_refl _) (by omega)) (hpost v (mr_mxL h))
  | succ d ih =>
    intro i v hi h
    have hx := mr_ix hD hR (show i < L by omega) (Nat.le_refl L) hL
    refine br_f (nI_ge (by omega) (by omega)) ?_
    rw [pk_mul D L, nI_add (D * L) i, nI_clamp (n := D * L + i) (by omega), nI_1 i]
    exact ⟨vp_in_nI hx (by decide), nm_e (nm_e (ih (i + 1) _ (by omega) (mr_fill h (by omega) (Nat.le_refl L))))⟩
theorem mr_y_ai2 {D j q : Nat} {A : Nat → Nat} {v : Nat → Int32} (hL : L ≤ 6) (hj : j ≤ L) (hq : q < 1000) (hpa : ∀ k, k < L → pa k = nI (A k)) (hA : ∀ k, k < L → A k < 256)
    (h1 : (q = 0 ∧ ∀ k, L - j ≤ k → k < L → A k = 0) → post 1 (nI R, nI L, v, pa, pb, sv))
    (h0 : ¬ (q = 0 ∧ ∀ k, L - j ≤ k → k < L → A k = 0) → post 0 (nI R, nI L, v, pa, pb, sv)) :
    ∀ d i, i + d = L → L ≤ i + j → (∀ k, L - j ≤ k → k < i → A k = 0) → wY_addInto_5 post (nI D) (nI j) (nI R) (nI L) (d + 1) (nI q) (nI i) v pa pb sv := by
  intro d
  induction d with
  | zero =>
    intro i hi hl h
    obtain rfl : i = L := by omega
    refine br_t (nI_le (Nat.le_refl _) (by omega)) ?_
    by_cases hz : q = 0
    · exact br_t ((mr_eq0 (by omega)).mpr hz) (h1 ⟨hz, h⟩)
    · exact br_f (fun z => hz ((mr_eq0 (by omega)).mp z)) (h0 (fun z => hz z.1))
  | succ d ih =>
    intro i hi hl h
    have ha := hA i (by omega)
    refine br_f (nI_ge (by omega) (by omega)) (nm_r (nI_add i j) (br_t (nI_le hl (by omega)) ?_))
    rw [nI_clamp (n := i) (by omega), hpa i (by omega), nI_add (A i) q, nI_1 i]
    refine ⟨vp_in_nI (by omega) (by decide), ?_⟩
    by_cases hz : A i + q = 0
    · refine br_t ((mr_eq0 (by omega)).mpr hz) (nm_e (ih (i + 1) (by omega) (by omega) (fun k h2 h3 => ?_)))
      rcases Nat.lt_or_ge k i with g | g
      · exact h k h2 g
      · obtain rfl : k = i := by omega
        omega
    · refine br_f (fun z => hz ((mr_eq0 (by omega)).mp z)) (h0 (fun z => hz ?_))
      have := z.1
      have := z.2 i (by omega) (by omega)
      omega
theorem mr_y_ai1 {D j : Nat} {A s : Nat → Nat} (hs : s = mr_sm (fun i => c D (i + j)) A) (hR : R ≤ 3) (hL : L ≤ 6) (hD : D < R) (hj : j ≤ L) (hd : mr_Dg L R c) (hpa : ∀ k, k < L → pa k = nI (A k)) (hA : ∀ k, k < L → A k < 256)
    (h1 : (mr_cy s (L - j) = 0 ∧ ∀ k, L - j ≤ k → k < L → A k = 0) → ∀ v, mr_Lay L L R (mr_ai c D j s (L - j)) v → post 1 (nI R, nI L, v, pa, pb, sv))
    (h0 : ¬ (mr_cy s (L - j) = 0 ∧ ∀ k, L - j ≤ k → k < L → A k = 0) → ∀ v, mr_Lay L L R (mr_ai c D j s (L - j)) v → post 0 (nI R, nI L, v, pa, pb, sv)) :
    ∀ d i v, i + j + d = L → mr_Lay L L R (mr_ai c D j s i) v → wY_addInto_5 post (nI D) (nI j) (nI R) (nI L) (j + 1 + d) (nI (mr_cy s i)) (nI i) v pa pb sv := by
  have hM : ∀ k, k + j < L → s k ≤ 510 := by
    intro k hk
    have a := hd D hD (k + j) hk
    have b := hA k (by omega)
    rw [hs]
    show c D (k + j) + A k ≤ 510
    omega
  intro d
  induction d with
  | zero =>
    intro i v hi h
    have e : i = L - j := by omega
    have hq := mr_cy_le (s := s) (M := 510) (B := 1) (by decide) i (fun k hk => hM k (by omega))
    subst e
    exact mr_y_ai2 hL hj (by omega) hpa hA (fun z => h1 z v h) (fun z => h0 z v h) j (L - j) (by omega) (by omega) (fun k h2 h3 => absurd h3 (by omega))
  | succ d ih =>
    intro i v hi h
    have hq := mr_cy_le (s := s) (M := 510) (B := 1) (by decide) i (fun k hk => hM k (by omega))
    have hm := hM i (by omega)
    have e : s i = c D (i + j) + A i := by rw [hs]; rfl
    have hx := mr_ix hD hR (show i + j < L by omega) (Nat.le_refl L) hL
    refine br_f (nI_ge (by omega) (by omega)) (nm_r (nI_add i j) (br_f (nI_ge (by omega) (by omega)) ?_))
    rw [pk_mul D L, nI_add (D * L) (i + j), nI_clamp (n := D * L + (i + j)) (by omega), nI_clamp (n := i) (by omega), mr_ai_at h hD (by omega), hpa i (by omega), nI_add (c D (i + j)) (A i), ← e, nI_add (s i) (mr_cy s i), nI_1 i]
    refine ⟨vp_in_nI hx (by decide), vp_in_nI (by omega) (by decide), nm_e ⟨by decide, vp_in_nI hx (by decide), nm_r (congrArg (upd v (D * L + (i + j))) (mr_rem (by omega))) ⟨by decide, nm_r (mr_div (by omega)) (nm_e ?_)⟩⟩⟩
    exact ih (i + 1) _ (by omega) (mr_ai_step h (by omega))
theorem mr_y_addInto {D j : Nat} {A : Nat → Nat} {v : Nat → Int32} (hR : R ≤ 3) (hL : L ≤ 6) (hD : D < R) (hj : j ≤ L) (hd : mr_Dg L R c) (hpa : ∀ k, k < L → pa k = nI (A k)) (hA : ∀ k, k < L → A k < 256) (hv : mr_Lay L L R c v)
    (h1 : mr_val (c D) L + 256 ^ j * mr_val A L < 256 ^ L → ∀ W v', (∀ k, k < L → W k < 256) → mr_val W L = mr_val (c D) L + 256 ^ j * mr_val A L → mr_Lay L L R (mr_row c D W) v' → post 1 (nI R, nI L, v', pa, pb, sv))
    (h0 : ¬ mr_val (c D) L + 256 ^ j * mr_val A L < 256 ^ L → ∀ W v', mr_Lay L L R (mr_row c D W) v' → post 0 (nI R, nI L, v', pa, pb, sv)) :
    wpY_addInto post (nI R, nI L, v, pa, pb, sv) (nI D) (nI j) := by
  obtain ⟨hW, hiff, hval⟩ := mr_ai_ok (V := c D) (A := A) (W := mr_ai c D j (mr_sm (fun i => c D (i + j)) A) (L - j) D) (s := mr_sm (fun i => c D (i + j)) A) (j := j) (m := L - j) (L := L) (by omega) (fun _ _ => rfl) (fun k hk => hd D hD k hk)
    (fun k hk => if_neg (by omega))
    (fun i hi => by
      unfold mr_ai
      rw [if_pos ⟨rfl, by omega, by omega⟩, show i + j - j = i by omega])
  refine ⟨j + 1 + (L - j), mr_y_ai1 (s := mr_sm (fun i => c D (i + j)) A) rfl hR hL hD hj hd hpa hA ?_ ?_ (L - j) 0 v (by omega) (mr_ai0 hv)⟩
  · intro z v' hl
    exact h1 (hiff.mp z) _ v' hW (hval (hiff.mp z)) (mr_ai_row hl)
  · intro z v' hl
    exact h0 (fun y => z (hiff.mpr y)) _ v' (mr_ai_row hl)
end
section
variable {post : Int32 → SY → Prop} {R L : Nat} {c : Nat → Nat → Nat}
theorem mr_y_add29 {D S : Nat} {v pb : Nat → Int32} (hR : R ≤ 3) (hL : L ≤ 6) (hD : D < R) (hS : S < R) (hd : mr_Dg L R c) (hY : mr_Lay L L R c v)
    (h0 : mr_val (c D) L + mr_val (c S) L < 256 ^ L → ∀ W v' pa' pb' sv', (∀ k, k < L → W k < 256) → mr_val W L = mr_val (c D) L + mr_val (c S) L → mr_Lay L L R (mr_row c D W) v' → post 0 (nI R, nI L, v', pa', pb', sv'))
    (h1 : ¬ mr_val (c D) L + mr_val (c S) L < 256 ^ L → ∀ v' pa' pb' sv', mr_Lay L L R c v' → post (-8) (nI R, nI L, v', pa', pb', sv')) :
    ∀ d i pa sv, i + d = L → (∀ k, k < i → pa k = nI (c S k)) → (∀ k, k < i → sv k = nI (c D k)) → wY_add_29 post (nI D) (nI S) (nI R) (nI L) (d + 1) (nI i) v pa pb sv := by
  intro d
  induction d with
  | zero =>
    intro i pa sv hi hpa hsv
    obtain rfl : i = L := by omega
    refine br_t (nI_le (Nat.le_refl _) (by omega)) ?_
    refine mr_y_addInto (j := 0) hR hL hD (by omega) hd hpa (fun k hk => hd S hS k hk) hY ?_ ?_
    · intro hlt W v' hW hval hl
      rw [Nat.pow_zero, Nat.one_mul] at hlt hval
      exact br_f (by decide) (h0 hlt W v' pa pb sv hW hval hl)
    · intro hlt W v' hl
      rw [Nat.pow_zero, Nat.one_mul] at hlt
      exact br_t rfl ⟨i + 1, mr_y_add92 hR hL hD hsv (fun v'' hl' => h1 hlt v'' pa pb sv (mr_back hl')) i 0 v' (by omega) (mr_mx0 D _ hl)⟩
  | succ d ih =>
    intro i pa sv hi hpa hsv
    have hx := mr_ix hD hR (show i < L by omega) (Nat.le_refl L) hL
    have hy := mr_ix hS hR (show i < L by omega) (Nat.le_refl L) hL
    refine br_f (nI_ge (by omega) (by omega)) ?_
    rw [pk_mul D L, pk_mul S L, nI_add (D * L) i, nI_add (S * L) i, nI_clamp (n := D * L + i) (by omega), nI_clamp (n := S * L + i) (by omega), nI_clamp (n := i) (by omega), hY D hD i (by omega), hY S hS i (by omega), nI_1 i]
    refine ⟨vp_in_nI hy (by decide), vp_in_nI (by omega) (by decide), nm_e ⟨vp_in_nI hx (by decide), vp_in_nI (by omega) (by decide), nm_e (nm_e ?_)⟩⟩
    refine ih (i + 1) _ _ (by omega) (fun k hk => ?_) (fun k hk => ?_)
    · rcases Nat.lt_or_ge k i with g | g
      · rw [pk_un (by omega)]
        exact hpa k g
      · obtain rfl : k = i := by omega
        exact pk_us
    · rcases Nat.lt_or_ge k i with g | g
      · rw [pk_un (by omega)]
        exact hsv k g
      · obtain rfl : k = i := by omega
        exact pk_us
end
end
section
section
variable {post : Int32 → SY → Prop} {R L : Nat} {c : Nat → Nat → Nat} {pa pb sv : Nat → Int32}
/-- a partial sum is at most the product -/
theorem mr_part {A B : Nat → Nat} {L j m : Nat} (hj : j < L) (hm : m < B j) : mr_val A L * (mr_val B j + m * 256 ^ j) + 256 ^ j * mr_val A L ≤ mr_val A L * mr_val B L := by
  have e1 : 256 ^ j * mr_val A L = mr_val A L * (1 * 256 ^ j) := by rw [Nat.one_mul, Nat.mul_comm]
  rw [e1, ← Nat.mul_add, Nat.add_assoc, ← Nat.add_mul]
  refine Nat.mul_le_mul_left _ ?_
  have e2 : (m + 1) * 256 ^ j ≤ B j * 256 ^ j := Nat.mul_le_mul_right _ hm
  obtain ⟨d, rfl⟩ := Nat.exists_eq_add_of_le (show j + 1 ≤ L by omega)
  have e3 := mr_val_sp B (j + 1) d
  have e4 : mr_val B (j + 1) = mr_val B j + B j * 256 ^ j := rfl
  omega
theorem mr_y_mul174 {J : Int32 → Int32 → Int32 → (Nat → Int32) → (Nat → Int32) → (Nat → Int32) → (Nat → Int32) → Prop} {D j : Nat} {A B : Nat → Nat} (hR : R ≤ 3) (hL : L ≤ 6) (hD : D < R) (hj : j < L) (hd : mr_Dg L R c)
    (hpa : ∀ k, k < L → pa k = nI (A k)) (hA : ∀ k, k < L → A k < 256) (hB : B j < 256) (hsv : ∀ k, k < L → sv k = nI (c D k))
    (hJ : ∀ W v', (∀ k, k < L → W k < 256) → mr_val W L = mr_val A L * mr_val B (j + 1) → mr_Lay L L R (mr_row c D W) v' → J (nI (j + 1)) (nI R) (nI L) v' pa pb sv)
    (h1 : ¬ mr_val A L * mr_val B L < 256 ^ L → ∀ v', mr_Lay L L R c v' → post (-8) (nI R, nI L, v', pa, pb, sv)) :
    ∀ t m W v, m + t = B j → (∀ k, k < L → W k < 256) → mr_val W L = mr_val A L * (mr_val B j + m * 256 ^ j) → mr_Lay L L R (mr_row c D W) v → wY_mul_174 post J (nI D) (nI j) (t + 1) (nI t) (nI R) (nI L) v pa pb sv := by
  intro t
  induction t with
  | zero =>
    intro m W v hm hW hval hl
    obtain rfl : m = B j := by omega
    exact br_t (nI_le (b := 0) (Nat.le_refl _) (by decide)) (nm_r (nI_1 j) (hJ W v hW hval hl))
  | succ t ih =>
    intro m W v hm hW hval hl
    have hp := mr_part (A := A) (B := B) (m := m) hj (by omega)
    refine br_f (nI_nle (by omega) (by omega)) ?_
    refine mr_y_addInto (c := mr_row c D W) hR hL hD (by omega) (mr_Dg_row hd hW) hpa hA hl ?_ ?_
    · rw [mr_row_D, hval]
      intro hlt W' v' hW' hval' hl'
      refine br_f (by decide) (nm_r (pk_m1 t) (ih (m + 1) W' v' (by omega) hW' ?_ (mr_row_row hl')))
      rw [hval', Nat.add_mul m 1, ← Nat.add_assoc, Nat.mul_add (mr_val A L) (mr_val B j + m * 256 ^ j), Nat.one_mul, Nat.mul_comm (256 ^ j)]
    · rw [mr_row_D, hval]
      intro hlt W' v' hl'
      exact br_t rfl ⟨L + 1, mr_y_mul192 hR hL hD hsv (fun v'' hl'' => h1 (by omega) v'' (mr_back hl'')) L 0 v' (by omega) (mr_mx0 D _ (mr_row_row hl'))⟩
theorem mr_y_mul156 {D : Nat} {A B : Nat → Nat} (hR : R ≤ 3) (hL : L ≤ 6) (hD : D < R) (hd : mr_Dg L R c)
    (hpa : ∀ k, k < L → pa k = nI (A k)) (hA : ∀ k, k < L → A k < 256) (hpb : ∀ k, k < L → pb k = nI (B k)) (hB : ∀ k, k < L → B k < 256) (hsv : ∀ k, k < L → sv k = nI (c D k))
    (h0 : ∀ W v', (∀ k, k < L → W k < 256) → mr_val W L = mr_val A L * mr_val B L → mr_Lay L L R (mr_row c D W) v' → post 0 (nI R, nI L, v', pa, pb, sv))
    (h1 : ¬ mr_val A L * mr_val B L < 256 ^ L → ∀ v', mr_Lay L L R c v' → post (-8) (nI R, nI L, v', pa, pb, sv)) :
    ∀ d j W v, j + d = L → (∀ k, k < L → W k < 256) → mr_val W L = mr_val A L * mr_val B j → mr_Lay L L R (mr_row c D W) v → wY_mul_156 post (nI D) (d + 1) (nI j) (nI R) (nI L) v pa pb sv := by
  intro d
  induction d with
  | zero =>
    intro j W v hj hW hval hl
    obtain rfl : j = L := by omega
    exact br_t (nI_le (Nat.le_refl _) (by omega)) (h0 W v hW hval hl)
  | succ d ih =>
    intro j W v hj hW hval hl
    refine br_f (nI_ge (by omega) (by omega)) ?_
    rw [nI_clamp (n := j) (by omega), hpb j (by omega)]
    refine ⟨vp_in_nI (by omega) (by decide), nm_e ⟨B j + 1, ?_⟩⟩
    refine mr_y_mul174 (A := A) (B := B) hR hL hD (by omega) hd hpa hA (hB j (by omega)) hsv (fun W' v' hW' hval' hl' => ih (j + 1) W' v' (by omega) hW' hval' hl') h1 (B j) 0 W v (by omega) hW ?_ hl
    rw [hval, Nat.zero_mul, Nat.add_zero]
end
section
variable {post : Int32 → SY → Prop} {R L : Nat} {c : Nat → Nat → Nat}
theorem mr_y_mul42 {D a b : Nat} {v : Nat → Int32} (hR : R ≤ 3) (hL : L ≤ 6) (hD : D < R) (ha : a < R) (hb : b < R) (hd : mr_Dg L R c) (hY : mr_Lay L L R c v)
    (h0 : mr_val (c a) L * mr_val (c b) L < 256 ^ L → ∀ W v' pa' pb' sv', (∀ k, k < L → W k < 256) → mr_val W L = mr_val (c a) L * mr_val (c b) L → mr_Lay L L R (mr_row c D W) v' → post 0 (nI R, nI L, v', pa', pb', sv'))
    (h1 : ¬ mr_val (c a) L * mr_val (c b) L < 256 ^ L → ∀ v' pa' pb' sv', mr_Lay L L R c v' → post (-8) (nI R, nI L, v', pa', pb', sv')) :
    ∀ d i pa pb sv, i + d = L → (∀ k, k < i → pa k = nI (c a k)) → (∀ k, k < i → pb k = nI (c b k)) → (∀ k, k < i → sv k = nI (c D k)) → wY_mul_42 post (nI D) (nI a) (nI b) (nI R) (nI L) (d + 1) (nI i) v pa pb sv := by
  intro d
  induction d with
  | zero =>
    intro i pa pb sv hi hpa hpb hsv
    obtain rfl : i = L := by omega
    refine br_t (nI_le (Nat.le_refl _) (by omega)) ⟨i + 1, mr_y_mul123 hR hL hD (fun v' hl => ⟨i + 1, ?_⟩) i 0 v (by omega) (mr_mx0 D _ hY)⟩
    refine mr_y_mul156 (A := c a) (B := c b) hR hL hD hd hpa (fun k hk => hd a ha k hk) hpb (fun k hk => hd b hb k hk) hsv ?_ ?_ i 0 _ v' (by omega) (fun _ _ => by decide) ?_ hl
    · intro W v'' hW hval hl'
      exact h0 (by rw [← hval]; exact mr_val_lt i hW) W v'' pa pb sv hW hval hl'
    · intro hlt v'' hl'
      exact h1 hlt v'' pa pb sv hl'
    · rw [mr_val_0 i (fun _ _ => rfl)]
      rfl
  | succ d ih =>
    intro i pa pb sv hi hpa hpb hsv
    have hx := mr_ix hD hR (show i < L by omega) (Nat.le_refl L) hL
    have hy := mr_ix ha hR (show i < L by omega) (Nat.le_refl L) hL
    have hz := mr_ix hb hR (show i < L by omega) (Nat.le_refl L) hL
    refine br_f (nI_ge (by omega) (by omega)) ?_
    rw [pk_mul D L, pk_mul a L, pk_mul b L, nI_add (D * L) i, nI_add (a * L) i, nI_add (b * L) i, nI_clamp (n := D * L + i) (by omega), nI_clamp (n := a * L + i) (by omega), nI_clamp (n := b * L + i) (by omega), nI_clamp (n := i) (by omega), hY D hD i (by omega), hY a ha i (by omega), hY b hb i (by omega), nI_1 i]
    refine ⟨vp_in_nI hy (by decide), vp_in_nI (by omega) (by decide), nm_e ⟨vp_in_nI hz (by decide), vp_in_nI (by omega) (by decide), nm_e ⟨vp_in_nI hx (by decide), vp_in_nI (by omega) (by decide), nm_e (nm_e ?_)⟩⟩⟩
    refine ih (i + 1) _ _ _ (by omega) (fun k hk => ?_) (fun k hk => ?_) (fun k hk => ?_)
    · rcases Nat.lt_or_ge k i with g | g
      · rw [pk_un (by omega)]
        exact hpa k g
      · obtain rfl : k = i := by omega
        exact pk_us
    · rcases Nat.lt_or_ge k i with g | g
      · rw [pk_un (by omega)]
        exact hpb k g
      · obtain rfl : k = i := by omega
        exact pk_us
    · rcases Nat.lt_or_ge k i with g | g
      · rw [pk_un (by omega)]
        exact hsv k g
      · obtain rfl : k = i := by omega
        exact pk_us
end
end
section
/-- both keep the same registers: the component 6 cells apart, the reference nl cells apart; every limb below 256 -/
def i_Rel (_ : Nat) (u : SX) (v : SY) : Prop := ∃ (R L : Nat) (c : Nat → Nat → Nat) (data tmp w pa pb sv : Nat → Int32), R ≤ 3 ∧ L ≤ 6 ∧ u = (nI R, nI L, data, tmp) ∧ v = (nI R, nI L, w, pa, pb, sv) ∧ mr_Dg L R c ∧ mr_Lay 6 L R c data ∧ mr_Lay L L R c w
theorem i_up {k : Nat} {u : SX} {v : SY} (h : i_Rel k u v) : i_Rel (k + 4) u v := h
theorem mr_mk {k R L : Nat} (c : Nat → Nat → Nat) {data tmp w pa pb sv : Nat → Int32} (hR : R ≤ 3) (hL : L ≤ 6) (hd : mr_Dg L R c) (hX : mr_Lay 6 L R c data) (hY : mr_Lay L L R c w) : i_Rel k (nI R, nI L, data, tmp) (nI R, nI L, w, pa, pb, sv) :=
  ⟨R, L, c, data, tmp, w, pa, pb, sv, hR, hL, rfl, rfl, hd, hX, hY⟩
theorem mr_new {k R L : Nat} (hR : R ≤ 3) (hL : L ≤ 6) : i_Rel k (nI R, nI L, (fun _ => 0), (fun _ => 0)) (nI R, nI L, (fun _ => 0), (fun _ => 0), (fun _ => 0), (fun _ => 0)) :=
  mr_mk (fun _ _ => 0) hR hL (fun _ _ _ _ => Nat.zero_lt_succ 255) (fun _ _ _ _ => rfl) (fun _ _ _ _ => rfl)
theorem mr_c1 (k1 : Int32) {R : Nat} (post : SX → Prop) (h : ∀ L, L ≤ 6 → (∀ q : SY → Prop, q (nI R, nI L, (fun _ => 0), (fun _ => 0), (fun _ => 0), (fun _ => 0)) → wY_init_23 q k1 (nI R) 0 0) → post (nI R, nI L, (fun _ => 0), (fun _ => 0))) : wX_init_35 post k1 (nI R) 0 0 (fun _ => 0) (fun _ => 0) := by
  by_cases a : 0 ≤ k1
  · by_cases b : k1 ≤ 6
    · obtain ⟨L, hL, rfl⟩ := nI_of2 (M := 6) (n := 6) (by decide) (Int32.not_lt.mpr a) b
      exact br_t a (br_t b (h L hL (fun q hq => br_t a (br_t b hq))))
    · exact br_t a (br_f b (h 6 (by decide) (fun q hq => br_t a (br_f b hq))))
  · exact br_f a (br_t (by decide) (h 0 (by decide) (fun q hq => br_f a hq)))
theorem i_vc0 (k0 : Int32) (k1 : Int32) : wpX_init (fun u => wpY_init (fun v => i_Rel 2 u v) k0 k1) k0 k1 := by
  by_cases a : 0 ≤ k0
  · by_cases b : k0 ≤ 3
    · obtain ⟨R, hR, rfl⟩ := nI_of2 (M := 3) (n := 3) (by decide) (Int32.not_lt.mpr a) b
      exact br_t a (br_t b (mr_c1 k1 _ (fun L hL hq => br_t a (br_t b (hq _ (mr_new hR hL))))))
    · exact br_t a (br_f b (mr_c1 (R := 3) k1 _ (fun L hL hq => br_t a (br_f b (hq _ (mr_new (R := 3) (by decide) hL))))))
  · exact br_f a (br_t (by decide) (mr_c1 (R := 0) k1 _ (fun L hL hq => br_f a (hq _ (mr_new (R := 0) (by decide) hL)))))
theorem i_vc_load {k : Nat} {u : SX} {v : SY} (I : i_Rel k u v) (hk : k + 4 ≤ 2050) (v1 : Int32) (v2 : Int32) (v3 : Int32) : wpX_load (fun r u' => wpY_load (fun r' v' => r' = r ∧ i_Rel (k + 4) u' v') v v1 v2 v3) u v1 v2 v3 := by
  obtain ⟨R, L, c, data, tmp, w, pa, pb, sv, hR, hL, rfl, rfl, hd, hX, hY⟩ := I
  have J : i_Rel (k + 4) (nI R, nI L, data, tmp) (nI R, nI L, w, pa, pb, sv) := mr_mk c hR hL hd hX hY
  by_cases h0 : v1 < 0
  · exact br_t h0 (br_t h0 ⟨rfl, J⟩)
  by_cases h1 : nI R ≤ v1
  · exact br_f h0 (br_t h1 (br_f h0 (br_t h1 ⟨rfl, J⟩)))
  by_cases h2 : v2 < 0
  · exact br_f h0 (br_f h1 (br_t h2 (br_f h0 (br_f h1 (br_t h2 ⟨rfl, J⟩)))))
  by_cases h3 : nI L ≤ v2
  · exact br_f h0 (br_f h1 (br_f h2 (br_t h3 (br_f h0 (br_f h1 (br_f h2 (br_t h3 ⟨rfl, J⟩)))))))
  by_cases h4 : v3 < 0
  · exact br_f h0 (br_f h1 (br_f h2 (br_f h3 (br_t h4 (br_f h0 (br_f h1 (br_f h2 (br_f h3 (br_t h4 ⟨rfl, J⟩)))))))))
  by_cases h5 : v3 ≤ 255
  · obtain ⟨D, hD, rfl⟩ := mr_arg (by omega) h0 h1
    obtain ⟨p, hp, rfl⟩ := mr_arg (by omega) h2 h3
    obtain ⟨x, hx, rfl⟩ := mr_arg3 h4 h5
    refine br_f h0 (br_f h1 (br_f h2 (br_f h3 (br_f h4 (br_t h5 (nm_r (mr_6 D) ⟨L + 1, ?_⟩))))))
    refine mr_x_load47 hR hL hD hp (fun data' hX' => ?_) L 0 data (by omega) (mr_mx0 D _ hX)
    refine br_f h0 (br_f h1 (br_f h2 (br_f h3 (br_f h4 (br_t h5 ⟨L + 1, ?_⟩)))))
    refine mr_y_load41 hR hL hD hp (fun w' hY' => ⟨rfl, ?_⟩) L 0 w (by omega) (mr_mx0 D _ hY)
    exact mr_mk _ hR hL (mr_Dg_st (mr_Dg_row hd (fun _ _ => by decide)) hx) hX' hY'
  · exact br_f h0 (br_f h1 (br_f h2 (br_f h3 (br_f h4 (br_f h5 (br_f h0 (br_f h1 (br_f h2 (br_f h3 (br_f h4 (br_f h5 ⟨rfl, J⟩)))))))))))
theorem i_vc_add {k : Nat} {u : SX} {v : SY} (I : i_Rel k u v) (hk : k + 4 ≤ 2050) (v1 : Int32) (v2 : Int32) : wpX_add (fun r u' => wpY_add (fun r' v' => r' = r ∧ i_Rel (k + 4) u' v') v v1 v2) u v1 v2 := by
  obtain ⟨R, L, c, data, tmp, w, pa, pb, sv, hR, hL, rfl, rfl, hd, hX, hY⟩ := I
  have J : i_Rel (k + 4) (nI R, nI L, data, tmp) (nI R, nI L, w, pa, pb, sv) := mr_mk c hR hL hd hX hY
  by_cases h0 : v1 < 0
  · exact br_t h0 (br_t h0 ⟨rfl, J⟩)
  by_cases h1 : nI R ≤ v1
  · exact br_f h0 (br_t h1 (br_f h0 (br_t h1 ⟨rfl, J⟩)))
  by_cases h2 : v2 < 0
  · exact br_f h0 (br_f h1 (br_t h2 (br_f h0 (br_f h1 (br_t h2 ⟨rfl, J⟩)))))
  by_cases h3 : v2 < nI R
  · obtain ⟨D, hD, rfl⟩ := mr_arg (by omega) h0 h1
    obtain ⟨S, hS, rfl⟩ := mr_arg2 (by omega) h2 h3
    refine br_f h0 (br_f h1 (br_f h2 (br_t h3 (nm_r (mr_6 D) (nm_r (mr_6 S) (mr_x_add hR hL hD hS hd hX ?_ ?_))))))
    · intro hN W data' tmp' hW hval hX'
      refine br_f h0 (br_f h1 (br_f h2 (br_t h3 ⟨L + 1, mr_y_add29 hR hL hD hS hd hY ?_ (fun z => absurd hN z) L 0 pa sv (by omega) (fun k hk => absurd hk (by omega)) (fun k hk => absurd hk (by omega))⟩)))
      intro _ W' w' pa' pb' sv' hW' hval' hY'
      exact ⟨rfl, mr_mk _ hR hL (mr_Dg_row hd hW) hX' (mr_row_c hY' (mr_inj L hW' hW (hval'.trans hval.symm)))⟩
    · intro hN data' tmp' hX'
      refine br_f h0 (br_f h1 (br_f h2 (br_t h3 ⟨L + 1, mr_y_add29 hR hL hD hS hd hY (fun z => absurd z hN) ?_ L 0 pa sv (by omega) (fun k hk => absurd hk (by omega)) (fun k hk => absurd hk (by omega))⟩)))
      intro _ w' pa' pb' sv' hY'
      exact ⟨rfl, mr_mk c hR hL hd hX' hY'⟩
  · exact br_f h0 (br_f h1 (br_f h2 (br_f h3 (br_f h0 (br_f h1 (br_f h2 (br_f h3 ⟨rfl, J⟩)))))))
theorem i_vc_mul {k : Nat} {u : SX} {v : SY} (I : i_Rel k u v) (hk : k + 4 ≤ 2050) (v1 : Int32) (v2 : Int32) (v3 : Int32) : wpX_mul (fun r u' => wpY_mul (fun r' v' => r' = r ∧ i_Rel (k + 4) u' v') v v1 v2 v3) u v1 v2 v3 := by
  obtain ⟨R, L, c, data, tmp, w, pa, pb, sv, hR, hL, rfl, rfl, hd, hX, hY⟩ := I
  have J : i_Rel (k + 4) (nI R, nI L, data, tmp) (nI R, nI L, w, pa, pb, sv) := mr_mk c hR hL hd hX hY
  by_cases h0 : v1 < 0
  · exact br_t h0 (br_t h0 ⟨rfl, J⟩)
  by_cases h1 : nI R ≤ v1
  · exact br_f h0 (br_t h1 (br_f h0 (br_t h1 ⟨rfl, J⟩)))
  by_cases h2 : v2 < 0
  · exact br_f h0 (br_f h1 (br_t h2 (br_f h0 (br_f h1 (br_t h2 ⟨rfl, J⟩)))))
  by_cases h3 : nI R ≤ v2
  · exact br_f h0 (br_f h1 (br_f h2 (br_t h3 (br_f h0 (br_f h1 (br_f h2 (br_t h3 ⟨rfl, J⟩)))))))
  by_cases h4 : v3 < 0
  · exact br_f h0 (br_f h1 (br_f h2 (br_f h3 (br_t h4 (br_f h0 (br_f h1 (br_f h2 (br_f h3 (br_t h4 ⟨rfl, J⟩)))))))))
  by_cases h5 : v3 < nI R
  · obtain ⟨D, hD, rfl⟩ := mr_arg (by omega) h0 h1
    obtain ⟨a, ha, rfl⟩ := mr_arg (by omega) h2 h3
    obtain ⟨b, hb, rfl⟩ := mr_arg2 (by omega) h4 h5
    refine br_f h0 (br_f h1 (br_f h2 (br_f h3 (br_f h4 (br_t h5 (nm_r (mr_6 D) (nm_r (mr_6 a) (nm_r (mr_6 b) (mr_x_mul hR hL hD ha hb hd hX ?_ ?_)))))))))
    · intro hN W data' tmp' hW hval hX'
      refine br_f h0 (br_f h1 (br_f h2 (br_f h3 (br_f h4 (br_t h5 ⟨L + 1, mr_y_mul42 hR hL hD ha hb hd hY ?_ (fun z => absurd hN z) L 0 pa pb sv (by omega) (fun k hk => absurd hk (by omega)) (fun k hk => absurd hk (by omega)) (fun k hk => absurd hk (by omega))⟩)))))
      intro _ W' w' pa' pb' sv' hW' hval' hY'
      exact ⟨rfl, mr_mk _ hR hL (mr_Dg_row hd hW) hX' (mr_row_c hY' (mr_inj L hW' hW (hval'.trans hval.symm)))⟩
    · intro hN data' tmp' hX'
      refine br_f h0 (br_f h1 (br_f h2 (br_f h3 (br_f h4 (br_t h5 ⟨L + 1, mr_y_mul42 hR hL hD ha hb hd hY (fun z => absurd z hN) ?_ L 0 pa pb sv (by omega) (fun k hk => absurd hk (by omega)) (fun k hk => absurd hk (by omega)) (fun k hk => absurd hk (by omega))⟩)))))
      intro _ w' pa' pb' sv' hY'
      exact ⟨rfl, mr_mk c hR hL hd hX' hY'⟩
  · exact br_f h0 (br_f h1 (br_f h2 (br_f h3 (br_f h4 (br_f h5 (br_f h0 (br_f h1 (br_f h2 (br_f h3 (br_f h4 (br_f h5 ⟨rfl, J⟩)))))))))))
theorem i_vc_limb {k : Nat} {u : SX} {v : SY} (I : i_Rel k u v) (hk : k + 4 ≤ 2050) (v1 : Int32) (v2 : Int32) : wpX_limb (fun r => wpY_limb (fun r' => r' = r ∧ i_Rel (k + 4) u v) v v1 v2) u v1 v2 := by
  obtain ⟨R, L, c, data, tmp, w, pa, pb, sv, hR, hL, rfl, rfl, hd, hX, hY⟩ := I
  have J : i_Rel (k + 4) (nI R, nI L, data, tmp) (nI R, nI L, w, pa, pb, sv) := mr_mk c hR hL hd hX hY
  by_cases h0 : v1 < 0
  · exact br_t h0 (br_t h0 ⟨rfl, J⟩)
  by_cases h1 : nI R ≤ v1
  · exact br_f h0 (br_t h1 (br_f h0 (br_t h1 ⟨rfl, J⟩)))
  by_cases h2 : v2 < 0
  · exact br_f h0 (br_f h1 (br_t h2 (br_f h0 (br_f h1 (br_t h2 ⟨rfl, J⟩)))))
  by_cases h3 : v2 < nI L
  · obtain ⟨r, hr, rfl⟩ := mr_arg (by omega) h0 h1
    obtain ⟨i, hi, rfl⟩ := mr_arg2 (by omega) h2 h3
    have hx := mr_ix hr hR hi hL (Nat.le_refl 6)
    have hy := mr_ix hr hR hi (Nat.le_refl L) hL
    refine br_f h0 (br_f h1 (br_f h2 (br_t h3 ?_)))
    rw [mr_6 r, nI_add (r * 6) i, nI_clamp (n := r * 6 + i) (by omega), hX r hr i hi]
    refine ⟨vp_in_nI hx (by decide), br_f h0 (br_f h1 (br_f h2 (br_t h3 ?_)))⟩
    rw [pk_mul r L, nI_add (r * L) i, nI_clamp (n := r * L + i) (by omega), hY r hr i hi]
    exact ⟨vp_in_nI hy (by decide), rfl, J⟩
  · exact br_f h0 (br_f h1 (br_f h2 (br_f h3 (br_f h0 (br_f h1 (br_f h2 (br_f h3 ⟨rfl, J⟩)))))))
end
