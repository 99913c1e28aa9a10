section
/-! rows pasted from the kit (starting text) -/
theorem pk_us {f : Nat → Int32} {k : Nat} {x : Int32} : upd f k x k = x := if_pos rfl
theorem pk_un {f : Nat → Int32} {k j : Nat} {x : Int32} (h : j ≠ k) : upd f k x j = f j := if_neg h
theorem pk_sub {a b : Nat} (h : b ≤ a) : nI a - nI b = nI (a - b) := by
  obtain ⟨c, rfl⟩ : ∃ c, a = c + b := ⟨a - b, by omega⟩
  rw [← nI_add, Int32.add_sub_cancel, Nat.add_sub_cancel]
theorem pk_m1 (n : Nat) : nI (n + 1) + (-1) = nI n := by
  rw [← nI_1, Int32.add_assoc, show (1 : Int32) + (-1) = 0 from rfl, Int32.add_zero]
theorem pk_mul (a b : Nat) : nI a * nI b = nI (a * b) := (Int32.ofNat_mul a b).symm
theorem pk_div {a d : Nat} (ha : a < 2 ^ 31) (h0 : 0 < d) (hd : d < 2 ^ 31) : nI a / nI d = nI (a / d) := by
  apply Int32.toInt_inj.mp
  rw [lg_idiv_nonneg (by rw [nI_toInt ha]; omega) (by rw [nI_toInt hd]; omega), nI_toInt ha, nI_toInt hd, nI_toInt (Nat.lt_of_le_of_lt (Nat.div_le_self a d) ha)]
  first | rfl | exact (Int.natCast_ediv _ _).symm
theorem pk_rem {a d : Nat} (ha : a < 2 ^ 31) (h0 : 0 < d) (hd : d < 2 ^ 31) : nI a - nI a / nI d * nI d = nI (a % d) := by
  rw [pk_div ha h0 hd, pk_mul, pk_sub (Nat.div_mul_le_self a d)]
  exact congrArg nI (by have := Nat.div_add_mod' a d; omega)
theorem pk_sub_toInt {a b : Nat} (ha : a < 2 ^ 30) (hb : b < 2 ^ 30) : (nI a - nI b).toInt = (a : Int) - b := by
  rw [Int32.toInt_sub, nI_toInt (by omega), nI_toInt (by omega)]
  exact Int.bmod_eq_of_le (by omega) (by omega)
theorem pk_ix (x : Int32) {n : Nat} (hn : n < 2 ^ 31) : x < 0 ∨ nI n ≤ x ∨ ∃ j : Nat, j < n ∧ x = nI j := by
  by_cases h : x < 0
  · exact Or.inl h
  · obtain ⟨j, hj, rfl⟩ := nI_of h
    by_cases h2 : j < n
    · exact Or.inr (Or.inr ⟨j, h2, rfl⟩)
    · exact Or.inr (Or.inl (nI_le (by omega) hj))
theorem pk_le {x y : Int32} {A B : Prop} (a b : Nat) (f : a ≤ b → A) (g : b < a → B) (hx : x = nI a := by rfl) (hy : y = nI b := by rfl) (ha : a < 2 ^ 31 := by omega) (hb : b < 2 ^ 31 := by omega) : (x ≤ y → A) ∧ (¬ x ≤ y → B) := by
  subst hx hy
  rw [nI_leI ha hb]
  exact ⟨f, fun z => g (by omega)⟩
theorem pk_lt {x y : Int32} {A B : Prop} (a b : Nat) (f : a < b → A) (g : b ≤ a → B) (hx : x = nI a := by rfl) (hy : y = nI b := by rfl) (ha : a < 2 ^ 31 := by omega) (hb : b < 2 ^ 31 := by omega) : (x < y → A) ∧ (¬ x < y → B) := by
  subst hx hy
  rw [nI_ltI ha hb]
  exact ⟨f, fun z => g (by omega)⟩
theorem pk_eq {x y : Int32} {A B : Prop} (a b : Nat) (f : a = b → A) (g : a ≠ b → B) (hx : x = nI a := by rfl) (hy : y = nI b := by rfl) (ha : a < 2 ^ 31 := by omega) (hb : b < 2 ^ 31 := by omega) : (x = y → A) ∧ (¬ x = y → B) := by
  subst hx hy
  rw [nI_eq ha hb]
  exact ⟨f, g⟩
theorem pk_in {x : Int32} (n N : Nat) (h : n < N) (hx : x = nI n := by rfl) (hN : N < 2 ^ 31 := by omega) : vp_in x N := by
  subst hx
  exact vp_in_nI h hN
theorem pk_cl {x : Int32} (n : Nat) (hx : x = nI n := by rfl) (h : n < 2 ^ 31 := by omega) : x.toNatClampNeg = n := by
  subst hx
  exact nI_clamp h
theorem pk_tn {n : Nat} (h : n < 2 ^ 32) : (nI n).toBitVec.toNat = n := Nat.mod_eq_of_lt h
theorem pk_and (x : Int32) {m : Int32} (k : Nat) (hm : m.toBitVec.toNat = 2 ^ k - 1) : x &&& m = nI (x.toBitVec.toNat % 2 ^ k) := by
  apply Int32.toBitVec_inj.mp
  apply BitVec.eq_of_toNat_eq
  rw [Int32.toBitVec_and, BitVec.toNat_and, hm, Nat.and_two_pow_sub_one_eq_mod]
  show _ = (BitVec.ofNat 32 _).toNat
  rw [BitVec.toNat_ofNat]
  exact (Nat.mod_eq_of_lt (Nat.lt_of_le_of_lt (Nat.mod_le _ _) x.toBitVec.isLt)).symm
theorem pk_andN {n : Nat} (h : n < 2 ^ 32) {m : Int32} (k : Nat) (hm : m.toBitVec.toNat = 2 ^ k - 1) : nI n &&& m = nI (n % 2 ^ k) := by
  rw [pk_and _ k hm, pk_tn h]
theorem pk_shr (a s : Int32) (k : Nat) (hs : (s.toBitVec.smod 32).toNat = k) : (a >>> s).toInt = a.toInt >>> k := by
  show (a.toBitVec.sshiftRight (s.toBitVec.smod 32).toNat).toInt = _
  rw [hs, BitVec.toInt_sshiftRight]
  rfl
theorem pk_shrN {n : Nat} (h : n < 2 ^ 31) (s : Int32) (k : Nat) (hs : (s.toBitVec.smod 32).toNat = k) : nI n >>> s = nI (n / 2 ^ k) := by
  apply Int32.toInt_inj.mp
  have h2 : n / 2 ^ k ≤ n := Nat.div_le_self _ _
  rw [pk_shr _ _ k hs, nI_toInt h, nI_toInt (by omega), Int.shiftRight_eq_div_pow]
  rfl
theorem pk_vb (z : Int32) : vp_nar .byte z.toInt8.toInt32 = z.toInt8.toInt32 := by rw [vp_nar_byte]; simp
theorem pk_vs (z : Int32) : vp_nar .short z.toInt16.toInt32 = z.toInt16.toInt32 := by rw [vp_nar_short]; simp
def bt (x : Int32) (i : Nat) : Bool := x.toBitVec.getLsbD i
theorem b_ext {x y : Int32} (h : ∀ i, i < 32 → bt x i = bt y i) : x = y := Int32.toBitVec_inj.mp (BitVec.eq_of_getLsbD_eq (fun i hi => h i hi))
theorem b_or (x y : Int32) (i : Nat) : bt (x ||| y) i = (bt x i || bt y i) := by unfold bt; rw [Int32.toBitVec_or, BitVec.getLsbD_or]
theorem b_and (x y : Int32) (i : Nat) : bt (x &&& y) i = (bt x i && bt y i) := by unfold bt; rw [Int32.toBitVec_and, BitVec.getLsbD_and]
theorem b_xor (x y : Int32) (i : Nat) : bt (x ^^^ y) i = (bt x i ^^ bt y i) := by unfold bt; rw [Int32.toBitVec_xor, BitVec.getLsbD_xor]
theorem b_big {x : Int32} {i : Nat} (h : 32 ≤ i) : bt x i = false := BitVec.getLsbD_of_ge _ _ h
theorem b_m1 : ∀ i, i < 32 → bt (-1) i = true := by decide +kernel
theorem b_0 (i : Nat) : bt 0 i = false := BitVec.getLsbD_zero
theorem s_l : ∀ n, n < 32 → ((nI n &&& 31).toBitVec.smod 32).toNat = n := by decide +kernel
theorem b_shl (n : Nat) (hn : n < 32) (x : Int32) {i : Nat} (hi : i < 32) : bt (x <<< (nI n &&& 31)) i = (decide (n ≤ i) && bt x (i - n)) := by
  unfold bt
  rw [Int32.toBitVec_shiftLeft]
  show (x.toBitVec <<< ((nI n &&& 31).toBitVec.smod 32).toNat).getLsbD i = _
  rw [s_l n hn, BitVec.getLsbD_shiftLeft]
  rcases Nat.lt_or_ge i n with h | h
  · simp [h, Nat.not_le.mpr h]
  · simp [hi, h, Nat.not_lt.mpr h]
theorem b_sshr (n : Nat) (hn : n < 32) (x : Int32) {i : Nat} (hi : i < 32) : bt (x >>> (nI n &&& 31)) i = if n + i < 32 then bt x (n + i) else bt x 31 := by
  unfold bt
  rw [Int32.toBitVec_shiftRight]
  show (x.toBitVec.sshiftRight ((nI n &&& 31).toBitVec.smod 32).toNat).getLsbD i = _
  rw [s_l n hn, BitVec.getLsbD_sshiftRight, BitVec.msb_eq_getLsbD_last]
  simp [hi]
end
section
/-! naturals alone: updates, counts, heaps -/
def bq_up (f : Nat → Nat) (k v : Nat) : Nat → Nat := fun j => if j = k then v else f j
theorem bq_ups (f : Nat → Nat) (k v : Nat) : bq_up f k v k = v := if_pos rfl
theorem bq_upn {f : Nat → Nat} {k v j : Nat} (h : j ≠ k) : bq_up f k v j = f j := if_neg h
theorem bq_upP {f : Nat → Nat} {k v : Nat} (Q : Nat → Prop) (h : ∀ j, Q (f j)) (hv : Q v) : ∀ j, Q (bq_up f k v j) := by
  intro j
  by_cases e : j = k
  · rw [e, bq_ups]; exact hv
  · rw [bq_upn e]; exact h j
def bq_d (a b : Nat) : Nat := if a = b then 1 else 0
theorem bq_d1 (a : Nat) : bq_d a a = 1 := if_pos rfl
theorem bq_d0 {a b : Nat} (h : a ≠ b) : bq_d a b = 0 := if_neg h
theorem bq_dc (a b : Nat) : (a = b ∧ bq_d a b = 1) ∨ (a ≠ b ∧ bq_d a b = 0) := by
  by_cases h : a = b
  · exact Or.inl ⟨h, if_pos h⟩
  · exact Or.inr ⟨h, if_neg h⟩
/-- how many of f 0 .. f (n - 1) are q -/
def bq_cn (f : Nat → Nat) : Nat → Nat → Nat
  | 0, _ => 0
  | n + 1, q => bq_cn f n q + bq_d (f n) q
theorem bq_cn_s (f : Nat → Nat) (n q : Nat) : bq_cn f (n + 1) q = bq_cn f n q + bq_d (f n) q := rfl
theorem bq_cn_0 (f : Nat → Nat) (q : Nat) : bq_cn f 0 q = 0 := rfl
theorem bq_cn_congr {f g : Nat → Nat} (q : Nat) : ∀ n : Nat, (∀ j, j < n → f j = g j) → bq_cn f n q = bq_cn g n q := by
  intro n
  induction n with
  | zero => intro _; rfl
  | succ n ih =>
    intro h
    rw [bq_cn_s, bq_cn_s, ih (fun j hj => h j (by omega)), h n (by omega)]
theorem bq_cn_up {f : Nat → Nat} {k v : Nat} (q : Nat) : ∀ n : Nat, k < n → bq_cn (bq_up f k v) n q + bq_d (f k) q = bq_cn f n q + bq_d v q := by
  intro n
  induction n with
  | zero => intro h; omega
  | succ n ih =>
    intro h
    rw [bq_cn_s, bq_cn_s]
    by_cases e : k = n
    · subst e
      rw [bq_ups, bq_cn_congr (f := bq_up f k v) (g := f) q k (fun j hj => bq_upn (by omega))]
      omega
    · have := ih (by omega)
      rw [bq_upn (f := f) (k := k) (v := v) (j := n) (by omega)]
      omega
theorem bq_cn_hi {f : Nat → Nat} {k v : Nat} (q n : Nat) (h : n ≤ k) : bq_cn (bq_up f k v) n q = bq_cn f n q :=
  bq_cn_congr q n (fun j hj => bq_upn (by omega))
theorem bq_cn_sw {f : Nat → Nat} {k m v n : Nat} (q : Nat) (hk : k < n) (hm : m < n) (hkm : m ≠ k) : bq_cn (bq_up (bq_up f k (f m)) m v) n q = bq_cn (bq_up f k v) n q := by
  have a := bq_cn_up (f := bq_up f k (f m)) (k := m) (v := v) q n hm
  have b := bq_cn_up (f := f) (k := k) (v := f m) q n hk
  have c := bq_cn_up (f := f) (k := k) (v := v) q n hk
  rw [bq_upn hkm] at a
  omega
theorem bq_cn_mono {f : Nat → Nat} (q m : Nat) : ∀ n : Nat, m ≤ n → bq_cn f m q ≤ bq_cn f n q := by
  intro n
  induction n with
  | zero => intro h; have e : m = 0 := by omega
            subst e; exact Nat.le_refl _
  | succ n ih =>
    intro h
    by_cases e : m = n + 1
    · subst e; exact Nat.le_refl _
    · have := ih (by omega)
      rw [bq_cn_s]; omega
theorem bq_cn_pos {f : Nat → Nat} {q n k : Nat} (h : k < n) (e : f k = q) : 0 < bq_cn f n q := by
  have a := bq_cn_mono (f := f) q (k + 1) n h
  rw [bq_cn_s, e, bq_d1] at a
  omega
theorem bq_cn_two {f : Nat → Nat} {q n a b : Nat} (hab : a < b) (h : b < n) (ea : f a = q) (eb : f b = q) : 2 ≤ bq_cn f n q := by
  have x := bq_cn_mono (f := f) q (b + 1) n h
  have y := bq_cn_pos hab ea
  rw [bq_cn_s, eb, bq_d1] at x
  omega
theorem bq_cn_ex {f : Nat → Nat} {q : Nat} : ∀ n : Nat, 0 < bq_cn f n q → ∃ k, k < n ∧ f k = q := by
  intro n
  induction n with
  | zero => intro h; rw [bq_cn_0] at h; omega
  | succ n ih =>
    intro h
    rw [bq_cn_s] at h
    rcases bq_dc (f n) q with ⟨e, _⟩ | ⟨_, e⟩
    · exact ⟨n, by omega, e⟩
    · obtain ⟨k, hk, ek⟩ := ih (by omega)
      exact ⟨k, by omega, ek⟩
theorem bq_cn_none {f : Nat → Nat} {q n : Nat} (h : ∀ k, k < n → f k ≠ q) : bq_cn f n q = 0 := by
  rcases Nat.eq_zero_or_pos (bq_cn f n q) with e | e
  · exact e
  · obtain ⟨k, hk, ek⟩ := bq_cn_ex n e
    exact absurd ek (h k hk)
/-- how many numbers below n have the property -/
def bq_ct (Q : Nat → Bool) : Nat → Nat
  | 0 => 0
  | n + 1 => bq_ct Q n + (Q n).toNat
theorem bq_ct_s (Q : Nat → Bool) (n : Nat) : bq_ct Q (n + 1) = bq_ct Q n + (Q n).toNat := rfl
theorem bq_ct_t {Q : Nat → Bool} {n : Nat} (h : Q n = true) : bq_ct Q (n + 1) = bq_ct Q n + 1 := by rw [bq_ct_s, h]; rfl
theorem bq_ct_f {Q : Nat → Bool} {n : Nat} (h : Q n = false) : bq_ct Q (n + 1) = bq_ct Q n := by rw [bq_ct_s, h]; rfl
theorem bq_ct_le (Q : Nat → Bool) : ∀ n : Nat, bq_ct Q n ≤ n := by
  intro n
  induction n with
  | zero => exact Nat.le_refl _
  | succ n ih =>
    cases h : Q n
    · rw [bq_ct_f h]; omega
    · rw [bq_ct_t h]; omega
theorem bq_ct_congr {Q R : Nat → Bool} : ∀ n : Nat, (∀ j, j < n → Q j = R j) → bq_ct Q n = bq_ct R n := by
  intro n
  induction n with
  | zero => intro _; rfl
  | succ n ih =>
    intro h
    rw [bq_ct_s, bq_ct_s, ih (fun j hj => h j (by omega)), h n (by omega)]
theorem bq_ct_mono {Q R : Nat → Bool} : ∀ n : Nat, (∀ j, j < n → Q j = true → R j = true) → bq_ct Q n ≤ bq_ct R n := by
  intro n
  induction n with
  | zero => intro _; exact Nat.le_refl _
  | succ n ih =>
    intro h
    have := ih (fun j hj => h j (by omega))
    cases e : Q n
    · rw [bq_ct_f e, bq_ct_s]; omega
    · rw [bq_ct_t e, bq_ct_t (h n (by omega) e)]; omega
theorem bq_ct_rm {Q : Nat → Bool} {a : Nat} (hQ : Q a = true) : ∀ n : Nat, a < n → bq_ct Q n = bq_ct (fun o => Q o && decide (o ≠ a)) n + 1 := by
  intro n
  induction n with
  | zero => intro h; omega
  | succ n ih =>
    intro h
    by_cases e : a = n
    · subst e
      rw [bq_ct_t hQ, bq_ct_f (Q := fun o => Q o && decide (o ≠ a)) (by simp)]
      rw [bq_ct_congr (R := fun o => Q o && decide (o ≠ a)) a (fun j hj => by
        have : j ≠ a := by omega
        simp [this])]
    · have h2 := ih (by omega)
      have h3 : (Q n && decide (n ≠ a)) = Q n := by
        have : n ≠ a := by omega
        simp [this]
      rw [bq_ct_s, bq_ct_s, h3, h2]; omega
theorem bq_ct_lt {Q R : Nat → Bool} {n a : Nat} (h : ∀ j, j < n → Q j = true → R j = true) (ha : a < n) (hR : R a = true) (hQ : Q a = false) : bq_ct Q n < bq_ct R n := by
  rw [bq_ct_rm hR n ha]
  have := bq_ct_mono (Q := Q) (R := fun o => R o && decide (o ≠ a)) n (fun j hj e => by
    have e2 : j ≠ a := by intro z; rw [z, hQ] at e; exact Bool.noConfusion e
    simp [h j hj e, e2])
  omega
theorem bq_ct_none {Q : Nat → Bool} : ∀ n : Nat, (∀ j, j < n → Q j = false) → bq_ct Q n = 0 := by
  intro n
  induction n with
  | zero => intro _; rfl
  | succ n ih =>
    intro h
    rw [bq_ct_f (h n (by omega))]
    exact ih (fun j hj => h j (by omega))
theorem bq_ct_enum (f : Nat → Nat) (N : Nat) : ∀ (k : Nat) (Q : Nat → Bool), (∀ j, j < k → f j < N) → (∀ i j, i < j → j < k → f i ≠ f j) → (∀ o, o < N → (Q o = true ↔ ∃ j, j < k ∧ f j = o)) → bq_ct Q N = k := by
  intro k
  induction k with
  | zero =>
    intro Q _ _ h
    apply bq_ct_none
    intro j hj
    cases e : Q j
    · rfl
    · obtain ⟨i, hi, _⟩ := (h j hj).mp e
      omega
  | succ k ih =>
    intro Q hN hi h
    have hk : Q (f k) = true := (h (f k) (hN k (by omega))).mpr ⟨k, by omega, rfl⟩
    rw [bq_ct_rm hk N (hN k (by omega))]
    rw [ih (fun o => Q o && decide (o ≠ f k)) (fun j hj => hN j (by omega)) (fun i j hij hj => hi i j hij (by omega))]
    intro o ho
    constructor
    · intro z
      have z1 : Q o = true ∧ o ≠ f k := by simpa using z
      obtain ⟨j, hj, e⟩ := (h o ho).mp z1.1
      have : j ≠ k := by intro q; rw [q] at e; exact z1.2 e.symm
      exact ⟨j, by omega, e⟩
    · intro ⟨j, hj, e⟩
      have z1 : Q o = true := (h o ho).mpr ⟨j, by omega, e⟩
      have z2 : o ≠ f k := by rw [← e]; exact hi j k hj (by omega)
      simp [z1, z2]
/-! the order of pairs and heaps -/
def bq_bf (V : Nat → Nat) (a b : Nat) : Prop := V b < V a ∨ (V a = V b ∧ a < b)
theorem bq_bf_irr (V : Nat → Nat) (a : Nat) : ¬ bq_bf V a a := by unfold bq_bf; omega
theorem bq_bf_tr {V : Nat → Nat} {a b c : Nat} (h : bq_bf V a b) (g : bq_bf V b c) : bq_bf V a c := by unfold bq_bf at *; omega
theorem bq_bf_as {V : Nat → Nat} {a b : Nat} (h : bq_bf V a b) : ¬ bq_bf V b a := by unfold bq_bf at *; omega
theorem bq_bf_ntr {V : Nat → Nat} {a b c : Nat} (h : ¬ bq_bf V a b) (g : ¬ bq_bf V b c) : ¬ bq_bf V a c := by unfold bq_bf at *; omega
theorem bq_bf_tot {V : Nat → Nat} {a b : Nat} (h : ¬ bq_bf V a b) : b = a ∨ bq_bf V b a := by unfold bq_bf at *; omega
def bq_hp (V h : Nat → Nat) (n : Nat) : Prop := ∀ j, 0 < j → j < n → ¬ bq_bf V (h j) (h ((j - 1) / 2))
theorem bq_root {V h : Nat → Nat} {n : Nat} (H : bq_hp V h n) : ∀ j : Nat, j < n → ¬ bq_bf V (h j) (h 0) := by
  intro j
  induction j using Nat.strongRecOn with
  | ind j ih =>
    intro hj
    by_cases e : j = 0
    · rw [e]; exact bq_bf_irr V _
    · exact bq_bf_ntr (H j (by omega) hj) (ih ((j - 1) / 2) (by omega) (by omega))
/-- a heap of n places but for the edge above place k, where v is to stand -/
def bq_hu (V h : Nat → Nat) (n k v : Nat) : Prop :=
  (∀ j, 0 < j → j < n → j ≠ k → ¬ bq_bf V (bq_up h k v j) (bq_up h k v ((j - 1) / 2))) ∧
  (∀ j, 0 < j → j < n → (j - 1) / 2 = k → 0 < k → ¬ bq_bf V (bq_up h k v j) (bq_up h k v ((k - 1) / 2)))
theorem bq_hu_0 {V h : Nat → Nat} {n v : Nat} (H : bq_hp V h n) : bq_hu V h (n + 1) n v := by
  constructor
  · intro j h0 hj hn
    rw [bq_upn hn, bq_upn (by omega)]
    exact H j h0 (by omega)
  · intro j h0 hj e _
    omega
theorem bq_hu_s {V h : Nat → Nat} {n k v : Nat} (hk : 0 < k) (hn : k < n) (H : bq_hu V h n k v) (hb : bq_bf V v (h ((k - 1) / 2))) : bq_hu V (bq_up h k (h ((k - 1) / 2))) n ((k - 1) / 2) v := by
  obtain ⟨H1, H2⟩ := H
  have hp : (k - 1) / 2 < k := by omega
  generalize hpe : (k - 1) / 2 = p at *
  have eg : bq_up h k v p = h p := bq_upn (by omega)
  constructor
  · intro j h0 hj hne
    by_cases ek : j = k
    · rw [ek, bq_upn (by omega), bq_ups, hpe, bq_ups]
      exact bq_bf_as hb
    · rw [bq_upn hne, bq_upn ek]
      have G := H1 j h0 hj ek
      rw [bq_upn ek] at G
      by_cases e1 : (j - 1) / 2 = k
      · rw [e1, bq_upn (by omega), bq_ups]
        have G2 := H2 j h0 hj e1 hk
        rw [bq_upn ek, eg] at G2
        exact G2
      · rw [bq_upn e1] at G
        by_cases e2 : (j - 1) / 2 = p
        · rw [e2, bq_ups]
          rw [e2] at G
          exact fun z => G (bq_bf_tr z hb)
        · rw [bq_upn e2, bq_upn e1]
          exact G
  · intro j h0 hj e hp0
    have e3 : bq_up (bq_up h k (h p)) p v ((p - 1) / 2) = h ((p - 1) / 2) := by
      rw [bq_upn (by omega), bq_upn (by omega)]
    rw [e3]
    have Gp := H1 p hp0 (by omega) (by omega)
    rw [eg, bq_upn (by omega)] at Gp
    by_cases ek : j = k
    · rw [ek, bq_upn (by omega), bq_ups]
      exact Gp
    · rw [bq_upn (by omega), bq_upn ek]
      have G := H1 j h0 hj ek
      rw [bq_upn ek, e, eg] at G
      exact bq_bf_ntr G Gp
theorem bq_hu_e {V h : Nat → Nat} {n k v : Nat} (H : bq_hu V h n k v) (hb : k = 0 ∨ ¬ bq_bf V v (h ((k - 1) / 2))) : bq_hp V (bq_up h k v) n := by
  intro j h0 hj
  by_cases ek : j = k
  · subst ek
    rcases hb with z | z
    · omega
    · rw [bq_ups, bq_upn (by omega)]; exact z
  · exact H.1 j h0 hj ek
/-- a heap of n places but for the edges below place k, where v is to stand -/
def bq_hd (V h : Nat → Nat) (n k v : Nat) : Prop :=
  (∀ j, 0 < j → j < n → (j - 1) / 2 ≠ k → ¬ bq_bf V (bq_up h k v j) (bq_up h k v ((j - 1) / 2))) ∧
  (∀ j, 0 < j → j < n → (j - 1) / 2 = k → 0 < k → ¬ bq_bf V (bq_up h k v j) (bq_up h k v ((k - 1) / 2)))
theorem bq_hd_0 {V h : Nat → Nat} {n v : Nat} (H : bq_hp V h (n + 1)) : bq_hd V h n 0 v := by
  constructor
  · intro j h0 hj hn
    rw [bq_upn (by omega), bq_upn hn]
    exact H j h0 (by omega)
  · intro j h0 hj e z
    omega
theorem bq_hd_s {V h : Nat → Nat} {n k v c : Nat} (hc0 : 0 < c) (hcn : c < n) (hck : (c - 1) / 2 = k) (H : bq_hd V h n k v) (hl : ∀ j, 0 < j → j < n → (j - 1) / 2 = k → ¬ bq_bf V (h j) (h c)) (hb : bq_bf V (h c) v) : bq_hd V (bq_up h k (h c)) n c v := by
  obtain ⟨H1, H2⟩ := H
  have hkc : k < c := by omega
  have egc : bq_up h k v c = h c := bq_upn (by omega)
  constructor
  · intro j h0 hj hne
    by_cases ec : j = c
    · rw [ec, bq_ups, hck, bq_upn (by omega), bq_ups]
      exact bq_bf_as hb
    · rw [bq_upn ec, bq_upn hne]
      by_cases ek : j = k
      · subst ek
        rw [bq_ups, bq_upn (by omega)]
        have G := H2 c hc0 hcn hck h0
        rw [egc, bq_upn (by omega)] at G
        exact G
      · rw [bq_upn ek]
        by_cases e1 : (j - 1) / 2 = k
        · rw [e1, bq_ups]
          exact hl j h0 hj e1
        · have G := H1 j h0 hj e1
          rw [bq_upn ek, bq_upn e1] at G
          rw [bq_upn e1]
          exact G
  · intro j h0 hj e _
    rw [hck, bq_upn (j := j) (k := c) (by omega), bq_upn (j := j) (k := k) (by omega), bq_upn (j := k) (k := c) (by omega), bq_ups]
    have G := H1 j h0 hj (by omega)
    rw [e, egc, bq_upn (by omega)] at G
    exact G
theorem bq_hd_e {V h : Nat → Nat} {n k v : Nat} (H : bq_hd V h n k v) (hb : ∀ j, 0 < j → j < n → (j - 1) / 2 = k → ¬ bq_bf V (h j) v) : bq_hp V (bq_up h k v) n := by
  intro j h0 hj
  by_cases ek : (j - 1) / 2 = k
  · rw [ek, bq_ups, bq_upn (by omega)]
    exact hb j h0 hj ek
  · exact H.1 j h0 hj ek
end
section
/-! states by naturals; the small readers of X -/
def bq_A (f : Nat → Nat) : Nat → Int32 := fun j => nI (f j)
def bq_B (P : Nat → Bool) : Nat → Int32 := fun j => if P j = true then 1 else 0
def bq_uB (P : Nat → Bool) (k : Nat) (v : Bool) : Nat → Bool := fun j => if j = k then v else P j
theorem bq_uBs (P : Nat → Bool) (k : Nat) (v : Bool) : bq_uB P k v k = v := if_pos rfl
theorem bq_uBn {P : Nat → Bool} {k j : Nat} {v : Bool} (h : j ≠ k) : bq_uB P k v j = P j := if_neg h
theorem bq_rd {f : Nat → Nat} {x : Int32} (n : Nat) (hx : x = nI n) (h : n < 2 ^ 31) : bq_A f x.toNatClampNeg = nI (f n) := by
  subst hx; rw [nI_clamp h]; rfl
theorem bq_wr {f : Nat → Nat} {x y : Int32} (n v : Nat) (hx : x = nI n) (hy : y = nI v) (h : n < 2 ^ 31) : upd (bq_A f) x.toNatClampNeg y = bq_A (bq_up f n v) := by
  subst hx hy
  rw [nI_clamp h]
  funext j
  by_cases e : j = n
  · simp [upd, bq_A, bq_up, e]
  · simp [upd, bq_A, bq_up, e]
theorem bq_i8 {v : Nat} (h : v < 128) : (nI v).toInt8.toInt32 = nI v := lg_i2b_small (by rw [nI_toInt (by omega)]; omega) (by rw [nI_toInt (by omega)]; omega)
theorem bq_i16 {v : Nat} (h : v < 32768) : (nI v).toInt16.toInt32 = nI v := lg_i2s_small (by rw [nI_toInt (by omega)]; omega) (by rw [nI_toInt (by omega)]; omega)
theorem bq_nb {v : Nat} (h : v < 128) : vp_nar .byte (nI v) = nI v := by rw [vp_nar_byte, bq_i8 h]
theorem bq_nb2 {v : Nat} (h : v < 128) : vp_nar .byte (nI v).toInt8.toInt32 = nI v := by rw [bq_i8 h, bq_nb h]
theorem bq_ns {v : Nat} (h : v < 32768) : vp_nar .short (nI v) = nI v := by rw [vp_nar_short, bq_i16 h]
theorem bq_ns2 {v : Nat} (h : v < 32768) : vp_nar .short (nI v).toInt16.toInt32 = nI v := by rw [bq_i16 h, bq_ns h]
theorem bq_c12 (l : Nat) : nI l * 12 = nI (12 * l) := by
  rw [show (12 : Int32) = nI 12 from rfl, pk_mul]; exact congrArg nI (by omega)
theorem bq_ix (l i : Nat) : nI l * 12 + nI i = nI (12 * l + i) := by
  rw [bq_c12, nI_add]
theorem bq_iy (l i : Nat) : 12 * nI l + nI i = nI (12 * l + i) := by
  rw [show (12 : Int32) = nI 12 from rfl, pk_mul, nI_add]
theorem bq_bit (x : Int32) {i : Nat} (h : i < 32) : ((x >>> (nI i &&& 31)) &&& 1) = 0 ↔ bt x i = false := by
  have b1 : ∀ j, j < 32 → bt 1 j = decide (j = 0) := by decide +kernel
  constructor
  · intro e
    have g := congrArg (fun z => bt z 0) e
    rw [b_and, b_sshr i h x (by omega), b_0, b1 0 (by omega), if_pos (by omega)] at g
    simpa using g
  · intro e
    apply b_ext
    intro j hj
    rw [b_and, b_0, b1 j hj]
    by_cases z : j = 0
    · subst z
      rw [b_sshr i h x (by omega), if_pos (by omega)]
      rw [Nat.add_zero, e]; rfl
    · rw [decide_eq_false z, Bool.and_false]
def bq_PB (pr : Nat → Int32) (P : Nat → Bool) : Prop := ∀ l, l < 2 → ∀ i, i < 32 → bt (pr l) i = (decide (i < 12) && P (12 * l + i))
abbrev bq_X (b hs rs d c : Nat) (pr : Nat → Int32) (K S W so sz rd hp rk : Nat → Nat) : SX := (nI b, nI hs, nI rs, nI d, nI c, pr, bq_A K, bq_A S, bq_A W, bq_A so, bq_A sz, bq_A rd, bq_A hp, bq_A rk)
abbrev bq_Y (c : Nat) (P : Nat → Bool) (K S W : Nat → Nat) : SY := (nI c, bq_B P, bq_A K, bq_A S, bq_A W)
def bq_vl (S W : Nat → Nat) (q : Nat) : Nat := W 0 * S (q / 16) + W 1 * S (12 + q % 16)
def bq_ok (q : Nat) : Prop := q % 16 < 12 ∧ q < 192
def bq_RV (S W : Nat → Nat) : Prop := (∀ j, S j ≤ 1000) ∧ (∀ j, W j ≤ 9)
theorem bq_ws {S W : Nat → Nat} (h : bq_RV S W) (a b : Nat) : W a * S b ≤ 9000 := Nat.mul_le_mul (h.2 a) (h.1 b)
theorem bq_vlr {S W : Nat → Nat} (h : bq_RV S W) (q : Nat) : bq_vl S W q ≤ 18000 := by
  unfold bq_vl
  have := bq_ws h 0 (q / 16)
  have := bq_ws h 1 (12 + q % 16)
  omega
section
variable {zb zh zr zd zc : Nat} {pr : Nat → Int32} {K S W so sz rd hp rk : Nat → Nat} {P : Nat → Bool}
theorem bq_isL {post : Int32 → Prop} {l : Nat} (hl : l < 2) (h : post 1) : wpX_isList post (nI l) := by
  rcases (show l = 0 ∨ l = 1 by omega) with e | e
  · subst e; exact br_t nI_0 h
  · subst e; exact br_f (nI_ne0 (by omega) (by omega)) (br_t rfl h)
theorem bq_has {post : Int32 → Prop} (hB : bq_PB pr P) {l i : Nat} (hl : l < 2) (hi : i < 12) (h0 : P (12 * l + i) = false → post 0) (h1 : P (12 * l + i) = true → post 1) : wpX_has post (bq_X zb zh zr zd zc pr K S W so sz rd hp rk) (nI l) (nI i) := by
  unfold wpX_has
  refine bq_isL hl (br_f (by decide) (br_f (nI_pos (by omega)) (br_f (nI_ge (b := 12) hi (by decide)) (And.intro (vp_in_nI hl (by decide)) ?_))))
  rw [nI_clamp (n := l) (by omega)]
  have e := hB l hl i (by omega)
  rw [decide_eq_true hi, Bool.true_and] at e
  cases hP : P (12 * l + i)
  · rw [hP] at e
    exact br_t ((bq_bit _ (by omega)).mpr e) (h0 hP)
  · rw [hP] at e
    exact br_f (fun z => by rw [(bq_bit _ (by omega)).mp z] at e; exact Bool.noConfusion e) (h1 hP)
theorem bq_part {post : Int32 → Prop} {l i : Nat} (hl : l < 2) (hi : i < 12) (h : post (nI (W l * S (12 * l + i)))) : wpX_part post (bq_X zb zh zr zd zc pr K S W so sz rd hp rk) (nI l) (nI i) := by
  unfold wpX_part
  dsimp only
  rw [bq_ix, bq_rd l rfl (by omega), bq_rd (12 * l + i) rfl (by omega), pk_mul]
  exact And.intro (vp_in_nI hl (by decide)) (And.intro (vp_in_nI (by omega) (by decide)) h)
theorem bq_valueOf {post : Int32 → Prop} {q : Nat} (hq : bq_ok q) (h : post (nI (bq_vl S W q))) : wpX_valueOf post (bq_X zb zh zr zd zc pr K S W so sz rd hp rk) (nI q) := by
  obtain ⟨h1, h2⟩ := hq
  unfold wpX_valueOf
  dsimp only
  rw [pk_shrN (by omega) ((4 : Int32) &&& 31) 4 (by decide), pk_andN (by omega) 4 (by decide)]
  refine bq_part (l := 0) (i := q / 2 ^ 4) (by omega) (by omega) ?_
  refine bq_part (l := 1) (i := q % 2 ^ 4) (by omega) (by omega) ?_
  rw [nI_add]
  have e : W 0 * S (12 * 0 + q / 2 ^ 4) + W 1 * S (12 * 1 + q % 2 ^ 4) = bq_vl S W q := by
    unfold bq_vl
    rw [Nat.mul_zero, Nat.zero_add]
  rw [e]
  exact h
theorem bq_before {post : Int32 → Prop} (hV : bq_RV S W) {a b : Nat} (ha : bq_ok a) (hb : bq_ok b) (h1 : bq_bf (bq_vl S W) a b → post 1) (h0 : ¬ bq_bf (bq_vl S W) a b → post 0) : wpX_before post (bq_X zb zh zr zd zc pr K S W so sz rd hp rk) (nI a) (nI b) := by
  have va := bq_vlr hV a
  have vb := bq_vlr hV b
  unfold wpX_before
  dsimp only
  refine bq_valueOf ha (bq_valueOf hb ?_)
  have a2 := ha.2
  have b2 := hb.2
  refine pk_lt (bq_vl S W b) (bq_vl S W a) (fun z => h1 (Or.inl z)) (fun z => ?_)
  refine pk_eq (bq_vl S W a) (bq_vl S W b) (fun e => ?_) (fun e => h0 ?_)
  · exact pk_le b a (fun g => h0 (by unfold bq_bf; omega)) (fun g => h1 (Or.inr ⟨e, g⟩))
  · unfold bq_bf; omega
end
end
section
/-! insertion sort of one list; begin -/
def bq_sl (so : Nat → Nat) (l : Nat) : Nat → Nat := fun k => so (12 * l + k)
theorem bq_sl_up (so : Nat → Nat) (l k v : Nat) : bq_sl (bq_up so (12 * l + k) v) l = bq_up (bq_sl so l) k v := by
  funext j
  unfold bq_sl bq_up
  by_cases e : j = k
  · rw [if_pos e, if_pos (by omega)]
  · rw [if_neg e, if_neg (by omega)]
def bq_In (T f0 f : Nat → Nat) (n k i : Nat) : Prop :=
  (∀ q, bq_cn (bq_up f k i) (n + 1) q = bq_cn f0 n q + bq_d i q) ∧ (∀ a b, a < b → b ≤ n → a ≠ k → b ≠ k → T (f b) ≤ T (f a)) ∧ (∀ b, k < b → b ≤ n → T (f b) < T i)
theorem bq_In_0 {T f0 : Nat → Nat} {n i : Nat} (H : ∀ a b, a < b → b < n → T (f0 b) ≤ T (f0 a)) : bq_In T f0 f0 n n i := by
  refine ⟨fun q => ?_, fun a b hab hb _ hn => H a b hab (by omega), fun b h1 h2 => by omega⟩
  rw [bq_cn_s, bq_ups, bq_cn_hi q n (Nat.le_refl n)]
theorem bq_In_s {T f0 f : Nat → Nat} {n k i : Nat} (hkn : k + 1 ≤ n) (H : bq_In T f0 f n (k + 1) i) (hT : T (f k) < T i) : bq_In T f0 (bq_up f (k + 1) (f k)) n k i := by
  obtain ⟨H1, H2, H3⟩ := H
  refine ⟨fun q => ?_, fun a b hab hb ha hb' => ?_, fun b h1 h2 => ?_⟩
  · rw [bq_cn_sw q (by omega) (by omega) (by omega)]; exact H1 q
  · by_cases ea : a = k + 1
    · subst ea
      rw [bq_ups, bq_upn (by omega)]; exact H2 k b (by omega) hb (by omega) (by omega)
    · rw [bq_upn ea]
      by_cases eb : b = k + 1
      · subst eb
        rw [bq_ups]; exact H2 a k (by omega) (by omega) ea (by omega)
      · rw [bq_upn eb]; exact H2 a b hab hb ea eb
  · by_cases eb : b = k + 1
    · rw [eb, bq_ups]; exact hT
    · rw [bq_upn eb]; exact H3 b (by omega) h2
theorem bq_In_e {T f0 f : Nat → Nat} {n k i : Nat} (H : bq_In T f0 f n k i) (hT : ∀ k', k = k' + 1 → T i ≤ T (f k')) : ∀ a b, a < b → b < n + 1 → T (bq_up f k i b) ≤ T (bq_up f k i a) := by
  obtain ⟨H1, H2, H3⟩ := H
  intro a b hab hb
  by_cases ea : a = k
  · subst ea
    rw [bq_ups, bq_upn (by omega)]
    exact Nat.le_of_lt (H3 b hab (by omega))
  · rw [bq_upn ea]
    by_cases eb : b = k
    · subst eb
      rw [bq_ups]
      obtain ⟨b', rfl⟩ : ∃ b', b = b' + 1 := ⟨b - 1, by omega⟩
      have t := hT b' rfl
      by_cases e : a = b'
      · rw [e]; exact t
      · exact Nat.le_trans t (H2 a b' (by omega) (by omega) ea (by omega))
    · rw [bq_upn eb]
      exact H2 a b hab (by omega) ea eb
def bq_one (P : Nat → Bool) (l i q : Nat) : Nat := if q < i ∧ P (12 * l + q) = true then 1 else 0
theorem bq_one_f {P : Nat → Bool} {l i : Nat} (h : P (12 * l + i) = false) (q : Nat) : bq_one P l (i + 1) q = bq_one P l i q := by
  unfold bq_one
  by_cases e : q = i
  · subst e
    rw [if_neg (fun z => by rw [h] at z; exact Bool.noConfusion z.2), if_neg (fun z => by omega)]
  · by_cases g : q < i ∧ P (12 * l + q) = true
    · rw [if_pos g, if_pos ⟨by omega, g.2⟩]
    · rw [if_neg g, if_neg (fun z => g ⟨by omega, z.2⟩)]
theorem bq_one_t {P : Nat → Bool} {l i : Nat} (h : P (12 * l + i) = true) (q : Nat) : bq_one P l (i + 1) q = bq_one P l i q + bq_d i q := by
  unfold bq_one bq_d
  by_cases e : q = i
  · subst e
    rw [if_pos ⟨by omega, h⟩, if_neg (fun z => by omega), if_pos rfl]
  · by_cases g : q < i ∧ P (12 * l + q) = true
    · rw [if_pos g, if_pos ⟨by omega, g.2⟩, if_neg (by omega)]
    · rw [if_neg g, if_neg (fun z => g ⟨by omega, z.2⟩), if_neg (by omega)]
theorem bq_one_0 (P : Nat → Bool) (l q : Nat) : bq_one P l 0 q = 0 := if_neg (fun z => by omega)
theorem bq_one_le (P : Nat → Bool) (l i q : Nat) : bq_one P l i q ≤ 1 := by
  unfold bq_one
  split <;> omega
theorem bq_one_p {P : Nat → Bool} {l i q : Nat} (h : 0 < bq_one P l i q) : q < i ∧ P (12 * l + q) = true := by
  unfold bq_one at h
  by_cases g : q < i ∧ P (12 * l + q) = true
  · exact g
  · rw [if_neg g] at h; omega
theorem bq_one_q {P : Nat → Bool} {l i q : Nat} (h : q < i) (g : P (12 * l + q) = true) : bq_one P l i q = 1 := if_pos ⟨h, g⟩
/-- so lists, for list l, the entries below i that are there, n of them, from the best score down -/
def bq_Ps (P : Nat → Bool) (S so : Nat → Nat) (l n i : Nat) : Prop := n ≤ i ∧ (∀ q, bq_cn (bq_sl so l) n q = bq_one P l i q) ∧ (∀ a b, a < b → b < n → S (12 * l + bq_sl so l b) ≤ S (12 * l + bq_sl so l a))
section
variable {zb zh zr zd zc : Nat} {pr : Nat → Int32} {K S W sz rd hp rk : Nat → Nat} {P : Nat → Bool}
theorem bq_sort_97 {post : SX → Prop} {J : Int32 → Int32 → (Nat → Int32) → (Nat → Int32) → (Nat → Int32) → (Nat → Int32) → (Nat → Int32) → (Nat → Int32) → (Nat → Int32) → (Nat → Int32) → (Nat → Int32) → Prop} {l i n0 k : Nat} {so : Nat → Nat} (hl : l < 2) (hi : i < 12) (hn : n0 ≤ i) (hk : k ≤ n0)
  (hJ : J (nI (n0 + 1)) (nI (i + 1)) pr (bq_A K) (bq_A S) (bq_A W) (bq_A (bq_up so (12 * l + k) i)) (bq_A sz) (bq_A rd) (bq_A hp) (bq_A rk)) :
  wX_sort_97 post J (nI l) (nI n0) (nI i) (nI k) (nI zb) (nI zh) (nI zr) (nI zd) (nI zc) pr (bq_A K) (bq_A S) (bq_A W) (bq_A so) (bq_A sz) (bq_A rd) (bq_A hp) (bq_A rk) := by
  unfold wX_sort_97
  refine And.intro (pk_in (12 * l + k) 24 (by omega) (bq_ix l k)) ?_
  refine nm_r (bq_wr (12 * l + k) i (bq_ix l k) (bq_nb2 (by omega)) (by omega)) ?_
  exact nm_r (nI_1 n0) (nm_r (nI_1 i) hJ)
theorem bq_sort_22 {post : SX → Prop} {J : Int32 → Int32 → (Nat → Int32) → (Nat → Int32) → (Nat → Int32) → (Nat → Int32) → (Nat → Int32) → (Nat → Int32) → (Nat → Int32) → (Nat → Int32) → (Nat → Int32) → Prop} {l i n0 : Nat} {s0 : Nat → Nat} (hl : l < 2) (hi : i < 12) (hn : n0 ≤ i) (hS : ∀ j, S j ≤ 1000)
  (hJ : ∀ so' : Nat → Nat, (∀ j, so' j < 12) → (∀ j, (j < 12 * l ∨ 12 * l + 12 ≤ j) → so' j = s0 j) → (∀ q, bq_cn (bq_sl so' l) (n0 + 1) q = bq_cn (bq_sl s0 l) n0 q + bq_d i q) → (∀ a b, a < b → b < n0 + 1 → S (12 * l + bq_sl so' l b) ≤ S (12 * l + bq_sl so' l a)) →
    J (nI (n0 + 1)) (nI (i + 1)) pr (bq_A K) (bq_A S) (bq_A W) (bq_A so') (bq_A sz) (bq_A rd) (bq_A hp) (bq_A rk)) :
  ∀ (m k : Nat) (so : Nat → Nat), k < m → k ≤ n0 → (∀ j, so j < 12) → (∀ j, (j < 12 * l ∨ 12 * l + 12 ≤ j) → so j = s0 j) → bq_In (fun q => S (12 * l + q)) (bq_sl s0 l) (bq_sl so l) n0 k i →
  wX_sort_22 post J (nI l) (nI n0) (nI i) (nI zb) (nI zh) (nI zr) (nI zd) (nI zc) m (nI k) pr (bq_A K) (bq_A S) (bq_A W) (bq_A so) (bq_A sz) (bq_A rd) (bq_A hp) (bq_A rk) := by
  intro m
  induction m with
  | zero => intro k so h; omega
  | succ m ih =>
    intro k so hm hk hso hout H
    have ex : (∀ k', k = k' + 1 → S (12 * l + i) ≤ S (12 * l + so (12 * l + k'))) → wX_sort_97 post J (nI l) (nI n0) (nI i) (nI k) (nI zb) (nI zh) (nI zr) (nI zd) (nI zc) pr (bq_A K) (bq_A S) (bq_A W) (bq_A so) (bq_A sz) (bq_A rd) (bq_A hp) (bq_A rk) := by
      intro hT
      refine bq_sort_97 hl hi hn hk (hJ _ (bq_upP (fun z => z < 12) hso hi) (fun j hj => ?_) (fun q => ?_) ?_)
      · rw [bq_upn (by omega)]; exact hout j hj
      · rw [bq_sl_up]; exact H.1 q
      · rw [bq_sl_up]; exact bq_In_e H hT
    rw [wX_sort_22]
    refine pk_le k 0 (fun z => ex (fun k' e => by omega)) (fun z => ?_)
    obtain ⟨k', rfl⟩ : ∃ k', k = k' + 1 := ⟨k - 1, by omega⟩
    have hs' := hso (12 * l + k')
    have e1 : nI l * 12 + nI (k' + 1) - 1 = nI (12 * l + k') := by rw [bq_ix]; exact nI_pred (12 * l + k')
    have e2 : nI l * 12 + bq_A so (nI l * 12 + nI (k' + 1) - 1).toNatClampNeg = nI (12 * l + so (12 * l + k')) := by
      rw [bq_rd _ e1 (by omega), bq_ix]
    have e3 : bq_A S (nI l * 12 + nI i).toNatClampNeg = nI (S (12 * l + i)) := bq_rd _ (bq_ix l i) (by omega)
    have e4 : bq_A S (nI l * 12 + bq_A so (nI l * 12 + nI (k' + 1) - 1).toNatClampNeg).toNatClampNeg = nI (S (12 * l + so (12 * l + k'))) := bq_rd _ e2 (by omega)
    have e5 : vp_nar .byte (bq_A so (nI l * 12 + nI (k' + 1) - 1).toNatClampNeg) = nI (so (12 * l + k')) := by
      rw [bq_rd _ e1 (by omega), bq_nb (by omega)]
    have b1 := hS (12 * l + i)
    have b2 := hS (12 * l + so (12 * l + k'))
    refine And.intro (pk_in (12 * l + k') 24 (by omega) e1) (And.intro (pk_in (12 * l + so (12 * l + k')) 24 (by omega) e2) (And.intro (pk_in (12 * l + i) 24 (by omega) (bq_ix l i)) ?_))
    refine pk_le (S (12 * l + i)) (S (12 * l + so (12 * l + k'))) (fun z2 => ex (fun k2 e => ?_)) (fun z2 => ?_) e3 e4
    · have : k2 = k' := by omega
      rw [this]; exact z2
    · refine And.intro (pk_in (12 * l + k') 24 (by omega) e1) (And.intro (pk_in (12 * l + (k' + 1)) 24 (by omega) (bq_ix l (k' + 1))) ?_)
      refine nm_r (bq_wr (12 * l + (k' + 1)) (so (12 * l + k')) (bq_ix l (k' + 1)) e5 (by omega)) ?_
      refine nm_r (pk_m1 k') ?_
      refine ih k' _ (by omega) (by omega) (bq_upP (fun z => z < 12) hso hs') (fun j hj => ?_) ?_
      · rw [bq_upn (by omega)]; exact hout j hj
      · rw [bq_sl_up]; exact bq_In_s hk H z2
theorem bq_sort_4 {post : SX → Prop} {l : Nat} {s0 : Nat → Nat} (hl : l < 2) (hB : bq_PB pr P) (hS : ∀ j, S j ≤ 1000)
  (h : ∀ (so' : Nat → Nat) (n : Nat), (∀ j, so' j < 12) → (∀ j, (j < 12 * l ∨ 12 * l + 12 ≤ j) → so' j = s0 j) → bq_Ps P S so' l n 12 → post (bq_X zb zh zr zd zc pr K S W so' (bq_up sz l n) (bq_up rd l 0) hp rk)) :
  ∀ (m i n : Nat) (so : Nat → Nat), 12 < m + i → i ≤ 12 → (∀ j, so j < 12) → (∀ j, (j < 12 * l ∨ 12 * l + 12 ≤ j) → so j = s0 j) → bq_Ps P S so l n i →
  wX_sort_4 post (nI l) (nI zb) (nI zh) (nI zr) (nI zd) (nI zc) m (nI n) (nI i) pr (bq_A K) (bq_A S) (bq_A W) (bq_A so) (bq_A sz) (bq_A rd) (bq_A hp) (bq_A rk) := by
  intro m
  induction m with
  | zero => intro i n so h1 h2; omega
  | succ m ih =>
    intro i n so hm hi hso hout H
    have hni := H.1
    rw [wX_sort_4]
    refine pk_le 12 i (fun z => ?_) (fun z => ?_)
    · have e : i = 12 := by omega
      subst e
      refine And.intro (pk_in l 2 hl) (nm_r (bq_wr l n rfl (bq_nb2 (by omega)) (by omega)) ?_)
      refine And.intro (pk_in l 2 hl) (nm_r (bq_wr l 0 rfl (bq_nb (v := 0) (by omega)) (by omega)) ?_)
      exact h so n hso hout H
    · refine bq_has hB hl z (fun hP => br_t rfl (nm_r (nI_1 i) ?_)) (fun hP => br_f (by decide) ?_)
      · refine ih (i + 1) n so (by omega) z hso hout ⟨by omega, fun q => ?_, H.2.2⟩
        rw [bq_one_f hP]; exact H.2.1 q
      · refine ⟨n + 1, bq_sort_22 (s0 := so) hl z hni hS (fun so' k1 k2 k3 k4 => ?_) (n + 1) n so (by omega) (Nat.le_refl n) hso (fun j _ => rfl) (bq_In_0 H.2.2)⟩
        refine ih (i + 1) (n + 1) so' (by omega) z k1 (fun j hj => by rw [k2 j hj]; exact hout j hj) ⟨by omega, fun q => ?_, k4⟩
        rw [k3 q, H.2.1 q, bq_one_t hP]
theorem bq_sort {post : SX → Prop} {l : Nat} {so : Nat → Nat} (hl : l < 2) (hB : bq_PB pr P) (hS : ∀ j, S j ≤ 1000) (hso : ∀ j, so j < 12)
  (h : ∀ (so' : Nat → Nat) (n : Nat), (∀ j, so' j < 12) → (∀ j, (j < 12 * l ∨ 12 * l + 12 ≤ j) → so' j = so j) → bq_Ps P S so' l n 12 → post (bq_X zb zh zr zd zc pr K S W so' (bq_up sz l n) (bq_up rd l 0) hp rk)) :
  wpX_sort post (bq_X zb zh zr zd zc pr K S W so sz rd hp rk) (nI l) := by
  unfold wpX_sort
  refine ⟨13, bq_sort_4 (s0 := so) hl hB hS h 13 0 0 so (by omega) (by omega) hso (fun j _ => rfl) ⟨Nat.le_refl 0, fun q => ?_, fun a b _ hb => by omega⟩⟩
  rw [bq_one_0]; rfl
end
end
section
/-! the heap's walks: push, lesserChild, pop -/
section
variable {zb zh zr zd zc : Nat} {pr : Nat → Int32} {K S W so sz rd rk : Nat → Nat}
theorem bq_push_15 {post : SX → Prop} {p : Nat} {h0 : Nat → Nat} (hV : bq_RV S W) (hok : bq_ok p) (hz : zh < 144)
  (h : ∀ h' : Nat → Nat, (∀ j, bq_ok (h' j)) → bq_hp (bq_vl S W) h' (zh + 1) → (∀ q, bq_cn h' (zh + 1) q = bq_cn h0 zh q + bq_d p q) → post (bq_X zb (zh + 1) zr zd zc pr K S W so sz rd h' rk)) :
  ∀ (m k : Nat) (hq : Nat → Nat), k < m → k ≤ zh → (∀ j, bq_ok (hq j)) → bq_hu (bq_vl S W) hq (zh + 1) k p → (∀ q, bq_cn (bq_up hq k p) (zh + 1) q = bq_cn h0 zh q + bq_d p q) →
  wX_push_15 post (nI p) (nI zb) (nI (zh + 1)) (nI zr) (nI zd) (nI zc) m (nI k) pr (bq_A K) (bq_A S) (bq_A W) (bq_A so) (bq_A sz) (bq_A rd) (bq_A hq) (bq_A rk) := by
  intro m
  induction m with
  | zero => intro k hq h1; omega
  | succ m ih =>
    intro k hq hm hk hoq H hc
    have ex : (k = 0 ∨ ¬ bq_bf (bq_vl S W) p (hq ((k - 1) / 2))) → (vp_in (nI k) 144 ∧ ∀ y : Nat → Int32, y = upd (bq_A hq) (nI k).toNatClampNeg (vp_nar .short (nI p).toInt16.toInt32) → post (nI zb, nI (zh + 1), nI zr, nI zd, nI zc, pr, bq_A K, bq_A S, bq_A W, bq_A so, bq_A sz, bq_A rd, y, bq_A rk)) := by
      intro hT
      refine And.intro (pk_in k 144 (by omega)) (nm_r (bq_wr k p rfl (bq_ns2 (by have := hok.2; omega)) (by omega)) ?_)
      exact h _ (bq_upP bq_ok hoq hok) (bq_hu_e H hT) hc
    rw [wX_push_15]
    refine pk_le k 0 (fun z => ex (Or.inl (by omega))) (fun z => ?_)
    have e1 : (nI k - 1) >>> ((1 : Int32) &&& 31) = nI ((k - 1) / 2) := by
      rw [show (1 : Int32) = nI 1 from rfl, pk_sub (by omega), pk_shrN (by omega) (nI 1 &&& 31) 1 (by decide)]
    have e2 : bq_A hq ((nI k - 1) >>> ((1 : Int32) &&& 31)).toNatClampNeg = nI (hq ((k - 1) / 2)) := bq_rd _ e1 (by omega)
    have hoh := hoq ((k - 1) / 2)
    refine And.intro (pk_in ((k - 1) / 2) 144 (by omega) e1) ?_
    rw [e2]
    refine bq_before hV hok hoh (fun hb => br_f (by decide) ?_) (fun hb => br_t rfl (ex (Or.inr hb)))
    refine And.intro (pk_in ((k - 1) / 2) 144 (by omega) e1) (And.intro (pk_in k 144 (by omega)) ?_)
    refine nm_r (bq_wr k (hq ((k - 1) / 2)) rfl (bq_ns (by have := hoh.2; omega)) (by omega)) ?_
    refine nm_r e1 ?_
    refine ih ((k - 1) / 2) _ (by omega) (by omega) (bq_upP bq_ok hoq hoh) (bq_hu_s (by omega) (by omega) H hb) (fun q => ?_)
    rw [bq_cn_sw q (by omega) (by omega) (by omega)]
    exact hc q
theorem bq_push {post : SX → Prop} {p : Nat} {hp : Nat → Nat} (hV : bq_RV S W) (hok : bq_ok p) (hz : zh < 144) (hoq : ∀ j, bq_ok (hp j)) (H : bq_hp (bq_vl S W) hp zh)
  (h : ∀ h' : Nat → Nat, (∀ j, bq_ok (h' j)) → bq_hp (bq_vl S W) h' (zh + 1) → (∀ q, bq_cn h' (zh + 1) q = bq_cn hp zh q + bq_d p q) → post (bq_X zb (zh + 1) zr zd zc pr K S W so sz rd h' rk)) :
  wpX_push post (bq_X zb zh zr zd zc pr K S W so sz rd hp rk) (nI p) := by
  unfold wpX_push
  refine nm_r (nI_1 zh) ⟨zh + 1, ?_⟩
  refine bq_push_15 (h0 := hp) hV hok hz h (zh + 1) zh hp (by omega) (Nat.le_refl zh) hoq (bq_hu_0 H) (fun q => ?_)
  rw [bq_cn_s, bq_ups, bq_cn_hi q zh (Nat.le_refl zh)]
def bq_lc (V h : Nat → Nat) (n k c : Nat) : Prop := 0 < c ∧ c < n ∧ (c - 1) / 2 = k ∧ ∀ j, 0 < j → j < n → (j - 1) / 2 = k → ¬ bq_bf V (h j) (h c)
theorem bq_lesser {post : Int32 → Prop} {n k : Nat} {hp : Nat → Nat} (hV : bq_RV S W) (hn : n ≤ 144) (hk : k ≤ 144) (hoq : ∀ j, bq_ok (hp j))
  (h0 : n ≤ 2 * k + 1 → post (-1)) (h1 : ∀ c, bq_lc (bq_vl S W) hp n k c → post (nI c)) :
  wpX_lesserChild post (bq_X zb n zr zd zc pr K S W so sz rd hp rk) (nI k) := by
  unfold wpX_lesserChild
  have e : 2 * nI k + 1 = nI (2 * k + 1) := by
    rw [show (2 : Int32) = nI 2 from rfl, pk_mul, nI_1]
  refine nm_r e (nm_r (nI_1 (2 * k + 1)) ?_)
  refine pk_lt (2 * k + 1) n (fun z => ?_) (fun z => h0 z)
  refine pk_le n (2 * k + 1 + 1) (fun z2 => ?_) (fun z2 => ?_)
  · refine h1 (2 * k + 1) ⟨by omega, z, by omega, fun j j0 jn je => ?_⟩
    have : j = 2 * k + 1 := by omega
    rw [this]; exact bq_bf_irr _ _
  · refine And.intro (pk_in (2 * k + 1 + 1) 144 (by omega)) (And.intro (pk_in (2 * k + 1) 144 (by omega)) ?_)
    rw [bq_rd (2 * k + 1 + 1) rfl (by omega), bq_rd (2 * k + 1) rfl (by omega)]
    refine bq_before hV (hoq _) (hoq _) (fun hb => br_f (by decide) ?_) (fun hb => br_t rfl ?_)
    · refine h1 (2 * k + 1 + 1) ⟨by omega, z2, by omega, fun j j0 jn je => ?_⟩
      rcases (show j = 2 * k + 1 ∨ j = 2 * k + 1 + 1 by omega) with q | q
      · rw [q]; exact bq_bf_as hb
      · rw [q]; exact bq_bf_irr _ _
    · refine h1 (2 * k + 1) ⟨by omega, z, by omega, fun j j0 jn je => ?_⟩
      rcases (show j = 2 * k + 1 ∨ j = 2 * k + 1 + 1 by omega) with q | q
      · rw [q]; exact bq_bf_irr _ _
      · rw [q]; exact hb
theorem bq_pop_28 {post : SX → Prop} {p n : Nat} {T : Nat → Nat} (hV : bq_RV S W) (hok : bq_ok p) (hn : n < 144)
  (h : ∀ h' : Nat → Nat, (∀ j, bq_ok (h' j)) → bq_hp (bq_vl S W) h' n → (∀ q, bq_cn h' n q = T q) → post (bq_X zb n zr zd zc pr K S W so sz rd h' rk)) :
  ∀ (m k : Nat) (x3 : Int32) (hq : Nat → Nat), n < m + k → k ≤ n → (∀ j, bq_ok (hq j)) → bq_hd (bq_vl S W) hq n k p → (∀ q, bq_cn (bq_up hq k p) n q = T q) →
  ((x3 = -1 ∧ n ≤ 2 * k + 1) ∨ (∃ c, x3 = nI c ∧ bq_lc (bq_vl S W) hq n k c)) →
  wX_pop_28 post (nI p) (nI zb) (nI n) (nI zr) (nI zd) (nI zc) m (nI k) x3 pr (bq_A K) (bq_A S) (bq_A W) (bq_A so) (bq_A sz) (bq_A rd) (bq_A hq) (bq_A rk) := by
  intro m
  induction m with
  | zero => intro k x3 hq h1 h2; omega
  | succ m ih =>
    intro k x3 hq hm hk hoq H hc hx
    have ex : (∀ j, 0 < j → j < n → (j - 1) / 2 = k → ¬ bq_bf (bq_vl S W) (hq j) p) → (vp_in (nI k) 144 ∧ ∀ y : Nat → Int32, y = upd (bq_A hq) (nI k).toNatClampNeg (vp_nar .short (nI p).toInt16.toInt32) → post (nI zb, nI n, nI zr, nI zd, nI zc, pr, bq_A K, bq_A S, bq_A W, bq_A so, bq_A sz, bq_A rd, y, bq_A rk)) := by
      intro hT
      refine And.intro (pk_in k 144 (by omega)) (nm_r (bq_wr k p rfl (bq_ns2 (by have := hok.2; omega)) (by omega)) ?_)
      exact h _ (bq_upP bq_ok hoq hok) (bq_hd_e H hT) hc
    rw [wX_pop_28]
    rcases hx with ⟨rfl, hl⟩ | ⟨c, rfl, hl⟩
    · exact br_t (by decide) (ex (fun j j0 jn je => by omega))
    · obtain ⟨c0, cn, ck, hl⟩ := hl
      refine br_f (nI_pos (by omega)) (And.intro (pk_in c 144 (by omega)) ?_)
      rw [bq_rd c rfl (by omega)]
      refine bq_before hV (hoq c) hok (fun hb => br_f (by decide) ?_) (fun hb => br_t rfl (ex (fun j j0 jn je => bq_bf_ntr (hl j j0 jn je) hb)))
      have oc := (hoq c).2
      refine And.intro (pk_in c 144 (by omega)) (And.intro (pk_in k 144 (by omega)) ?_)
      refine nm_r (bq_wr k (hq c) rfl (bq_ns (by omega)) (by omega)) ?_
      have go : ∀ y : Int32, ((y = -1 ∧ n ≤ 2 * c + 1) ∨ (∃ c', y = nI c' ∧ bq_lc (bq_vl S W) (bq_up hq k (hq c)) n c c')) → wX_pop_28 post (nI p) (nI zb) (nI n) (nI zr) (nI zd) (nI zc) m (nI c) y pr (bq_A K) (bq_A S) (bq_A W) (bq_A so) (bq_A sz) (bq_A rd) (bq_A (bq_up hq k (hq c))) (bq_A rk) := by
        intro y hy
        refine ih c y _ (by omega) (by omega) (bq_upP bq_ok hoq (hoq c)) (bq_hd_s c0 cn ck H hl hb) (fun q => ?_) hy
        rw [bq_cn_sw q (by omega) (by omega) (by omega)]
        exact hc q
      exact bq_lesser hV (by omega) (by omega) (bq_upP bq_ok hoq (hoq c)) (fun z => go _ (Or.inl ⟨rfl, z⟩)) (fun c' z => go _ (Or.inr ⟨c', rfl, z⟩))
theorem bq_pop {post : SX → Prop} {n : Nat} {hp : Nat → Nat} (hV : bq_RV S W) (hn : n < 144) (hoq : ∀ j, bq_ok (hp j)) (H : bq_hp (bq_vl S W) hp (n + 1))
  (h : ∀ h' : Nat → Nat, (∀ j, bq_ok (h' j)) → bq_hp (bq_vl S W) h' n → (∀ q, bq_cn h' n q + bq_d (hp 0) q = bq_cn hp (n + 1) q) → post (bq_X zb n zr zd zc pr K S W so sz rd h' rk)) :
  wpX_pop post (bq_X zb (n + 1) zr zd zc pr K S W so sz rd hp rk) := by
  unfold wpX_pop
  refine nm_r (nI_pred n) (And.intro (pk_in n 144 hn) (nm_r (bq_rd n rfl (by omega)) ?_))
  have go : ∀ y : Int32, ((y = -1 ∧ n ≤ 2 * 0 + 1) ∨ (∃ c', y = nI c' ∧ bq_lc (bq_vl S W) hp n 0 c')) → ∃ f : Nat, wX_pop_28 post (nI (hp n)) (nI zb) (nI n) (nI zr) (nI zd) (nI zc) f (nI 0) y pr (bq_A K) (bq_A S) (bq_A W) (bq_A so) (bq_A sz) (bq_A rd) (bq_A hp) (bq_A rk) := by
    intro y hy
    refine ⟨n + 1, bq_pop_28 (T := fun q => bq_cn (bq_up hp 0 (hp n)) n q) hV (hoq n) hn (fun h' a1 a2 a3 => h h' a1 a2 (fun q => ?_)) (n + 1) 0 y hp (by omega) (by omega) hoq (bq_hd_0 H) (fun q => rfl) hy⟩
    rw [a3 q, bq_cn_s]
    by_cases e : n = 0
    · subst e
      rw [bq_cn_0, bq_cn_0]
    · have := bq_cn_up (f := hp) (k := 0) (v := hp n) q n (by omega)
      omega
  exact bq_lesser (k := 0) hV (by omega) (by omega) hoq (fun z => go _ (Or.inl ⟨rfl, z⟩)) (fun c' z => go _ (Or.inr ⟨c', rfl, z⟩))
end
end
section
/-! the invariant of a ranking that has begun, and its steps, in naturals alone -/
def bq_isP (P : Nat → Bool) (K : Nat → Nat) (q : Nat) : Prop := bq_ok q ∧ P (q / 16) = true ∧ P (12 + q % 16) = true ∧ K (q / 16) = K (12 + q % 16)
def bq_M (K so rd : Nat → Nat) (q : Nat) : Nat := if K (q / 16) = K (12 + q % 16) then bq_cn (bq_sl so 0) (rd 0) (q / 16) * bq_cn (bq_sl so 1) (rd 1) (q % 16) else 0
def bq_Rg (so hp rk : Nat → Nat) : Prop := (∀ j, so j < 12) ∧ (∀ j, bq_ok (hp j)) ∧ (∀ j, bq_ok (rk j))
def bq_SI (P : Nat → Bool) (S so sz rd : Nat → Nat) : Prop := bq_Ps P S so 0 (sz 0) 12 ∧ bq_Ps P S so 1 (sz 1) 12 ∧ rd 0 ≤ sz 0 ∧ rd 1 ≤ sz 1
def bq_RI (P : Nat → Bool) (K V : Nat → Nat) (zr : Nat) (rk : Nat → Nat) : Prop :=
  (∀ i j, i < j → j < zr → bq_bf V (rk i) (rk j)) ∧ (∀ q, bq_isP P K q → bq_cn rk zr q = 0 → ∀ j, j < zr → bq_bf V (rk j) q) ∧ (∀ j, j < zr → bq_isP P K (rk j))
def bq_HI (K V so rd : Nat → Nat) (zh zr : Nat) (hp rk : Nat → Nat) : Prop := zh + zr ≤ rd 0 * rd 1 ∧ (∀ q, bq_cn hp zh q + bq_cn rk zr q = bq_M K so rd q) ∧ bq_hp V hp zh
def bq_All (P : Nat → Bool) (K : Nat → Nat) (zr : Nat) (rk : Nat → Nat) : Prop := ∀ q, bq_isP P K q → 0 < bq_cn rk zr q
def bq_I (P : Nat → Bool) (K S W : Nat → Nat) (zh zr zd : Nat) (so sz rd hp rk : Nat → Nat) : Prop :=
  bq_Rg so hp rk ∧ bq_SI P S so sz rd ∧ bq_HI K (bq_vl S W) so rd zh zr hp rk ∧ bq_RI P K (bq_vl S W) zr rk ∧ (zd = 0 ∨ (zd = 1 ∧ bq_All P K zr rk))
section
variable {zh zr zd : Nat} {K S W so sz rd hp rk : Nat → Nat} {P : Nat → Bool}
theorem bq_I_0 (hR : bq_Rg so hp rk) (h0 : bq_Ps P S so 0 (sz 0) 12) (h1 : bq_Ps P S so 1 (sz 1) 12) (r0 : rd 0 = 0) (r1 : rd 1 = 0) : bq_I P K S W 0 0 0 so sz rd hp rk := by
  refine ⟨hR, ⟨h0, h1, by omega, by omega⟩, ⟨by omega, fun q => ?_, fun j _ hj => by omega⟩, ⟨fun i j _ hj => by omega, fun q _ _ j hj => by omega, fun j hj => by omega⟩, Or.inl rfl⟩
  unfold bq_M
  rw [r0, bq_cn_0, bq_cn_0, bq_cn_0, Nat.zero_mul]
  split <;> rfl
theorem bq_rd_le (H : bq_SI P S so sz rd) : rd 0 * rd 1 ≤ 144 := by
  obtain ⟨⟨a, _⟩, ⟨b, _⟩, c, d⟩ := H
  exact Nat.mul_le_mul (show rd 0 ≤ 12 by omega) (show rd 1 ≤ 12 by omega)
theorem bq_zle (H : bq_I P K S W zh zr zd so sz rd hp rk) : zh + zr ≤ 144 := by
  have a := bq_rd_le H.2.1
  have b := H.2.2.1.1
  omega
theorem bq_c0 (H : bq_SI P S so sz rd) (x : Nat) : bq_cn (bq_sl so 0) (rd 0) x ≤ bq_one P 0 12 x := by
  rw [← H.1.2.1 x]
  exact bq_cn_mono x (rd 0) (sz 0) H.2.2.1
theorem bq_c1 (H : bq_SI P S so sz rd) (x : Nat) : bq_cn (bq_sl so 1) (rd 1) x ≤ bq_one P 1 12 x := by
  rw [← H.2.1.2.1 x]
  exact bq_cn_mono x (rd 1) (sz 1) H.2.2.2
theorem bq_M_le (H : bq_SI P S so sz rd) (q : Nat) : bq_M K so rd q ≤ 1 := by
  unfold bq_M
  split
  · have a := Nat.le_trans (bq_c0 H (q / 16)) (bq_one_le P 0 12 _)
    have b := Nat.le_trans (bq_c1 H (q % 16)) (bq_one_le P 1 12 _)
    exact Nat.mul_le_mul a b
  · omega
theorem bq_M_P (H : bq_SI P S so sz rd) {q : Nat} (h : 0 < bq_M K so rd q) : bq_isP P K q := by
  unfold bq_M at h
  by_cases e : K (q / 16) = K (12 + q % 16)
  · rw [if_pos e] at h
    have h0 := bq_one_p (Nat.lt_of_lt_of_le (Nat.pos_of_mul_pos_right h) (bq_c0 H (q / 16)))
    have h1 := bq_one_p (Nat.lt_of_lt_of_le (Nat.pos_of_mul_pos_left h) (bq_c1 H (q % 16)))
    rw [Nat.mul_zero, Nat.zero_add] at h0
    exact ⟨⟨h1.1, by omega⟩, h0.2, h1.2, e⟩
  · rw [if_neg e] at h; omega
def bq_g (S W so sz rd : Nat → Nat) (l : Nat) : Nat := if rd l < sz l ∧ 0 < sz (1 - l) then 1 + (W l * S (12 * l + so (12 * l + rd l)) + W (1 - l) * S (12 * (1 - l) + so (12 * (1 - l)))) else 0
theorem bq_g_le (hV : bq_RV S W) (l : Nat) : bq_g S W so sz rd l ≤ 18001 := by
  unfold bq_g
  split
  · have := bq_ws hV l (12 * l + so (12 * l + rd l))
    have := bq_ws hV (1 - l) (12 * (1 - l) + so (12 * (1 - l)))
    omega
  · omega
theorem bq_g_p {l : Nat} (h : 0 < bq_g S W so sz rd l) : rd l < sz l := by
  unfold bq_g at h
  by_cases e : rd l < sz l ∧ 0 < sz (1 - l)
  · exact e.1
  · rw [if_neg e] at h; omega
theorem bq_sm {l n r k : Nat} (H : bq_Ps P S so l n 12) (hk : k < n) (hr : r ≤ k) : W l * S (12 * l + so (12 * l + k)) ≤ W l * S (12 * l + so (12 * l + r)) := by
  apply Nat.mul_le_mul_left
  by_cases e : r = k
  · rw [e]; exact Nat.le_refl _
  · exact H.2.2 r k (by omega) hk
theorem bq_at {l n x : Nat} (H : bq_Ps P S so l n 12) (hx : x < 12) (hP : P (12 * l + x) = true) : ∃ k, k < n ∧ so (12 * l + k) = x := by
  apply bq_cn_ex (f := bq_sl so l)
  rw [H.2.1 x, bq_one_q hx hP]
  omega
/-- a pair that is not met yet is worth less than one of the hopes -/
theorem bq_hope_ge (H : bq_SI P S so sz rd) {q : Nat} (hq : bq_isP P K q) (hM : bq_M K so rd q = 0) : bq_vl S W q < bq_g S W so sz rd 0 ∨ bq_vl S W q < bq_g S W so sz rd 1 := by
  obtain ⟨⟨o1, o2⟩, p0, p1, ek⟩ := hq
  obtain ⟨s0, s1, r0, r1⟩ := H
  obtain ⟨a, ha, ea⟩ := bq_at (x := q / 16) s0 (by omega) (by rw [Nat.mul_zero, Nat.zero_add]; exact p0)
  obtain ⟨b, hb, eb⟩ := bq_at (x := q % 16) s1 o1 p1
  unfold bq_M at hM
  rw [if_pos ek] at hM
  have ev : bq_vl S W q = W 0 * S (12 * 0 + so (12 * 0 + a)) + W 1 * S (12 * 1 + so (12 * 1 + b)) := by
    unfold bq_vl
    rw [ea, eb, Nat.mul_zero, Nat.zero_add]
  rcases Nat.mul_eq_zero.mp hM with z | z
  · left
    have hra : rd 0 ≤ a := by
      rcases Nat.lt_or_ge a (rd 0) with y | y
      · have := bq_cn_pos (f := bq_sl so 0) y ea
        omega
      · exact y
    have m0 := bq_sm (W := W) s0 ha hra
    have m1 := bq_sm (W := W) s1 hb (Nat.zero_le b)
    unfold bq_g
    rw [if_pos ⟨by omega, show 0 < sz 1 by omega⟩, ev]
    rw [Nat.add_zero] at m1
    show _ < 1 + (_ + W 1 * S (12 * 1 + so (12 * 1)))
    omega
  · right
    have hrb : rd 1 ≤ b := by
      rcases Nat.lt_or_ge b (rd 1) with y | y
      · have := bq_cn_pos (f := bq_sl so 1) y eb
        omega
      · exact y
    have m0 := bq_sm (W := W) s0 ha (Nat.zero_le a)
    have m1 := bq_sm (W := W) s1 hb hrb
    unfold bq_g
    rw [if_pos ⟨by omega, show 0 < sz 0 by omega⟩, ev]
    rw [Nat.add_zero] at m0
    show _ < 1 + (_ + W 0 * S (12 * 0 + so (12 * 0)))
    omega
/-- the root of the heap goes out -/
theorem bq_I_out {n : Nat} {h' : Nat → Nat} (H : bq_I P K S W (n + 1) zr 0 so sz rd hp rk) (g0 : bq_g S W so sz rd 0 ≤ bq_vl S W (hp 0)) (g1 : bq_g S W so sz rd 1 ≤ bq_vl S W (hp 0))
  (ok' : ∀ j, bq_ok (h' j)) (H' : bq_hp (bq_vl S W) h' n) (hc : ∀ q, bq_cn h' n q + bq_d (hp 0) q = bq_cn hp (n + 1) q) : bq_I P K S W n (zr + 1) 0 so sz rd h' (bq_up rk zr (hp 0)) := by
  obtain ⟨⟨R1, R2, R3⟩, HS, ⟨Hz, Hc, Hh⟩, ⟨HR1, HR2, HR3⟩, _⟩ := H
  have c0 := bq_cn_pos (f := hp) (q := hp 0) (n := n + 1) (k := 0) (by omega) rfl
  have c1 := Hc (hp 0)
  have c2 := bq_M_le (K := K) HS (hp 0)
  have cz : bq_cn rk zr (hp 0) = 0 := by omega
  have hP : bq_isP P K (hp 0) := bq_M_P HS (by omega)
  have cn' : ∀ q, bq_cn (bq_up rk zr (hp 0)) (zr + 1) q = bq_cn rk zr q + bq_d (hp 0) q := by
    intro q
    rw [bq_cn_s, bq_ups, bq_cn_hi q zr (Nat.le_refl zr)]
  refine ⟨⟨R1, ok', bq_upP bq_ok R3 (R2 0)⟩, HS, ⟨by omega, fun q => ?_, H'⟩, ⟨fun i j hij hj => ?_, fun q hq hz j hj => ?_, fun j hj => ?_⟩, Or.inl rfl⟩
  · have a := hc q
    have b := Hc q
    rw [cn' q]
    omega
  · rw [bq_upn (j := i) (by omega)]
    by_cases e : j = zr
    · rw [e, bq_ups]
      exact HR2 (hp 0) hP cz i (by omega)
    · rw [bq_upn e]
      exact HR1 i j hij (by omega)
  · rw [cn' q] at hz
    have z1 : bq_cn rk zr q = 0 := by omega
    by_cases e : j = zr
    · rw [e, bq_ups]
      have hne : hp 0 ≠ q := by
        intro z; rw [z, bq_d1] at hz; omega
      rcases Nat.eq_zero_or_pos (bq_M K so rd q) with m | m
      · rcases bq_hope_ge (W := W) HS hq m with y | y
        · exact Or.inl (by omega)
        · exact Or.inl (by omega)
      · have y := Hc q
        obtain ⟨i, hi, ei⟩ := bq_cn_ex (f := hp) (n + 1) (q := q) (by omega)
        have y2 := bq_root Hh i hi
        rw [ei] at y2
        rcases bq_bf_tot y2 with y3 | y3
        · exact absurd y3 hne
        · exact y3
    · rw [bq_upn e]
      exact HR2 q hq z1 j (by omega)
  · by_cases e : j = zr
    · rw [e, bq_ups]; exact hP
    · rw [bq_upn e]; exact HR3 j (by omega)
/-- nothing is left -/
theorem bq_I_done (H : bq_I P K S W zh zr 0 so sz rd hp rk) (g0 : bq_g S W so sz rd 0 = 0) (g1 : bq_g S W so sz rd 1 = 0) (hz : zh = 0) : bq_I P K S W zh zr 1 so sz rd hp rk := by
  obtain ⟨HR, HS, HH, HI, _⟩ := H
  refine ⟨HR, HS, HH, HI, Or.inr ⟨rfl, fun q hq => ?_⟩⟩
  have c := HH.2.1 q
  rw [hz, bq_cn_0] at c
  rcases Nat.eq_zero_or_pos (bq_M K so rd q) with m | m
  · rcases bq_hope_ge (W := W) HS hq m with y | y <;> omega
  · omega
/-! what reading one entry adds -/
def bq_pc (l i j : Nat) : Nat := if l = 0 then i * 16 + j else j * 16 + i
def bq_ad (K so : Nat → Nat) (l i : Nat) : Nat → Nat → Nat
  | 0, _ => 0
  | k + 1, q => bq_ad K so l i k q + (if K (12 * (1 - l) + bq_sl so (1 - l) k) = K (12 * l + i) then bq_d (bq_pc l i (bq_sl so (1 - l) k)) q else 0)
theorem bq_ad_t {l i k : Nat} (h : K (12 * (1 - l) + bq_sl so (1 - l) k) = K (12 * l + i)) (q : Nat) : bq_ad K so l i (k + 1) q = bq_ad K so l i k q + bq_d (bq_pc l i (bq_sl so (1 - l) k)) q := by
  show _ + _ = _
  rw [if_pos h]
theorem bq_ad_f {l i k : Nat} (h : ¬ K (12 * (1 - l) + bq_sl so (1 - l) k) = K (12 * l + i)) (q : Nat) : bq_ad K so l i (k + 1) q = bq_ad K so l i k q := by
  show _ + _ = _
  rw [if_neg h]
  rfl
theorem bq_ad0 (hs : ∀ j, so j < 12) (i q : Nat) : ∀ k : Nat, bq_ad K so 0 i k q = if K (q / 16) = K (12 + q % 16) then bq_d i (q / 16) * bq_cn (bq_sl so 1) k (q % 16) else 0 := by
  intro k
  induction k with
  | zero => rw [bq_cn_0, Nat.mul_zero]; split <;> rfl
  | succ k ih =>
    have hj : bq_sl so 1 k < 12 := hs _
    show bq_ad K so 0 i k q + (if K (12 + bq_sl so 1 k) = K (0 + i) then bq_d (i * 16 + bq_sl so 1 k) q else 0) = _
    rw [ih, bq_cn_s, Nat.zero_add]
    generalize bq_sl so 1 k = j at *
    generalize bq_cn (bq_sl so 1) k (q % 16) = c at *
    rcases bq_dc i (q / 16) with ⟨e1, d1⟩ | ⟨e1, d1⟩
    · rcases bq_dc j (q % 16) with ⟨e2, d2⟩ | ⟨e2, d2⟩
      · rw [d1, d2, ← e1, ← e2]
        have e3 : i * 16 + j = q := by omega
        rw [e3, bq_d1]
        by_cases g : K i = K (12 + j)
        · rw [if_pos g, if_pos g, if_pos g.symm]; omega
        · rw [if_neg g, if_neg g, if_neg (fun z => g z.symm)]
      · have e3 : i * 16 + j ≠ q := by omega
        rw [d2, bq_d0 e3, Nat.add_zero]
        split <;> split <;> rfl
    · have e3 : i * 16 + j ≠ q := by omega
      rw [d1, bq_d0 e3, Nat.zero_mul, Nat.zero_mul]
      split <;> split <;> rfl
theorem bq_ad1 (hs : ∀ j, so j < 12) (i q : Nat) (hi : i < 12) : ∀ k : Nat, bq_ad K so 1 i k q = if K (q / 16) = K (12 + q % 16) then bq_cn (bq_sl so 0) k (q / 16) * bq_d i (q % 16) else 0 := by
  intro k
  induction k with
  | zero => rw [bq_cn_0, Nat.zero_mul]; split <;> rfl
  | succ k ih =>
    have hj : bq_sl so 0 k < 12 := hs _
    show bq_ad K so 1 i k q + (if K (0 + bq_sl so 0 k) = K (12 + i) then bq_d (bq_sl so 0 k * 16 + i) q else 0) = _
    rw [ih, bq_cn_s, Nat.zero_add]
    generalize bq_sl so 0 k = j at *
    generalize bq_cn (bq_sl so 0) k (q / 16) = c at *
    rcases bq_dc i (q % 16) with ⟨e1, d1⟩ | ⟨e1, d1⟩
    · rcases bq_dc j (q / 16) with ⟨e2, d2⟩ | ⟨e2, d2⟩
      · rw [d1, d2, ← e1, ← e2]
        have e3 : j * 16 + i = q := by omega
        rw [e3, bq_d1]
        by_cases g : K j = K (12 + i)
        · rw [if_pos g, if_pos g, if_pos g]; omega
        · rw [if_neg g, if_neg g, if_neg g]
      · have e3 : j * 16 + i ≠ q := by omega
        rw [d2, bq_d0 e3, Nat.add_zero]
        split <;> split <;> rfl
    · have e3 : j * 16 + i ≠ q := by omega
      rw [d1, bq_d0 e3, Nat.mul_zero, Nat.mul_zero]
      split <;> split <;> rfl
theorem bq_M_rd (hs : ∀ j, so j < 12) {l : Nat} (hl : l < 2) (q : Nat) : bq_M K so (bq_up rd l (rd l + 1)) q = bq_M K so rd q + bq_ad K so l (so (12 * l + rd l)) (rd (1 - l)) q := by
  rcases (show l = 0 ∨ l = 1 by omega) with e | e
  · subst e
    rw [bq_ad0 hs]
    unfold bq_M
    rw [bq_ups, bq_upn (by omega), bq_cn_s]
    show _ = _ + (if K (q / 16) = K (12 + q % 16) then bq_d (bq_sl so 0 (rd 0)) (q / 16) * bq_cn (bq_sl so 1) (rd 1) (q % 16) else 0)
    split
    · rw [Nat.add_mul]
    · rfl
  · subst e
    rw [bq_ad1 hs _ _ (hs _)]
    unfold bq_M
    rw [bq_ups, bq_upn (by omega), bq_cn_s]
    show _ = _ + (if K (q / 16) = K (12 + q % 16) then bq_cn (bq_sl so 0) (rd 0) (q / 16) * bq_d (bq_sl so 1 (rd 1)) (q % 16) else 0)
    split
    · rw [Nat.mul_add]
    · rfl
theorem bq_rd2 {l : Nat} (hl : l < 2) : bq_up rd l (rd l + 1) 0 * bq_up rd l (rd l + 1) 1 = rd 0 * rd 1 + rd (1 - l) := by
  rcases (show l = 0 ∨ l = 1 by omega) with e | e
  · subst e
    rw [bq_ups, bq_upn (by omega), Nat.succ_mul]
  · subst e
    rw [bq_ups, bq_upn (by omega), Nat.mul_succ]
theorem bq_SI_rd (H : bq_SI P S so sz rd) {l : Nat} (hl : l < 2) (h : rd l < sz l) : bq_SI P S so sz (bq_up rd l (rd l + 1)) := by
  obtain ⟨s0, s1, r0, r1⟩ := H
  rcases (show l = 0 ∨ l = 1 by omega) with e | e
  · subst e
    exact ⟨s0, s1, by rw [bq_ups]; omega, by rw [bq_upn (by omega)]; omega⟩
  · subst e
    exact ⟨s0, s1, by rw [bq_upn (by omega)]; omega, by rw [bq_ups]; omega⟩
theorem bq_room (H : bq_I P K S W zh zr zd so sz rd hp rk) {l : Nat} (hl : l < 2) (h : rd l < sz l) : zh + zr + rd (1 - l) ≤ 144 := by
  have a := bq_rd_le (bq_SI_rd H.2.1 hl h)
  rw [bq_rd2 hl] at a
  have b := H.2.2.1.1
  omega
theorem bq_I_rd {zh' : Nat} {h' : Nat → Nat} (H : bq_I P K S W zh zr 0 so sz rd hp rk) {l : Nat} (hl : l < 2) (h : rd l < sz l) (hz : zh' ≤ zh + rd (1 - l)) (ok' : ∀ j, bq_ok (h' j)) (H' : bq_hp (bq_vl S W) h' zh')
  (hc : ∀ q, bq_cn h' zh' q = bq_cn hp zh q + bq_ad K so l (so (12 * l + rd l)) (rd (1 - l)) q) : bq_I P K S W zh' zr 0 so sz (bq_up rd l (rd l + 1)) h' rk := by
  obtain ⟨⟨R1, R2, R3⟩, HS, ⟨Hz, Hc, Hh⟩, HR, _⟩ := H
  refine ⟨⟨R1, ok', R3⟩, bq_SI_rd HS hl h, ⟨?_, fun q => ?_, H'⟩, HR, Or.inl rfl⟩
  · rw [bq_rd2 hl]; omega
  · rw [bq_M_rd R1 hl, hc q, ← Hc q]; omega
end
end
section
/-! walks of begin, hope, readOne, produce, reach -/
theorem bq_mT {a : Nat} (h : a < 2 ^ 30) : (nI a - 1).toInt = (a : Int) - 1 := by
  rw [show (1 : Int32) = nI 1 from rfl, pk_sub_toInt h (by omega)]
  rfl
theorem bq_mle {A B : Prop} (a b : Nat) (ha : a < 2 ^ 30) (hb : b < 2 ^ 30) (f : a ≤ b → A) (g : b < a → B) : (nI a - 1 ≤ nI b - 1 → A) ∧ (¬ nI a - 1 ≤ nI b - 1 → B) := by
  rw [Int32.le_iff_toInt_le, bq_mT ha, bq_mT hb]
  exact ⟨fun z => f (by omega), fun z => g (by omega)⟩
theorem bq_mlt {A B : Prop} (a b : Nat) (ha : a < 2 ^ 30) (hb : b < 2 ^ 30) (f : a < b → A) (g : b ≤ a → B) : (nI a - 1 < nI b - 1 → A) ∧ (¬ nI a - 1 < nI b - 1 → B) := by
  rw [Int32.lt_iff_toInt_lt, bq_mT ha, bq_mT hb]
  exact ⟨fun z => f (by omega), fun z => g (by omega)⟩
theorem bq_mvl {A B : Prop} (v b : Nat) (hv : v < 2 ^ 30) (hb : b < 2 ^ 30) (f : v < b → A) (g : b ≤ v → B) : (nI v ≤ nI b - 1 → A) ∧ (¬ nI v ≤ nI b - 1 → B) := by
  rw [Int32.le_iff_toInt_le, nI_toInt (by omega), bq_mT hb]
  exact ⟨fun z => f (by omega), fun z => g (by omega)⟩
theorem bq_m0 {A B : Prop} (b : Nat) (hb : b < 2 ^ 30) (f : 0 < b → A) (g : b = 0 → B) : (0 ≤ nI b - 1 → A) ∧ (¬ 0 ≤ nI b - 1 → B) := by
  rw [Int32.le_iff_toInt_le, bq_mT hb, Int32.toInt_zero]
  exact ⟨fun z => f (by omega), fun z => g (by omega)⟩
theorem bq_Ps_c {P : Nat → Bool} {S s1 s2 : Nat → Nat} {l n : Nat} (H : bq_Ps P S s1 l n 12) (e : ∀ j, 12 * l ≤ j → j < 12 * l + 12 → s2 j = s1 j) : bq_Ps P S s2 l n 12 := by
  obtain ⟨a, b, c⟩ := H
  have e' : ∀ k, k < n → bq_sl s2 l k = bq_sl s1 l k := fun k hk => e _ (by omega) (by omega)
  refine ⟨a, fun q => ?_, fun x y hxy hy => ?_⟩
  · rw [bq_cn_congr q n e']; exact b q
  · rw [e' y hy, e' x (by omega)]; exact c x y hxy hy
section
variable {zb zh zr zd zc : Nat} {pr : Nat → Int32} {K S W so sz rd hp rk : Nat → Nat} {P : Nat → Bool}
theorem bq_begin {post : SX → Prop} (hB : bq_PB pr P) (hV : bq_RV S W) (hR : bq_Rg so hp rk) (H : (zb = 0 ∧ zc = 0) ∨ (zb = 1 ∧ bq_I P K S W zh zr zd so sz rd hp rk ∧ zc ≤ zr))
  (h : ∀ (zh zr zd : Nat) (so sz rd hp rk : Nat → Nat), bq_I P K S W zh zr zd so sz rd hp rk → zc ≤ zr → post (bq_X 1 zh zr zd zc pr K S W so sz rd hp rk)) :
  wpX_begin post (bq_X zb zh zr zd zc pr K S W so sz rd hp rk) := by
  unfold wpX_begin
  rcases H with ⟨e, ec⟩ | ⟨e, H, hcr⟩
  · subst e
    refine br_t nI_0 ?_
    refine bq_sort (zb := 1) (zh := 0) (zr := 0) (zd := 0) (l := 0) (by omega) hB hV.1 hR.1 (fun so1 n0 a1 a2 a3 => ?_)
    refine bq_sort (zb := 1) (zh := 0) (zr := 0) (zd := 0) (l := 1) (by omega) hB hV.1 a1 (fun so2 n1 b1 b2 b3 => ?_)
    refine h 0 0 0 so2 (bq_up (bq_up sz 0 n0) 1 n1) (bq_up (bq_up rd 0 0) 1 0) hp rk (bq_I_0 ⟨b1, hR.2.1, hR.2.2⟩ ?_ ?_ ?_ ?_) (by omega)
    · rw [bq_upn (by omega), bq_ups]
      exact bq_Ps_c a3 (fun j _ hj => b2 j (Or.inl (by omega)))
    · rw [bq_ups]; exact b3
    · rw [bq_upn (by omega), bq_ups]
    · rw [bq_ups]
  · subst e
    exact br_f (nI_ne0 (by omega) (by omega)) (h zh zr zd so sz rd hp rk H hcr)
theorem bq_unread {post : Int32 → Prop} {l : Nat} (hl : l < 2) (hz : sz l ≤ 12) (hr : rd l ≤ 12) (h0 : sz l ≤ rd l → post 0) (h1 : rd l < sz l → post 1) : wpX_unread post (bq_X zb zh zr zd zc pr K S W so sz rd hp rk) (nI l) := by
  unfold wpX_unread
  refine And.intro (pk_in l 2 hl) (And.intro (pk_in l 2 hl) ?_)
  exact pk_le (sz l) (rd l) h0 h1 (bq_rd l rfl (by omega)) (bq_rd l rfl (by omega))
theorem bq_hope {post : Int32 → Prop} {l : Nat} (hl : l < 2) (hso : ∀ j, so j < 12) (hz : sz l ≤ 12) (hz' : sz (1 - l) ≤ 12) (hr : rd l ≤ sz l) (h : post (nI (bq_g S W so sz rd l) - 1)) : wpX_hope post (bq_X zb zh zr zd zc pr K S W so sz rd hp rk) (nI l) := by
  unfold wpX_hope
  have e1 : (1 : Int32) - nI l = nI (1 - l) := by rw [show (1 : Int32) = nI 1 from rfl, pk_sub (by omega)]
  refine nm_r e1 ?_
  refine bq_unread hl hz (by omega) (fun z => br_t rfl ?_) (fun z => br_f (by decide) ?_)
  · have e : bq_g S W so sz rd l = 0 := if_neg (fun y => by omega)
    rw [e] at h
    exact h
  · refine And.intro (pk_in (1 - l) 2 (by omega)) (pk_eq (sz (1 - l)) 0 (fun y => ?_) (fun y => ?_) (bq_rd (1 - l) rfl (by omega)))
    · have e : bq_g S W so sz rd l = 0 := if_neg (fun y => by omega)
      rw [e] at h
      exact h
    · have e2 : nI l * 12 + bq_A rd (nI l).toNatClampNeg = nI (12 * l + rd l) := by
        rw [bq_rd l rfl (by omega), bq_ix]
      have eg : bq_g S W so sz rd l = 1 + (W l * S (12 * l + so (12 * l + rd l)) + W (1 - l) * S (12 * (1 - l) + so (12 * (1 - l)))) := if_pos ⟨z, by omega⟩
      rw [eg, Nat.add_comm 1, nI_pred] at h
      refine And.intro (pk_in l 2 hl) (And.intro (pk_in (12 * l + rd l) 24 (by omega) e2) ?_)
      rw [bq_rd (f := so) (12 * l + rd l) e2 (by omega)]
      refine bq_part hl (hso _) ?_
      refine And.intro (pk_in (12 * (1 - l)) 24 (by omega) (bq_c12 (1 - l))) ?_
      rw [bq_rd (f := so) (12 * (1 - l)) (bq_c12 (1 - l)) (by omega)]
      refine bq_part (by omega) (hso _) ?_
      rw [nI_add]
      exact h
end
section
variable {zb zr zd zc : Nat} {pr : Nat → Int32} {K S W so sz rk : Nat → Nat} {P : Nat → Bool}
theorem bq_readOne_35 {post : SX → Prop} {l i zh0 : Nat} {rd h0 : Nat → Nat} (hV : bq_RV S W) (hK : ∀ j, K j < 8) (hso : ∀ j, so j < 12) (hl : l < 2) (hi : i < 12) (hc : rd (1 - l) ≤ 12) (hz : zh0 + rd (1 - l) ≤ 144)
  (h : ∀ (zh' : Nat) (h' : Nat → Nat), zh' ≤ zh0 + rd (1 - l) → (∀ j, bq_ok (h' j)) → bq_hp (bq_vl S W) h' zh' → (∀ q, bq_cn h' zh' q = bq_cn h0 zh0 q + bq_ad K so l i (rd (1 - l)) q) → post (bq_X zb zh' zr zd zc pr K S W so sz rd h' rk)) :
  ∀ (m k zh : Nat) (hq : Nat → Nat), rd (1 - l) < m + k → k ≤ rd (1 - l) → zh ≤ zh0 + k → (∀ j, bq_ok (hq j)) → bq_hp (bq_vl S W) hq zh → (∀ q, bq_cn hq zh q = bq_cn h0 zh0 q + bq_ad K so l i k q) →
  wX_readOne_35 post (nI l) (nI i) (nI (1 - l)) m (nI k) (nI zb) (nI zh) (nI zr) (nI zd) (nI zc) pr (bq_A K) (bq_A S) (bq_A W) (bq_A so) (bq_A sz) (bq_A rd) (bq_A hq) (bq_A rk) := by
  intro m
  induction m with
  | zero => intro k zh hq h1 h2; omega
  | succ m ih =>
    intro k zh hq hm hk hzk ok H hcn
    rw [wX_readOne_35]
    refine And.intro (pk_in (1 - l) 2 (by omega)) (pk_le (rd (1 - l)) k (fun z => ?_) (fun z => ?_) (bq_rd (1 - l) rfl (by omega)))
    · have e : k = rd (1 - l) := by omega
      subst e
      exact h zh hq hzk ok H hcn
    · have hj := hso (12 * (1 - l) + k)
      refine And.intro (pk_in (12 * (1 - l) + k) 24 (by omega) (bq_ix (1 - l) k)) (nm_r (bq_rd (12 * (1 - l) + k) (bq_ix (1 - l) k) (by omega)) ?_)
      have k1 := hK (12 * (1 - l) + so (12 * (1 - l) + k))
      have k2 := hK (12 * l + i)
      refine And.intro (pk_in (12 * (1 - l) + so (12 * (1 - l) + k)) 24 (by omega) (bq_ix _ _)) (And.intro (pk_in (12 * l + i) 24 (by omega) (bq_ix l i)) ?_)
      refine pk_eq (K (12 * (1 - l) + so (12 * (1 - l) + k))) (K (12 * l + i)) (fun e => ?_) (fun e => ?_) (bq_rd _ (bq_ix _ _) (by omega)) (bq_rd _ (bq_ix l i) (by omega))
      · have okp : bq_ok (bq_pc l i (so (12 * (1 - l) + k))) := by
          unfold bq_ok bq_pc
          split <;> omega
        have go : wX_readOne_107 post (wX_readOne_35 post (nI l) (nI i) (nI (1 - l)) m) (nI l) (nI i) (nI (1 - l)) (nI k) (nI (bq_pc l i (so (12 * (1 - l) + k)))) (nI zb) (nI zh) (nI zr) (nI zd) (nI zc) pr (bq_A K) (bq_A S) (bq_A W) (bq_A so) (bq_A sz) (bq_A rd) (bq_A hq) (bq_A rk) := by
          unfold wX_readOne_107
          refine bq_push hV okp (by omega) ok H (fun h' a1 a2 a3 => nm_r (nI_1 k) ?_)
          refine ih (k + 1) (zh + 1) h' (by omega) (by omega) (by omega) a1 a2 (fun q => ?_)
          rw [a3 q, hcn q, bq_ad_t e]
          exact Nat.add_assoc _ _ _
        rcases (show l = 0 ∨ l = 1 by omega) with y | y
        · subst y
          refine br_t nI_0 ?_
          rw [show nI i * 16 + nI (so (12 * (1 - 0) + k)) = nI (bq_pc 0 i (so (12 * (1 - 0) + k))) from by
            rw [show (16 : Int32) = nI 16 from rfl, pk_mul, nI_add]; rfl]
          exact go
        · subst y
          refine br_f (nI_ne0 (by omega) (by omega)) ?_
          rw [show nI (so (12 * (1 - 1) + k)) * 16 + nI i = nI (bq_pc 1 i (so (12 * (1 - 1) + k))) from by
            rw [show (16 : Int32) = nI 16 from rfl, pk_mul, nI_add]; rfl]
          exact go
      · refine nm_r (nI_1 k) (ih (k + 1) zh hq (by omega) (by omega) (by omega) ok H (fun q => ?_))
        rw [hcn q, bq_ad_f e]
theorem bq_readOne {post : SX → Prop} {l zh : Nat} {rd hp : Nat → Nat} (hV : bq_RV S W) (hK : ∀ j, K j < 8) (hso : ∀ j, so j < 12) (hl : l < 2) (hr : rd l < 12) (hc : rd (1 - l) ≤ 12) (hz : zh + rd (1 - l) ≤ 144) (ok : ∀ j, bq_ok (hp j)) (H : bq_hp (bq_vl S W) hp zh)
  (h : ∀ (zh' : Nat) (h' : Nat → Nat), zh' ≤ zh + rd (1 - l) → (∀ j, bq_ok (h' j)) → bq_hp (bq_vl S W) h' zh' → (∀ q, bq_cn h' zh' q = bq_cn hp zh q + bq_ad K so l (so (12 * l + rd l)) (rd (1 - l)) q) → post (bq_X zb zh' zr zd zc pr K S W so sz (bq_up rd l (rd l + 1)) h' rk)) :
  wpX_readOne post (bq_X zb zh zr zd zc pr K S W so sz rd hp rk) (nI l) := by
  unfold wpX_readOne
  have e2 : nI l * 12 + bq_A rd (nI l).toNatClampNeg = nI (12 * l + rd l) := by
    rw [bq_rd l rfl (by omega), bq_ix]
  have e3 : vp_nar .byte ((bq_A rd (nI l).toNatClampNeg + 1).toInt8.toInt32) = nI (rd l + 1) := by
    rw [bq_rd l rfl (by omega), nI_1, bq_nb2 (by omega)]
  have e1 : (1 : Int32) - nI l = nI (1 - l) := by rw [show (1 : Int32) = nI 1 from rfl, pk_sub (by omega)]
  have em : bq_up rd l (rd l + 1) (1 - l) = rd (1 - l) := bq_upn (by omega)
  refine And.intro (pk_in l 2 hl) (And.intro (pk_in (12 * l + rd l) 24 (by omega) e2) (nm_r (bq_rd _ e2 (by omega)) ?_))
  refine And.intro (pk_in l 2 hl) (And.intro (pk_in l 2 hl) (nm_r (bq_wr l (rd l + 1) rfl e3 (by omega)) (nm_r e1 ?_)))
  refine ⟨rd (1 - l) + 1, bq_readOne_35 (h0 := hp) (zh0 := zh) (rd := bq_up rd l (rd l + 1)) hV hK hso hl (hso _) ?_ ?_ ?_ (rd (1 - l) + 1) 0 zh hp ?_ ?_ (Nat.le_refl _) ok H (fun q => rfl)⟩
  · rw [em]; exact hc
  · rw [em]; exact hz
  · rw [em]; exact h
  · rw [em]; omega
  · omega
theorem bq_produce_6 {post : Int32 → SX → Prop} (hV : bq_RV S W) (hK : ∀ j, K j < 8)
  (hA : ∀ (zh' : Nat) (rd' hp' rk' : Nat → Nat), bq_I P K S W zh' (zr + 1) 0 so sz rd' hp' rk' → post 1 (bq_X 1 zh' (zr + 1) 0 zc pr K S W so sz rd' hp' rk'))
  (hD : ∀ (zh' : Nat) (rd' hp' : Nat → Nat), bq_I P K S W zh' zr 1 so sz rd' hp' rk → post 0 (bq_X 1 zh' zr 1 zc pr K S W so sz rd' hp' rk)) :
  ∀ (m r zh zd : Nat) (rd hp : Nat → Nat), 25 < m + r → r ≤ 25 → (zd = 0 → r + (sz 0 - rd 0) + (sz 1 - rd 1) ≤ 24) → bq_I P K S W zh zr zd so sz rd hp rk →
  wX_produce_6 post m (nI r) (nI 1) (nI zh) (nI zr) (nI zd) (nI zc) pr (bq_A K) (bq_A S) (bq_A W) (bq_A so) (bq_A sz) (bq_A rd) (bq_A hp) (bq_A rk) := by
  intro m
  induction m with
  | zero => intro r zh zd rd hp h1 h2; omega
  | succ m ih =>
    intro r zh zd rd hp hm hr hrem H
    rw [wX_produce_6]
    have hd : zd = 1 ∨ zd = 0 := by
      rcases H.2.2.2.2 with y | y
      · exact Or.inr y
      · exact Or.inl y.1
    rcases hd with e | e
    · subst e
      exact pk_le 25 r (fun _ => hD zh rd hp H) (fun _ => br_f (nI_ne0 (by omega) (by omega)) (hD zh rd hp H))
    · subst e
      have hrem := hrem rfl
      refine pk_le 25 r (fun z => by omega) (fun z => br_t nI_0 ?_)
      have z0 := H.2.1.1.1
      have z1 := H.2.1.2.1.1
      have r0 := H.2.1.2.2.1
      have r1 := H.2.1.2.2.2
      have hso := H.1.1
      have hok := H.1.2.1
      have hz := bq_zle H
      have G0 := bq_g_le (so := so) (sz := sz) (rd := rd) hV 0
      have G1 := bq_g_le (so := so) (sz := sz) (rd := rd) hV 1
      have GV := bq_vlr hV (hp 0)
      refine bq_hope (l := 0) (by omega) hso z0 z1 r0 ?_
      refine bq_hope (l := 1) (by omega) hso z1 z0 r1 ?_
      have key : ∀ g : Nat, bq_g S W so sz rd 0 ≤ g → bq_g S W so sz rd 1 ≤ g → g ≤ 18001 → (bq_g S W so sz rd 0 < bq_g S W so sz rd 1 → g = bq_g S W so sz rd 1) → (bq_g S W so sz rd 1 ≤ bq_g S W so sz rd 0 → g = bq_g S W so sz rd 0) →
        wX_produce_41 post (wX_produce_6 post m) (nI r) (nI (bq_g S W so sz rd 0) - 1) (nI (bq_g S W so sz rd 1) - 1) (nI g - 1) (nI 1) (nI zh) (nI zr) (nI 0) (nI zc) pr (bq_A K) (bq_A S) (bq_A W) (bq_A so) (bq_A sz) (bq_A rd) (bq_A hp) (bq_A rk) := by
        intro g g0 g1 gl c1 c0
        have s96 : (zh = 0 ∨ bq_vl S W (hp 0) < g) → wX_produce_96 post (wX_produce_6 post m) (nI r) (nI (bq_g S W so sz rd 0) - 1) (nI (bq_g S W so sz rd 1) - 1) (nI g - 1) (nI 1) (nI zh) (nI zr) (nI 0) (nI zc) pr (bq_A K) (bq_A S) (bq_A W) (bq_A so) (bq_A sz) (bq_A rd) (bq_A hp) (bq_A rk) := by
          intro hno
          unfold wX_produce_96
          refine bq_m0 g (by omega) (fun hg => ?_) (fun hg => ?_)
          · refine bq_mlt (bq_g S W so sz rd 0) (bq_g S W so sz rd 1) (by omega) (by omega) (fun y => ?_) (fun y => ?_)
            · have hlt : rd 1 < sz 1 := bq_g_p (S := S) (W := W) (so := so) (l := 1) (by have := c1 y; omega)
              have hroom := bq_room H (l := 1) (by omega) hlt
              unfold wX_produce_120
              refine bq_readOne (l := 1) hV hK hso (by omega) (by omega) (show rd 0 ≤ 12 by omega) (by omega) hok H.2.2.1.2.2 (fun zh' h' a1 a2 a3 a4 => nm_r (nI_1 r) ?_)
              refine ih (r + 1) zh' 0 _ h' (by omega) (by omega) (fun _ => ?_) (bq_I_rd H (by omega) hlt a1 a2 a3 a4)
              rw [bq_ups, bq_upn (by omega)]
              omega
            · have hlt : rd 0 < sz 0 := bq_g_p (S := S) (W := W) (so := so) (l := 0) (by have := c0 y; omega)
              have hroom := bq_room H (l := 0) (by omega) hlt
              unfold wX_produce_120
              refine bq_readOne (l := 0) hV hK hso (by omega) (by omega) (show rd 1 ≤ 12 by omega) (by omega) hok H.2.2.1.2.2 (fun zh' h' a1 a2 a3 a4 => nm_r (nI_1 r) ?_)
              refine ih (r + 1) zh' 0 _ h' (by omega) (by omega) (fun _ => ?_) (bq_I_rd H (by omega) hlt a1 a2 a3 a4)
              rw [bq_ups, bq_upn (by omega)]
              omega
          · refine nm_r (nI_1 r) ?_
            exact ih (r + 1) zh 1 rd hp (by omega) (by omega) (fun y => by omega) (bq_I_done H (by omega) (by omega) (by omega))
        unfold wX_produce_41
        refine pk_le zh 0 (fun y => s96 (Or.inl (by omega))) (fun y => ?_)
        obtain ⟨n, rfl⟩ : ∃ n, zh = n + 1 := ⟨zh - 1, by omega⟩
        refine bq_valueOf (q := hp 0) (hok 0) ?_
        refine bq_mvl (bq_vl S W (hp 0)) g (by omega) (by omega) (fun y2 => s96 (Or.inr y2)) (fun y2 => ?_)
        refine And.intro (pk_in zr 144 (by omega)) (nm_r (bq_wr zr (hp 0) rfl (bq_ns (by have := (hok 0).2; omega)) (by omega)) (nm_r (nI_1 zr) ?_))
        exact bq_pop hV (by omega) hok H.2.2.1.2.2 (fun h' a1 a2 a3 => hA n rd h' _ (bq_I_out H (by omega) (by omega) a1 a2 a3))
      exact bq_mle (bq_g S W so sz rd 0) (bq_g S W so sz rd 1) (by omega) (by omega)
        (fun y => key _ y (Nat.le_refl _) G1 (fun _ => rfl) (fun y2 => by omega)) (fun y => key _ (Nat.le_refl _) (by omega) G0 (fun y2 => by omega) (fun _ => rfl))
theorem bq_produce {post : Int32 → SX → Prop} {zh : Nat} {rd hp : Nat → Nat} (hV : bq_RV S W) (hK : ∀ j, K j < 8) (H : bq_I P K S W zh zr zd so sz rd hp rk)
  (hA : ∀ (zh' : Nat) (rd' hp' rk' : Nat → Nat), bq_I P K S W zh' (zr + 1) 0 so sz rd' hp' rk' → post 1 (bq_X 1 zh' (zr + 1) 0 zc pr K S W so sz rd' hp' rk'))
  (hD : ∀ (zh' : Nat) (rd' hp' : Nat → Nat), bq_I P K S W zh' zr 1 so sz rd' hp' rk → post 0 (bq_X 1 zh' zr 1 zc pr K S W so sz rd' hp' rk)) :
  wpX_produce post (bq_X 1 zh zr zd zc pr K S W so sz rd hp rk) := by
  unfold wpX_produce wpX_begin
  refine br_f (nI_ne0 (by omega) (by omega)) ⟨26, ?_⟩
  have z0 := H.2.1.1.1
  have z1 := H.2.1.2.1.1
  exact bq_produce_6 hV hK hA hD 26 0 zh zd rd hp (by omega) (by omega) (fun _ => by omega) H
end
section
variable {zc : Nat} {pr : Nat → Int32} {K S W : Nat → Nat} {P : Nat → Bool}
theorem bq_reach_8 {post : Int32 → SX → Prop} {k : Nat} (hk : k ≤ 144) (hV : bq_RV S W) (hK : ∀ j, K j < 8)
  (h1 : ∀ (zh zr zd : Nat) (so sz rd hp rk : Nat → Nat), bq_I P K S W zh zr zd so sz rd hp rk → zc ≤ zr → k < zr → post 1 (bq_X 1 zh zr zd zc pr K S W so sz rd hp rk))
  (h0 : ∀ (zh zr : Nat) (so sz rd hp rk : Nat → Nat), bq_I P K S W zh zr 1 so sz rd hp rk → zc ≤ zr → zr ≤ k → post 0 (bq_X 1 zh zr 1 zc pr K S W so sz rd hp rk)) :
  ∀ (m b r zh zr zd : Nat) (so sz rd hp rk : Nat → Nat), 145 < m + r → r ≤ 145 → ((b = 1 ∧ r ≤ zr) ∨ (b = 0 ∧ zd = 1)) → bq_I P K S W zh zr zd so sz rd hp rk → zc ≤ zr →
  wX_reach_8 post (nI k) m (nI b) (nI r) (nI 1) (nI zh) (nI zr) (nI zd) (nI zc) pr (bq_A K) (bq_A S) (bq_A W) (bq_A so) (bq_A sz) (bq_A rd) (bq_A hp) (bq_A rk) := by
  intro m
  induction m with
  | zero => intro b r zh zr zd so sz rd hp rk a1 a2; omega
  | succ m ih =>
    intro b r zh zr zd so sz rd hp rk hm hr hb H hcr
    have hz := bq_zle H
    have ex : (zd = 1 ∨ k < zr) → wX_reach_38 post (nI k) (nI 1) (nI zh) (nI zr) (nI zd) (nI zc) pr (bq_A K) (bq_A S) (bq_A W) (bq_A so) (bq_A sz) (bq_A rd) (bq_A hp) (bq_A rk) := by
      intro y
      unfold wX_reach_38
      refine pk_le zr k (fun z => ?_) (fun z => h1 _ _ _ _ _ _ _ _ H hcr z)
      have e : zd = 1 := by omega
      subst e
      exact h0 _ _ _ _ _ _ _ H hcr z
    rw [wX_reach_8]
    refine pk_lt 144 r (fun z => ex (by omega)) (fun z => ?_)
    refine pk_lt k zr (fun z2 => ex (Or.inr z2)) (fun z2 => ?_)
    rcases hb with ⟨e, hb⟩ | ⟨e, hb⟩
    · subst e
      refine br_f (nI_ne0 (by omega) (by omega)) ?_
      refine bq_produce hV hK H (fun zh' rd' hp' rk' H' => nm_r (nI_1 r) ?_) (fun zh' rd' hp' H' => nm_r (nI_1 r) ?_)
      · exact ih 1 (r + 1) zh' (zr + 1) 0 so sz rd' hp' rk' (by omega) (by omega) (Or.inl ⟨rfl, by omega⟩) H' (by omega)
      · exact ih 0 (r + 1) zh' zr 1 so sz rd' hp' rk (by omega) (by omega) (Or.inr ⟨rfl, rfl⟩) H' hcr
    · subst e
      exact br_t nI_0 (ex (Or.inl hb))
theorem bq_reach {post : Int32 → SX → Prop} {k zb zh zr zd : Nat} {so sz rd hp rk : Nat → Nat} (hk : k ≤ 144) (hB : bq_PB pr P) (hV : bq_RV S W) (hK : ∀ j, K j < 8) (hR : bq_Rg so hp rk) (H : (zb = 0 ∧ zc = 0) ∨ (zb = 1 ∧ bq_I P K S W zh zr zd so sz rd hp rk ∧ zc ≤ zr))
  (h1 : ∀ (zh zr zd : Nat) (so sz rd hp rk : Nat → Nat), bq_I P K S W zh zr zd so sz rd hp rk → zc ≤ zr → k < zr → post 1 (bq_X 1 zh zr zd zc pr K S W so sz rd hp rk))
  (h0 : ∀ (zh zr : Nat) (so sz rd hp rk : Nat → Nat), bq_I P K S W zh zr 1 so sz rd hp rk → zc ≤ zr → zr ≤ k → post 0 (bq_X 1 zh zr 1 zc pr K S W so sz rd hp rk)) :
  wpX_reach post (bq_X zb zh zr zd zc pr K S W so sz rd hp rk) (nI k) := by
  unfold wpX_reach
  refine bq_begin hB hV hR H (fun zh zr zd so sz rd hp rk H hcr => ⟨146, ?_⟩)
  exact bq_reach_8 hk hV hK h1 h0 146 1 0 zh zr zd so sz rd hp rk (by omega) (by omega) (Or.inl ⟨rfl, by omega⟩) H hcr
end
end
section
/-! the reference's count of the pairs before one, and what the invariant says of it -/
def bq_cd (p : Nat) : Nat := 16 * (p / 12) + p % 12
def bq_un (q : Nat) : Nat := 12 * (q / 16) + q % 16
theorem bq_cd_d (p : Nat) : bq_cd p / 16 = p / 12 := by unfold bq_cd; omega
theorem bq_cd_m (p : Nat) : bq_cd p % 16 = p % 12 := by unfold bq_cd; omega
theorem bq_cd_ok {p : Nat} (h : p < 144) : bq_ok (bq_cd p) := by unfold bq_ok bq_cd; omega
theorem bq_un_lt {q : Nat} (h : bq_ok q) : bq_un q < 144 := by unfold bq_ok at h; unfold bq_un; omega
theorem bq_cd_un {q : Nat} (h : bq_ok q) : bq_cd (bq_un q) = q := by unfold bq_ok at h; unfold bq_un bq_cd; omega
theorem bq_un_cd (p : Nat) : bq_un (bq_cd p) = p := by unfold bq_un bq_cd; omega
theorem bq_cd_lt (a b : Nat) : bq_cd a < bq_cd b ↔ a < b := by unfold bq_cd; omega
def bq_pB (P : Nat → Bool) (K : Nat → Nat) (p : Nat) : Bool := P (p / 12) && (P (12 + p % 12) && decide (K (p / 12) = K (12 + p % 12)))
def bq_bb (V : Nat → Nat) (a b : Nat) : Bool := decide (V b < V a) || (decide (V a = V b) && decide (a < b))
theorem bq_bb_iff (V : Nat → Nat) (a b : Nat) : bq_bb V a b = true ↔ bq_bf V a b := by
  unfold bq_bb bq_bf
  simp
def bq_rc (P : Nat → Bool) (K V : Nat → Nat) (q : Nat) : Nat := bq_ct (fun o => bq_pB P K o && bq_bb V (bq_cd o) q) 144
section
variable {P : Nat → Bool} {K V : Nat → Nat}
theorem bq_pB_iff {p : Nat} (hp : p < 144) : bq_pB P K p = true ↔ bq_isP P K (bq_cd p) := by
  unfold bq_pB bq_isP
  rw [bq_cd_d, bq_cd_m, Bool.and_eq_true, Bool.and_eq_true, decide_eq_true_eq]
  exact ⟨fun h => ⟨bq_cd_ok hp, h.1, h.2.1, h.2.2⟩, fun h => ⟨h.2.1, h.2.2.1, h.2.2.2⟩⟩
theorem bq_rcQ {o : Nat} (ho : o < 144) (q : Nat) : (bq_pB P K o && bq_bb V (bq_cd o) q) = true ↔ bq_isP P K (bq_cd o) ∧ bq_bf V (bq_cd o) q := by
  rw [Bool.and_eq_true, bq_pB_iff ho, bq_bb_iff]
theorem bq_rc_lt {a b : Nat} (ha : bq_isP P K a) (h : bq_bf V a b) : bq_rc P K V a < bq_rc P K V b := by
  unfold bq_rc
  have hu := bq_un_lt ha.1
  refine bq_ct_lt (a := bq_un a) (fun o ho z => ?_) hu ?_ ?_
  · have z' := (bq_rcQ ho a).mp z
    exact (bq_rcQ ho b).mpr ⟨z'.1, bq_bf_tr z'.2 h⟩
  · refine (bq_rcQ hu b).mpr ?_
    rw [bq_cd_un ha.1]
    exact ⟨ha, h⟩
  · cases e : (bq_pB P K (bq_un a) && bq_bb V (bq_cd (bq_un a)) a)
    · rfl
    · have z := (bq_rcQ hu a).mp e
      rw [bq_cd_un ha.1] at z
      exact absurd z.2 (bq_bf_irr V a)
theorem bq_rc_bf {a b : Nat} (hb : bq_isP P K b) (h : bq_rc P K V a < bq_rc P K V b) : bq_bf V a b := by
  by_cases z : bq_bf V a b
  · exact z
  · rcases bq_bf_tot z with e | e
    · rw [e] at h; omega
    · have := bq_rc_lt hb e
      omega
theorem bq_rc_inj {a b : Nat} (ha : bq_isP P K a) (hb : bq_isP P K b) (h : bq_rc P K V a = bq_rc P K V b) : a = b := by
  by_cases z : bq_bf V a b
  · have := bq_rc_lt ha z
    omega
  · rcases bq_bf_tot z with e | e
    · exact e.symm
    · have := bq_rc_lt hb e
      omega
theorem bq_rc_144 {a : Nat} (ha : bq_isP P K a) : bq_rc P K V a < 144 := by
  have h := bq_ct_lt (Q := fun o => bq_pB P K o && bq_bb V (bq_cd o) a) (R := fun _ => true) (n := 144) (a := bq_un a) (fun _ _ _ => rfl) (bq_un_lt ha.1) rfl (by
    cases e : (bq_pB P K (bq_un a) && bq_bb V (bq_cd (bq_un a)) a)
    · rfl
    · have z := (bq_rcQ (bq_un_lt ha.1) a).mp e
      rw [bq_cd_un ha.1] at z
      exact absurd z.2 (bq_bf_irr V a))
  have h2 := bq_ct_le (fun _ => true) 144
  unfold bq_rc
  omega
theorem bq_RI_at {zr : Nat} {rk : Nat → Nat} (H : bq_RI P K V zr rk) {j : Nat} (hj : j < zr) : bq_rc P K V (rk j) = j := by
  obtain ⟨H1, H2, H3⟩ := H
  unfold bq_rc
  refine bq_ct_enum (fun i => bq_un (rk i)) 144 j _ (fun i hi => bq_un_lt (H3 i (by omega)).1) (fun a b hab hb e => ?_) (fun o ho => ?_)
  · have e2 : rk a = rk b := by
      have e3 := congrArg bq_cd e
      rw [bq_cd_un (H3 a (by omega)).1, bq_cd_un (H3 b (by omega)).1] at e3
      exact e3
    have z := H1 a b hab (by omega)
    rw [e2] at z
    exact bq_bf_irr _ _ z
  · rw [bq_rcQ ho]
    constructor
    · intro ⟨hp, hb⟩
      rcases Nat.eq_zero_or_pos (bq_cn rk zr (bq_cd o)) with z | z
      · exact absurd hb (bq_bf_as (H2 _ hp z j hj))
      · obtain ⟨i, hi, ei⟩ := bq_cn_ex zr z
        refine ⟨i, ?_, ?_⟩
        · rcases Nat.lt_or_ge i j with y | y
          · exact y
          · exfalso
            by_cases e : i = j
            · rw [← ei, e] at hb
              exact bq_bf_irr _ _ hb
            · have y2 := H1 j i (by omega) hi
              rw [ei] at y2
              exact bq_bf_as y2 hb
        · show bq_un (rk i) = o
          rw [ei, bq_un_cd]
    · intro ⟨i, hi, ei⟩
      have ei' : bq_un (rk i) = o := ei
      have e2 : bq_cd o = rk i := by rw [← ei', bq_cd_un (H3 i (by omega)).1]
      rw [e2]
      exact ⟨H3 i (by omega), H1 i j hi hj⟩
theorem bq_All_at {zr : Nat} {rk : Nat → Nat} (H : bq_RI P K V zr rk) (hA : bq_All P K zr rk) {q : Nat} (hq : bq_isP P K q) : bq_rc P K V q < zr := by
  obtain ⟨j, hj, e⟩ := bq_cn_ex zr (hA q hq)
  rw [← e, bq_RI_at H hj]
  exact hj
/-- a property that the first k places have, and no other pair, counts k -/
theorem bq_ct_rank {t : Nat → Bool} {k : Nat} (E : ∀ j, j < k → ∃ q, bq_isP P K q ∧ bq_rc P K V q = j) (ht : ∀ o, o < 144 → (t o = true ↔ (bq_isP P K (bq_cd o) ∧ bq_rc P K V (bq_cd o) < k))) : bq_ct t 144 = k := by
  have E2 : ∀ j : Nat, ∃ q : Nat, j < k → (bq_isP P K q ∧ bq_rc P K V q = j) := by
    intro j
    by_cases h : j < k
    · obtain ⟨q, hq⟩ := E j h
      exact ⟨q, fun _ => hq⟩
    · exact ⟨0, fun z => absurd z h⟩
  obtain ⟨f, hf⟩ := Classical.axiomOfChoice E2
  refine bq_ct_enum (fun j => bq_un (f j)) 144 k t (fun j hj => bq_un_lt (hf j hj).1.1) (fun a b hab hb e => ?_) (fun o ho => ?_)
  · have e3 := congrArg bq_cd e
    have ha' := hf a (by omega)
    have hb' := hf b hb
    rw [bq_cd_un ha'.1.1, bq_cd_un hb'.1.1] at e3
    have e4 := ha'.2
    rw [e3, hb'.2] at e4
    omega
  · rw [ht o ho]
    constructor
    · intro ⟨hp, hl⟩
      refine ⟨bq_rc P K V (bq_cd o), hl, ?_⟩
      have g := hf _ hl
      have e := bq_rc_inj g.1 hp g.2
      show bq_un (f _) = o
      rw [e, bq_un_cd]
    · intro ⟨j, hj, e⟩
      have e' : bq_un (f j) = o := e
      have g := hf j hj
      have e2 : bq_cd o = f j := by rw [← e', bq_cd_un g.1.1]
      rw [e2, g.2]
      exact ⟨g.1, hj⟩
end
end
section
/-! the reference's walks -/
theorem bq_brB {P : Nat → Bool} {A B : Prop} {x : Int32} (n : Nat) (f : P n = false → A) (g : P n = true → B) (hx : x = nI n) (hn : n < 2 ^ 31) : (bq_B P x.toNatClampNeg = 0 → A) ∧ (¬ bq_B P x.toNatClampNeg = 0 → B) := by
  subst hx
  rw [nI_clamp hn]
  unfold bq_B
  cases h : P n
  · rw [if_neg (by decide)]
    exact br_t rfl (f h)
  · rw [if_pos rfl]
    exact br_f (by decide) (g h)
theorem bq_bb_f {V : Nat → Nat} {a b : Nat} (h : ¬ bq_bf V a b) : bq_bb V a b = false := by
  cases e : bq_bb V a b
  · rfl
  · exact absurd ((bq_bb_iff V a b).mp e) h
section
variable {c : Nat} {P : Nat → Bool} {K S W : Nat → Nat}
theorem bq_Yd {p : Nat} (hp : p < 144) : nI p / 12 = nI (p / 12) := pk_div (d := 12) (by omega) (by omega) (by omega)
theorem bq_Ym {p : Nat} (hp : p < 144) : nI p - nI p / 12 * 12 = nI (p % 12) := pk_rem (d := 12) (by omega) (by omega) (by omega)
theorem bq_Ym2 {p : Nat} (hp : p < 144) : 12 + (nI p - nI p / 12 * 12) = nI (12 + p % 12) := by
  rw [bq_Ym hp, show (12 : Int32) = nI 12 from rfl, nI_add]
theorem bq_Yp {post : Int32 → Prop} {p : Nat} (hp : p < 144) (hK : ∀ j, K j < 8) (h1 : bq_pB P K p = true → post 1) (h0 : bq_pB P K p = false → post 0) : wpY_pair post (bq_Y c P K S W) (nI p) := by
  unfold wpY_pair
  have k1 := hK (p / 12)
  have k2 := hK (12 + p % 12)
  have ebq : bq_pB P K p = (P (p / 12) && (P (12 + p % 12) && decide (K (p / 12) = K (12 + p % 12)))) := rfl
  refine And.intro (by decide) (nm_r (bq_Yd hp) (And.intro (by decide) (nm_r (bq_Ym2 hp) (And.intro (pk_in (p / 12) 24 (by omega)) ?_))))
  refine bq_brB (p / 12) (fun y => h0 (by rw [ebq, y, Bool.false_and])) (fun y => ?_) rfl (by omega)
  refine And.intro (pk_in (12 + p % 12) 24 (by omega)) ?_
  refine bq_brB (12 + p % 12) (fun y2 => h0 (by rw [ebq, y2, Bool.false_and, Bool.and_false])) (fun y2 => ?_) rfl (by omega)
  refine And.intro (pk_in (p / 12) 24 (by omega)) (And.intro (pk_in (12 + p % 12) 24 (by omega)) ?_)
  exact pk_eq (K (p / 12)) (K (12 + p % 12)) (fun e => h1 (by rw [ebq, y, y2, decide_eq_true e]; rfl)) (fun e => h0 (by rw [ebq, y, y2, decide_eq_false e]; rfl)) (bq_rd (p / 12) rfl (by omega)) (bq_rd (12 + p % 12) rfl (by omega))
theorem bq_Yv {post : Int32 → Prop} {p : Nat} (hp : p < 144) (h : post (nI (bq_vl S W (bq_cd p)))) : wpY_value post (bq_Y c P K S W) (nI p) := by
  unfold wpY_value
  refine And.intro (by decide) (And.intro (pk_in (p / 12) 24 (by omega) (bq_Yd hp)) (And.intro (by decide) (And.intro (pk_in (12 + p % 12) 24 (by omega) (bq_Ym2 hp)) ?_)))
  rw [bq_rd (p / 12) (bq_Yd hp) (by omega), bq_rd (12 + p % 12) (bq_Ym2 hp) (by omega)]
  show post (nI (W 0) * nI (S (p / 12)) + nI (W 1) * nI (S (12 + p % 12)))
  rw [pk_mul, pk_mul, nI_add]
  unfold bq_vl at h
  rw [bq_cd_d, bq_cd_m] at h
  exact h
theorem bq_Yb_11 {post : Int32 → Prop} {p : Nat} (hp : p < 144) (hK : ∀ j, K j < 8) (hV : bq_RV S W) (h : post (nI (bq_rc P K (bq_vl S W) (bq_cd p)))) :
  ∀ m o : Nat, 144 < m + o → o ≤ 144 → wY_before_11 post (nI p) (nI (bq_vl S W (bq_cd p))) (nI c) (bq_B P) (bq_A K) (bq_A S) (bq_A W) m (nI (bq_ct (fun o => bq_pB P K o && bq_bb (bq_vl S W) (bq_cd o) (bq_cd p)) o)) (nI o) := by
  intro m
  induction m with
  | zero => intro o h1 h2; omega
  | succ m ih =>
    intro o hm ho
    have vp := bq_vlr hV (bq_cd p)
    have vo := bq_vlr hV (bq_cd o)
    have T : bq_pB P K o = true → bq_bf (bq_vl S W) (bq_cd o) (bq_cd p) → o < 144 → wY_before_11 post (nI p) (nI (bq_vl S W (bq_cd p))) (nI c) (bq_B P) (bq_A K) (bq_A S) (bq_A W) m (nI (bq_ct (fun o => bq_pB P K o && bq_bb (bq_vl S W) (bq_cd o) (bq_cd p)) o + 1)) (nI (o + 1)) := by
      intro a b ho2
      have g := ih (o + 1) (by omega) (by omega)
      rw [bq_ct_t (Q := fun o => bq_pB P K o && bq_bb (bq_vl S W) (bq_cd o) (bq_cd p)) (by rw [a, (bq_bb_iff _ _ _).mpr b]; rfl)] at g
      exact g
    have F : (bq_pB P K o = false ∨ ¬ bq_bf (bq_vl S W) (bq_cd o) (bq_cd p)) → o < 144 → wY_before_11 post (nI p) (nI (bq_vl S W (bq_cd p))) (nI c) (bq_B P) (bq_A K) (bq_A S) (bq_A W) m (nI (bq_ct (fun o => bq_pB P K o && bq_bb (bq_vl S W) (bq_cd o) (bq_cd p)) o)) (nI (o + 1)) := by
      intro a ho2
      have g := ih (o + 1) (by omega) (by omega)
      rw [bq_ct_f (Q := fun o => bq_pB P K o && bq_bb (bq_vl S W) (bq_cd o) (bq_cd p)) (by
        rcases a with a | a
        · rw [a, Bool.false_and]
        · rw [bq_bb_f a, Bool.and_false])] at g
      exact g
    rw [wY_before_11]
    refine pk_le 144 o (fun z => ?_) (fun z => ?_)
    · have e : o = 144 := by omega
      subst e
      exact h
    · refine bq_Yp z hK (fun hb => br_f (by decide) ?_) (fun hb => br_t rfl (nm_r (nI_1 o) (F (Or.inl hb) z)))
      refine bq_Yv z ?_
      refine pk_lt (bq_vl S W (bq_cd p)) (bq_vl S W (bq_cd o)) (fun y => nm_r (nI_1 _) (nm_r (nI_1 o) (T hb (Or.inl y) z))) (fun y => ?_)
      refine pk_eq (bq_vl S W (bq_cd o)) (bq_vl S W (bq_cd p)) (fun e => ?_) (fun e => nm_r (nI_1 o) (F (Or.inr (by unfold bq_bf; omega)) z))
      refine pk_le p o (fun g => nm_r (nI_1 o) (F (Or.inr ?_) z)) (fun g => nm_r (nI_1 _) (nm_r (nI_1 o) (T hb (Or.inr ⟨e, (bq_cd_lt o p).mpr g⟩) z)))
      have g2 : ¬ bq_cd o < bq_cd p := by rw [bq_cd_lt]; omega
      unfold bq_bf
      omega
theorem bq_Yb {post : Int32 → Prop} {p : Nat} (hp : p < 144) (hK : ∀ j, K j < 8) (hV : bq_RV S W) (h : post (nI (bq_rc P K (bq_vl S W) (bq_cd p)))) : wpY_before post (bq_Y c P K S W) (nI p) := by
  unfold wpY_before
  refine bq_Yv hp ⟨145, ?_⟩
  exact bq_Yb_11 hp hK hV h 145 0 (by omega) (by omega)
theorem bq_Yr_2 {post : Int32 → Prop} {x1 : Int32} (hK : ∀ j, K j < 8) (hV : bq_RV S W)
  (h1 : ∀ p, p < 144 → bq_isP P K (bq_cd p) → nI (bq_rc P K (bq_vl S W) (bq_cd p)) = x1 → post (nI p))
  (h0 : (∀ q, bq_isP P K q → nI (bq_rc P K (bq_vl S W) q) ≠ x1) → post (-1)) :
  ∀ m p : Nat, 144 < m + p → p ≤ 144 → (∀ p', p' < p → bq_isP P K (bq_cd p') → nI (bq_rc P K (bq_vl S W) (bq_cd p')) ≠ x1) → wY_ranked_2 post x1 (nI c) (bq_B P) (bq_A K) (bq_A S) (bq_A W) m (nI p) := by
  intro m
  induction m with
  | zero => intro p a b; omega
  | succ m ih =>
    intro p hm hp H
    rw [wY_ranked_2]
    refine pk_le 144 p (fun z => ?_) (fun z => ?_)
    · refine h0 (fun q hq => ?_)
      have g := H (bq_un q) (by have := bq_un_lt hq.1; omega)
      rw [bq_cd_un hq.1] at g
      exact g hq
    · have go : (bq_isP P K (bq_cd p) → nI (bq_rc P K (bq_vl S W) (bq_cd p)) ≠ x1) → wY_ranked_2 post x1 (nI c) (bq_B P) (bq_A K) (bq_A S) (bq_A W) m (nI (p + 1)) := by
        intro a
        refine ih (p + 1) (by omega) (by omega) (fun p' hp' => ?_)
        by_cases e : p' = p
        · rw [e]; exact a
        · exact H p' (by omega)
      refine bq_Yp z hK (fun hb => br_f (by decide) ?_) (fun hb => br_t rfl (nm_r (nI_1 p) (go (fun y => ?_))))
      · refine bq_Yb z hK hV ?_
        exact br_c (fun y => h1 p z ((bq_pB_iff z).mp hb) y) (fun y => nm_r (nI_1 p) (go (fun _ => y)))
      · rw [(bq_pB_iff z).mpr y] at hb
        exact Bool.noConfusion hb
theorem bq_Yr {post : Int32 → Prop} {x1 : Int32} (hK : ∀ j, K j < 8) (hV : bq_RV S W)
  (h1 : ∀ p, p < 144 → bq_isP P K (bq_cd p) → nI (bq_rc P K (bq_vl S W) (bq_cd p)) = x1 → post (nI p))
  (h0 : (∀ q, bq_isP P K q → nI (bq_rc P K (bq_vl S W) q) ≠ x1) → post (-1)) : wpY_ranked post (bq_Y c P K S W) x1 := by
  unfold wpY_ranked
  exact ⟨145, bq_Yr_2 hK hV h1 h0 145 0 (by omega) (by omega) (fun p' hp' => by omega)⟩
theorem bq_Ys {post : Int32 → Prop} {u : SY} {p : Nat} (hp : p < 144) (h : post (nI (bq_cd p))) : wpY_shown post u (nI p) := by
  obtain ⟨a1, a2, a3, a4, a5⟩ := u
  unfold wpY_shown
  refine br_t (nI_pos' (by omega)) (And.intro (by decide) (And.intro (by decide) ?_))
  rw [bq_Ym hp, bq_Yd hp, show (16 : Int32) = nI 16 from rfl, pk_mul, nI_add]
  exact h
theorem bq_Ys1 {post : Int32 → Prop} {u : SY} (h : post (-1)) : wpY_shown post u (-1) := by
  obtain ⟨a1, a2, a3, a4, a5⟩ := u
  exact br_f (by decide) h
theorem bq_Ypairs_4 {post : Int32 → Prop} (hK : ∀ j, K j < 8) (h : post (nI (bq_ct (bq_pB P K) 144))) : ∀ m o : Nat, 144 < m + o → o ≤ 144 → wY_pairs_4 post (nI c) (bq_B P) (bq_A K) (bq_A S) (bq_A W) m (nI (bq_ct (bq_pB P K) o)) (nI o) := by
  intro m
  induction m with
  | zero => intro o a b; omega
  | succ m ih =>
    intro o hm ho
    rw [wY_pairs_4]
    refine pk_le 144 o (fun z => ?_) (fun z => ?_)
    · have e : o = 144 := by omega
      subst e
      exact h
    · have g := ih (o + 1) (by omega) (by omega)
      refine bq_Yp z hK (fun hb => br_f (by decide) ?_) (fun hb => br_t rfl ?_)
      · rw [bq_ct_t hb] at g
        exact nm_r (nI_1 _) (nm_r (nI_1 o) g)
      · rw [bq_ct_f hb] at g
        exact nm_r (nI_1 o) g
theorem bq_Ypairs {post : Int32 → Prop} (hK : ∀ j, K j < 8) (h : post (nI (bq_ct (bq_pB P K) 144))) : wpY_pairs post (bq_Y c P K S W) := by
  unfold wpY_pairs
  exact ⟨145, bq_Ypairs_4 hK h 145 0 (by omega) (by omega)⟩
def bq_tv (P : Nat → Bool) (K V : Nat → Nat) (x : Int32) (o : Nat) : Bool := bq_pB P K o && !decide (nI (V (bq_cd o)) < x)
theorem bq_Yal_4 {post : Int32 → Prop} {x : Int32} (hK : ∀ j, K j < 8) (h : post (nI (bq_ct (bq_tv P K (bq_vl S W) x) 144))) : ∀ m o : Nat, 144 < m + o → o ≤ 144 → wY_atLeast_4 post x (nI c) (bq_B P) (bq_A K) (bq_A S) (bq_A W) m (nI (bq_ct (bq_tv P K (bq_vl S W) x) o)) (nI o) := by
  intro m
  induction m with
  | zero => intro o a b; omega
  | succ m ih =>
    intro o hm ho
    rw [wY_atLeast_4]
    have et : bq_tv P K (bq_vl S W) x o = (bq_pB P K o && !decide (nI (bq_vl S W (bq_cd o)) < x)) := rfl
    refine pk_le 144 o (fun z => ?_) (fun z => ?_)
    · have e : o = 144 := by omega
      subst e
      exact h
    · have g := ih (o + 1) (by omega) (by omega)
      refine bq_Yp z hK (fun hb => br_f (by decide) (bq_Yv z (br_c (fun y => ?_) (fun y => ?_)))) (fun hb => br_t rfl ?_)
      · rw [bq_ct_f (by rw [et, decide_eq_true y, Bool.not_true, Bool.and_false])] at g
        exact nm_r (nI_1 o) g
      · rw [bq_ct_t (by rw [et, hb, decide_eq_false y]; rfl)] at g
        exact nm_r (nI_1 _) (nm_r (nI_1 o) g)
      · rw [bq_ct_f (by rw [et, hb, Bool.false_and])] at g
        exact nm_r (nI_1 o) g
theorem bq_Yal {post : Int32 → Prop} {x : Int32} (hK : ∀ j, K j < 8) (h : post (nI (bq_ct (bq_tv P K (bq_vl S W) x) 144))) : wpY_atLeast post (bq_Y c P K S W) x := by
  unfold wpY_atLeast
  exact ⟨145, bq_Yal_4 hK h 145 0 (by omega) (by omega)⟩
theorem bq_Yent {post : Int32 → Prop} {l i : Nat} (hl : l < 2) (hi : i < 12) (h0 : P (12 * l + i) = false → post 0) (h1 : P (12 * l + i) = true → post 1) : wpY_entry post (bq_Y c P K S W) (nI l) (nI i) := by
  have go : wY_entry_9 post (nI l) (nI i) (nI c) (bq_B P) (bq_A K) (bq_A S) (bq_A W) := by
    unfold wY_entry_9
    refine br_f (nI_pos (by omega)) (br_f (nI_ge (b := 12) hi (by decide)) (And.intro (pk_in (12 * l + i) 24 (by omega) (bq_iy l i)) ?_))
    exact bq_brB (12 * l + i) h0 h1 (bq_iy l i) (by omega)
  unfold wpY_entry
  rcases (show l = 0 ∨ l = 1 by omega) with e | e
  · subst e; exact br_t nI_0 go
  · subst e; exact br_f (nI_ne0 (by omega) (by omega)) (br_t rfl go)
/-! the least place of an entry -/
def bq_sd (l q : Nat) : Nat := if l = 0 then q / 16 else q % 16
def bq_BI (P : Nat → Bool) (K V : Nat → Nat) (l i p : Nat) (x3 : Int32) : Prop :=
  (x3 = -1 ∧ ∀ p', p' < p → bq_isP P K (bq_cd p') → bq_sd l (bq_cd p') ≠ i) ∨
  (∃ p0, p0 < 144 ∧ x3 = nI (bq_rc P K V (bq_cd p0)) ∧ bq_isP P K (bq_cd p0) ∧ bq_sd l (bq_cd p0) = i ∧ ∀ p', p' < p → bq_isP P K (bq_cd p') → bq_sd l (bq_cd p') = i → bq_rc P K V (bq_cd p0) ≤ bq_rc P K V (bq_cd p'))
theorem bq_BI_s {V : Nat → Nat} {l i p : Nat} {x3 : Int32} (H : bq_BI P K V l i p x3) (h : bq_isP P K (bq_cd p) → bq_sd l (bq_cd p) ≠ i) : bq_BI P K V l i (p + 1) x3 := by
  rcases H with ⟨e, H⟩ | ⟨p0, a1, a2, a3, a4, H⟩
  · refine Or.inl ⟨e, fun p' hp' => ?_⟩
    by_cases y : p' = p
    · rw [y]; exact h
    · exact H p' (by omega)
  · refine Or.inr ⟨p0, a1, a2, a3, a4, fun p' hp' b1 b2 => ?_⟩
    by_cases y : p' = p
    · rw [y] at b1 b2
      exact absurd b2 (h b1)
    · exact H p' (by omega) b1 b2
theorem bq_Ybp_5 {post : Int32 → Prop} {l i : Nat} (hl : l < 2) (hi : i < 12) (hP : P (12 * l + i) = true) (hK : ∀ j, K j < 8) (hV : bq_RV S W)
  (h1 : ∀ q, bq_isP P K q → bq_sd l q = i → (∀ q', bq_isP P K q' → bq_sd l q' = i → bq_rc P K (bq_vl S W) q ≤ bq_rc P K (bq_vl S W) q') → post (nI (bq_rc P K (bq_vl S W) q)))
  (h0 : (∀ q, bq_isP P K q → bq_sd l q ≠ i) → post (-1)) :
  ∀ (m p : Nat) (x3 : Int32), 144 < m + p → p ≤ 144 → bq_BI P K (bq_vl S W) l i p x3 → wY_bestPlace_5 post (nI l) (nI i) (nI c) (bq_B P) (bq_A K) (bq_A S) (bq_A W) m x3 (nI p) := by
  intro m
  induction m with
  | zero => intro p x3 a b; omega
  | succ m ih =>
    intro p x3 hm hp H
    rw [wY_bestPlace_5]
    refine pk_le 144 p (fun z => ?_) (fun z => ?_)
    · rcases H with ⟨e, H⟩ | ⟨p0, a1, a2, a3, a4, H⟩
      · rw [e]
        refine h0 (fun q hq => ?_)
        have g := H (bq_un q) (by have := bq_un_lt hq.1; omega)
        rw [bq_cd_un hq.1] at g
        exact g hq
      · rw [a2]
        refine h1 _ a3 a4 (fun q hq e => ?_)
        have g := H (bq_un q) (by have := bq_un_lt hq.1; omega)
        rw [bq_cd_un hq.1] at g
        exact g hq e
    · refine bq_Yent hl hi (fun y => by rw [hP] at y; exact Bool.noConfusion y) (fun _ => br_f (by decide) ?_)
      refine bq_Yp z hK (fun hb => br_f (by decide) ?_) (fun hb => br_t rfl (nm_r (nI_1 p) (ih (p + 1) x3 (by omega) (by omega) (bq_BI_s H (fun y => ?_)))))
      · have hb' : bq_isP P K (bq_cd p) := (bq_pB_iff z).mp hb
        have hsl : bq_sd l (bq_cd p) < 12 := by
          unfold bq_sd
          rw [bq_cd_d, bq_cd_m]
          split <;> omega
        have go : wY_bestPlace_48 post (wY_bestPlace_5 post (nI l) (nI i) (nI c) (bq_B P) (bq_A K) (bq_A S) (bq_A W) m) (nI l) (nI i) x3 (nI p) (nI (bq_sd l (bq_cd p))) (nI c) (bq_B P) (bq_A K) (bq_A S) (bq_A W) := by
          unfold wY_bestPlace_48
          refine pk_eq (bq_sd l (bq_cd p)) i (fun e => ?_) (fun e => nm_r (nI_1 p) (ih (p + 1) x3 (by omega) (by omega) (bq_BI_s H (fun _ => e))))
          refine bq_Yb z hK hV ?_
          have hrc := bq_rc_144 (V := bq_vl S W) hb'
          rcases H with ⟨e3, H⟩ | ⟨p0, a1, a2, a3, a4, H⟩
          · refine br_t (by rw [e3]; decide) (nm_r (nI_1 p) (ih (p + 1) _ (by omega) (by omega) (Or.inr ⟨p, z, rfl, hb', e, fun p' hp' b1 b2 => ?_⟩)))
            by_cases y : p' = p
            · rw [y]; exact Nat.le_refl _
            · exact absurd b2 (H p' (by omega) b1)
          · have hr0 := bq_rc_144 (V := bq_vl S W) a3
            refine br_f (by rw [a2]; exact nI_pos (by omega)) ?_
            refine pk_le (bq_rc P K (bq_vl S W) (bq_cd p0)) (bq_rc P K (bq_vl S W) (bq_cd p)) (fun y => ?_) (fun y => ?_) a2
            · refine nm_r (nI_1 p) (ih (p + 1) _ (by omega) (by omega) (Or.inr ⟨p0, a1, a2, a3, a4, fun p' hp' b1 b2 => ?_⟩))
              by_cases y2 : p' = p
              · rw [y2]; exact y
              · exact H p' (by omega) b1 b2
            · refine nm_r (nI_1 p) (ih (p + 1) _ (by omega) (by omega) (Or.inr ⟨p, z, rfl, hb', e, fun p' hp' b1 b2 => ?_⟩))
              by_cases y2 : p' = p
              · rw [y2]; exact Nat.le_refl _
              · have := H p' (by omega) b1 b2
                omega
        rcases (show l = 0 ∨ l = 1 by omega) with e | e
        · subst e
          refine br_t nI_0 (And.intro (by decide) ?_)
          rw [bq_Yd z]
          have e2 : bq_sd 0 (bq_cd p) = p / 12 := bq_cd_d p
          rw [e2] at go
          exact go
        · subst e
          refine br_f (nI_ne0 (by omega) (by omega)) (And.intro (by decide) ?_)
          rw [bq_Ym z]
          have e2 : bq_sd 1 (bq_cd p) = p % 12 := bq_cd_m p
          rw [e2] at go
          exact go
      · rw [(bq_pB_iff z).mpr y] at hb
        exact Bool.noConfusion hb
theorem bq_Ybp {post : Int32 → Prop} {l i : Nat} (hl : l < 2) (hi : i < 12) (hP : P (12 * l + i) = true) (hK : ∀ j, K j < 8) (hV : bq_RV S W)
  (h1 : ∀ q, bq_isP P K q → bq_sd l q = i → (∀ q', bq_isP P K q' → bq_sd l q' = i → bq_rc P K (bq_vl S W) q ≤ bq_rc P K (bq_vl S W) q') → post (nI (bq_rc P K (bq_vl S W) q)))
  (h0 : (∀ q, bq_isP P K q → bq_sd l q ≠ i) → post (-1)) : wpY_bestPlace post (bq_Y c P K S W) (nI l) (nI i) := by
  unfold wpY_bestPlace
  exact ⟨145, bq_Ybp_5 hl hi hP hK hV h1 h0 145 0 (-1) (by omega) (by omega) (Or.inl ⟨rfl, fun p' hp' => by omega⟩)⟩
end
end
section
/-! the facts of the relation; what X's ranking calls answer -/
def bq_F (zb zh zr zd zc : Nat) (pr : Nat → Int32) (K S W so sz rd hp rk : Nat → Nat) (P : Nat → Bool) : Prop :=
  bq_PB pr P ∧ (∀ j, K j < 8) ∧ bq_RV S W ∧ bq_Rg so hp rk ∧ ((zb = 0 ∧ zc = 0) ∨ (zb = 1 ∧ bq_I P K S W zh zr zd so sz rd hp rk ∧ zc ≤ zr))
section
variable {zb zh zr zd zc : Nat} {pr : Nat → Int32} {K S W so sz rd hp rk : Nat → Nat} {P : Nat → Bool}
theorem bq_zc (F : bq_F zb zh zr zd zc pr K S W so sz rd hp rk P) : zc ≤ 144 := by
  rcases F.2.2.2.2 with ⟨_, e⟩ | ⟨_, H, e⟩
  · omega
  · have := bq_zle H
    omega
theorem bq_reachF {post : Int32 → SX → Prop} {k : Nat} (hk : k ≤ 144) (F : bq_F zb zh zr zd zc pr K S W so sz rd hp rk P)
  (h1 : ∀ (zh zr zd : Nat) (so sz rd hp rk : Nat → Nat), bq_F 1 zh zr zd zc pr K S W so sz rd hp rk P → bq_RI P K (bq_vl S W) zr rk → k < zr → zr ≤ 144 → post 1 (bq_X 1 zh zr zd zc pr K S W so sz rd hp rk))
  (h0 : ∀ (zh zr : Nat) (so sz rd hp rk : Nat → Nat), bq_F 1 zh zr 1 zc pr K S W so sz rd hp rk P → bq_RI P K (bq_vl S W) zr rk → bq_All P K zr rk → zr ≤ k → post 0 (bq_X 1 zh zr 1 zc pr K S W so sz rd hp rk)) :
  wpX_reach post (bq_X zb zh zr zd zc pr K S W so sz rd hp rk) (nI k) := by
  obtain ⟨hB, hK, hV, hR, H⟩ := F
  refine bq_reach hk hB hV hK hR H (fun zh zr zd so sz rd hp rk H' hc hz => ?_) (fun zh zr so sz rd hp rk H' hc hz => ?_)
  · have := bq_zle H'
    exact h1 zh zr zd so sz rd hp rk ⟨hB, hK, hV, H'.1, Or.inr ⟨rfl, H', hc⟩⟩ H'.2.2.2.1 hz (by omega)
  · refine h0 zh zr so sz rd hp rk ⟨hB, hK, hV, H'.1, Or.inr ⟨rfl, H', hc⟩⟩ H'.2.2.2.1 ?_ hz
    rcases H'.2.2.2.2 with y | y
    · omega
    · exact y.2
end
/-! numbers of pairs by keys -/
def bq_ss (f : Nat → Nat) : Nat → Nat
  | 0 => 0
  | n + 1 => bq_ss f n + f n
theorem bq_ss_s (f : Nat → Nat) (n : Nat) : bq_ss f (n + 1) = bq_ss f n + f n := rfl
theorem bq_ss_add (f g : Nat → Nat) : ∀ n : Nat, bq_ss (fun j => f j + g j) n = bq_ss f n + bq_ss g n := by
  intro n
  induction n with
  | zero => rfl
  | succ n ih => rw [bq_ss_s, bq_ss_s, bq_ss_s, ih]; omega
theorem bq_ss_congr {f g : Nat → Nat} (h : ∀ j, f j = g j) (n : Nat) : bq_ss f n = bq_ss g n := by
  have e : f = g := funext h
  rw [e]
theorem bq_ss_0 : ∀ n : Nat, bq_ss (fun _ => 0) n = 0 := by
  intro n
  induction n with
  | zero => rfl
  | succ n ih => rw [bq_ss_s, ih]
theorem bq_ss_d (a : Nat) (c : Nat → Nat) : ∀ n : Nat, bq_ss (fun j => bq_d a j * c j) n = if a < n then c a else 0 := by
  intro n
  induction n with
  | zero => rfl
  | succ n ih =>
    rw [bq_ss_s, ih]
    rcases bq_dc a n with ⟨e, d⟩ | ⟨e, d⟩
    · rw [if_neg (by omega), if_pos (by omega), d, e]; omega
    · rw [d]
      by_cases g : a < n
      · rw [if_pos g, if_pos (by omega)]; omega
      · rw [if_neg g, if_neg (by omega)]; omega
theorem bq_ct_add (Q : Nat → Bool) (a : Nat) : ∀ b : Nat, bq_ct Q (a + b) = bq_ct Q a + bq_ct (fun j => Q (a + j)) b := by
  intro b
  induction b with
  | zero => rfl
  | succ b ih =>
    show bq_ct Q (a + b) + (Q (a + b)).toNat = _
    rw [ih, bq_ct_s]; omega
def bq_wk (P : Nat → Bool) (K : Nat → Nat) (l key i : Nat) : Bool := P (12 * l + i) && decide (K (12 * l + i) = key)
theorem bq_wk_n (P : Nat → Bool) (K : Nat → Nat) (m key : Nat) (h : P m = true) : (bq_wk P K 0 key m).toNat = bq_d (K m) key := by
  unfold bq_wk
  rw [Nat.mul_zero, Nat.zero_add, h, Bool.true_and]
  rcases bq_dc (K m) key with ⟨e, d⟩ | ⟨e, d⟩
  · rw [d, decide_eq_true e]; rfl
  · rw [d, decide_eq_false e]; rfl
theorem bq_pairs_eq {P : Nat → Bool} {K : Nat → Nat} (hK : ∀ j, K j < 8) : ∀ m : Nat, m ≤ 12 → bq_ss (fun key => bq_ct (bq_wk P K 0 key) m * bq_ct (bq_wk P K 1 key) 12) 8 = bq_ct (bq_pB P K) (12 * m) := by
  intro m
  induction m with
  | zero =>
    intro _
    rw [bq_ss_congr (g := fun _ => 0) (fun j => by rw [show bq_ct (bq_wk P K 0 j) 0 = 0 from rfl, Nat.zero_mul]), bq_ss_0]
    rfl
  | succ m ih =>
    intro hm
    rw [Nat.mul_succ, bq_ct_add, ← ih (by omega)]
    cases h : P m
    · rw [bq_ct_none (Q := fun j => bq_pB P K (12 * m + j)) 12 (fun j hj => by
        show (P ((12 * m + j) / 12) && _) = false
        rw [show (12 * m + j) / 12 = m by omega, h, Bool.false_and])]
      rw [Nat.add_zero]
      apply bq_ss_congr
      intro key
      rw [bq_ct_f (show bq_wk P K 0 key m = false by
        unfold bq_wk
        rw [Nat.mul_zero, Nat.zero_add, h, Bool.false_and])]
    · rw [bq_ss_congr (g := fun key => bq_ct (bq_wk P K 0 key) m * bq_ct (bq_wk P K 1 key) 12 + bq_d (K m) key * bq_ct (bq_wk P K 1 key) 12) (fun key => by rw [bq_ct_s, bq_wk_n P K m key h, Nat.add_mul])]
      rw [bq_ss_add, bq_ss_d, if_pos (hK m)]
      congr 1
      apply bq_ct_congr
      intro j hj
      show _ = (P ((12 * m + j) / 12) && (P (12 + (12 * m + j) % 12) && decide (K ((12 * m + j) / 12) = K (12 + (12 * m + j) % 12))))
      rw [show (12 * m + j) / 12 = m by omega, show (12 * m + j) % 12 = j by omega, h, Bool.true_and]
      unfold bq_wk
      rw [Nat.mul_one]
      congr 1
      apply decide_eq_decide.mpr
      exact ⟨fun z => z.symm, fun z => z.symm⟩
section
variable {zb zh zr zd zc : Nat} {pr : Nat → Int32} {K S W so sz rd hp rk : Nat → Nat} {P : Nat → Bool}
theorem bq_Xwk_5 {post : Int32 → Prop} {l key : Nat} (hl : l < 2) (hkey : key < 8) (hB : bq_PB pr P) (hK : ∀ j, K j < 8) (h : post (nI (bq_ct (bq_wk P K l key) 12))) :
  ∀ m i : Nat, 12 < m + i → i ≤ 12 → wX_withKey_5 post (nI l) (nI key) (nI zb) (nI zh) (nI zr) (nI zd) (nI zc) pr (bq_A K) (bq_A S) (bq_A W) (bq_A so) (bq_A sz) (bq_A rd) (bq_A hp) (bq_A rk) m (nI (bq_ct (bq_wk P K l key) i)) (nI i) := by
  intro m
  induction m with
  | zero => intro i a b; omega
  | succ m ih =>
    intro i hm hi
    rw [wX_withKey_5]
    refine pk_le 12 i (fun z => ?_) (fun z => ?_)
    · have e : i = 12 := by omega
      subst e
      exact h
    · have g := ih (i + 1) (by omega) (by omega)
      have k1 := hK (12 * l + i)
      have ew : bq_wk P K l key i = (P (12 * l + i) && decide (K (12 * l + i) = key)) := rfl
      refine bq_has hB hl z (fun hP => br_t rfl ?_) (fun hP => br_f (by decide) ?_)
      · rw [bq_ct_f (by rw [ew, hP, Bool.false_and])] at g
        exact nm_r (nI_1 i) g
      · refine And.intro (pk_in (12 * l + i) 24 (by omega) (bq_ix l i)) ?_
        refine pk_eq (K (12 * l + i)) key (fun e => ?_) (fun e => ?_) (bq_rd _ (bq_ix l i) (by omega))
        · rw [bq_ct_t (by rw [ew, hP, decide_eq_true e]; rfl)] at g
          exact nm_r (nI_1 _) (nm_r (nI_1 i) g)
        · rw [bq_ct_f (by rw [ew, hP, decide_eq_false e]; rfl)] at g
          exact nm_r (nI_1 i) g
theorem bq_Xwk {post : Int32 → Prop} {l key : Nat} (hl : l < 2) (hkey : key < 8) (hB : bq_PB pr P) (hK : ∀ j, K j < 8) (h : post (nI (bq_ct (bq_wk P K l key) 12))) :
  wpX_withKey post (bq_X zb zh zr zd zc pr K S W so sz rd hp rk) (nI l) (nI key) := by
  unfold wpX_withKey
  exact ⟨13, bq_Xwk_5 hl hkey hB hK h 13 0 (by omega) (by omega)⟩
theorem bq_Xpairs_4 {post : Int32 → Prop} (hB : bq_PB pr P) (hK : ∀ j, K j < 8) (h : post (nI (bq_ct (bq_pB P K) 144))) :
  ∀ m k : Nat, 8 < m + k → k ≤ 8 → wX_pairs_4 post (nI zb) (nI zh) (nI zr) (nI zd) (nI zc) pr (bq_A K) (bq_A S) (bq_A W) (bq_A so) (bq_A sz) (bq_A rd) (bq_A hp) (bq_A rk) m (nI (bq_ss (fun key => bq_ct (bq_wk P K 0 key) 12 * bq_ct (bq_wk P K 1 key) 12) k)) (nI k) := by
  intro m
  induction m with
  | zero => intro k a b; omega
  | succ m ih =>
    intro k hm hk
    rw [wX_pairs_4]
    refine pk_le 8 k (fun z => ?_) (fun z => ?_)
    · have e : k = 8 := by omega
      subst e
      rw [bq_pairs_eq hK 12 (by omega)]
      exact h
    · have g := ih (k + 1) (by omega) (by omega)
      refine bq_Xwk (l := 0) (by omega) z hB hK ?_
      refine bq_Xwk (l := 1) (by omega) z hB hK ?_
      refine nm_r ?_ (nm_r (nI_1 k) g)
      rw [pk_mul, nI_add, bq_ss_s]
theorem bq_Xpairs {post : Int32 → Prop} (hB : bq_PB pr P) (hK : ∀ j, K j < 8) (h : post (nI (bq_ct (bq_pB P K) 144))) : wpX_pairs post (bq_X zb zh zr zd zc pr K S W so sz rd hp rk) := by
  unfold wpX_pairs
  exact ⟨9, bq_Xpairs_4 hB hK h 9 0 (by omega) (by omega)⟩
end
section
variable {zc : Nat} {pr : Nat → Int32} {K S W : Nat → Nat} {P : Nat → Bool}
theorem bq_tv_iff {V : Nat → Nat} {x : Int32} {o : Nat} (ho : o < 144) : bq_tv P K V x o = true ↔ bq_isP P K (bq_cd o) ∧ x ≤ nI (V (bq_cd o)) := by
  unfold bq_tv
  rw [Bool.and_eq_true, bq_pB_iff ho, Bool.not_eq_true', decide_eq_false_iff_not, Int32.not_lt]
theorem bq_Xal_2 {post : Int32 → SX → Prop} {x : Int32}
  (h : ∀ (zb zh zr zd : Nat) (so sz rd hp rk : Nat → Nat), bq_F zb zh zr zd zc pr K S W so sz rd hp rk P → post (nI (bq_ct (bq_tv P K (bq_vl S W) x) 144)) (bq_X zb zh zr zd zc pr K S W so sz rd hp rk)) :
  ∀ (m k zb zh zr zd : Nat) (so sz rd hp rk : Nat → Nat), 144 < m + k → k ≤ 144 → bq_F zb zh zr zd zc pr K S W so sz rd hp rk P → (∀ j, j < k → ∃ q, bq_isP P K q ∧ bq_rc P K (bq_vl S W) q = j) → (∀ q, bq_isP P K q → bq_rc P K (bq_vl S W) q < k → x ≤ nI (bq_vl S W q)) →
  wX_atLeast_2 post x m (nI k) (nI zb) (nI zh) (nI zr) (nI zd) (nI zc) pr (bq_A K) (bq_A S) (bq_A W) (bq_A so) (bq_A sz) (bq_A rd) (bq_A hp) (bq_A rk) := by
  intro m
  induction m with
  | zero => intro k zb zh zr zd so sz rd hp rk a b; omega
  | succ m ih =>
    intro k zb zh zr zd so sz rd hp rk hm hk F E A
    rw [wX_atLeast_2]
    refine pk_le 144 k (fun z => ?_) (fun z => ?_)
    · have e : k = 144 := by omega
      subst e
      have c := bq_ct_rank (t := bq_tv P K (bq_vl S W) x) E (fun o ho => by
        rw [bq_tv_iff ho]
        exact ⟨fun y => ⟨y.1, bq_rc_144 y.1⟩, fun y => ⟨y.1, A _ y.1 y.2⟩⟩)
      have g := h zb zh zr zd so sz rd hp rk F
      rw [c] at g
      exact g
    · refine bq_reachF hk F (fun zh' zr' zd' so' sz' rd' hp' rk' F' HR hz hz2 => br_f (by decide) ?_) (fun zh' zr' so' sz' rd' hp' rk' F' HR HA hz => br_t rfl ?_)
      · refine And.intro (pk_in k 144 z) ?_
        rw [bq_rd k rfl (by omega)]
        have hP := HR.2.2 k hz
        have hc := bq_RI_at HR hz
        refine bq_valueOf hP.1 (br_c (fun y => nm_r (nI_1 k) ?_) (fun y => ?_))
        · refine ih (k + 1) 1 zh' zr' zd' so' sz' rd' hp' rk' (by omega) (by omega) F' (fun j hj => ?_) (fun q hq hl => ?_)
          · by_cases e : j = k
            · exact ⟨rk' k, hP, by rw [hc, e]⟩
            · exact E j (by omega)
          · by_cases e : bq_rc P K (bq_vl S W) q = k
            · rw [bq_rc_inj hq hP (by rw [e, hc])]
              exact y
            · exact A q hq (by omega)
        · have c := bq_ct_rank (t := bq_tv P K (bq_vl S W) x) E (fun o ho => by
            rw [bq_tv_iff ho]
            refine ⟨fun y2 => ⟨y2.1, ?_⟩, fun y2 => ⟨y2.1, A _ y2.1 y2.2⟩⟩
            rcases Nat.lt_or_ge (bq_rc P K (bq_vl S W) (bq_cd o)) k with w | w
            · exact w
            · exfalso
              apply y
              have hle : bq_vl S W (bq_cd o) ≤ bq_vl S W (rk' k) := by
                by_cases e : bq_rc P K (bq_vl S W) (bq_cd o) = k
                · rw [bq_rc_inj y2.1 hP (by rw [e, hc])]
                  exact Nat.le_refl _
                · have b := bq_rc_bf (a := rk' k) (V := bq_vl S W) y2.1 (by rw [hc]; omega)
                  unfold bq_bf at b
                  omega
              have vr := bq_vlr F.2.2.1 (rk' k)
              exact Int32.le_trans y2.2 (nI_le hle (by omega)))
          have g := h 1 zh' zr' zd' so' sz' rd' hp' rk' F'
          rw [c] at g
          exact g
      · have c := bq_ct_rank (t := bq_tv P K (bq_vl S W) x) E (fun o ho => by
          rw [bq_tv_iff ho]
          refine ⟨fun y2 => ⟨y2.1, ?_⟩, fun y2 => ⟨y2.1, A _ y2.1 y2.2⟩⟩
          have := bq_All_at HR HA y2.1
          omega)
        have g := h 1 zh' zr' 1 so' sz' rd' hp' rk' F'
        rw [c] at g
        exact g
theorem bq_Xbp_13 {post : Int32 → SX → Prop} {l i : Nat} (hl : l < 2) (hi : i < 12)
  (h1 : ∀ (zb zh zr zd : Nat) (so sz rd hp rk : Nat → Nat) (q : Nat), bq_F zb zh zr zd zc pr K S W so sz rd hp rk P → bq_isP P K q → bq_sd l q = i → (∀ q', bq_isP P K q' → bq_sd l q' = i → bq_rc P K (bq_vl S W) q ≤ bq_rc P K (bq_vl S W) q') → post (nI (bq_rc P K (bq_vl S W) q)) (bq_X zb zh zr zd zc pr K S W so sz rd hp rk))
  (h0 : ∀ (zb zh zr zd : Nat) (so sz rd hp rk : Nat → Nat), bq_F zb zh zr zd zc pr K S W so sz rd hp rk P → (∀ q, bq_isP P K q → bq_sd l q ≠ i) → post (-1) (bq_X zb zh zr zd zc pr K S W so sz rd hp rk)) :
  ∀ (m k zb zh zr zd : Nat) (so sz rd hp rk : Nat → Nat), 144 < m + k → k ≤ 144 → bq_F zb zh zr zd zc pr K S W so sz rd hp rk P → (∀ q, bq_isP P K q → bq_rc P K (bq_vl S W) q < k → bq_sd l q ≠ i) →
  wX_bestPlace_13 post (nI l) (nI i) m (nI k) (nI zb) (nI zh) (nI zr) (nI zd) (nI zc) pr (bq_A K) (bq_A S) (bq_A W) (bq_A so) (bq_A sz) (bq_A rd) (bq_A hp) (bq_A rk) := by
  intro m
  induction m with
  | zero => intro k zb zh zr zd so sz rd hp rk a b; omega
  | succ m ih =>
    intro k zb zh zr zd so sz rd hp rk hm hk F A
    rw [wX_bestPlace_13]
    refine pk_le 144 k (fun z => ?_) (fun z => ?_)
    · refine h0 zb zh zr zd so sz rd hp rk F (fun q hq => A q hq ?_)
      have := bq_rc_144 (V := bq_vl S W) hq
      omega
    · refine bq_reachF hk F (fun zh' zr' zd' so' sz' rd' hp' rk' F' HR hz hz2 => br_f (by decide) ?_) (fun zh' zr' so' sz' rd' hp' rk' F' HR HA hz => br_t rfl ?_)
      · have hP := HR.2.2 k hz
        have hc := bq_RI_at HR hz
        have hok := hP.1
        have hsl : bq_sd l (rk' k) < 12 := by
          unfold bq_ok at hok
          unfold bq_sd
          split <;> omega
        have go : wX_bestPlace_54 post (wX_bestPlace_13 post (nI l) (nI i) m) (nI l) (nI i) (nI k) (nI (bq_sd l (rk' k))) (nI 1) (nI zh') (nI zr') (nI zd') (nI zc) pr (bq_A K) (bq_A S) (bq_A W) (bq_A so') (bq_A sz') (bq_A rd') (bq_A hp') (bq_A rk') := by
          unfold wX_bestPlace_54
          refine pk_eq (bq_sd l (rk' k)) i (fun e => ?_) (fun e => nm_r (nI_1 k) ?_)
          · have g := h1 1 zh' zr' zd' so' sz' rd' hp' rk' (rk' k) F' hP e (fun q' hq' e' => by
              rw [hc]
              rcases Nat.lt_or_ge (bq_rc P K (bq_vl S W) q') k with w | w
              · exact absurd e' (A q' hq' w)
              · exact w)
            rw [hc] at g
            exact g
          · refine ih (k + 1) 1 zh' zr' zd' so' sz' rd' hp' rk' (by omega) (by omega) F' (fun q hq hlt => ?_)
            by_cases e2 : bq_rc P K (bq_vl S W) q = k
            · rw [bq_rc_inj hq hP (by rw [e2, hc])]
              exact e
            · exact A q hq (by omega)
        have o2 := hok.2
        rcases (show l = 0 ∨ l = 1 by omega) with e | e
        · subst e
          refine br_t nI_0 (And.intro (pk_in k 144 z) ?_)
          rw [bq_rd k rfl (by omega), pk_shrN (by omega) ((4 : Int32) &&& 31) 4 (by decide)]
          exact go
        · subst e
          refine br_f (nI_ne0 (by omega) (by omega)) (And.intro (pk_in k 144 z) ?_)
          rw [bq_rd k rfl (by omega), pk_andN (by omega) 4 (by decide)]
          exact go
      · refine h0 1 zh' zr' 1 so' sz' rd' hp' rk' F' (fun q hq => A q hq ?_)
        have := bq_All_at HR HA hq
        omega
end
end
section
/-! the relation; arguments of calls; bits; enter -/
def i_Rel (_ : Nat) (u : SX) (v : SY) : Prop := ∃ (zb zh zr zd zc : Nat) (pr : Nat → Int32) (K S W so sz rd hp rk : Nat → Nat) (P : Nat → Bool), u = bq_X zb zh zr zd zc pr K S W so sz rd hp rk ∧ v = bq_Y zc P K S W ∧ bq_F zb zh zr zd zc pr K S W so sz rd hp rk P
theorem bq_el {Q : SX → SY → Prop} {k : Nat} {u : SX} {v : SY} (h : ∀ (zb zh zr zd zc : Nat) (pr : Nat → Int32) (K S W so sz rd hp rk : Nat → Nat) (P : Nat → Bool), bq_F zb zh zr zd zc pr K S W so sz rd hp rk P → Q (bq_X zb zh zr zd zc pr K S W so sz rd hp rk) (bq_Y zc P K S W)) (I : i_Rel k u v) : Q u v := by
  obtain ⟨zb, zh, zr, zd, zc, pr, K, S, W, so, sz, rd, hp, rk, P, e1, e2, F⟩ := I
  rw [e1, e2]
  exact h zb zh zr zd zc pr K S W so sz rd hp rk P F
theorem bq_mk {k zb zh zr zd zc : Nat} {pr : Nat → Int32} {K S W so sz rd hp rk : Nat → Nat} {P : Nat → Bool} (F : bq_F zb zh zr zd zc pr K S W so sz rd hp rk P) : i_Rel k (bq_X zb zh zr zd zc pr K S W so sz rd hp rk) (bq_Y zc P K S W) :=
  ⟨zb, zh, zr, zd, zc, pr, K, S, W, so, sz, rd, hp, rk, P, rfl, rfl, F⟩
theorem bq_isN {post : Int32 → Prop} {x : Int32} (h0 : x ≠ 0) (h1 : x ≠ 1) (h : post 0) : wpX_isList post x := br_f h0 (br_f h1 h)
theorem bq_lst (x : Int32) : (x ≠ 0 ∧ x ≠ 1) ∨ ∃ l, l < 2 ∧ x = nI l := by
  by_cases h0 : x = 0
  · exact Or.inr ⟨0, by omega, h0⟩
  · by_cases h1 : x = 1
    · exact Or.inr ⟨1, by omega, h1⟩
    · exact Or.inl ⟨h0, h1⟩
theorem bq_arg (x y : Int32) : ((∀ (post : Int32 → Prop) (u : SX), post 0 → wpX_has post u x y) ∧ (∀ (post : Int32 → Prop) (v : SY), post 0 → wpY_entry post v x y)) ∨ ∃ l i, l < 2 ∧ i < 12 ∧ x = nI l ∧ y = nI i := by
  rcases bq_lst x with ⟨h0, h1⟩ | ⟨l, hl, rfl⟩
  · refine Or.inl ⟨fun post u h => ?_, fun post v h => ?_⟩
    · obtain ⟨a1, a2, a3, a4, a5, a6, a7, a8, a9, a10, a11, a12, a13, a14⟩ := u
      unfold wpX_has
      exact bq_isN h0 h1 (br_t rfl h)
    · obtain ⟨a1, a2, a3, a4, a5⟩ := v
      exact br_f h0 (br_f h1 h)
  · have two : y < 0 ∨ (12 : Int32) ≤ y ∨ ∃ j, j < 12 ∧ y = nI j := pk_ix y (n := 12) (by omega)
    have no : (y < 0 ∨ (¬ y < 0 ∧ (12 : Int32) ≤ y)) → ((∀ (post : Int32 → Prop) (u : SX), post 0 → wpX_has post u (nI l) y) ∧ (∀ (post : Int32 → Prop) (v : SY), post 0 → wpY_entry post v (nI l) y)) := by
      intro hy
      refine ⟨fun post u h => ?_, fun post v h => ?_⟩
      · obtain ⟨a1, a2, a3, a4, a5, a6, a7, a8, a9, a10, a11, a12, a13, a14⟩ := u
        unfold wpX_has
        refine bq_isL hl (br_f (by decide) ?_)
        rcases hy with hy | ⟨hy, hy2⟩
        · exact br_t hy h
        · exact br_f hy (br_t hy2 h)
      · obtain ⟨a1, a2, a3, a4, a5⟩ := v
        have go : wY_entry_9 post (nI l) y a1 a2 a3 a4 a5 := by
          unfold wY_entry_9
          rcases hy with hy | ⟨hy, hy2⟩
          · exact br_t hy h
          · exact br_f hy (br_t hy2 h)
        unfold wpY_entry
        rcases (show l = 0 ∨ l = 1 by omega) with e | e
        · subst e; exact br_t nI_0 go
        · subst e; exact br_f (nI_ne0 (by omega) (by omega)) (br_t rfl go)
    rcases two with hy | hy | ⟨j, hj, rfl⟩
    · exact Or.inl (no (Or.inl hy))
    · by_cases hy2 : y < 0
      · exact Or.inl (no (Or.inl hy2))
      · exact Or.inl (no (Or.inr ⟨hy2, hy⟩))
    · exact Or.inr ⟨l, j, hl, hj, rfl, rfl⟩
theorem bq_b1 {i j : Nat} (hi : i < 32) (hj : j < 32) : bt ((1 : Int32) <<< (nI i &&& 31)) j = decide (j = i) := by
  have b1 : ∀ j, j < 32 → bt 1 j = decide (j = 0) := by decide +kernel
  rw [b_shl i hi 1 hj, b1 (j - i) (by omega)]
  by_cases e : j = i
  · subst e
    simp
  · rw [decide_eq_false e]
    by_cases g : i ≤ j
    · rw [decide_eq_false (show ¬ j - i = 0 by omega), Bool.and_false]
    · rw [decide_eq_false g, Bool.false_and]
theorem bq_PB_in {pr : Nat → Int32} {P : Nat → Bool} {l i : Nat} (hl : l < 2) (hi : i < 12) (H : bq_PB pr P) : bq_PB (upd pr l (pr l ||| ((1 : Int32) <<< (nI i &&& 31)))) (bq_uB P (12 * l + i) true) := by
  intro l' hl' j hj
  by_cases e : l' = l
  · subst e
    rw [pk_us, b_or, bq_b1 (by omega) hj, H l' hl j hj]
    by_cases g : j = i
    · subst g
      rw [bq_uBs, decide_eq_true hi]
      simp
    · rw [bq_uBn (by omega), decide_eq_false g, Bool.or_false]
  · rw [pk_un e, H l' hl' j hj]
    by_cases g : j < 12
    · rw [bq_uBn (by omega)]
    · rw [decide_eq_false g, Bool.false_and, Bool.false_and]
theorem bq_PB_out {pr : Nat → Int32} {P : Nat → Bool} {l i : Nat} (hl : l < 2) (hi : i < 12) (H : bq_PB pr P) : bq_PB (upd pr l (pr l &&& (((1 : Int32) <<< (nI i &&& 31)) ^^^ (-1)))) (bq_uB P (12 * l + i) false) := by
  intro l' hl' j hj
  by_cases e : l' = l
  · subst e
    rw [pk_us, b_and, b_xor, bq_b1 (by omega) hj, b_m1 j hj, H l' hl j hj]
    by_cases g : j = i
    · subst g
      rw [bq_uBs]
      simp
    · rw [bq_uBn (by omega), decide_eq_false g]
      simp
  · rw [pk_un e, H l' hl' j hj]
    by_cases g : j < 12
    · rw [bq_uBn (by omega)]
    · rw [decide_eq_false g, Bool.false_and, Bool.false_and]
theorem bq_wrB {P : Nat → Bool} {x y : Int32} (n : Nat) (v : Bool) (hx : x = nI n) (hy : y = if v = true then 1 else 0) (h : n < 2 ^ 31) : upd (bq_B P) x.toNatClampNeg y = bq_B (bq_uB P n v) := by
  subst hx hy
  rw [nI_clamp h]
  funext j
  by_cases e : j = n
  · subst e
    rw [pk_us]
    unfold bq_B
    rw [bq_uBs]
  · rw [pk_un e]
    unfold bq_B
    rw [bq_uBn e]
theorem bq_F_new {zb zh zr zd zc : Nat} {pr pr' : Nat → Int32} {K S W so sz rd hp rk K' S' W' : Nat → Nat} {P P' : Nat → Bool} (F : bq_F zb zh zr zd zc pr K S W so sz rd hp rk P) (hB : bq_PB pr' P') (hK : ∀ j, K' j < 8) (hV : bq_RV S' W') : bq_F 0 zh zr zd 0 pr' K' S' W' so sz rd hp rk P' :=
  ⟨hB, hK, hV, F.2.2.2.1, Or.inl ⟨rfl, rfl⟩⟩
theorem i_up {k : Nat} {u : SX} {v : SY} (h : i_Rel k u v) : i_Rel (k + 4) u v := h
theorem i_vc0 : wpX_init (fun u => wpY_init (fun v => i_Rel 0 u v)) := by
  have w0 : ∀ (f : Nat → Nat) (n v : Nat) (y : Int32), y = nI v → upd (bq_A f) n y = bq_A (bq_up f n v) := by
    intro f n v y hy
    subst hy
    funext j
    by_cases e : j = n
    · simp [upd, bq_A, bq_up, e]
    · simp [upd, bq_A, bq_up, e]
  unfold wpX_init wpY_init
  refine nm_r (w0 (fun _ => 0) 0 1 _ (bq_nb (v := 1) (by omega))) (nm_r (w0 _ 1 1 _ (bq_nb (v := 1) (by omega))) ?_)
  refine nm_r (w0 (fun _ => 0) 0 1 _ rfl) (nm_r (w0 _ 1 1 _ rfl) ?_)
  refine bq_mk (zb := 0) (zh := 0) (zr := 0) (zd := 0) (zc := 0) (pr := fun _ => 0) (K := fun _ => 0) (S := fun _ => 0) (W := bq_up (bq_up (fun _ => 0) 0 1) 1 1) (so := fun _ => 0) (sz := fun _ => 0) (rd := fun _ => 0) (hp := fun _ => 0) (rk := fun _ => 0) (P := fun _ => false) ?_
  refine ⟨fun l _ i _ => by rw [b_0, Bool.and_false], fun _ => (by decide : (0 : Nat) < 8), ⟨fun _ => (by decide : (0 : Nat) ≤ 1000), ?_⟩, ⟨fun _ => (by decide : (0 : Nat) < 12), fun _ => (by decide : (0 : Nat) % 16 < 12 ∧ (0 : Nat) < 192), fun _ => (by decide : (0 : Nat) % 16 < 12 ∧ (0 : Nat) < 192)⟩, Or.inl ⟨rfl, rfl⟩⟩
  exact bq_upP (fun z => z ≤ 9) (bq_upP (fun z => z ≤ 9) (fun _ => by omega) (by omega)) (by omega)
section
variable {zb zh zr zd zc : Nat} {pr : Nat → Int32} {K S W so sz rd hp rk : Nat → Nat} {P : Nat → Bool}
theorem bq_Xe_33 {post : Int32 → SX → Prop} {l key sc : Nat} (hl : l < 2) (hkey : key < 8) (hsc : sc ≤ 1000) (hB : bq_PB pr P)
  (h1 : ∀ i, i < 12 → P (12 * l + i) = false → (∀ j, j < i → P (12 * l + j) = true) → post (nI i) (bq_X 0 zh zr zd 0 (upd pr l (pr l ||| ((1 : Int32) <<< (nI i &&& 31)))) (bq_up K (12 * l + i) key) (bq_up S (12 * l + i) sc) W so sz rd hp rk))
  (h0 : (∀ j, j < 12 → P (12 * l + j) = true) → post (-2) (bq_X zb zh zr zd zc pr K S W so sz rd hp rk)) :
  ∀ m i : Nat, 12 < m + i → i ≤ 12 → (∀ j, j < i → P (12 * l + j) = true) → wX_enter_33 post (nI l) (nI key) (nI sc) (nI zb) (nI zh) (nI zr) (nI zd) (nI zc) pr (bq_A K) (bq_A S) (bq_A W) (bq_A so) (bq_A sz) (bq_A rd) (bq_A hp) (bq_A rk) m (nI i) := by
  intro m
  induction m with
  | zero => intro i a b; omega
  | succ m ih =>
    intro i hm hi H
    rw [wX_enter_33]
    refine pk_le 12 i (fun z => h0 (fun j hj => H j (by omega))) (fun z => ?_)
    refine bq_has hB hl z (fun hP => br_t rfl ?_) (fun hP => br_f (by decide) (nm_r (nI_1 i) ?_))
    · have e1 : upd pr (nI l).toNatClampNeg (pr (nI l).toNatClampNeg ||| ((1 : Int32) <<< (nI i &&& 31))) = upd pr l (pr l ||| ((1 : Int32) <<< (nI i &&& 31))) := by
        rw [nI_clamp (by omega)]
      refine And.intro (pk_in l 2 hl) (And.intro (pk_in l 2 hl) (nm_r e1 ?_))
      refine And.intro (pk_in (12 * l + i) 24 (by omega) (bq_ix l i)) (nm_r (bq_wr (12 * l + i) key (bq_ix l i) (bq_nb2 (by omega)) (by omega)) ?_)
      refine And.intro (pk_in (12 * l + i) 24 (by omega) (bq_ix l i)) (nm_r (bq_wr (12 * l + i) sc (bq_ix l i) (bq_ns2 (by omega)) (by omega)) ?_)
      unfold wpX_changed
      exact h1 i z hP H
    · refine ih (i + 1) (by omega) (by omega) (fun j hj => ?_)
      by_cases e : j = i
      · rw [e]; exact hP
      · exact H j (by omega)
theorem bq_Ye_35 {post : Int32 → SY → Prop} {l key sc : Nat} (hl : l < 2)
  (h1 : ∀ i, i < 12 → P (12 * l + i) = false → (∀ j, j < i → P (12 * l + j) = true) → post (nI i) (bq_Y 0 (bq_uB P (12 * l + i) true) (bq_up K (12 * l + i) key) (bq_up S (12 * l + i) sc) W))
  (h0 : (∀ j, j < 12 → P (12 * l + j) = true) → post (-2) (bq_Y zc P K S W)) :
  ∀ m i : Nat, 12 < m + i → i ≤ 12 → (∀ j, j < i → P (12 * l + j) = true) → wY_enter_35 post (nI l) (nI key) (nI sc) (nI zc) (bq_B P) (bq_A K) (bq_A S) (bq_A W) m (nI i) := by
  intro m
  induction m with
  | zero => intro i a b; omega
  | succ m ih =>
    intro i hm hi H
    rw [wY_enter_35]
    refine pk_le 12 i (fun z => h0 (fun j hj => H j (by omega))) (fun z => ?_)
    have vi : vp_in (12 * nI l + nI i) 24 := pk_in (12 * l + i) 24 (by omega) (bq_iy l i)
    refine And.intro vi (bq_brB (12 * l + i) (fun hP => ?_) (fun hP => nm_r (nI_1 i) ?_) (bq_iy l i) (by omega))
    · refine And.intro vi (nm_r (bq_wrB (12 * l + i) true (bq_iy l i) rfl (by omega)) ?_)
      refine And.intro vi (nm_r (bq_wr (12 * l + i) key (bq_iy l i) rfl (by omega)) ?_)
      refine And.intro vi (nm_r (bq_wr (12 * l + i) sc (bq_iy l i) rfl (by omega)) ?_)
      exact h1 i z hP H
    · refine ih (i + 1) (by omega) (by omega) (fun j hj => ?_)
      by_cases e : j = i
      · rw [e]; exact hP
      · exact H j (by omega)
end
theorem bq_YEn {post : Int32 → SY → Prop} {a1 : Int32} {a2 a3 a4 a5 : Nat → Int32} {l : Nat} (hl : l < 2) {x y : Int32} (h : wY_enter_9 post (nI l) x y a1 a2 a3 a4 a5) : wpY_enter post (a1, a2, a3, a4, a5) (nI l) x y := by
  unfold wpY_enter
  rcases (show l = 0 ∨ l = 1 by omega) with e | e
  · subst e; exact br_t nI_0 h
  · subst e; exact br_f (nI_ne0 (by omega) (by omega)) (br_t rfl h)
theorem i_vc_enter {k : Nat} {u : SX} {v : SY} (I : i_Rel k u v) (hk : k + 4 ≤ 2048) (v1 : Int32) (v2 : Int32) (v3 : Int32) : wpX_enter (fun r u' => wpY_enter (fun r' v' => r' = r ∧ i_Rel (k + 4) u' v') v v1 v2 v3) u v1 v2 v3 := by
  refine bq_el (Q := fun u v => wpX_enter (fun r u' => wpY_enter (fun r' v' => r' = r ∧ i_Rel (k + 4) u' v') v v1 v2 v3) u v1 v2 v3) ?_ I
  intro zb zh zr zd zc pr K S W so sz rd hp rk P F
  have same : i_Rel (k + 4) (bq_X zb zh zr zd zc pr K S W so sz rd hp rk) (bq_Y zc P K S W) := bq_mk F
  unfold wpX_enter
  rcases bq_lst v1 with ⟨n0, n1⟩ | ⟨l, hl, rfl⟩
  · refine bq_isN n0 n1 (br_t rfl ?_)
    unfold wpY_enter
    exact br_f n0 (br_f n1 ⟨rfl, same⟩)
  · refine bq_isL hl (br_f (by decide) ?_)
    by_cases c1 : v2 < 0
    · exact br_t c1 (bq_YEn hl (br_t c1 ⟨rfl, same⟩))
    · refine br_f c1 ?_
      by_cases c2 : 7 < v2
      · exact br_t c2 (bq_YEn hl (br_f c1 (br_t c2 ⟨rfl, same⟩)))
      · refine br_f c2 ?_
        by_cases c3 : v3 < 0
        · exact br_t c3 (bq_YEn hl (br_f c1 (br_f c2 (br_t c3 ⟨rfl, same⟩))))
        · refine br_f c3 ?_
          by_cases c4 : v3 ≤ 1000
          · obtain ⟨key, hkey, rfl⟩ := nI_of2 (M := 7) (n := 7) (by decide) c1 (Int32.not_lt.mp c2)
            obtain ⟨sc, hsc, rfl⟩ := nI_of2 (M := 1000) (n := 1000) (by decide) c3 c4
            have toY : ∀ (r : Int32) (u' : SX), wY_enter_35 (fun r' v' => r' = r ∧ i_Rel (k + 4) u' v') (nI l) (nI key) (nI sc) (nI zc) (bq_B P) (bq_A K) (bq_A S) (bq_A W) 13 (nI 0) → wpY_enter (fun r' v' => r' = r ∧ i_Rel (k + 4) u' v') (bq_Y zc P K S W) (nI l) (nI key) (nI sc) := by
              intro r u' g
              exact bq_YEn hl (br_f c1 (br_f c2 (br_f c3 (br_t c4 ⟨13, g⟩))))
            refine br_t c4 ⟨13, ?_⟩
            refine bq_Xe_33 (P := P) hl (by omega) hsc F.1 (fun i hi hP hj => toY _ _ ?_) (fun hj => toY _ _ ?_) 13 0 (by omega) (by omega) (fun j hj => by omega)
            · refine bq_Ye_35 hl (fun i' hi' hP' hj' => ?_) (fun hj' => ?_) 13 0 (by omega) (by omega) (fun j hj => by omega)
              · have e : i' = i := by
                  rcases Nat.lt_trichotomy i' i with y | y | y
                  · rw [hj i' y] at hP'; exact Bool.noConfusion hP'
                  · exact y
                  · rw [hj' i y] at hP; exact Bool.noConfusion hP
                subst e
                refine ⟨rfl, bq_mk (bq_F_new F (bq_PB_in hl hi F.1) (bq_upP (fun z => z < 8) F.2.1 (by omega)) ⟨bq_upP (fun z => z ≤ 1000) F.2.2.1.1 hsc, F.2.2.1.2⟩)⟩
              · rw [hj' i hi] at hP
                exact Bool.noConfusion hP
            · refine bq_Ye_35 hl (fun i' hi' hP' hj' => ?_) (fun hj' => ⟨rfl, same⟩) 13 0 (by omega) (by omega) (fun j hj => by omega)
              rw [hj i' hi'] at hP'
              exact Bool.noConfusion hP'
          · exact br_f c4 (bq_YEn hl (br_f c1 (br_f c2 (br_f c3 (br_f c4 ⟨rfl, same⟩)))))
end
section
/-! the other owed statements -/
theorem i_vc_remove {k : Nat} {u : SX} {v : SY} (I : i_Rel k u v) (hk : k + 4 ≤ 2048) (v1 : Int32) (v2 : Int32) : wpX_remove (fun r u' => wpY_remove (fun r' v' => r' = r ∧ i_Rel (k + 4) u' v') v v1 v2) u v1 v2 := by
  refine bq_el (Q := fun u v => wpX_remove (fun r u' => wpY_remove (fun r' v' => r' = r ∧ i_Rel (k + 4) u' v') v v1 v2) u v1 v2) ?_ I
  intro zb zh zr zd zc pr K S W so sz rd hp rk P F
  have same : i_Rel (k + 4) (bq_X zb zh zr zd zc pr K S W so sz rd hp rk) (bq_Y zc P K S W) := bq_mk F
  unfold wpX_remove wpY_remove
  rcases bq_arg v1 v2 with ⟨nx, ny⟩ | ⟨l, i, hl, hi, rfl, rfl⟩
  · exact nx _ _ (br_t rfl (ny _ _ (br_t rfl ⟨rfl, same⟩)))
  · refine bq_has F.1 hl hi (fun hP => br_t rfl ?_) (fun hP => br_f (by decide) ?_)
    · exact bq_Yent hl hi (fun _ => br_t rfl ⟨rfl, same⟩) (fun y => by rw [hP] at y; exact Bool.noConfusion y)
    · have e1 : upd pr (nI l).toNatClampNeg (pr (nI l).toNatClampNeg &&& (((1 : Int32) <<< (nI i &&& 31)) ^^^ (-1))) = upd pr l (pr l &&& (((1 : Int32) <<< (nI i &&& 31)) ^^^ (-1))) := by
        rw [nI_clamp (by omega)]
      refine And.intro (pk_in l 2 hl) (And.intro (pk_in l 2 hl) (nm_r e1 ?_))
      unfold wpX_changed
      refine bq_Yent hl hi (fun y => by rw [hP] at y; exact Bool.noConfusion y) (fun _ => br_f (by decide) ?_)
      refine And.intro (pk_in (12 * l + i) 24 (by omega) (bq_iy l i)) (nm_r (bq_wrB (12 * l + i) false (bq_iy l i) rfl (by omega)) ?_)
      exact ⟨rfl, bq_mk (bq_F_new F (bq_PB_out hl hi F.1) F.2.1 F.2.2.1)⟩
theorem i_vc_rescore {k : Nat} {u : SX} {v : SY} (I : i_Rel k u v) (hk : k + 4 ≤ 2048) (v1 : Int32) (v2 : Int32) (v3 : Int32) : wpX_rescore (fun r u' => wpY_rescore (fun r' v' => r' = r ∧ i_Rel (k + 4) u' v') v v1 v2 v3) u v1 v2 v3 := by
  refine bq_el (Q := fun u v => wpX_rescore (fun r u' => wpY_rescore (fun r' v' => r' = r ∧ i_Rel (k + 4) u' v') v v1 v2 v3) u v1 v2 v3) ?_ I
  intro zb zh zr zd zc pr K S W so sz rd hp rk P F
  have same : i_Rel (k + 4) (bq_X zb zh zr zd zc pr K S W so sz rd hp rk) (bq_Y zc P K S W) := bq_mk F
  unfold wpX_rescore wpY_rescore
  rcases bq_arg v1 v2 with ⟨nx, ny⟩ | ⟨l, i, hl, hi, rfl, rfl⟩
  · exact nx _ _ (br_t rfl (ny _ _ (br_t rfl ⟨rfl, same⟩)))
  · refine bq_has F.1 hl hi (fun hP => br_t rfl ?_) (fun hP => br_f (by decide) ?_)
    · exact bq_Yent hl hi (fun _ => br_t rfl ⟨rfl, same⟩) (fun y => by rw [hP] at y; exact Bool.noConfusion y)
    · by_cases c1 : v3 < 0
      · exact br_t c1 (bq_Yent hl hi (fun y => by rw [hP] at y; exact Bool.noConfusion y) (fun _ => br_f (by decide) (br_t c1 ⟨rfl, same⟩)))
      · refine br_f c1 ?_
        by_cases c2 : v3 ≤ 1000
        · obtain ⟨sc, hsc, rfl⟩ := nI_of2 (M := 1000) (n := 1000) (by decide) c1 c2
          refine br_t c2 (And.intro (pk_in (12 * l + i) 24 (by omega) (bq_ix l i)) (nm_r (bq_wr (12 * l + i) sc (bq_ix l i) (bq_ns2 (by omega)) (by omega)) ?_))
          unfold wpX_changed
          refine bq_Yent hl hi (fun y => by rw [hP] at y; exact Bool.noConfusion y) (fun _ => br_f (by decide) (br_f c1 (br_t c2 ?_)))
          refine And.intro (pk_in (12 * l + i) 24 (by omega) (bq_iy l i)) (nm_r (bq_wr (12 * l + i) sc (bq_iy l i) rfl (by omega)) ?_)
          exact ⟨rfl, bq_mk (bq_F_new F F.1 F.2.1 ⟨bq_upP (fun z => z ≤ 1000) F.2.2.1.1 hsc, F.2.2.1.2⟩)⟩
        · exact br_f c2 (bq_Yent hl hi (fun y => by rw [hP] at y; exact Bool.noConfusion y) (fun _ => br_f (by decide) (br_f c1 (br_f c2 ⟨rfl, same⟩))))
theorem bq_YWe {post : Int32 → SY → Prop} {a1 : Int32} {a2 a3 a4 a5 : Nat → Int32} {l : Nat} (hl : l < 2) {x : Int32} (h : wY_weigh_9 post (nI l) x a1 a2 a3 a4 a5) : wpY_weigh post (a1, a2, a3, a4, a5) (nI l) x := by
  unfold wpY_weigh
  rcases (show l = 0 ∨ l = 1 by omega) with e | e
  · subst e; exact br_t nI_0 h
  · subst e; exact br_f (nI_ne0 (by omega) (by omega)) (br_t rfl h)
theorem i_vc_weigh {k : Nat} {u : SX} {v : SY} (I : i_Rel k u v) (hk : k + 4 ≤ 2048) (v1 : Int32) (v2 : Int32) : wpX_weigh (fun r u' => wpY_weigh (fun r' v' => r' = r ∧ i_Rel (k + 4) u' v') v v1 v2) u v1 v2 := by
  refine bq_el (Q := fun u v => wpX_weigh (fun r u' => wpY_weigh (fun r' v' => r' = r ∧ i_Rel (k + 4) u' v') v v1 v2) u v1 v2) ?_ I
  intro zb zh zr zd zc pr K S W so sz rd hp rk P F
  have same : i_Rel (k + 4) (bq_X zb zh zr zd zc pr K S W so sz rd hp rk) (bq_Y zc P K S W) := bq_mk F
  unfold wpX_weigh
  rcases bq_lst v1 with ⟨n0, n1⟩ | ⟨l, hl, rfl⟩
  · refine bq_isN n0 n1 (br_t rfl ?_)
    unfold wpY_weigh
    exact br_f n0 (br_f n1 ⟨rfl, same⟩)
  · refine bq_isL hl (br_f (by decide) ?_)
    by_cases c1 : v2 < 0
    · exact br_t c1 (bq_YWe hl (br_t c1 ⟨rfl, same⟩))
    · refine br_f c1 ?_
      by_cases c2 : v2 ≤ 9
      · obtain ⟨w, hw, rfl⟩ := nI_of2 (M := 9) (n := 9) (by decide) c1 c2
        refine br_t c2 (And.intro (pk_in l 2 hl) (nm_r (bq_wr l w rfl (bq_nb2 (by omega)) (by omega)) ?_))
        unfold wpX_changed
        refine bq_YWe hl (br_f c1 (br_t c2 (And.intro (pk_in l 2 hl) (nm_r (bq_wr l w rfl rfl (by omega)) ?_))))
        exact ⟨rfl, bq_mk (bq_F_new F F.1 F.2.1 ⟨F.2.2.1.1, bq_upP (fun z => z ≤ 9) F.2.2.1.2 hw⟩)⟩
      · exact br_f c2 (bq_YWe hl (br_f c1 (br_f c2 ⟨rfl, same⟩)))
theorem bq_Yen_4 {post : Int32 → Prop} {c : Nat} {P : Nat → Bool} {K S W : Nat → Nat} {l : Nat} (hl : l < 2) (z : Int32) (hz : ∀ j, j < 32 → bt z j = (decide (j < 12) && P (12 * l + j))) (h : post z) :
  ∀ (m i : Nat) (x : Int32), 12 < m + i → i ≤ 12 → (∀ j, j < 32 → bt x j = (decide (j < i) && P (12 * l + j))) → wY_entries_4 post (nI l) (nI c) (bq_B P) (bq_A K) (bq_A S) (bq_A W) m x (nI i) := by
  intro m
  induction m with
  | zero => intro i x a b; omega
  | succ m ih =>
    intro i x hm hi H
    rw [wY_entries_4]
    refine pk_le 12 i (fun y => ?_) (fun y => ?_)
    · have e : i = 12 := by omega
      subst e
      rw [show x = z from b_ext (fun j hj => by rw [H j hj, hz j hj])]
      exact h
    · refine bq_Yent hl y (fun hP => br_t rfl (nm_e (nm_r (nI_1 i) ?_))) (fun hP => br_f (by decide) (nm_e (nm_r (nI_1 i) ?_)))
      · refine ih (i + 1) _ (by omega) (by omega) (fun j hj => ?_)
        rw [b_or, b_0, Bool.or_false, H j hj]
        by_cases e : j = i
        · subst e
          rw [hP, Bool.and_false, Bool.and_false]
        · rw [show decide (j < i) = decide (j < i + 1) from decide_eq_decide.mpr ⟨fun z => by omega, fun z => by omega⟩]
      · refine ih (i + 1) _ (by omega) (by omega) (fun j hj => ?_)
        rw [b_or, bq_b1 (by omega) hj, H j hj]
        by_cases e : j = i
        · subst e
          rw [hP, decide_eq_true rfl, Bool.or_true, decide_eq_true (show j < j + 1 by omega)]
          rfl
        · rw [decide_eq_false e, Bool.or_false, show decide (j < i) = decide (j < i + 1) from decide_eq_decide.mpr ⟨fun z => by omega, fun z => by omega⟩]
theorem bq_Yen_no {post : Int32 → Prop} {a1 : Int32} {a2 a3 a4 a5 : Nat → Int32} {x : Int32} (h0 : x ≠ 0) (h1 : x ≠ 1) (h : post 0) :
  ∀ m i : Nat, 12 < m + i → i ≤ 12 → wY_entries_4 post x a1 a2 a3 a4 a5 m 0 (nI i) := by
  intro m
  induction m with
  | zero => intro i a b; omega
  | succ m ih =>
    intro i hm hi
    rw [wY_entries_4]
    refine pk_le 12 i (fun y => h) (fun y => ?_)
    unfold wpY_entry
    exact br_f h0 (br_f h1 (br_t rfl (nm_r (show (0 : Int32) ||| 0 = 0 by decide) (nm_r (nI_1 i) (ih (i + 1) (by omega) (by omega))))))
theorem i_vc_entries {k : Nat} {u : SX} {v : SY} (I : i_Rel k u v) (hk : k + 4 ≤ 2048) (v1 : Int32) : wpX_entries (fun r => wpY_entries (fun r' => r' = r ∧ i_Rel (k + 4) u v) v v1) u v1 := by
  refine bq_el (Q := fun u v => wpX_entries (fun r => wpY_entries (fun r' => r' = r ∧ i_Rel (k + 4) u v) v v1) u v1) ?_ I
  intro zb zh zr zd zc pr K S W so sz rd hp rk P F
  have same : i_Rel (k + 4) (bq_X zb zh zr zd zc pr K S W so sz rd hp rk) (bq_Y zc P K S W) := bq_mk F
  unfold wpX_entries wpY_entries
  rcases bq_lst v1 with ⟨n0, n1⟩ | ⟨l, hl, rfl⟩
  · refine bq_isN n0 n1 (br_t rfl ⟨13, ?_⟩)
    exact bq_Yen_no n0 n1 ⟨rfl, same⟩ 13 0 (by omega) (by omega)
  · refine bq_isL hl (br_f (by decide) (And.intro (pk_in l 2 hl) ⟨13, ?_⟩))
    rw [nI_clamp (by omega)]
    exact bq_Yen_4 hl (pr l) (F.1 l hl) ⟨rfl, same⟩ 13 0 0 (by omega) (by omega) (fun j hj => by rw [b_0, decide_eq_false (by omega), Bool.false_and])
theorem i_vc_score {k : Nat} {u : SX} {v : SY} (I : i_Rel k u v) (hk : k + 4 ≤ 2048) (v1 : Int32) (v2 : Int32) : wpX_score (fun r => wpY_score (fun r' => r' = r ∧ i_Rel (k + 4) u v) v v1 v2) u v1 v2 := by
  refine bq_el (Q := fun u v => wpX_score (fun r => wpY_score (fun r' => r' = r ∧ i_Rel (k + 4) u v) v v1 v2) u v1 v2) ?_ I
  intro zb zh zr zd zc pr K S W so sz rd hp rk P F
  have same : i_Rel (k + 4) (bq_X zb zh zr zd zc pr K S W so sz rd hp rk) (bq_Y zc P K S W) := bq_mk F
  unfold wpX_score wpY_score
  rcases bq_arg v1 v2 with ⟨nx, ny⟩ | ⟨l, i, hl, hi, rfl, rfl⟩
  · exact nx _ _ (br_t rfl (ny _ _ (br_t rfl ⟨rfl, same⟩)))
  · refine bq_has F.1 hl hi (fun hP => br_t rfl ?_) (fun hP => br_f (by decide) (And.intro (pk_in (12 * l + i) 24 (by omega) (bq_ix l i)) ?_))
    · exact bq_Yent hl hi (fun _ => br_t rfl ⟨rfl, same⟩) (fun y => by rw [hP] at y; exact Bool.noConfusion y)
    · refine bq_Yent hl hi (fun y => by rw [hP] at y; exact Bool.noConfusion y) (fun _ => br_f (by decide) (And.intro (pk_in (12 * l + i) 24 (by omega) (bq_iy l i)) ⟨?_, same⟩))
      rw [bq_iy, bq_ix]
theorem i_vc_passed {k : Nat} {u : SX} {v : SY} (I : i_Rel k u v) (hk : k + 4 ≤ 2048) : wpX_passed (fun r => wpY_passed (fun r' => r' = r ∧ i_Rel (k + 4) u v) v) u := by
  refine bq_el (Q := fun u v => wpX_passed (fun r => wpY_passed (fun r' => r' = r ∧ i_Rel (k + 4) u v) v) u) ?_ I
  intro zb zh zr zd zc pr K S W so sz rd hp rk P F
  exact ⟨rfl, bq_mk F⟩
theorem i_vc_rewind {k : Nat} {u : SX} {v : SY} (I : i_Rel k u v) (hk : k + 4 ≤ 2048) : wpX_rewind (fun u' => wpY_rewind (fun v' => i_Rel (k + 4) u' v') v) u := by
  refine bq_el (Q := fun u v => wpX_rewind (fun u' => wpY_rewind (fun v' => i_Rel (k + 4) u' v') v) u) ?_ I
  intro zb zh zr zd zc pr K S W so sz rd hp rk P F
  refine bq_mk (k := k + 4) (zc := 0) (zb := zb) (zh := zh) (zr := zr) (zd := zd) (pr := pr) (K := K) (S := S) (W := W) (so := so) (sz := sz) (rd := rd) (hp := hp) (rk := rk) (P := P) ⟨F.1, F.2.1, F.2.2.1, F.2.2.2.1, ?_⟩
  rcases F.2.2.2.2 with ⟨e, _⟩ | ⟨e, H, _⟩
  · exact Or.inl ⟨e, rfl⟩
  · exact Or.inr ⟨e, H, Nat.zero_le _⟩
theorem i_vc_pairs {k : Nat} {u : SX} {v : SY} (I : i_Rel k u v) (hk : k + 4 ≤ 2048) : wpX_pairs (fun r => wpY_pairs (fun r' => r' = r ∧ i_Rel (k + 4) u v) v) u := by
  refine bq_el (Q := fun u v => wpX_pairs (fun r => wpY_pairs (fun r' => r' = r ∧ i_Rel (k + 4) u v) v) u) ?_ I
  intro zb zh zr zd zc pr K S W so sz rd hp rk P F
  exact bq_Xpairs F.1 F.2.1 (bq_Ypairs F.2.1 ⟨rfl, bq_mk F⟩)
theorem i_vc_next {k : Nat} {u : SX} {v : SY} (I : i_Rel k u v) (hk : k + 4 ≤ 2048) : wpX_next (fun r u' => wpY_next (fun r' v' => r' = r ∧ i_Rel (k + 4) u' v') v) u := by
  refine bq_el (Q := fun u v => wpX_next (fun r u' => wpY_next (fun r' v' => r' = r ∧ i_Rel (k + 4) u' v') v) u) ?_ I
  intro zb zh zr zd zc pr K S W so sz rd hp rk P F
  have hzc := bq_zc F
  have hK := F.2.1
  have hV := F.2.2.1
  unfold wpX_next
  refine bq_reachF hzc F (fun zh' zr' zd' so' sz' rd' hp' rk' F' HR hz hz2 => br_f (by decide) (nm_r (nI_1 zc) ?_)) (fun zh' zr' so' sz' rd' hp' rk' F' HR HA hz => br_t rfl ?_)
  · have hP := HR.2.2 zc hz
    have hc := bq_RI_at HR hz
    refine And.intro (pk_in zc 144 (by omega) (nI_pred zc)) ?_
    rw [bq_rd zc (nI_pred zc) (by omega)]
    unfold wpY_next
    refine bq_Yr hK hV (fun p hp2 hq e => ?_) (fun hn => ?_)
    · have hr := bq_rc_144 (V := bq_vl S W) hq
      rw [nI_eq (by omega) (by omega)] at e
      have e2 : bq_cd p = rk' zc := bq_rc_inj hq hP (by rw [e, hc])
      refine br_t (nI_pos' (by omega)) ?_
      unfold wY_next_27
      refine bq_Ys hp2 ⟨by rw [e2], ?_⟩
      rw [nI_1]
      refine bq_mk (zc := zc + 1) (zb := 1) (zh := zh') (zr := zr') (zd := zd') (pr := pr) (K := K) (S := S) (W := W) (so := so') (sz := sz') (rd := rd') (hp := hp') (rk := rk') (P := P) ⟨F'.1, F'.2.1, F'.2.2.1, F'.2.2.2.1, ?_⟩
      rcases F'.2.2.2.2 with ⟨y, _⟩ | ⟨_, H, _⟩
      · omega
      · exact Or.inr ⟨rfl, H, by omega⟩
    · exact absurd (congrArg nI hc) (hn _ hP)
  · unfold wpY_next
    refine bq_Yr hK hV (fun p hp2 hq e => ?_) (fun hn => ?_)
    · have hr := bq_All_at HR HA hq
      rw [nI_eq (by omega) (by omega)] at e
      omega
    · refine br_f (by decide) ?_
      unfold wY_next_27
      exact bq_Ys1 ⟨rfl, bq_mk F'⟩
theorem i_vc_lastValue {k : Nat} {u : SX} {v : SY} (I : i_Rel k u v) (hk : k + 4 ≤ 2048) : wpX_lastValue (fun r => wpY_lastValue (fun r' => r' = r ∧ i_Rel (k + 4) u v) v) u := by
  refine bq_el (Q := fun u v => wpX_lastValue (fun r => wpY_lastValue (fun r' => r' = r ∧ i_Rel (k + 4) u v) v) u) ?_ I
  intro zb zh zr zd zc pr K S W so sz rd hp rk P F
  have hzc := bq_zc F
  have hK := F.2.1
  have hV := F.2.2.1
  have same : i_Rel (k + 4) (bq_X zb zh zr zd zc pr K S W so sz rd hp rk) (bq_Y zc P K S W) := bq_mk F
  unfold wpX_lastValue wpY_lastValue
  refine pk_eq zc 0 (fun e => ?_) (fun e => ?_)
  · subst e
    refine bq_Yr hK hV (fun p hp2 hq e => ?_) (fun hn => br_f (by decide) ⟨rfl, same⟩)
    have hr := bq_rc_144 (V := bq_vl S W) hq
    have e3 := congrArg Int32.toInt e
    rw [nI_toInt (by omega), bq_mT (by omega)] at e3
    omega
  · obtain ⟨c, rfl⟩ : ∃ c, zc = c + 1 := ⟨zc - 1, by omega⟩
    rcases F.2.2.2.2 with ⟨_, y⟩ | ⟨_, H, hc⟩
    · omega
    · have HR := H.2.2.2.1
      have hP := HR.2.2 c (by omega)
      have hcc := bq_RI_at HR (j := c) (by omega)
      refine And.intro (pk_in c 144 (by omega) (nI_pred c)) ?_
      rw [bq_rd c (nI_pred c) (by omega)]
      refine bq_valueOf hP.1 ?_
      refine bq_Yr hK hV (fun p hp2 hq e => ?_) (fun hn => absurd ((congrArg nI hcc).trans (nI_pred c).symm) (hn _ hP))
      have hr := bq_rc_144 (V := bq_vl S W) hq
      rw [nI_pred, nI_eq (by omega) (by omega)] at e
      have e2 : bq_cd p = rk c := bq_rc_inj hq hP (by rw [e, hcc])
      exact br_t (nI_pos' (by omega)) (bq_Yv hp2 ⟨by rw [e2], same⟩)
theorem i_vc_pairAt {k : Nat} {u : SX} {v : SY} (I : i_Rel k u v) (hk : k + 4 ≤ 2048) (v1 : Int32) : wpX_pairAt (fun r u' => wpY_pairAt (fun r' => r' = r ∧ i_Rel (k + 4) u' v) v v1) u v1 := by
  refine bq_el (Q := fun u v => wpX_pairAt (fun r u' => wpY_pairAt (fun r' => r' = r ∧ i_Rel (k + 4) u' v) v v1) u v1) ?_ I
  intro zb zh zr zd zc pr K S W so sz rd hp rk P F
  have hK := F.2.1
  have hV := F.2.2.1
  have same : i_Rel (k + 4) (bq_X zb zh zr zd zc pr K S W so sz rd hp rk) (bq_Y zc P K S W) := bq_mk F
  unfold wpX_pairAt wpY_pairAt
  by_cases c1 : v1 < 0
  · refine br_t c1 (bq_Yr hK hV (fun p hp2 hq e => ?_) (fun hn => bq_Ys1 ⟨rfl, same⟩))
    have hr := bq_rc_144 (V := bq_vl S W) hq
    rw [← e] at c1
    exact absurd c1 (nI_pos (by omega))
  · refine br_f c1 ?_
    obtain ⟨j, hj, rfl⟩ := nI_of c1
    refine pk_le 144 j (fun z => ?_) (fun z => ?_)
    · refine bq_Yr hK hV (fun p hp2 hq e => ?_) (fun hn => bq_Ys1 ⟨rfl, same⟩)
      have hr := bq_rc_144 (V := bq_vl S W) hq
      rw [nI_eq (by omega) hj] at e
      omega
    · refine bq_reachF (by omega) F (fun zh' zr' zd' so' sz' rd' hp' rk' F' HR hz hz2 => br_f (by decide) ?_) (fun zh' zr' so' sz' rd' hp' rk' F' HR HA hz => br_t rfl ?_)
      · have hP := HR.2.2 j hz
        have hc := bq_RI_at HR hz
        refine And.intro (pk_in j 144 z) ?_
        rw [bq_rd j rfl (by omega)]
        refine bq_Yr hK hV (fun p hp2 hq e => ?_) (fun hn => absurd (congrArg nI hc) (hn _ hP))
        have hr := bq_rc_144 (V := bq_vl S W) hq
        rw [nI_eq (by omega) (by omega)] at e
        have e2 : bq_cd p = rk' j := bq_rc_inj hq hP (by rw [e, hc])
        exact bq_Ys hp2 ⟨by rw [e2], bq_mk F'⟩
      · refine bq_Yr hK hV (fun p hp2 hq e => ?_) (fun hn => bq_Ys1 ⟨rfl, bq_mk F'⟩)
        have hr := bq_All_at HR HA hq
        rw [nI_eq (by omega) (by omega)] at e
        omega
theorem i_vc_atLeast {k : Nat} {u : SX} {v : SY} (I : i_Rel k u v) (hk : k + 4 ≤ 2048) (v1 : Int32) : wpX_atLeast (fun r u' => wpY_atLeast (fun r' => r' = r ∧ i_Rel (k + 4) u' v) v v1) u v1 := by
  refine bq_el (Q := fun u v => wpX_atLeast (fun r u' => wpY_atLeast (fun r' => r' = r ∧ i_Rel (k + 4) u' v) v v1) u v1) ?_ I
  intro zb zh zr zd zc pr K S W so sz rd hp rk P F
  unfold wpX_atLeast
  refine ⟨145, bq_Xal_2 (P := P) (fun zb' zh' zr' zd' so' sz' rd' hp' rk' F' => ?_) 145 0 zb zh zr zd so sz rd hp rk (by omega) (by omega) F (fun j hj => by omega) (fun q _ hl => by omega)⟩
  exact bq_Yal F.2.1 ⟨rfl, bq_mk F'⟩
theorem i_vc_bestPlace {k : Nat} {u : SX} {v : SY} (I : i_Rel k u v) (hk : k + 4 ≤ 2048) (v1 : Int32) (v2 : Int32) : wpX_bestPlace (fun r u' => wpY_bestPlace (fun r' => r' = r ∧ i_Rel (k + 4) u' v) v v1 v2) u v1 v2 := by
  refine bq_el (Q := fun u v => wpX_bestPlace (fun r u' => wpY_bestPlace (fun r' => r' = r ∧ i_Rel (k + 4) u' v) v v1 v2) u v1 v2) ?_ I
  intro zb zh zr zd zc pr K S W so sz rd hp rk P F
  have hK := F.2.1
  have hV := F.2.2.1
  have same : i_Rel (k + 4) (bq_X zb zh zr zd zc pr K S W so sz rd hp rk) (bq_Y zc P K S W) := bq_mk F
  unfold wpX_bestPlace
  rcases bq_arg v1 v2 with ⟨nx, ny⟩ | ⟨l, i, hl, hi, rfl, rfl⟩
  · refine nx _ _ (br_t rfl ?_)
    unfold wpY_bestPlace
    refine ⟨1, ?_⟩
    rw [wY_bestPlace_5]
    exact br_f (by decide) (ny _ _ (br_t rfl ⟨rfl, same⟩))
  · refine bq_has F.1 hl hi (fun hP => br_t rfl ?_) (fun hP => br_f (by decide) ⟨145, ?_⟩)
    · unfold wpY_bestPlace
      refine ⟨1, ?_⟩
      rw [wY_bestPlace_5]
      exact br_f (by decide) (bq_Yent hl hi (fun _ => br_t rfl ⟨rfl, same⟩) (fun y => by rw [hP] at y; exact Bool.noConfusion y))
    · refine bq_Xbp_13 (P := P) hl hi (fun zb' zh' zr' zd' so' sz' rd' hp' rk' q F' hq e hmin => ?_) (fun zb' zh' zr' zd' so' sz' rd' hp' rk' F' hn => ?_) 145 0 zb zh zr zd so sz rd hp rk (by omega) (by omega) F (fun q _ hlt => by omega)
      · refine bq_Ybp hl hi hP hK hV (fun q' hq' e' hmin' => ⟨?_, bq_mk F'⟩) (fun hn => absurd e (hn q hq))
        have a := hmin q' hq' e'
        have b := hmin' q hq e
        rw [Nat.le_antisymm a b]
      · exact bq_Ybp hl hi hP hK hV (fun q' hq' e' hmin' => absurd e' (hn q' hq')) (fun _ => ⟨rfl, bq_mk F'⟩)
end
