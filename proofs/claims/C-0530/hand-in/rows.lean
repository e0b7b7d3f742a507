section
/-! rows of kit/rows (pasted): pk_ (pure rows), s_l, nx_ (bits); behind them zb_: masks of ten bits as predicates -/
theorem pk_us {f : Nat → Int32} {k : Nat} {x : Int32} : upd f k x k = x := if_pos rfl
theorem pk_un {f : Nat → Int32} {k j : Nat} {x : Int32} (h : j ≠ k) : upd f k x j = f j := if_neg h
theorem pk_sub {a b : Nat} (h : b ≤ a) : nI a - nI b = nI (a - b) := by
  obtain ⟨c, rfl⟩ : ∃ c, a = c + b := ⟨a - b, by omega⟩
  rw [← nI_add, Int32.add_sub_cancel, Nat.add_sub_cancel]
theorem pk_m1 (n : Nat) : nI (n + 1) + (-1) = nI n := by
  rw [← nI_1, Int32.add_assoc, show (1 : Int32) + (-1) = 0 from rfl, Int32.add_zero]
theorem pk_mul (a b : Nat) : nI a * nI b = nI (a * b) := (Int32.ofNat_mul a b).symm
theorem pk_le {x y : Int32} {A B : Prop} (a b : Nat) (f : a ≤ b → A) (g : b < a → B) (hx : x = nI a := by rfl) (hy : y = nI b := by rfl) (ha : a < 2 ^ 31 := by omega) (hb : b < 2 ^ 31 := by omega) : (x ≤ y → A) ∧ (¬ x ≤ y → B) := by
  subst hx hy
  rw [nI_leI ha hb]
  exact ⟨f, fun z => g (by omega)⟩
theorem pk_lt {x y : Int32} {A B : Prop} (a b : Nat) (f : a < b → A) (g : b ≤ a → B) (hx : x = nI a := by rfl) (hy : y = nI b := by rfl) (ha : a < 2 ^ 31 := by omega) (hb : b < 2 ^ 31 := by omega) : (x < y → A) ∧ (¬ x < y → B) := by
  subst hx hy
  rw [nI_ltI ha hb]
  exact ⟨f, fun z => g (by omega)⟩
theorem pk_eq {x y : Int32} {A B : Prop} (a b : Nat) (f : a = b → A) (g : a ≠ b → B) (hx : x = nI a := by rfl) (hy : y = nI b := by rfl) (ha : a < 2 ^ 31 := by omega) (hb : b < 2 ^ 31 := by omega) : (x = y → A) ∧ (¬ x = y → B) := by
  subst hx hy
  rw [nI_eq ha hb]
  exact ⟨f, g⟩
theorem pk_in {x : Int32} (n N : Nat) (h : n < N) (hx : x = nI n := by rfl) (hN : N < 2 ^ 31 := by omega) : vp_in x N := by
  subst hx
  exact vp_in_nI h hN
theorem pk_cl {x : Int32} (n : Nat) (hx : x = nI n := by rfl) (h : n < 2 ^ 31 := by omega) : x.toNatClampNeg = n := by
  subst hx
  exact nI_clamp h
theorem pk_tn {n : Nat} (h : n < 2 ^ 32) : (nI n).toBitVec.toNat = n := Nat.mod_eq_of_lt h
theorem pk_shl (a s : Int32) (k : Nat) (hs : (s.toBitVec.smod 32).toNat = k) : (a <<< s).toBitVec.toNat = a.toBitVec.toNat * 2 ^ k % 2 ^ 32 := by
  show (a.toBitVec <<< (s.toBitVec.smod 32).toNat).toNat = _
  rw [hs, BitVec.toNat_shiftLeft, Nat.shiftLeft_eq]
theorem pk_shlN {n : Nat} (s : Int32) (k : Nat) (hs : (s.toBitVec.smod 32).toNat = k) (h : n * 2 ^ k < 2 ^ 32) : nI n <<< s = nI (n * 2 ^ k) := by
  apply Int32.toBitVec_inj.mp
  apply BitVec.eq_of_toNat_eq
  have hn : n < 2 ^ 32 := Nat.lt_of_le_of_lt (Nat.le_mul_of_pos_right n (Nat.two_pow_pos k)) h
  rw [pk_shl _ _ k hs, pk_tn hn, pk_tn h, Nat.mod_eq_of_lt h]
theorem pk_shr (a s : Int32) (k : Nat) (hs : (s.toBitVec.smod 32).toNat = k) : (a >>> s).toInt = a.toInt >>> k := by
  show (a.toBitVec.sshiftRight (s.toBitVec.smod 32).toNat).toInt = _
  rw [hs, BitVec.toInt_sshiftRight]
  rfl
theorem pk_shrN {n : Nat} (h : n < 2 ^ 31) (s : Int32) (k : Nat) (hs : (s.toBitVec.smod 32).toNat = k) : nI n >>> s = nI (n / 2 ^ k) := by
  apply Int32.toInt_inj.mp
  have h2 : n / 2 ^ k ≤ n := Nat.div_le_self _ _
  rw [pk_shr _ _ k hs, nI_toInt h, nI_toInt (by omega), Int.shiftRight_eq_div_pow]
  rfl
theorem s_l : ∀ n, n < 32 → ((nI n &&& 31).toBitVec.smod 32).toNat = n := by decide +kernel
theorem nx_and (a b : Nat) : nI a &&& nI b = nI (a &&& b) := by
  apply Int32.toBitVec_inj.1
  show BitVec.ofNat 32 a &&& BitVec.ofNat 32 b = BitVec.ofNat 32 (a &&& b)
  apply BitVec.eq_of_getLsbD_eq
  intro i hi
  simp [hi]
theorem nx_xor (a b : Nat) : nI a ^^^ nI b = nI (a ^^^ b) := by
  apply Int32.toBitVec_inj.1
  show BitVec.ofNat 32 a ^^^ BitVec.ofNat 32 b = BitVec.ofNat 32 (a ^^^ b)
  apply BitVec.eq_of_getLsbD_eq
  intro i hi
  simp [hi]
theorem nx_cnt : ∀ j : Fin 32, (UInt32.ofNat j.val &&& Int32.toUInt32 31).toNat % 32 = j.val := by decide +kernel
theorem nx_ush {k j : Nat} (hk : k < 65536) (hj : j < 32) : ((nI k).toUInt32 >>> ((nI j).toUInt32 &&& Int32.toUInt32 31)).toInt32 = nI (k >>> j) := by
  have hs : k >>> j ≤ k := by
    rw [Nat.shiftRight_eq_div_pow]
    exact Nat.div_le_self _ _
  have e2 : UInt32.ofNat k >>> (UInt32.ofNat j &&& Int32.toUInt32 31) = UInt32.ofNat (k >>> j) := by
    apply UInt32.toNat_inj.1
    have h1 : (UInt32.ofNat k).toNat = k := Nat.mod_eq_of_lt (by omega)
    have h2 : (UInt32.ofNat (k >>> j)).toNat = k >>> j := Nat.mod_eq_of_lt (by omega)
    rw [UInt32.toNat_shiftRight, nx_cnt ⟨j, hj⟩, h1, h2]
  show (UInt32.ofNat k >>> (UInt32.ofNat j &&& Int32.toUInt32 31)).toInt32 = _
  rw [e2]
  rfl
end
section
/-! zb_: a set of ten things is a predicate p; zb_S p is its mask -/
theorem zb_or0 (a b : Nat) : nI a ||| nI b = nI (a ||| b) := by
  apply Int32.toBitVec_inj.1
  show BitVec.ofNat 32 a ||| BitVec.ofNat 32 b = BitVec.ofNat 32 (a ||| b)
  apply BitVec.eq_of_getLsbD_eq
  intro i hi
  simp [hi]
def zb_mk (p : Nat → Bool) : Nat → Nat
  | 0 => 0
  | n + 1 => zb_mk p n ||| (if p n = true then 2 ^ n else 0)
theorem zb_tb (p : Nat → Bool) (n i : Nat) : (zb_mk p n).testBit i = (decide (i < n) && p i) := by
  induction n with
  | zero => simp [zb_mk]
  | succ n ih =>
    rw [zb_mk, Nat.testBit_or, ih]
    by_cases h : i = n
    · subst h
      cases hp : p i
      · simp
      · simp
    · have e : decide (i < n + 1) = decide (i < n) := decide_eq_decide.mpr (by omega)
      have e2 : (if p n = true then 2 ^ n else 0).testBit i = false := by
        by_cases hp : p n = true
        · rw [if_pos hp, Nat.testBit_two_pow]
          exact decide_eq_false (fun z => h z.symm)
        · rw [if_neg hp]
          exact Nat.zero_testBit i
      rw [e, e2, Bool.or_false]
theorem zb_lt (p : Nat → Bool) : zb_mk p 10 < 1024 :=
  Nat.lt_pow_two_of_testBit (n := 10) _ (fun i hi => by rw [zb_tb, decide_eq_false (by omega), Bool.false_and])
theorem zb_ext {a b : Nat} (ha : a < 1024) (hb : b < 1024) (h : ∀ i, i < 10 → a.testBit i = b.testBit i) : a = b := by
  apply Nat.eq_of_testBit_eq
  intro i
  by_cases hi : i < 10
  · exact h i hi
  · have e : 2 ^ 10 ≤ 2 ^ i := Nat.pow_le_pow_right (by decide) (by omega)
    rw [Nat.testBit_lt_two_pow (Nat.lt_of_lt_of_le ha e), Nat.testBit_lt_two_pow (Nat.lt_of_lt_of_le hb e)]
def zb_S (p : Nat → Bool) : Int32 := nI (zb_mk p 10)
theorem zb_tb10 (p : Nat → Bool) {i : Nat} (hi : i < 10) : (zb_mk p 10).testBit i = p i := by
  rw [zb_tb, decide_eq_true hi, Bool.true_and]
theorem zb_of {m : Nat} (p : Nat → Bool) (hm : m < 1024) (h : ∀ i, i < 10 → m.testBit i = p i) : nI m = zb_S p :=
  congrArg nI (zb_ext hm (zb_lt p) (fun i hi => by rw [h i hi, zb_tb10 p hi]))
theorem zb_nat {m : Nat} (hm : m < 1024) : nI m = zb_S m.testBit := zb_of _ hm (fun _ _ => rfl)
theorem zb_congr {p q : Nat → Bool} (h : ∀ i, i < 10 → p i = q i) : zb_S p = zb_S q :=
  zb_of _ (zb_lt p) (fun i hi => by rw [zb_tb10 p hi, h i hi])
theorem zb_inj {p q : Nat → Bool} (h : zb_S p = zb_S q) : ∀ i, i < 10 → p i = q i := by
  intro i hi
  have h1 := zb_lt p
  have h2 := zb_lt q
  have e : zb_mk p 10 = zb_mk q 10 := (nI_eq (by omega) (by omega)).mp h
  rw [← zb_tb10 p hi, ← zb_tb10 q hi, e]
theorem zb_or (p q : Nat → Bool) : zb_S p ||| zb_S q = zb_S (fun i => p i || q i) := by
  unfold zb_S
  rw [zb_or0]
  exact zb_of _ (Nat.or_lt_two_pow (n := 10) (zb_lt p) (zb_lt q)) (fun i hi => by rw [Nat.testBit_or, zb_tb10 p hi, zb_tb10 q hi])
theorem zb_and (p q : Nat → Bool) : zb_S p &&& zb_S q = zb_S (fun i => p i && q i) := by
  unfold zb_S
  rw [nx_and]
  exact zb_of _ (Nat.and_lt_two_pow (n := 10) _ (zb_lt q)) (fun i hi => by rw [Nat.testBit_and, zb_tb10 p hi, zb_tb10 q hi])
theorem zb_andn (p q : Nat → Bool) : zb_S p &&& (zb_S q ^^^ (-1)) = zb_S (fun i => p i && !q i) := by
  have e : (-1 : Int32) = nI (2 ^ 32 - 1) := by decide
  unfold zb_S
  rw [e, nx_xor, nx_and]
  refine zb_of _ ?_ (fun i hi => ?_)
  · rw [Nat.and_comm]
    exact Nat.and_lt_two_pow (n := 10) _ (zb_lt p)
  · rw [Nat.testBit_and, Nat.testBit_xor, zb_tb10 p hi, zb_tb10 q hi, Nat.testBit_two_pow_sub_one, decide_eq_true (by omega), Bool.xor_true]
theorem zb_sh : ∀ j, j < 10 → (1 : Int32) <<< (nI j &&& 31) = zb_S (fun i => i == j) := by decide +kernel
theorem zb_full : (1023 : Int32) = zb_S (fun _ => true) := by decide +kernel
theorem zb_none : (0 : Int32) = zb_S (fun _ => false) := by decide +kernel
theorem zb_z {p : Nat → Bool} : zb_S p = 0 ↔ ∀ i, i < 10 → p i = false := by
  rw [zb_none]
  exact ⟨fun h i hi => zb_inj h i hi, fun h => zb_congr h⟩
theorem zb_bit (p : Nat → Bool) {j : Nat} (hj : j < 10) : (((zb_S p).toUInt32 >>> ((nI j).toUInt32 &&& Int32.toUInt32 31)).toInt32) &&& 1 = nI (p j).toNat := by
  have h := zb_lt p
  unfold zb_S
  rw [nx_ush (by omega) (by omega)]
  show nI _ &&& nI 1 = _
  rw [nx_and, Nat.and_one_is_mod, Nat.shiftRight_eq_div_pow, ← Nat.toNat_testBit, zb_tb10 p hj]
theorem zb_sbit (p : Nat → Bool) {j : Nat} (hj : j < 10) : (zb_S p >>> (nI j &&& 31)) &&& 1 = nI (p j).toNat := by
  have h := zb_lt p
  unfold zb_S
  rw [pk_shrN (by omega) _ j (s_l j (by omega))]
  show nI _ &&& nI 1 = _
  rw [nx_and, Nat.and_one_is_mod, ← Nat.toNat_testBit, zb_tb10 p hj]
theorem zb_b0 {b : Bool} : nI b.toNat = 0 ↔ b = false := by
  cases b
  · exact ⟨fun _ => rfl, fun _ => rfl⟩
  · exact ⟨fun z => absurd z (by decide), fun z => by cases z⟩
theorem zb_b1 {b : Bool} : nI b.toNat = 1 ↔ b = true := by
  cases b
  · exact ⟨fun z => absurd z (by decide), fun z => by cases z⟩
  · exact ⟨fun _ => rfl, fun _ => rfl⟩
/-- a branch on a value that is a truth value -/
theorem zb_br0 {x : Int32} {A B : Prop} (b : Bool) (e : x = nI b.toNat) (f : b = false → A) (g : b = true → B) : (x = 0 → A) ∧ (¬ x = 0 → B) := by
  subst e
  cases b
  · exact br_t rfl (f rfl)
  · exact br_f (by decide) (g rfl)
theorem zb_br1 {x : Int32} {A B : Prop} (b : Bool) (e : x = nI b.toNat) (f : b = true → A) (g : b = false → B) : (x = 1 → A) ∧ (¬ x = 1 → B) := by
  subst e
  cases b
  · exact br_f (by decide) (g rfl)
  · exact br_t rfl (f rfl)
end
section
/-! zc: how many numbers below n have p -/
def zc (p : Nat → Bool) : Nat → Nat
  | 0 => 0
  | n + 1 => zc p n + (p n).toNat
theorem zc_congr {p q : Nat → Bool} {n : Nat} (h : ∀ i, i < n → p i = q i) : zc p n = zc q n := by
  induction n with
  | zero => rfl
  | succ n ih => rw [zc, zc, ih (fun i hi => h i (by omega)), h n (by omega)]
theorem zc_mono {p q : Nat → Bool} {n : Nat} (h : ∀ i, i < n → p i = true → q i = true) : zc p n ≤ zc q n := by
  induction n with
  | zero => exact Nat.le_refl _
  | succ n ih =>
    have h1 := ih (fun i hi => h i (by omega))
    have h2 := h n (by omega)
    rw [zc, zc]
    cases hp : p n
    · simp only [Bool.toNat_false]; omega
    · rw [h2 hp]; omega
theorem zc_split (p q : Nat → Bool) (n : Nat) : zc p n = zc (fun i => p i && q i) n + zc (fun i => p i && !q i) n := by
  induction n with
  | zero => rfl
  | succ n ih =>
    rw [zc, zc, zc, ih]
    cases p n <;> cases q n <;> simp <;> omega
theorem zc_le (p : Nat → Bool) (n : Nat) : zc p n ≤ n := by
  induction n with
  | zero => exact Nat.le_refl _
  | succ n ih =>
    rw [zc]
    have := Bool.toNat_le (p n)
    omega
theorem zc_all (n : Nat) : zc (fun _ => true) n = n := by
  induction n with
  | zero => rfl
  | succ n ih => rw [zc, ih]; rfl
theorem zc_zero {p : Nat → Bool} {n : Nat} (h : ∀ i, i < n → p i = false) : zc p n = 0 := by
  induction n with
  | zero => rfl
  | succ n ih => rw [zc, ih (fun i hi => h i (by omega)), h n (by omega)]; rfl
theorem zc_ex {p : Nat → Bool} {n : Nat} (h : 0 < zc p n) : ∃ i, i < n ∧ p i = true := by
  induction n with
  | zero => exact absurd h (Nat.lt_irrefl 0)
  | succ n ih =>
    cases hp : p n
    · rw [zc, hp] at h
      obtain ⟨i, hi, e⟩ := ih h
      exact ⟨i, by omega, e⟩
    · exact ⟨n, by omega, hp⟩
theorem zc_none {p : Nat → Bool} {n : Nat} (h : zc p n = 0) {i : Nat} (hi : i < n) : p i = false := by
  induction n with
  | zero => omega
  | succ n ih =>
    rw [zc] at h
    by_cases e : i = n
    · subst e
      cases hp : p i
      · rfl
      · rw [hp] at h; simp at h
    · exact ih (by omega) (by omega)
theorem zc_rem {p : Nat → Bool} {n i : Nat} (hi : i < n) (h : p i = true) : zc p n = zc (fun j => p j && !(j == i)) n + 1 := by
  induction n with
  | zero => omega
  | succ n ih =>
    rw [zc, zc]
    by_cases e : i = n
    · subst e
      have e2 : zc (fun j => p j && !(j == i)) i = zc p i := zc_congr (fun j hj => by
        have : (j == i) = false := by simp; omega
        rw [this]; simp)
      rw [e2, h]
      simp
    · have e3 : (n == i) = false := by simp; omega
      rw [ih (by omega), e3]
      simp
      omega
theorem zc_ins {p : Nat → Bool} {n i : Nat} (hi : i < n) (h : p i = false) : zc (fun j => p j || j == i) n = zc p n + 1 := by
  rw [zc_rem (p := fun j => p j || j == i) hi (by simp)]
  congr 1
  apply zc_congr
  intro j hj
  by_cases e : j = i
  · subst e; simp [h]
  · have : (j == i) = false := by simp [e]
    rw [this]; simp
theorem zc_inj {n : Nat} : ∀ {m : Nat} {p q : Nat → Bool} (f : Nat → Nat), (∀ i, i < n → p i = true → f i < m ∧ q (f i) = true) → (∀ i j, i < n → j < n → p i = true → p j = true → f i = f j → i = j) → zc p n ≤ zc q m := by
  induction n with
  | zero => intro m p q f _ _; exact Nat.zero_le _
  | succ n ih =>
    intro m p q f h1 h2
    rw [zc]
    cases hp : p n
    · simp only [Bool.toNat_false, Nat.add_zero]
      exact ih f (fun i hi => h1 i (by omega)) (fun i j hi hj => h2 i j (by omega) (by omega))
    · obtain ⟨a, b⟩ := h1 n (by omega) hp
      rw [zc_rem a b]
      refine Nat.succ_le_succ (ih f (fun i hi hpi => ?_) (fun i j hi hj => h2 i j (by omega) (by omega)))
      obtain ⟨c, d⟩ := h1 i (by omega) hpi
      refine ⟨c, ?_⟩
      have : f i ≠ f n := fun z => by
        have := h2 i n (by omega) (by omega) hpi hp z
        omega
      simp [d, this]
/-- a list of different numbers below m has at most m of them -/
theorem zc_pig {n m : Nat} (f : Nat → Nat) (h1 : ∀ i, i < n → f i < m) (h2 : ∀ i j, i < n → j < n → f i = f j → i = j) : n ≤ m := by
  have := zc_inj (n := n) (m := m) (p := fun _ => true) (q := fun _ => true) f (fun i hi _ => ⟨h1 i hi, rfl⟩) (fun i j hi hj _ _ => h2 i j hi hj)
  rwa [zc_all, zc_all] at this
/-- a hundred cells, ten rows of ten -/
def zc_sum (f : Nat → Nat) : Nat → Nat
  | 0 => 0
  | n + 1 => zc_sum f n + f n
theorem zc_row (g : Nat → Bool) (k n : Nat) : zc g (k + n) = zc g k + zc (fun i => g (k + i)) n := by
  induction n with
  | zero => rfl
  | succ n ih => rw [← Nat.add_assoc, zc, ih, zc]; omega
theorem zc_grid (r : Nat → Nat → Bool) (g : Nat → Bool) (h : ∀ a b, a < 10 → b < 10 → g (10 * a + b) = r a b) : ∀ n, n ≤ 10 → zc g (10 * n) = zc_sum (fun t => zc (r t) 10) n := by
  intro n
  induction n with
  | zero => intro _; rfl
  | succ n ih =>
    intro hn
    rw [show 10 * (n + 1) = 10 * n + 10 from by omega, zc_row, ih (by omega), zc_sum]
    congr 1
    exact zc_congr (fun i hi => h n i (by omega) hi)
end
section
/-! zo_: orders, chains (c = true) and spreads (c = false), greatest sizes -/
theorem zo_lt {x y t : Nat} (hx : x.testBit t = false) (hy : y.testBit t = true) (h : ∀ j, t < j → x.testBit j = y.testBit j) : x < y := by
  have e : x / 2 ^ (t + 1) = y / 2 ^ (t + 1) := by
    apply Nat.eq_of_testBit_eq
    intro i
    rw [Nat.testBit_div_two_pow, Nat.testBit_div_two_pow]
    exact h _ (by omega)
  rw [Nat.pow_succ, ← Nat.div_div_eq_div_mul, ← Nat.div_div_eq_div_mul] at e
  rw [Nat.testBit_eq_decide_div_mod_eq, decide_eq_false_iff_not] at hx
  rw [Nat.testBit_eq_decide_div_mod_eq, decide_eq_true_iff] at hy
  have k : x / 2 ^ t < y / 2 ^ t := by omega
  apply Nat.lt_of_not_le
  intro z
  have := Nat.div_le_div_right (c := 2 ^ t) z
  omega
def zo_PO (r : Nat → Nat → Bool) : Prop := (∀ a, a < 10 → r a a = false) ∧ (∀ a b c, a < 10 → b < 10 → c < 10 → r a b = true → r b c = true → r a c = true)
theorem zo_as {r : Nat → Nat → Bool} (h : zo_PO r) {a b : Nat} (ha : a < 10) (hb : b < 10) (h1 : r a b = true) : r b a = false := by
  cases e : r b a
  · rfl
  · have := h.2 a b a ha hb ha h1 e
    rw [h.1 a ha] at this
    exact this.symm
def zo_A (r : Nat → Nat → Bool) (c : Bool) (p : Nat → Bool) : Prop := ∀ a b, a < 10 → b < 10 → a ≠ b → p a = true → p b = true → (r a b || r b a) = c
def zo_In (p s : Nat → Bool) : Prop := ∀ i, i < 10 → p i = true → s i = true
def zo_W (r : Nat → Nat → Bool) (c : Bool) (s : Nat → Bool) (w : Nat) : Prop := (∀ p, zo_In p s → zo_A r c p → zc p 10 ≤ w) ∧ ∃ p, zo_In p s ∧ zo_A r c p ∧ zc p 10 = w
def zo_Q (r : Nat → Nat → Bool) (c : Bool) (inn out p : Nat → Bool) : Prop := zo_In inn p ∧ (∀ i, i < 10 → out i = true → p i = false) ∧ zo_A r c p
def zo_G (r : Nat → Nat → Bool) (c : Bool) (inn out : Nat → Bool) (b : Nat) : Prop := b < 1024 ∧ zo_Q r c inn out b.testBit ∧ (∀ s, s < 1024 → zo_Q r c inn out s.testBit → zc s.testBit 10 ≤ zc b.testBit 10) ∧ (∀ s, s < b → zo_Q r c inn out s.testBit → zc s.testBit 10 < zc b.testBit 10)
theorem zo_Wcongr {r : Nat → Nat → Bool} {c : Bool} {s s' : Nat → Bool} {w : Nat} (h : zo_W r c s w) (e : ∀ i, i < 10 → s i = s' i) : zo_W r c s' w := by
  obtain ⟨h1, p, h2, h3, h4⟩ := h
  exact ⟨fun p hp => h1 p (fun i hi z => by rw [e i hi]; exact hp i hi z), p, fun i hi z => by rw [← e i hi]; exact h2 i hi z, h3, h4⟩
theorem zo_Wu {r : Nat → Nat → Bool} {c : Bool} {s : Nat → Bool} {w w' : Nat} (h : zo_W r c s w) (h' : zo_W r c s w') : w = w' := by
  obtain ⟨h1, p, h2, h3, h4⟩ := h
  obtain ⟨k1, q, k2, k3, k4⟩ := h'
  have a := h1 q k2 k3
  have b := k1 p h2 h3
  omega
theorem zo_Acongr {r : Nat → Nat → Bool} {c : Bool} {p q : Nat → Bool} (h : zo_A r c p) (e : ∀ i, i < 10 → p i = q i) : zo_A r c q :=
  fun a b ha hb hab pa pb => h a b ha hb hab (by rw [e a ha]; exact pa) (by rw [e b hb]; exact pb)
theorem zo_Asub {r : Nat → Nat → Bool} {c : Bool} {p q : Nat → Bool} (h : zo_A r c p) (e : zo_In q p) : zo_A r c q :=
  fun a b ha hb hab pa pb => h a b ha hb hab (e a ha pa) (e b hb pb)
theorem zo_Qcongr {r : Nat → Nat → Bool} {c : Bool} {inn out p q : Nat → Bool} (h : zo_Q r c inn out p) (e : ∀ i, i < 10 → p i = q i) : zo_Q r c inn out q :=
  ⟨fun i hi z => by rw [← e i hi]; exact h.1 i hi z, fun i hi z => by rw [← e i hi]; exact h.2.1 i hi z, zo_Acongr h.2.2 e⟩
theorem zo_Gp {r : Nat → Nat → Bool} {c : Bool} {inn out : Nat → Bool} {b : Nat} (h : zo_G r c inn out b) {p : Nat → Bool} (hp : zo_Q r c inn out p) : zc p 10 ≤ zc b.testBit 10 := by
  have e : zc p 10 = zc (zb_mk p 10).testBit 10 := zc_congr (fun i hi => (zb_tb10 p hi).symm)
  rw [e]
  exact h.2.2.1 _ (zb_lt p) (zo_Qcongr hp (fun i hi => (zb_tb10 p hi).symm))
theorem zo_GW {r : Nat → Nat → Bool} {c : Bool} {inn out s : Nat → Bool} {b w : Nat} (h : zo_G r c inn out b) (hn : ∀ i, i < 10 → inn i = false) (e : ∀ i, i < 10 → s i = !out i) (hw : zo_W r c s w) : zc b.testBit 10 = w := by
  obtain ⟨h1, p, h2, h3, h4⟩ := hw
  apply Nat.le_antisymm
  · refine h1 _ (fun i hi z => ?_) h.2.1.2.2
    rw [e i hi]
    cases ho : out i
    · rfl
    · rw [h.2.1.2.1 i hi ho] at z
      exact absurd z (by decide)
  · rw [← h4]
    refine zo_Gp h ⟨fun i hi z => ?_, fun i hi z => ?_, h3⟩
    · rw [hn i hi] at z
      exact absurd z (by decide)
    · cases hp : p i
      · rfl
      · have := h2 i hi hp
        rw [e i hi, z] at this
        exact absurd this (by decide)
/-- the set with the thing t in it -/
def zo_add (p : Nat → Bool) (t : Nat) : Nat → Bool := fun i => p i || i == t
theorem zo_addA {r : Nat → Nat → Bool} {c : Bool} {p : Nat → Bool} {t : Nat} (h : zo_A r c p) (ht : t < 10) (k : ∀ i, i < 10 → i ≠ t → p i = true → (r i t || r t i) = c) : zo_A r c (zo_add p t) := by
  intro a b ha hb hab pa pb
  unfold zo_add at pa pb
  by_cases ea : a = t
  · subst ea
    by_cases eb : b = a
    · exact absurd eb.symm hab
    · have : (b == a) = false := by simp [eb]
      rw [this, Bool.or_false] at pb
      rw [Bool.or_comm]
      exact k b hb eb pb
  · have e1 : (a == t) = false := by simp [ea]
    rw [e1, Bool.or_false] at pa
    by_cases eb : b = t
    · subst eb
      exact k a ha ea pa
    · have e2 : (b == t) = false := by simp [eb]
      rw [e2, Bool.or_false] at pb
      exact h a b ha hb hab pa pb
def zo_bes (r : Nat → Nat → Bool) (t : Nat) : Nat → Bool := fun i => !(r t i || r i t || i == t)
theorem zo_with {r : Nat → Nat → Bool} {t b w : Nat} {inn out : Nat → Bool} (ht : t < 10) (hi : ∀ i, i < 10 → inn i = (i == t)) (ho : ∀ i, i < 10 → out i = false) (h : zo_G r false inn out b) (hw : zo_W r false (zo_bes r t) w) : zc b.testBit 10 = 1 + w := by
  obtain ⟨h1, p, h2, h3, h4⟩ := hw
  have hbt : b.testBit t = true := h.2.1.1 t ht (by rw [hi t ht]; simp)
  apply Nat.le_antisymm
  · rw [zc_rem ht hbt, Nat.add_comm]
    refine Nat.add_le_add_left (h1 _ (fun i hi z => ?_) (zo_Asub h.2.1.2.2 (fun i hi z => ?_))) 1
    · rw [Bool.and_eq_true, Bool.not_eq_true'] at z
      have ne : i ≠ t := fun q => by rw [q] at z; simp at z
      have := h.2.1.2.2 t i ht hi (fun q => ne q.symm) hbt z.1
      unfold zo_bes
      rw [this, z.2]
      rfl
    · rw [Bool.and_eq_true] at z
      exact z.1
  · have hpt : p t = false := by
      cases e : p t
      · rfl
      · have := h2 t ht e
        unfold zo_bes at this
        simp at this
    rw [← h4, Nat.add_comm, ← zc_ins ht hpt]
    refine zo_Gp h ⟨fun i h' z => ?_, fun i hi' z => ?_, zo_addA h3 ht (fun i hi' ne z => ?_)⟩
    · rw [hi i h'] at z
      show (p i || i == t) = true
      rw [z, Bool.or_true]
    · rw [ho i hi'] at z
      exact absurd z (by decide)
    · have := h2 i hi' z
      unfold zo_bes at this
      cases e1 : r i t <;> cases e2 : r t i <;> simp [e1, e2] at this ⊢
/-- h: the greatest size of a chain with the thing t in it -/
def zo_H (r : Nat → Nat → Bool) (t h : Nat) : Prop := (∀ p, zo_A r true p → p t = true → zc p 10 ≤ h) ∧ ∃ p, zo_A r true p ∧ p t = true ∧ zc p 10 = h
theorem zo_hwith {r : Nat → Nat → Bool} (hr : zo_PO r) {t w1 w2 : Nat} (ht : t < 10) (hw1 : zo_W r true (fun i => r i t) w1) (hw2 : zo_W r true (fun i => r t i) w2) : zo_H r t (w1 + 1 + w2) := by
  obtain ⟨h1, p, h2, h3, h4⟩ := hw1
  obtain ⟨k1, q, k2, k3, k4⟩ := hw2
  have h2 : ∀ i, i < 10 → p i = true → r i t = true := h2
  have k2 : ∀ i, i < 10 → q i = true → r t i = true := k2
  have hq : ∀ i, i < 10 → q i = true → r i t = false := fun i hi z => zo_as hr ht hi (k2 i hi z)
  constructor
  · intro b hA hbt
    rw [zc_rem ht hbt, zc_split _ (fun i => r i t)]
    have a := h1 (fun i => (b i && !(i == t)) && r i t) (fun i hi z => by simp at z; exact z.2) (zo_Asub hA (fun i hi z => by simp at z; exact z.1.1))
    have c := k1 (fun i => (b i && !(i == t)) && !r i t) (fun i hi z => by
      simp at z
      have := hA t i ht hi (fun q => z.1.2 q.symm) hbt z.1.1
      rw [z.2, Bool.or_false] at this
      exact this) (zo_Asub hA (fun i hi z => by simp at z; exact z.1.1))
    omega
  · have hpt : p t = false := by
      cases e : p t
      · rfl
      · have := h2 t ht e
        rw [hr.1 t ht] at this
        exact absurd this (by decide)
    have hqt : q t = false := by
      cases e : q t
      · rfl
      · have := k2 t ht e
        rw [hr.1 t ht] at this
        exact absurd this (by decide)
    have hd : ∀ i, i < 10 → p i = true → q i = false := fun i hi z => by
      cases e : q i
      · rfl
      · have := hq i hi e
        rw [h2 i hi z] at this
        exact absurd this (by decide)
    have e1 : zc (fun i => p i || q i) 10 = w1 + w2 := by
      rw [zc_split _ p, ← h4, ← k4]
      congr 1
      · exact zc_congr (fun i hi => by cases p i <;> cases q i <;> rfl)
      · refine zc_congr (fun i hi => ?_)
        cases e : p i
        · simp
        · simp [hd i hi e]
    refine ⟨zo_add (fun i => p i || q i) t, zo_addA ?_ ht ?_, by simp [zo_add], ?_⟩
    · intro a c ha hc hac pa pc
      rw [Bool.or_eq_true] at pa pc
      rcases pa with pa | pa <;> rcases pc with pc | pc
      · exact h3 a c ha hc hac pa pc
      · have := hr.2 a t c ha ht hc (h2 a ha pa) (k2 c hc pc)
        rw [this]; rfl
      · have := hr.2 c t a hc ht ha (h2 c hc pc) (k2 a ha pa)
        rw [this, Bool.or_true]
      · exact k3 a c ha hc hac pa pc
    · intro i hi' ne z
      rw [Bool.or_eq_true] at z
      rcases z with z | z
      · have := h2 i hi' z
        rw [this]; rfl
      · have := k2 i hi' z
        rw [this, Bool.or_true]
    · unfold zo_add
      rw [zc_ins (p := fun i => p i || q i) ht (by simp [hpt, hqt]), e1]
      omega
theorem zo_HG {r : Nat → Nat → Bool} {t b h : Nat} {inn out : Nat → Bool} (ht : t < 10) (hi : ∀ i, i < 10 → inn i = (i == t)) (ho : ∀ i, i < 10 → out i = false) (g : zo_G r true inn out b) (k : zo_H r t h) : zc b.testBit 10 = h := by
  obtain ⟨k1, p, k2, k3, k4⟩ := k
  have hbt : b.testBit t = true := g.2.1.1 t ht (by rw [hi t ht]; simp)
  apply Nat.le_antisymm
  · exact k1 _ g.2.1.2.2 hbt
  · rw [← k4]
    refine zo_Gp g ⟨fun i h' z => ?_, fun i hi' z => ?_, k2⟩
    · rw [hi i h', beq_iff_eq] at z
      rw [z]
      exact k3
    · rw [ho i hi'] at z
      exact absurd z (by decide)
/-- the greatest of the sizes at the things below i -/
def zo_Mx (r : Nat → Nat → Bool) (i m : Nat) : Prop := (∀ t p, t < i → zo_A r true p → p t = true → zc p 10 ≤ m) ∧ (0 < m → ∃ p, zo_A r true p ∧ zc p 10 = m)
theorem zo_Mx0 {r : Nat → Nat → Bool} : zo_Mx r 0 0 := ⟨fun t p z => by omega, fun z => by omega⟩
theorem zo_MxS {r : Nat → Nat → Bool} {i m h : Nat} (M : zo_Mx r i m) (k : zo_H r i h) : zo_Mx r (i + 1) (if h ≤ m then m else h) := by
  constructor
  · intro t p ht hA hpt
    by_cases e : t = i
    · subst e
      have := k.1 p hA hpt
      split <;> omega
    · have := M.1 t p (by omega) hA hpt
      split <;> omega
  · intro hm
    by_cases e : h ≤ m
    · rw [if_pos e] at hm ⊢
      exact M.2 hm
    · rw [if_neg e]
      obtain ⟨p, a, b, c⟩ := k.2
      exact ⟨p, a, c⟩
theorem zo_MxG {r : Nat → Nat → Bool} {b m : Nat} {inn out : Nat → Bool} (hi : ∀ i, i < 10 → inn i = false) (ho : ∀ i, i < 10 → out i = false) (g : zo_G r true inn out b) (M : zo_Mx r 10 m) : zc b.testBit 10 = m := by
  have hq : ∀ p, zo_A r true p → zc p 10 ≤ zc b.testBit 10 := fun p hp => zo_Gp g ⟨fun i h' z => by rw [hi i h'] at z; exact absurd z (by decide), fun i h' z => by rw [ho i h'] at z; exact absurd z (by decide), hp⟩
  have h1 : zc (fun i => i == 0) 10 ≤ zc b.testBit 10 := hq _ (fun a c ha hc hac pa pc => by
    simp at pa pc
    omega)
  have h2 : zc (fun i => i == 0) 10 = 1 := by decide
  obtain ⟨t, ht, hbt⟩ := zc_ex (p := b.testBit) (n := 10) (by omega)
  have h4 := M.1 t _ ht g.2.1.2.2 hbt
  obtain ⟨p, hp, e⟩ := M.2 (by omega)
  have h5 := hq p hp
  omega
end
section
/-! zm_: matchings within a set s, N l the thing joined behind l, P t the one before t; ZL, ZR: the trap, from which no way leads out -/
noncomputable def zm_b (P : Prop) : Bool := @decide P (Classical.propDecidable P)
theorem zm_bt {P : Prop} : zm_b P = true ↔ P := @decide_eq_true_iff P (Classical.propDecidable P)
theorem zm_bf {P : Prop} : zm_b P = false ↔ ¬ P := @decide_eq_false_iff_not P (Classical.propDecidable P)
def zm_M (r : Nat → Nat → Bool) (s : Nat → Bool) (N P : Nat → Option Nat) : Prop :=
  (∀ l t, l < 10 → N l = some t → t < 10 ∧ s l = true ∧ s t = true ∧ r l t = true ∧ P t = some l) ∧
  (∀ t l, t < 10 → P t = some l → l < 10 ∧ N l = some t)
def zm_Z (r : Nat → Nat → Bool) (s : Nat → Bool) (P : Nat → Option Nat) (ZL ZR : Nat → Bool) : Prop :=
  (∀ l t, l < 10 → t < 10 → ZL l = true → r l t = true → s t = true → ZR t = true) ∧
  (∀ t, t < 10 → ZR t = true → ∃ l, P t = some l ∧ ZL l = true)
def zm_I (r : Nat → Nat → Bool) (s : Nat → Bool) (i : Nat) (N P : Nat → Option Nat) : Prop :=
  zm_M r s N P ∧ (∀ l, i ≤ l → l < 10 → N l = none) ∧ ∃ ZL ZR, zm_Z r s P ZL ZR ∧ ∀ l, l < i → l < 10 → s l = true → N l = none → ZL l = true
def zm_k (N : Nat → Option Nat) : Nat → Bool := fun l => (N l).isSome
theorem zm_I0 {r : Nat → Nat → Bool} {s : Nat → Bool} : zm_I r s 0 (fun _ => none) (fun _ => none) :=
  ⟨⟨fun _ _ _ z => (by cases z), fun _ _ _ z => by cases z⟩, fun _ _ _ => rfl, fun _ => false, fun _ => false, ⟨fun _ _ _ _ z => (by cases z), fun _ _ z => by cases z⟩, fun l z => by omega⟩
theorem zm_Iskip {r : Nat → Nat → Bool} {s : Nat → Bool} {i : Nat} {N P : Nat → Option Nat} (h : zm_I r s i N P) (hs : s i = false) : zm_I r s (i + 1) N P := by
  obtain ⟨h1, h2, ZL, ZR, h3, h4⟩ := h
  refine ⟨h1, fun l hl => h2 l (by omega), ZL, ZR, h3, fun l hl hl' sl => ?_⟩
  by_cases e : l = i
  · subst e
    rw [hs] at sl
    cases sl
  · exact h4 l (by omega) hl' sl
/-- no matching is greater than the set less a spread -/
theorem zm_weak {r : Nat → Nat → Bool} (hr : zo_PO r) {s : Nat → Bool} {N P : Nat → Option Nat} (h : zm_M r s N P) {p : Nat → Bool} (hp : zo_In p s) (hA : zo_A r false p) : zc p 10 + zc (zm_k N) 10 ≤ zc s 10 := by
  let D : Nat → Bool := fun l => zm_b (∃ a, a < 10 ∧ p a = true ∧ r l a = true)
  have hD : ∀ l, D l = true ↔ ∃ a, a < 10 ∧ p a = true ∧ r l a = true := fun l => zm_bt
  have hDf : ∀ l, D l = false ↔ ¬ ∃ a, a < 10 ∧ p a = true ∧ r l a = true := fun l => zm_bf
  have pD : ∀ i, i < 10 → p i = true → D i = false := fun i hi pi => by
    rw [hDf]
    rintro ⟨a, ha, pa, ra⟩
    by_cases e : i = a
    · subst e
      rw [hr.1 i hi] at ra
      cases ra
    · have := hA i a hi ha e pi pa
      rw [ra] at this
      cases this
  have e1 := zc_split s p 10
  have e2 : zc (fun i => s i && p i) 10 = zc p 10 := zc_congr (fun i hi => by
    cases pi : p i
    · simp
    · rw [hp i hi pi]; rfl)
  have e3 := zc_split (fun i => s i && !p i) D 10
  have e4 := zc_split (zm_k N) D 10
  have e5 : zc (fun i => zm_k N i && D i) 10 ≤ zc (fun i => (s i && !p i) && D i) 10 := zc_mono (fun i hi z => by
    rw [Bool.and_eq_true] at z
    obtain ⟨t, ht⟩ := Option.isSome_iff_exists.mp z.1
    have sl := (h.1 i t hi ht).2.1
    cases pi : p i
    · rw [sl, z.2]; rfl
    · rw [pD i hi pi] at z
      cases z.2)
  have e6 : zc (fun i => zm_k N i && !D i) 10 ≤ zc (fun i => (s i && !p i) && !D i) 10 := by
    refine zc_inj (fun i => (N i).getD 0) (fun i hi z => ?_) (fun i j hi hj zi zj e => ?_)
    · rw [Bool.and_eq_true, Bool.not_eq_true'] at z
      obtain ⟨t, ht⟩ := Option.isSome_iff_exists.mp z.1
      obtain ⟨t10, sl, st, rlt, Pt⟩ := h.1 i t hi ht
      rw [ht]
      show t < 10 ∧ ((s t && !p t) && !D t) = true
      have nD := (hDf i).mp z.2
      have pt : p t = false := by
        cases pt : p t
        · rfl
        · exact absurd ⟨t, t10, pt, rlt⟩ nD
      have Dt : D t = false := by
        rw [hDf]
        rintro ⟨a, ha, pa, ra⟩
        exact nD ⟨a, ha, pa, hr.2 i t a hi t10 ha rlt ra⟩
      rw [st, pt, Dt]
      exact ⟨t10, rfl⟩
    · rw [Bool.and_eq_true] at zi zj
      obtain ⟨t, ht⟩ := Option.isSome_iff_exists.mp zi.1
      obtain ⟨t', ht'⟩ := Option.isSome_iff_exists.mp zj.1
      rw [ht, ht'] at e
      have e' : t = t' := e
      subst e'
      have a := (h.1 i t hi ht).2.2.2.2
      have b := (h.1 j t hj ht').2.2.2.2
      rw [a] at b
      exact Option.some.inj b
  omega
theorem zm_dil {r : Nat → Nat → Bool} (hr : zo_PO r) {s : Nat → Bool} {N P : Nat → Option Nat} (h : zm_I r s 10 N P) {c : Nat} (hc : c + zc (zm_k N) 10 = zc s 10) : zo_W r false s c := by
  obtain ⟨h1, _, ZL, ZR, ⟨z1, z2⟩, h4⟩ := h
  have hw : ∀ p, zo_In p s → zo_A r false p → zc p 10 ≤ c := fun p hp hA => by
    have := zm_weak hr h1 hp hA
    omega
  let A : Nat → Bool := fun i => (s i && ZL i) && !ZR i
  have hin : zo_In A s := fun i hi z => by
    simp only [A, Bool.and_eq_true] at z
    exact z.1.1
  have hA : zo_A r false A := fun a b ha hb hab pa pb => by
    simp only [A, Bool.and_eq_true, Bool.not_eq_true'] at pa pb
    cases e1 : r a b
    · cases e2 : r b a
      · rfl
      · have := z1 b a hb ha pb.1.2 e2 pa.1.1
        rw [pa.2] at this
        cases this
    · have := z1 a b ha hb pa.1.2 e1 pb.1.1
      rw [pb.2] at this
      cases this
  refine ⟨hw, A, hin, hA, Nat.le_antisymm (hw A hin hA) ?_⟩
  have e1 := zc_split s ZL 10
  have e2 := zc_split (fun i => s i && ZL i) ZR 10
  have e3 := zc_split (zm_k N) ZL 10
  have e4 : zc (fun i => s i && !ZL i) 10 ≤ zc (fun i => zm_k N i && !ZL i) 10 := zc_mono (fun i hi z => by
    rw [Bool.and_eq_true] at z ⊢
    refine ⟨?_, z.2⟩
    cases e : N i
    · have := h4 i hi hi z.1 e
      rw [this] at z
      cases z.2
    · unfold zm_k
      rw [e]; rfl)
  have e5 : zc (fun i => (s i && ZL i) && ZR i) 10 ≤ zc (fun i => zm_k N i && ZL i) 10 := by
    refine zc_inj (fun i => (P i).getD 0) (fun i hi z => ?_) (fun i j hi hj zi zj e => ?_)
    · rw [Bool.and_eq_true] at z
      obtain ⟨l, hl, zl⟩ := z2 i hi z.2
      obtain ⟨l10, Nl⟩ := h1.2 i l hi hl
      rw [hl]
      show l < 10 ∧ (zm_k N l && ZL l) = true
      unfold zm_k
      rw [Nl, zl]
      exact ⟨l10, rfl⟩
    · rw [Bool.and_eq_true] at zi zj
      obtain ⟨l, hl, _⟩ := z2 i hi zi.2
      obtain ⟨l', hl', _⟩ := z2 j hj zj.2
      rw [hl, hl'] at e
      have e' : l = l' := e
      subst e'
      have a := (h1.2 i l hi hl).2
      have b := (h1.2 j l hj hl').2
      rw [a] at b
      exact Option.some.inj b
  have e6 : zc A 10 = zc (fun i => (s i && ZL i) && !ZR i) 10 := rfl
  omega
end
section
/-! zm_B: the search for a way at its place k of the queue, with the things below i looked at; zm_Y: a way found; zm_T: the way being turned -/
def zm_u (N : Nat → Option Nat) (k : Nat) (v : Option Nat) : Nat → Option Nat := fun j => if j = k then v else N j
theorem zm_us {N : Nat → Option Nat} {k : Nat} {v : Option Nat} : zm_u N k v k = v := if_pos rfl
theorem zm_un {N : Nat → Option Nat} {k j : Nat} {v : Option Nat} (h : j ≠ k) : zm_u N k v j = N j := if_neg h
def zm_v (q : Nat → Nat) (k v : Nat) : Nat → Nat := fun j => if j = k then v else q j
theorem zm_vs {q : Nat → Nat} {k j v : Nat} (h : j = k) : zm_v q k v j = v := if_pos h
theorem zm_vn {q : Nat → Nat} {k j v : Nat} (h : ¬ j = k) : zm_v q k v j = q j := if_neg h
/-- the queue: different things of the set, the first is fr; each other one is reached by its next thing from an earlier one -/
def zm_q (s : Nat → Bool) (N : Nat → Option Nat) (fr : Nat) (RF : Nat → Option Nat) (q : Nat → Nat) (qe : Nat) : Prop :=
  0 < qe ∧ qe ≤ 10 ∧ q 0 = fr ∧ (∀ j, j < qe → q j < 10 ∧ s (q j) = true) ∧ (∀ j j', j < qe → j' < qe → q j = q j' → j = j') ∧
  (∀ j, 0 < j → j < qe → ∃ t j', t < 10 ∧ N (q j) = some t ∧ j' < j ∧ RF t = some (q j'))
def zm_B (r : Nat → Nat → Bool) (s : Nat → Bool) (N P : Nat → Option Nat) (fr : Nat) (RF : Nat → Option Nat) (q : Nat → Nat) (qe k i : Nat) : Prop :=
  zm_q s N fr RF q qe ∧
  (∀ t l, t < 10 → RF t = some l → l < 10 ∧ r l t = true ∧ s t = true ∧ (∃ j, j < qe ∧ P t = some (q j))) ∧
  (∀ j t, j < qe → t < 10 → (j < k ∨ (j = k ∧ t < i)) → r (q j) t = true → s t = true → ∃ l, RF t = some l)
def zm_Y (r : Nat → Nat → Bool) (s : Nat → Bool) (N P : Nat → Option Nat) (fr : Nat) (RF : Nat → Option Nat) (q : Nat → Nat) (qe t0 : Nat) : Prop :=
  zm_q s N fr RF q qe ∧ (∀ t l, t < 10 → RF t = some l → r l t = true ∧ s t = true) ∧
  t0 < 10 ∧ P t0 = none ∧ ∃ j, j < qe ∧ RF t0 = some (q j)
theorem zm_B0 {r : Nat → Nat → Bool} {s : Nat → Bool} {N P : Nat → Option Nat} {fr : Nat} (hf : fr < 10) (hs : s fr = true) (q : Nat → Nat) (hq : q 0 = fr) : zm_B r s N P fr (fun _ => none) q 1 0 0 :=
  ⟨⟨by omega, by omega, hq, fun j hj => by rw [show j = 0 from by omega, hq]; exact ⟨hf, hs⟩, fun j j' hj hj' _ => by omega, fun j h0 h1 => by omega⟩,
   fun _ _ _ z => (by cases z), fun j t hj ht z => by omega⟩
/-- the next place of the queue -/
theorem zm_Bk {r : Nat → Nat → Bool} {s : Nat → Bool} {N P : Nat → Option Nat} {fr : Nat} {RF : Nat → Option Nat} {q : Nat → Nat} {qe k : Nat} (h : zm_B r s N P fr RF q qe k 10) : zm_B r s N P fr RF q qe (k + 1) 0 :=
  ⟨h.1, h.2.1, fun j t hj ht z => h.2.2 j t hj ht (by omega)⟩
/-- a thing that is not behind, or not of the set, or reached already -/
theorem zm_Bi {r : Nat → Nat → Bool} {s : Nat → Bool} {N P : Nat → Option Nat} {fr : Nat} {RF : Nat → Option Nat} {q : Nat → Nat} {qe k i : Nat} (h : zm_B r s N P fr RF q qe k i) (c : r (q k) i = true → s i = true → ∃ l, RF i = some l) : zm_B r s N P fr RF q qe k (i + 1) :=
  ⟨h.1, h.2.1, fun j t hj ht z hr hs => by
    by_cases e : j = k ∧ t = i
    · obtain ⟨rfl, rfl⟩ := e
      exact c hr hs
    · exact h.2.2 j t hj ht (by omega) hr hs⟩
theorem zm_BY {r : Nat → Nat → Bool} {s : Nat → Bool} {N P : Nat → Option Nat} {fr : Nat} {RF : Nat → Option Nat} {q : Nat → Nat} {qe k i : Nat} (h : zm_B r s N P fr RF q qe k i) (hk : k < qe) (hi : i < 10) (hr : r (q k) i = true) (hs : s i = true) (hR : RF i = none) (hP : P i = none) : zm_Y r s N P fr (zm_u RF i (some (q k))) q qe i := by
  obtain ⟨⟨a1, a2, a3, a4, a5, a6⟩, b, c⟩ := h
  refine ⟨⟨a1, a2, a3, a4, a5, fun j h0 h1 => ?_⟩, fun t l ht z => ?_, hi, hP, k, hk, zm_us⟩
  · obtain ⟨t, j', ht, hN, hj, hRt⟩ := a6 j h0 h1
    refine ⟨t, j', ht, hN, hj, ?_⟩
    rw [zm_un (fun e => by rw [e, hR] at hRt; cases hRt)]
    exact hRt
  · by_cases e : t = i
    · subst e
      rw [zm_us] at z
      cases z
      exact ⟨hr, hs⟩
    · rw [zm_un e] at z
      exact ⟨(b t l ht z).2.1, (b t l ht z).2.2.1⟩
/-- the thing before a thing newly reached is new in the queue, and there is room for it -/
theorem zm_Bnew {r : Nat → Nat → Bool} {s : Nat → Bool} {N P : Nat → Option Nat} (hM : zm_M r s N P) {fr : Nat} (hf : N fr = none) {RF : Nat → Option Nat} {q : Nat → Nat} {qe k i l : Nat} (h : zm_B r s N P fr RF q qe k i) (hi : i < 10) (hR : RF i = none) (hP : P i = some l) : (∀ j, j < qe → q j ≠ l) ∧ qe < 10 ∧ l < 10 ∧ N l = some i ∧ s l = true := by
  obtain ⟨⟨a1, a2, a3, a4, a5, a6⟩, b, c⟩ := h
  obtain ⟨l10, Nl⟩ := hM.2 i l hi hP
  have sl := (hM.1 l i l10 Nl).2.1
  have hne : ∀ j, j < qe → q j ≠ l := fun j hj e => by
    by_cases j0 : j = 0
    · subst j0
      rw [a3] at e
      rw [← e, hf] at Nl
      cases Nl
    · obtain ⟨t, j', ht, hN, hj', hRt⟩ := a6 j (by omega) hj
      rw [e, Nl] at hN
      cases hN
      rw [hR] at hRt
      cases hRt
  refine ⟨hne, ?_, l10, Nl, sl⟩
  have := zc_pig (n := qe + 1) (m := 10) (fun j => if j = qe then l else q j) (fun j hj => by
    show (if j = qe then l else q j) < 10
    split
    · exact l10
    · exact (a4 j (by omega)).1) (fun j j' hj hj' e => by
    have e' : (if j = qe then l else q j) = (if j' = qe then l else q j') := e
    by_cases h1 : j = qe
    · by_cases h2 : j' = qe
      · omega
      · rw [if_pos h1, if_neg h2] at e'
        exact absurd e'.symm (hne j' (by omega))
    · by_cases h2 : j' = qe
      · rw [if_neg h1, if_pos h2] at e'
        exact absurd e' (hne j (by omega))
      · rw [if_neg h1, if_neg h2] at e'
        exact a5 j j' (by omega) (by omega) e')
  omega
theorem zm_BB {r : Nat → Nat → Bool} {s : Nat → Bool} {N P : Nat → Option Nat} (hM : zm_M r s N P) {fr : Nat} (hf : N fr = none) {RF : Nat → Option Nat} {q : Nat → Nat} {qe k i l : Nat} (h : zm_B r s N P fr RF q qe k i) (hk : k < qe) (hi : i < 10) (hr : r (q k) i = true) (hs : s i = true) (hR : RF i = none) (hP : P i = some l) : zm_B r s N P fr (zm_u RF i (some (q k))) (zm_v q qe l) (qe + 1) k (i + 1) := by
  obtain ⟨n1, n2, n3, n4, n5⟩ := zm_Bnew hM hf h hi hR hP
  obtain ⟨⟨a1, a2, a3, a4, a5, a6⟩, b, c⟩ := h
  have eq : ∀ j, j < qe → zm_v q qe l j = q j := fun j hj => zm_vn (by omega)
  refine ⟨⟨by omega, by omega, by rw [eq 0 a1]; exact a3, fun j hj => ?_, fun j j' hj hj' e => ?_, fun j h0 h1 => ?_⟩, fun t l' ht z => ?_, fun j t hj ht z hr' hs' => ?_⟩
  · by_cases e : j = qe
    · rw [zm_vs e]; exact ⟨n3, n5⟩
    · rw [zm_vn e]; exact a4 j (by omega)
  · by_cases h1 : j = qe
    · by_cases h2 : j' = qe
      · omega
      · rw [zm_vs h1, zm_vn h2] at e
        exact absurd e.symm (n1 j' (by omega))
    · by_cases h2 : j' = qe
      · rw [zm_vn h1, zm_vs h2] at e
        exact absurd e (n1 j (by omega))
      · rw [zm_vn h1, zm_vn h2] at e
        exact a5 j j' (by omega) (by omega) e
  · by_cases e : j = qe
    · rw [zm_vs e]
      exact ⟨i, k, hi, n4, by omega, by rw [zm_us, eq k hk]⟩
    · obtain ⟨t, j', ht, hN, hj, hRt⟩ := a6 j h0 (by omega)
      rw [zm_vn e]
      refine ⟨t, j', ht, hN, hj, ?_⟩
      rw [zm_un (fun e => by rw [e, hR] at hRt; cases hRt), eq j' (by omega)]
      exact hRt
  · by_cases e : t = i
    · subst e
      rw [zm_us] at z
      cases z
      exact ⟨(a4 k hk).1, hr, hs, qe, by omega, by rw [zm_vs rfl]; exact hP⟩
    · rw [zm_un e] at z
      obtain ⟨x0, x, y, j, hj, w⟩ := b t l' ht z
      exact ⟨x0, x, y, j, by omega, by rw [eq j hj]; exact w⟩
  · by_cases e : t = i
    · subst e
      exact ⟨_, zm_us⟩
    · rw [zm_un e]
      have hj' : j < qe := by omega
      rw [eq j hj'] at hr'
      exact c j t hj' ht (by omega) hr' hs'
theorem zm_ol {a b : Bool} (h : a = true) : (a || b) = true := by rw [h]; rfl
theorem zm_or {a b : Bool} (h : b = true) : (a || b) = true := by rw [h, Bool.or_true]
/-- no way: all that was reached joins the trap -/
theorem zm_Ifail {r : Nat → Nat → Bool} {s : Nat → Bool} {i : Nat} {N P : Nat → Option Nat} (h : zm_I r s i N P) {RF : Nat → Option Nat} {q : Nat → Nat} {qe : Nat} (b : zm_B r s N P i RF q qe qe 0) : zm_I r s (i + 1) N P := by
  obtain ⟨h1, h2, ZL, ZR, ⟨z1, z2⟩, h4⟩ := h
  obtain ⟨⟨a1, a2, a3, a4, a5, a6⟩, b, c⟩ := b
  refine ⟨h1, fun l hl => h2 l (by omega), fun l => ZL l || zm_b (∃ j, j < qe ∧ q j = l), fun t => ZR t || (RF t).isSome, ⟨fun l t hl ht zl rl st => ?_, fun t ht zt => ?_⟩, fun l hl hl' sl Nl => ?_⟩
  · rw [Bool.or_eq_true] at zl
    rcases zl with zl | zl
    · exact zm_ol (z1 l t hl ht zl rl st)
    · obtain ⟨j, hj, e⟩ := zm_bt.mp zl
      subst e
      obtain ⟨l', e⟩ := c j t hj ht (Or.inl hj) rl st
      exact zm_or (by rw [e]; rfl)
  · rw [Bool.or_eq_true] at zt
    rcases zt with zt | zt
    · obtain ⟨l, hl, zl⟩ := z2 t ht zt
      exact ⟨l, hl, zm_ol zl⟩
    · obtain ⟨l', e⟩ := Option.isSome_iff_exists.mp zt
      obtain ⟨_, _, _, j, hj, hP⟩ := b t l' ht e
      exact ⟨q j, hP, zm_or (zm_bt.mpr ⟨j, hj, rfl⟩)⟩
  · by_cases e : l = i
    · exact zm_or (zm_bt.mpr ⟨0, a1, by rw [a3, e]⟩)
    · exact zm_ol (h4 l (by omega) hl' sl Nl)
/-- the way being turned: cur is the thing to be joined next, its own P no longer counts -/
def zm_T (r : Nat → Nat → Bool) (s : Nat → Bool) (N0 : Nat → Option Nat) (fr : Nat) (RF : Nat → Option Nat) (q : Nat → Nat) (qe : Nat) (ZL ZR : Nat → Bool) (N P : Nat → Option Nat) (cur : Option Nat) (st : Nat) : Prop :=
  (∀ l t, l < 10 → N l = some t → t < 10 ∧ s l = true ∧ s t = true ∧ r l t = true ∧ P t = some l ∧ cur ≠ some t) ∧
  (∀ t l, t < 10 → cur ≠ some t → P t = some l → l < 10 ∧ N l = some t) ∧
  (∀ t, cur = some t → t < 10 ∧ ZR t = false ∧ ∃ j, j < qe ∧ j + st < 10 ∧ RF t = some (q j) ∧ ∀ j', j' ≤ j → N (q j') = N0 (q j')) ∧
  (∀ t, t < 10 → ZR t = true → ∃ l, P t = some l ∧ ZL l = true) ∧
  (∀ l, l < 10 → zm_k N0 l = true → zm_k N l = true) ∧ (∀ l, l < 10 → zm_k N l = true → zm_k N0 l = true ∨ l = fr) ∧ (cur = none → zm_k N fr = true)
theorem zm_T0 {r : Nat → Nat → Bool} {s : Nat → Bool} {N P : Nat → Option Nat} {fr : Nat} {RF : Nat → Option Nat} {q : Nat → Nat} {qe t0 : Nat} {ZL ZR : Nat → Bool} (hM : zm_M r s N P) (hZ : zm_Z r s P ZL ZR) (hY : zm_Y r s N P fr RF q qe t0) : zm_T r s N fr RF q qe ZL ZR N P (some t0) 0 := by
  obtain ⟨y1, y2, y3, y4, j, hj, y5⟩ := hY
  refine ⟨fun l t hl hN => ?_, fun t l ht _ hP => hM.2 t l ht hP, fun t e => ?_, hZ.2, fun l _ z => z, fun l _ z => Or.inl z, fun z => by cases z⟩
  · obtain ⟨a, b, c, d, e⟩ := hM.1 l t hl hN
    refine ⟨a, b, c, d, e, fun z => ?_⟩
    cases z
    rw [y4] at e
    cases e
  · cases e
    refine ⟨y3, ?_, j, hj, by have := y1.2.1; omega, y5, fun _ _ => rfl⟩
    cases e : ZR t0
    · rfl
    · obtain ⟨l, hl, _⟩ := hZ.2 t0 y3 e
      rw [y4] at hl
      cases hl
theorem zm_TS {r : Nat → Nat → Bool} {s : Nat → Bool} {N0 : Nat → Option Nat} {fr : Nat} (hf : N0 fr = none) {RF : Nat → Option Nat} {q : Nat → Nat} {qe : Nat} {ZL ZR : Nat → Bool} (hq : zm_q s N0 fr RF q qe) (hR : ∀ t l, t < 10 → RF t = some l → r l t = true ∧ s t = true) (hZ : ∀ l t, l < 10 → t < 10 → ZL l = true → r l t = true → s t = true → ZR t = true) {N P : Nat → Option Nat} {t st j : Nat} (h : zm_T r s N0 fr RF q qe ZL ZR N P (some t) st) (hj : j < qe) (hjs : j + st < 10) (hRt : RF t = some (q j)) (hN : ∀ j', j' ≤ j → N (q j') = N0 (q j')) : zm_T r s N0 fr RF q qe ZL ZR (zm_u N (q j) (some t)) (zm_u P t (some (q j))) (N (q j)) (st + 1) := by
  obtain ⟨t1, t2, t3, t4, t5, t6, t7⟩ := h
  obtain ⟨a1, a2, a3, a4, a5, a6⟩ := hq
  obtain ⟨ht, zt, _⟩ := t3 t rfl
  obtain ⟨rft, sft⟩ := hR t (q j) ht hRt
  obtain ⟨q10, sq⟩ := a4 j hj
  have zf : ZL (q j) = false := by
    cases e : ZL (q j)
    · rfl
    · rw [hZ (q j) t q10 ht e rft sft] at zt
      cases zt
  refine ⟨fun l t' hl hNl => ?_, fun t' l ht' hc hP => ?_, fun t' e => ?_, fun t' ht' z => ?_, fun l hl z => ?_, fun l hl z => ?_, fun e => ?_⟩
  · by_cases e : l = q j
    · rw [e, zm_us] at hNl
      cases hNl
      refine ⟨ht, by rw [e]; exact sq, sft, by rw [e]; exact rft, by rw [zm_us, e], fun z => ?_⟩
      exact (t1 (q j) t q10 z).2.2.2.2.2 rfl
    · rw [zm_un e] at hNl
      obtain ⟨b1, b2, b3, b4, b5, b6⟩ := t1 l t' hl hNl
      have ne : t' ≠ t := fun z => b6 (by rw [z])
      refine ⟨b1, b2, b3, b4, by rw [zm_un ne]; exact b5, fun z => ?_⟩
      have := (t1 (q j) t' q10 z).2.2.2.2.1
      rw [b5] at this
      exact e (Option.some.inj this)
  · by_cases e : t' = t
    · rw [e, zm_us] at hP
      cases hP
      exact ⟨q10, by rw [zm_us, e]⟩
    · rw [zm_un e] at hP
      obtain ⟨c1, c2⟩ := t2 t' l ht' (fun z => e (Option.some.inj z).symm) hP
      refine ⟨c1, ?_⟩
      rw [zm_un (fun z => hc (by rw [← z]; exact c2))]
      exact c2
  · by_cases j0 : j = 0
    · rw [hN j (Nat.le_refl _), j0, a3, hf] at e
      cases e
    · obtain ⟨t'', j', ht'', hN', hj', hR'⟩ := a6 j (by omega) hj
      rw [hN j (Nat.le_refl _), hN'] at e
      cases e
      refine ⟨ht'', ?_, j', by omega, by omega, hR', fun k hk => ?_⟩
      · cases e : ZR t'
        · rfl
        · obtain ⟨l, hl, zl⟩ := t4 t' ht'' e
          have := (t1 (q j) t' q10 (by rw [hN j (Nat.le_refl _)]; exact hN')).2.2.2.2.1
          rw [hl] at this
          rw [Option.some.inj this, zf] at zl
          cases zl
      · rw [zm_un (fun z => by have := a5 k j (by omega) hj z; omega)]
        exact hN k (by omega)
  · have ne : t' ≠ t := fun e => by rw [e, zt] at z; cases z
    rw [zm_un ne]
    exact t4 t' ht' z
  · by_cases e : l = q j
    · unfold zm_k
      rw [e, zm_us]; rfl
    · unfold zm_k
      rw [zm_un e]
      exact t5 l hl z
  · by_cases e : l = q j
    · by_cases j0 : j = 0
      · exact Or.inr (by rw [e, j0, a3])
      · obtain ⟨t'', j', ht'', hN', hj', hR'⟩ := a6 j (by omega) hj
        refine Or.inl ?_
        unfold zm_k
        rw [e, hN']; rfl
    · unfold zm_k at z
      rw [zm_un e] at z
      exact t6 l hl z
  · by_cases e' : fr = q j
    · unfold zm_k
      rw [e', zm_us]; rfl
    · by_cases j0 : j = 0
      · exact absurd (by rw [j0, a3]) e'
      · obtain ⟨t'', j', ht'', hN', hj', hR'⟩ := a6 j (by omega) hj
        rw [hN j (Nat.le_refl _), hN'] at e
        cases e
/-- the way turned: one more thing has a next one -/
theorem zm_Idone {r : Nat → Nat → Bool} {s : Nat → Bool} {i : Nat} (hi : i < 10) {N0 P0 : Nat → Option Nat} (h : zm_I r s i N0 P0) {RF : Nat → Option Nat} {q : Nat → Nat} {qe st : Nat} {ZL ZR : Nat → Bool} (hZ : zm_Z r s P0 ZL ZR) (hL : ∀ l, l < i → l < 10 → s l = true → N0 l = none → ZL l = true) {N P : Nat → Option Nat} (hT : zm_T r s N0 i RF q qe ZL ZR N P none st) : zm_I r s (i + 1) N P ∧ zc (zm_k N) 10 = zc (zm_k N0) 10 + 1 := by
  obtain ⟨h1, h2, _⟩ := h
  obtain ⟨t1, t2, t3, t4, t5, t6, t7⟩ := hT
  have hn : ∀ l, l < 10 → zm_k N l = false → N0 l = none := fun l hl z => by
    cases e : N0 l
    · rfl
    · have := t5 l hl (by unfold zm_k; rw [e]; rfl)
      rw [z] at this
      cases this
  refine ⟨⟨⟨fun l t hl hN => ?_, fun t l ht hP => t2 t l ht (fun z => by cases z) hP⟩, fun l hl hl' => ?_, ZL, ZR, ⟨hZ.1, t4⟩, fun l hl hl' sl Nl => ?_⟩, ?_⟩
  · obtain ⟨a, b, c, d, e, _⟩ := t1 l t hl hN
    exact ⟨a, b, c, d, e⟩
  · cases e : N l
    · rfl
    · rcases t6 l hl' (by unfold zm_k; rw [e]; rfl) with z | z
      · unfold zm_k at z
        rw [h2 l (by omega) hl'] at z
        cases z
      · omega
  · by_cases e : l = i
    · subst e
      have := t7 rfl
      unfold zm_k at this
      rw [Nl] at this
      cases this
    · exact hL l (by omega) hl' sl (hn l hl' (by unfold zm_k; rw [Nl]; rfl))
  · have e0 : zm_k N0 i = false := by unfold zm_k; rw [h2 i (Nat.le_refl _) hi]; rfl
    rw [← zc_ins hi e0]
    refine zc_congr (fun l hl => ?_)
    by_cases e : l = i
    · subst e
      rw [t7 rfl]; simp
    · have e1 : (l == i) = false := by simp [e]
      rw [e1, Bool.or_false]
      cases z : zm_k N0 l
      · cases z' : zm_k N l
        · rfl
        · rcases t6 l hl z' with w | w
          · rw [z] at w; cases w
          · exact absurd w e
      · exact t5 l hl z
end
section
/-! zx_: X's walks: size, pairs, turnWay, spread, lengthen, widthOf -/
def zm_e : Option Nat → Int32
  | none => -1
  | some t => nI t
def zm_C (a : Nat → Int32) (N : Nat → Option Nat) : Prop := ∀ j, j < 10 → a j = zm_e (N j)
theorem zm_Cu {a : Nat → Int32} {N : Nat → Option Nat} (h : zm_C a N) (k : Nat) (v : Option Nat) : zm_C (upd a k (zm_e v)) (zm_u N k v) := by
  intro j hj
  by_cases e : j = k
  · rw [e, pk_us, zm_us]
  · rw [pk_un e, zm_un e]
    exact h j hj
theorem zm_en : zm_e none < 0 := by decide
theorem zm_en0 : ¬ (0 : Int32) ≤ zm_e none := by decide
theorem zx_le {i : Nat} (h : 10 ≤ i) (hi : i < 2 ^ 31) : (10 : Int32) ≤ nI i := nI_le (a := 10) h hi
theorem zx_10 : (10 : Int32) ≤ nI 10 := zx_le (by omega) (by omega)
theorem zx_nl {i : Nat} (h : i < 10) : ¬ (10 : Int32) ≤ nI i := nI_ge (b := 10) h (by decide)
theorem zx_in {i : Nat} (h : i < 10) : vp_in (nI i) 10 := vp_in_nI h (by decide)
theorem zx_cl {i : Nat} (h : i < 10) : (nI i).toNatClampNeg = i := nI_clamp (by omega)
theorem zb_tst {p : Nat → Bool} {i : Nat} (hi : i < 10) : zb_S p &&& ((1 : Int32) <<< (nI i &&& 31)) = 0 ↔ p i = false := by
  rw [zb_sh i hi, zb_and, zb_z]
  constructor
  · intro h
    have := h i hi
    simpa using this
  · intro h j hj
    by_cases e : j = i
    · subst e; simp [h]
    · simp [e]
theorem zb_brt {x : Int32} {A B : Prop} {i : Nat} (p : Nat → Bool) (e : x = zb_S p) (hi : i < 10) (f : p i = false → A) (g : p i = true → B) : (x &&& ((1 : Int32) <<< (nI i &&& 31)) = 0 → A) ∧ (¬ x &&& ((1 : Int32) <<< (nI i &&& 31)) = 0 → B) := by
  subst e
  rw [zb_tst hi]
  exact ⟨f, fun z => g (by cases h : p i; exact absurd h z; rfl)⟩
theorem zx_size4 (post : Int32 → Prop) (p : Nat → Bool) (hp : post (nI (zc p 10))) : ∀ d i, i + d = 10 → wX_size_4 post (zb_S p) (d + 1) (nI (zc p i)) (nI i) := by
  intro d
  induction d with
  | zero =>
    intro i hi
    have e : i = 10 := by omega
    subst e
    exact br_t zx_10 hp
  | succ d ih =>
    intro i hi
    have e : nI (zc p i) + ((((zb_S p).toUInt32 >>> ((nI i).toUInt32 &&& Int32.toUInt32 31)).toInt32) &&& 1) = nI (zc p (i + 1)) := by
      rw [zb_bit p (by omega), nI_add]
      rfl
    exact br_f (zx_nl (by omega)) (nm_r e (nm_r (nI_1 i) (ih (i + 1) (by omega))))
theorem zx_size {post : Int32 → Prop} {p : Nat → Bool} (hp : post (nI (zc p 10))) : wpX_size post (zb_S p) := ⟨11, zx_size4 post p hp 10 0 rfl⟩
section
variable {r : Nat → Nat → Bool} {s : Nat → Bool} {f : Int32} {aft ahd aN aP arf aq : Nat → Int32}
theorem zx_pairs4 (post : Int32 → Prop) (ha : ∀ t, t < 10 → aft t = zb_S (r t)) (hp : post (nI (zc_sum (fun t => zc (r t) 10) 10))) : ∀ d i, i + d = 10 → wX_pairs_4 post f aft ahd aN aP arf aq (d + 1) (nI (zc_sum (fun t => zc (r t) 10) i)) (nI i) := by
  intro d
  induction d with
  | zero =>
    intro i hi
    have e : i = 10 := by omega
    subst e
    exact br_t zx_10 hp
  | succ d ih =>
    intro i hi
    have hi' : i < 10 := by omega
    refine br_f (zx_nl hi') ⟨zx_in hi', ?_⟩
    rw [zx_cl hi', ha i hi']
    refine zx_size ?_
    exact nm_r (nI_add _ _) (nm_r (nI_1 i) (ih (i + 1) (by omega)))
theorem zx_pairs {post : Int32 → Prop} (ha : ∀ t, t < 10 → aft t = zb_S (r t)) (hp : post (nI (zc_sum (fun t => zc (r t) 10) 10))) : wpX_pairs post (f, aft, ahd, aN, aP, arf, aq) := ⟨11, zx_pairs4 post ha hp 10 0 rfl⟩
theorem zx_turn4 {N0 : Nat → Option Nat} {fr : Nat} (hf : N0 fr = none) {RF : Nat → Option Nat} {q : Nat → Nat} {qe : Nat} {ZL ZR : Nat → Bool} (hq : zm_q s N0 fr RF q qe) (hR : ∀ t l, t < 10 → RF t = some l → r l t = true ∧ s t = true) (hZ : ∀ l t, l < 10 → t < 10 → ZL l = true → r l t = true → s t = true → ZR t = true) {post : SX → Prop} (hrf : zm_C arf RF) (hp : ∀ N P aN aP st, zm_C aN N → zm_C aP P → zm_T r s N0 fr RF q qe ZL ZR N P none st → post (f, aft, ahd, aN, aP, arf, aq)) : ∀ d st cur N P aN aP, st + d = 10 → zm_C aN N → zm_C aP P → zm_T r s N0 fr RF q qe ZL ZR N P cur st → wX_turnWay_4 post f (d + 1) (zm_e cur) (nI st) aft ahd aN aP arf aq := by
  intro d
  induction d with
  | zero =>
    intro st cur N P aN aP hd cN cP hT
    cases cur with
    | none => exact br_t (zx_le (by omega) (by omega)) (hp _ _ _ _ _ cN cP hT)
    | some t =>
      obtain ⟨_, _, j, _, h, _⟩ := hT.2.2.1 t rfl
      omega
  | succ d ih =>
    intro st cur N P aN aP hd cN cP hT
    cases cur with
    | none => exact br_f (zx_nl (by omega)) (br_t zm_en (hp _ _ _ _ _ cN cP hT))
    | some t =>
      obtain ⟨ht, _, j, hj, hjs, hRt, hN⟩ := hT.2.2.1 t rfl
      have h10 := (hq.2.2.2.1 j hj).1
      have e1 : arf (nI t).toNatClampNeg = nI (q j) := by rw [zx_cl ht, hrf t ht, hRt]; rfl
      have e2 : aN (nI (q j)).toNatClampNeg = zm_e (N (q j)) := by rw [zx_cl h10, cN _ h10]
      have e3 : upd aN (nI (q j)).toNatClampNeg (nI t) = upd aN (q j) (zm_e (some t)) := by rw [zx_cl h10]; rfl
      have e4 : upd aP (nI t).toNatClampNeg (nI (q j)) = upd aP t (zm_e (some (q j))) := by rw [zx_cl ht]; rfl
      show wX_turnWay_4 post f (d + 1 + 1) (nI t) (nI st) aft ahd aN aP arf aq
      refine br_f (zx_nl (by omega)) (br_f (nI_pos (by omega)) ⟨zx_in ht, nm_r e1 ⟨zx_in h10, nm_r e2 ⟨zx_in h10, nm_r e3 ⟨zx_in ht, nm_r e4 (nm_r (nI_1 st) ?_)⟩⟩⟩⟩)
      exact ih (st + 1) _ _ _ _ _ (by omega) (zm_Cu cN _ _) (zm_Cu cP _ _) (zm_TS hf hq hR hZ hT hj hjs hRt hN)
theorem zx_spread2 (ha : ∀ t, t < 10 → aft t = zb_S (r t)) {N P : Nat → Option Nat} (cP : zm_C aP P) (hM : zm_M r s N P) {fr : Nat} (hf : N fr = none) {k xk : Nat} (hx : xk < 10) {post : Int32 → SX → Prop} (hfail : ∀ qe RF q arf aq, zm_C arf RF → (∀ j, j < qe → aq j = nI (q j)) → k < qe → zm_B r s N P fr RF q qe k 10 → post (-1) (nI qe, aft, ahd, aN, aP, arf, aq)) (hfound : ∀ qe RF q arf aq t, zm_C arf RF → zm_Y r s N P fr RF q qe t → post (nI t) (nI qe, aft, ahd, aN, aP, arf, aq)) : ∀ d i qe RF q arf aq, i + d = 10 → k < qe → q k = xk → zm_C arf RF → (∀ j, j < qe → aq j = nI (q j)) → zm_B r s N P fr RF q qe k i → wX_spread_2 post (nI xk) (zb_S s) (d + 1) (nI i) (nI qe) aft ahd aN aP arf aq := by
  intro d
  induction d with
  | zero =>
    intro i qe RF q arf aq hd hk hqk cR cq hB
    have e : i = 10 := by omega
    subst e
    exact br_t zx_10 (hfail _ _ _ _ _ cR cq hk hB)
  | succ d ih =>
    intro i qe RF q arf aq hd hk hqk cR cq hB
    have hi : i < 10 := by omega
    have e0 : aft (nI xk).toNatClampNeg &&& zb_S s = zb_S (fun j => r xk j && s j) := by rw [zx_cl hx, ha xk hx, zb_and]
    refine br_f (zx_nl hi) ⟨zx_in hx, zb_brt _ e0 hi (fun z => nm_r (nI_1 i) (ih (i + 1) qe RF q arf aq (by omega) hk hqk cR cq (zm_Bi hB (fun a b => ?_)))) (fun z => ⟨zx_in hi, ?_⟩)⟩
    · rw [hqk] at a
      rw [a, b] at z
      cases z
    · rw [Bool.and_eq_true] at z
      have er : arf (nI i).toNatClampNeg = zm_e (RF i) := by rw [zx_cl hi, cR i hi]
      have ep : aP (nI i).toNatClampNeg = zm_e (P i) := by rw [zx_cl hi, cP i hi]
      cases eR : RF i with
      | some l =>
        refine br_t ?_ (nm_r (nI_1 i) (ih (i + 1) qe RF q arf aq (by omega) hk hqk cR cq (zm_Bi hB (fun _ _ => ⟨l, eR⟩))))
        rw [er, eR]
        have hl := (hB.2.1 i l hi eR).1
        exact nI_pos' (by omega)
      | none =>
        have e3 : upd arf (nI i).toNatClampNeg (nI xk) = upd arf i (zm_e (some (q k))) := by rw [zx_cl hi, hqk]; rfl
        refine br_f (by rw [er, eR]; exact zm_en0) ⟨zx_in hi, nm_r e3 ⟨zx_in hi, ?_⟩⟩
        cases eP : P i with
        | some l =>
          obtain ⟨n1, n2, n3, n4, n5⟩ := zm_Bnew hM hf hB hi eR eP
          have e4 : upd aq (nI qe).toNatClampNeg (aP (nI i).toNatClampNeg) = upd aq qe (nI l) := by rw [zx_cl n2, ep, eP]; rfl
          refine br_t (by rw [ep, eP]; exact nI_pos' (by omega)) ⟨zx_in hi, zx_in n2, nm_r e4 (nm_r (nI_1 qe) (nm_r (nI_1 i) (ih (i + 1) (qe + 1) _ _ _ _ (by omega) (by omega) ?_ (zm_Cu cR _ _) (fun j hj => ?_) (zm_BB hM hf hB hk hi (by rw [hqk]; exact z.1) z.2 eR eP))))⟩
          · rw [zm_vn (by omega)]
            exact hqk
          · by_cases e : j = qe
            · rw [e, pk_us, zm_vs rfl]
            · rw [pk_un e, zm_vn e]
              exact cq j (by omega)
        | none =>
          exact br_f (by rw [ep, eP]; exact zm_en0) (hfound _ _ _ _ _ _ (zm_Cu cR _ _) (zm_BY hB hk hi (by rw [hqk]; exact z.1) z.2 eR eP))
end
end
section
/-! zx_: lengthen and widthOf -/
section
variable {r : Nat → Nat → Bool} {s : Nat → Bool} {f : Int32} {aft ahd aN aP arf aq : Nat → Int32}
theorem zx_len35 (ha : ∀ t, t < 10 → aft t = zb_S (r t)) {N P : Nat → Option Nat} (cN : zm_C aN N) (cP : zm_C aP P) {fr : Nat} (hfr : fr < 10) (hI : zm_I r s fr N P) {post : Int32 → SX → Prop} (hp : ∀ (b : Bool) f aN' aP' arf aq N' P', zm_C aN' N' → zm_C aP' P' → zm_I r s (fr + 1) N' P' → zc (zm_k N') 10 = zc (zm_k N) 10 + b.toNat → post (nI b.toNat) (f, aft, ahd, aN', aP', arf, aq)) : ∀ d k qe RF q arf aq, k + d = 10 → k ≤ qe → zm_C arf RF → (∀ j, j < qe → aq j = nI (q j)) → zm_B r s N P fr RF q qe k 0 → wX_lengthen_35 post (zb_S s) (d + 1) (nI k) (nI qe) aft ahd aN aP arf aq := by
  have hf : N fr = none := hI.2.1 fr (Nat.le_refl _) hfr
  have hM := hI.1
  intro d
  induction d with
  | zero =>
    intro k qe RF q arf aq hd hk cR cq hB
    have h10 := hB.1.2.1
    have e : k = qe := by omega
    subst e
    exact br_t (nI_le (Nat.le_refl _) (by omega)) (hp false _ _ _ _ _ N P cN cP (zm_Ifail hI hB) rfl)
  | succ d ih =>
    intro k qe RF q arf aq hd hk cR cq hB
    have h10 := hB.1.2.1
    by_cases e : qe ≤ k
    · have e : k = qe := by omega
      subst e
      exact br_t (nI_le (Nat.le_refl _) (by omega)) (hp false _ _ _ _ _ N P cN cP (zm_Ifail hI hB) rfl)
    · have hk' : k < qe := by omega
      have hx := (hB.1.2.2.2.1 k hk').1
      refine br_f (nI_ge hk' (by omega)) (br_f (zx_nl (by omega)) ⟨zx_in (by omega), ?_⟩)
      rw [zx_cl (by omega : k < 10), cq k hk']
      refine ⟨11, zx_spread2 ha cP hM hf hx ?_ ?_ 10 0 qe RF q arf aq rfl hk' rfl cR cq hB⟩
      · intro qe' RF' q' arf' aq' cR' cq' hk'' hB'
        exact br_t (by decide) (nm_r (nI_1 k) (ih (k + 1) qe' RF' q' arf' aq' (by omega) (by omega) cR' cq' (zm_Bk hB')))
      · intro qe' RF' q' arf' aq' t cR' hY
        obtain ⟨ZL, ZR, hZ, hL⟩ := hI.2.2
        have ht := hY.2.2.1
        refine br_f (nI_pos (by omega)) ⟨11, zx_turn4 hf hY.1 hY.2.1 hZ.1 cR' ?_ 10 0 (some t) N P aN aP rfl cN cP (zm_T0 hM hZ hY)⟩
        intro N' P' aN' aP' st cN' cP' hT
        obtain ⟨h1, h2⟩ := zm_Idone hfr hI hZ hL hT
        exact hp true _ _ _ _ _ N' P' cN' cP' h1 h2
theorem zx_len2 (ha : ∀ t, t < 10 → aft t = zb_S (r t)) {N P : Nat → Option Nat} (cN : zm_C aN N) (cP : zm_C aP P) {fr : Nat} (hfr : fr < 10) (hs : s fr = true) (hI : zm_I r s fr N P) {post : Int32 → SX → Prop} (hp : ∀ (b : Bool) f aN' aP' arf aq N' P', zm_C aN' N' → zm_C aP' P' → zm_I r s (fr + 1) N' P' → zc (zm_k N') 10 = zc (zm_k N) 10 + b.toNat → post (nI b.toNat) (f, aft, ahd, aN', aP', arf, aq)) : ∀ d i arf, i + d = 10 → (∀ j, j < i → arf j = -1) → wX_lengthen_2 post (nI fr) (zb_S s) f (d + 1) (nI i) aft ahd aN aP arf aq := by
  intro d
  induction d with
  | zero =>
    intro i arf hd hz
    have e : i = 10 := by omega
    subst e
    refine br_t zx_10 (nm_e ⟨11, zx_len35 ha cN cP hfr hI hp 10 0 1 (fun _ => none) (fun _ => fr) arf (upd aq 0 (nI fr)) rfl (by omega) (fun j hj => hz j hj) (fun j hj => ?_) (zm_B0 hfr hs _ rfl)⟩)
    rw [show j = 0 from by omega, pk_us]
  | succ d ih =>
    intro i arf hd hz
    have hi : i < 10 := by omega
    have e : upd arf (nI i).toNatClampNeg (-1) = upd arf i (-1) := by rw [zx_cl hi]
    refine br_f (zx_nl hi) ⟨zx_in hi, nm_r e (nm_r (nI_1 i) (ih (i + 1) _ (by omega) (fun j hj => ?_)))⟩
    by_cases e : j = i
    · rw [e, pk_us]
    · rw [pk_un e]
      exact hz j (by omega)
theorem zx_wid35 (hr : zo_PO r) (ha : ∀ t, t < 10 → aft t = zb_S (r t)) {post : Int32 → SX → Prop} (hp : ∀ w, zo_W r false s w → ∀ f aN aP arf aq, post (nI w) (f, aft, ahd, aN, aP, arf, aq)) : ∀ d i c N P f aN aP arf aq, i + d = 10 → c + zc (zm_k N) 10 = zc s 10 → zm_C aN N → zm_C aP P → zm_I r s i N P → wX_widthOf_35 post (zb_S s) (d + 1) (nI c) (nI i) f aft ahd aN aP arf aq := by
  intro d
  induction d with
  | zero =>
    intro i c N P f aN aP arf aq hd hc cN cP hI
    have e : i = 10 := by omega
    subst e
    exact br_t zx_10 (hp c (zm_dil hr hI hc) _ _ _ _ _)
  | succ d ih =>
    intro i c N P f aN aP arf aq hd hc cN cP hI
    have hi : i < 10 := by omega
    refine br_f (zx_nl hi) (zb_br0 (s i) (zb_bit s hi) (fun z => nm_r (nI_1 i) (ih (i + 1) c N P f aN aP arf aq (by omega) hc cN cP (zm_Iskip hI z))) (fun z => ?_))
    refine ⟨11, zx_len2 ha cN cP hi z hI ?_ 10 0 arf rfl (fun j hj => by omega)⟩
    intro b f' aN' aP' arf' aq' N' P' cN' cP' hI' hk
    refine zb_br0 b rfl (fun e => ?_) (fun e => ?_)
    · subst e
      have e2 : nI c - 0 = nI c := by
        show nI c - nI 0 = nI c
        rw [pk_sub (Nat.zero_le _), Nat.sub_zero]
      exact nm_r e2 (nm_r (nI_1 i) (ih (i + 1) c N' P' _ _ _ _ _ (by omega) (by rw [hk]; exact hc) cN' cP' hI'))
    · subst e
      have hw := zm_weak hr hI'.1 (p := fun _ => false) (fun _ _ z => by cases z) (fun _ _ _ _ _ z => by cases z)
      have hb : Bool.toNat true = 1 := rfl
      have hc1 : 1 ≤ c := by omega
      have e2 : nI c - 1 = nI (c - 1) := by
        show nI c - nI 1 = _
        rw [pk_sub hc1]
      exact nm_r e2 (nm_r (nI_1 i) (ih (i + 1) (c - 1) N' P' _ _ _ _ _ (by omega) (by omega) cN' cP' hI'))
theorem zx_wid2 (hr : zo_PO r) (ha : ∀ t, t < 10 → aft t = zb_S (r t)) {post : Int32 → SX → Prop} (hp : ∀ w, zo_W r false s w → ∀ f aN aP arf aq, post (nI w) (f, aft, ahd, aN, aP, arf, aq)) : ∀ d i aN aP, i + d = 10 → (∀ j, j < i → aN j = -1) → (∀ j, j < i → aP j = -1) → wX_widthOf_2 post (zb_S s) f (d + 1) (nI i) aft ahd aN aP arf aq := by
  intro d
  induction d with
  | zero =>
    intro i aN aP hd hN hP
    have e : i = 10 := by omega
    subst e
    refine br_t zx_10 (zx_size ?_)
    exact ⟨11, zx_wid35 hr ha hp 10 0 (zc s 10) (fun _ => none) (fun _ => none) f aN aP arf aq rfl (by rw [zc_zero (p := zm_k fun _ => none) (fun _ _ => rfl), Nat.add_zero]) (fun j hj => hN j hj) (fun j hj => hP j hj) zm_I0⟩
  | succ d ih =>
    intro i aN aP hd hN hP
    have hi : i < 10 := by omega
    have e1 : upd aN (nI i).toNatClampNeg (-1) = upd aN i (-1) := by rw [zx_cl hi]
    have e2 : upd aP (nI i).toNatClampNeg (-1) = upd aP i (-1) := by rw [zx_cl hi]
    refine br_f (zx_nl hi) ⟨zx_in hi, nm_r e1 ⟨zx_in hi, nm_r e2 (nm_r (nI_1 i) (ih (i + 1) _ _ (by omega) (fun j hj => ?_) (fun j hj => ?_)))⟩⟩
    · by_cases e : j = i
      · rw [e, pk_us]
      · rw [pk_un e]
        exact hN j (by omega)
    · by_cases e : j = i
      · rw [e, pk_us]
      · rw [pk_un e]
        exact hP j (by omega)
theorem zx_widthOf (hr : zo_PO r) (ha : ∀ t, t < 10 → aft t = zb_S (r t)) {post : Int32 → SX → Prop} (hp : ∀ w, zo_W r false s w → ∀ f aN aP arf aq, post (nI w) (f, aft, ahd, aN, aP, arf, aq)) : wpX_widthOf post (f, aft, ahd, aN, aP, arf, aq) (zb_S s) :=
  ⟨11, zx_wid2 hr ha hp 10 0 aN aP rfl (fun j hj => by omega) (fun j hj => by omega)⟩
end
end
section
/-! layers: the first ones of a set, taken away round by round; their number is the greatest size of a chain -/
noncomputable def zo_min (r : Nat → Nat → Bool) (s : Nat → Bool) (t : Nat) : Bool := s t && zm_b (∀ j, j < 10 → (r j t && s j) = false)
theorem zo_min_iff {r : Nat → Nat → Bool} {s : Nat → Bool} {t : Nat} : zo_min r s t = true ↔ s t = true ∧ ∀ j, j < 10 → (r j t && s j) = false := by
  unfold zo_min
  rw [Bool.and_eq_true, zm_bt]
theorem zc_one {p : Nat → Bool} {n : Nat} (h : ∀ a b, a < n → b < n → p a = true → p b = true → a = b) : zc p n ≤ 1 := by
  have := zc_inj (n := n) (m := 1) (p := p) (q := fun _ => true) (fun _ => 0) (fun i hi _ => ⟨by omega, rfl⟩) (fun i j hi hj pi pj _ => h i j hi hj pi pj)
  rwa [zc_all] at this
theorem zo_minex {r : Nat → Nat → Bool} (hr : zo_PO r) {s : Nat → Bool} : ∀ n x, x < 10 → s x = true → zc (fun z => s z && r z x) 10 ≤ n → ∃ t, t < 10 ∧ zo_min r s t = true := by
  intro n
  induction n with
  | zero =>
    intro x hx sx h
    refine ⟨x, hx, zo_min_iff.mpr ⟨sx, fun j hj => ?_⟩⟩
    have := zc_none (p := fun z => s z && r z x) (n := 10) (by omega) hj
    rw [Bool.and_comm]
    exact this
  | succ n ih =>
    intro x hx sx h
    by_cases e : zo_min r s x = true
    · exact ⟨x, hx, e⟩
    · have : ∃ j, j < 10 ∧ (r j x && s j) = true := by
        apply Classical.byContradiction
        intro z
        apply e
        refine zo_min_iff.mpr ⟨sx, fun j hj => ?_⟩
        cases k : (r j x && s j)
        · rfl
        · exact absurd ⟨j, hj, k⟩ z
      obtain ⟨y, hy, k⟩ := this
      rw [Bool.and_eq_true] at k
      refine ih y hy k.2 ?_
      have h1 := zc_rem (p := fun z => s z && r z x) (n := 10) (i := y) hy (by rw [k.1, k.2]; rfl)
      have h2 : zc (fun z => s z && r z y) 10 ≤ zc (fun j => (s j && r j x) && !(j == y)) 10 := zc_mono (fun i hi z => by
        rw [Bool.and_eq_true] at z
        have e1 : r i x = true := hr.2 i y x hi hy hx z.2 k.1
        have e2 : (i == y) = false := by
          cases e : (i == y)
          · rfl
          · rw [beq_iff_eq] at e
            rw [e, hr.1 y hy] at z
            cases z.2
        rw [z.1, e1, e2]; rfl)
      omega
def zo_rest (s g : Nat → Bool) : Nat → Bool := fun i => s i && !g i
def zo_Ly (r : Nat → Nat → Bool) (s : Nat → Bool) (k : Nat) (g : Nat → Bool) (m : Nat) : Prop :=
  (∀ p, zo_In p s → zo_A r true p → zc p 10 ≤ m + zc (fun i => p i && zo_rest s g i) 10) ∧
  (∀ x, x < 10 → zo_rest s g x = true → ∃ p, zo_In p s ∧ zo_A r true p ∧ p x = true ∧ (∀ y, y < 10 → p y = true → y = x ∨ r y x = true) ∧ zc p 10 = m + 1) ∧
  (∃ p, zo_In p s ∧ zo_A r true p ∧ zc p 10 = m) ∧ zc (zo_rest s g) 10 ≤ 10 - k
theorem zo_Ly0 {r : Nat → Nat → Bool} {s : Nat → Bool} : zo_Ly r s 0 (fun _ => false) 0 := by
  refine ⟨fun p hp _ => ?_, fun x hx sx => ?_, ⟨fun _ => false, fun _ _ z => (by cases z), fun _ _ _ _ _ z => (by cases z), zc_zero (fun _ _ => rfl)⟩, zc_le _ _⟩
  · rw [Nat.zero_add]
    refine zc_mono (fun i hi z => ?_)
    unfold zo_rest
    rw [z, hp i hi z]; rfl
  · have sx' : s x = true := by
      unfold zo_rest at sx
      simpa using sx
    refine ⟨fun i => i == x, fun i hi z => ?_, fun a b ha hb hab pa pb => ?_, by simp, fun y hy z => Or.inl (by simpa using z), ?_⟩
    · rw [beq_iff_eq] at z
      rw [z]; exact sx'
    · rw [beq_iff_eq] at pa pb
      exact absurd (pa.trans pb.symm) hab
    · have := zc_ins (p := fun _ => false) (n := 10) hx rfl
      rw [zc_zero (p := fun _ => false) (fun _ _ => rfl)] at this
      rw [← this]
      exact zc_congr (fun i hi => by simp)
theorem zo_LyE {r : Nat → Nat → Bool} (hr : zo_PO r) {s g : Nat → Bool} {k m : Nat} (h : zo_Ly r s k g m) (e : ∀ i, i < 10 → zo_min r (zo_rest s g) i = false) : zo_Ly r s (k + 1) (fun i => g i || zo_min r (zo_rest s g) i) m := by
  have hz : ∀ x, x < 10 → zo_rest s g x = false := fun x hx => by
    cases q : zo_rest s g x
    · rfl
    · obtain ⟨t, ht, w⟩ := zo_minex hr _ x hx q (Nat.le_refl _)
      rw [e t ht] at w
      cases w
  have hz' : ∀ x, x < 10 → zo_rest s (fun i => g i || zo_min r (zo_rest s g) i) x = false := fun x hx => by
    show (s x && !(g x || zo_min r (zo_rest s g) x)) = false
    rw [e x hx, Bool.or_false]
    exact hz x hx
  refine ⟨fun p hp hA => ?_, fun x hx z => ?_, h.2.2.1, ?_⟩
  · have h1 := h.1 p hp hA
    rw [zc_zero (p := fun i => p i && zo_rest s g i) (fun i hi => by show (p i && zo_rest s g i) = false; rw [hz i hi, Bool.and_false])] at h1
    omega
  · rw [hz' x hx] at z
    cases z
  · rw [zc_zero (fun i hi => hz' i hi)]
    exact Nat.zero_le _
theorem zo_LyS {r : Nat → Nat → Bool} (hr : zo_PO r) {s g : Nat → Bool} {k m : Nat} (h : zo_Ly r s k g m) {t : Nat} (ht : t < 10) (e : zo_min r (zo_rest s g) t = true) : zo_Ly r s (k + 1) (fun i => g i || zo_min r (zo_rest s g) i) (m + 1) := by
  obtain ⟨h1, h2, h3, h4⟩ := h
  have er : ∀ i, zo_rest s (fun i => g i || zo_min r (zo_rest s g) i) i = (zo_rest s g i && !zo_min r (zo_rest s g) i) := fun i => by
    show (s i && !(g i || zo_min r (zo_rest s g) i)) = ((s i && !g i) && !zo_min r (zo_rest s g) i)
    cases s i <;> cases g i <;> cases zo_min r (zo_rest s g) i <;> rfl
  generalize hL : zo_min r (zo_rest s g) = L at er e ⊢
  generalize hR : zo_rest s g = R at er h1 h2 h4 hL
  have hLi : ∀ i, L i = true ↔ R i = true ∧ ∀ j, j < 10 → (r j i && R j) = false := fun i => by rw [← hL]; exact zo_min_iff
  have hRs : ∀ i, R i = true → s i = true := fun i z => by
    rw [← hR] at z
    unfold zo_rest at z
    rw [Bool.and_eq_true] at z
    exact z.1
  refine ⟨fun p hp hA => ?_, fun x hx z => ?_, ?_, ?_⟩
  · have a := h1 p hp hA
    have b := zc_split (fun i => p i && R i) L 10
    have c : zc (fun i => (p i && R i) && L i) 10 ≤ 1 := zc_one (fun x y hx hy px py => by
      rw [Bool.and_eq_true, Bool.and_eq_true] at px py
      apply Classical.byContradiction
      intro ne
      have := hA x y hx hy ne px.1.1 py.1.1
      rw [Bool.or_eq_true] at this
      rcases this with w | w
      · have := ((hLi y).mp py.2).2 x hx
        rw [w, px.1.2] at this
        cases this
      · have := ((hLi x).mp px.2).2 y hy
        rw [w, py.1.2] at this
        cases this)
    have d : zc (fun i => (p i && R i) && !L i) 10 = zc (fun i => p i && zo_rest s (fun i => g i || L i) i) 10 := zc_congr (fun i hi => by
      rw [er i, Bool.and_assoc])
    omega
  · rw [er x, Bool.and_eq_true, Bool.not_eq_true'] at z
    have : ∃ y, y < 10 ∧ (r y x && R y) = true := by
      apply Classical.byContradiction
      intro w
      have : L x = true := (hLi x).mpr ⟨z.1, fun j hj => by
        cases k : (r j x && R j)
        · rfl
        · exact absurd ⟨j, hj, k⟩ w⟩
      rw [this] at z
      cases z.2
    obtain ⟨y, hy, k⟩ := this
    rw [Bool.and_eq_true] at k
    obtain ⟨p, p1, p2, p3, p4, p5⟩ := h2 y hy k.2
    have ryx := k.1
    have below : ∀ i, i < 10 → p i = true → r i x = true := fun i hi pi => by
      rcases p4 i hi pi with w | w
      · rw [w]; exact ryx
      · exact hr.2 i y x hi hy hx w ryx
    have px : p x = false := by
      cases w : p x
      · rfl
      · have := below x hx w
        rw [hr.1 x hx] at this
        cases this
    refine ⟨zo_add p x, fun i hi w => ?_, zo_addA p2 hx (fun i hi _ w => by rw [below i hi w]; rfl), by simp [zo_add], fun i hi w => ?_, ?_⟩
    · unfold zo_add at w
      rw [Bool.or_eq_true, beq_iff_eq] at w
      rcases w with w | w
      · exact p1 i hi w
      · rw [w]; exact hRs x z.1
    · unfold zo_add at w
      rw [Bool.or_eq_true, beq_iff_eq] at w
      rcases w with w | w
      · exact Or.inr (below i hi w)
      · exact Or.inl w
    · unfold zo_add
      rw [zc_ins hx px, p5]
  · obtain ⟨p, p1, p2, p3, p4, p5⟩ := h2 t ht ((hLi t).mp e).1
    exact ⟨p, p1, p2, p5⟩
  · have a := zc_split R L 10
    have b : zc (fun i => R i && L i) 10 = zc (fun j => (R j && L j) && !(j == t)) 10 + 1 := zc_rem (p := fun i => R i && L i) ht (by
      show (R t && L t) = true
      rw [e, ((hLi t).mp e).1]; rfl)
    have c : zc (zo_rest s (fun i => g i || L i)) 10 = zc (fun i => R i && !L i) 10 := zc_congr (fun i hi => er i)
    omega
theorem zo_LyW {r : Nat → Nat → Bool} {s g : Nat → Bool} {m : Nat} (h : zo_Ly r s 10 g m) : zo_W r true s m := by
  obtain ⟨h1, h2, h3, h4⟩ := h
  refine ⟨fun p hp hA => ?_, h3⟩
  have a := h1 p hp hA
  have b : zc (fun i => p i && zo_rest s g i) 10 ≤ zc (zo_rest s g) 10 := zc_mono (fun i hi z => by
    rw [Bool.and_eq_true] at z
    exact z.2)
  omega
end
section
/-! zx_: isThing, firstOnes, longest, heightWith, height, besides -/
theorem zx_isT {post : Int32 → Prop} {t : Nat} (ht : t < 10) (h : post 1) : wpX_isThing post (nI t) := br_f (nI_pos (by omega)) (br_f (nI_nlt (a := 9) (b := t) (by omega) (by omega)) h)
section
variable {r : Nat → Nat → Bool} {s : Nat → Bool} {f : Int32} {aft ahd aN aP arf aq : Nat → Int32}
theorem zx_ext1 {m : Nat → Bool} {i : Nat} (h : m i = false) : zb_S (fun t => decide (t < i + 1) && m t) = zb_S (fun t => decide (t < i) && m t) := zb_congr (fun t ht => by
  by_cases e : t = i
  · subst e; simp [h]
  · have : decide (t < i + 1) = decide (t < i) := decide_eq_decide.mpr (by omega)
    rw [this])
theorem zx_ext2 {m : Nat → Bool} {i : Nat} (h : m i = true) (hi : i < 10) : zb_S (fun t => decide (t < i) && m t) ||| ((1 : Int32) <<< (nI i &&& 31)) = zb_S (fun t => decide (t < i + 1) && m t) := by
  rw [zb_sh i hi, zb_or]
  refine zb_congr (fun t ht => ?_)
  by_cases e : t = i
  · subst e; simp [h]
  · have : decide (t < i + 1) = decide (t < i) := decide_eq_decide.mpr (by omega)
    have e2 : (t == i) = false := by simp [e]
    rw [this, e2, Bool.or_false]
theorem zx_fo4 (hh : ∀ t, t < 10 → ahd t = zb_S (fun j => r j t)) {post : Int32 → Prop} (hp : post (zb_S (zo_min r s))) : ∀ d i, i + d = 10 → wX_firstOnes_4 post (zb_S s) f aft ahd aN aP arf aq (d + 1) (zb_S (fun t => decide (t < i) && zo_min r s t)) (nI i) := by
  intro d
  induction d with
  | zero =>
    intro i hi
    have e : i = 10 := by omega
    subst e
    have e2 : zb_S (fun t => decide (t < 10) && zo_min r s t) = zb_S (zo_min r s) := zb_congr (fun t ht => by rw [decide_eq_true ht, Bool.true_and])
    rw [e2]
    exact br_t zx_10 hp
  | succ d ih =>
    intro i hi
    have hi' : i < 10 := by omega
    have hn : ∀ (_ : zo_min r s i = false), wX_firstOnes_4 post (zb_S s) f aft ahd aN aP arf aq (d + 1) (zb_S (fun t => decide (t < i) && zo_min r s t)) (nI (i + 1)) := fun z => by
      rw [← zx_ext1 z]
      exact ih (i + 1) (by omega)
    have e0 : ahd (nI i).toNatClampNeg &&& zb_S s = zb_S (fun j => r j i && s j) := by rw [zx_cl hi', hh i hi', zb_and]
    refine br_f (zx_nl hi') (zb_br0 (s i) (zb_bit s hi') (fun z => nm_r (nI_1 i) (hn ?_)) (fun z => ⟨zx_in hi', ?_⟩))
    · unfold zo_min
      rw [z]; rfl
    · rw [e0]
      refine br_c (fun w => ?_) (fun w => ?_)
      · have hm : zo_min r s i = true := zo_min_iff.mpr ⟨z, zb_z.mp w⟩
        exact nm_r (zx_ext2 hm hi') (nm_r (nI_1 i) (ih (i + 1) (by omega)))
      · refine nm_r (nI_1 i) (hn ?_)
        cases q : zo_min r s i
        · rfl
        · exact absurd (zb_z.mpr (zo_min_iff.mp q).2) w
theorem zx_fo (hh : ∀ t, t < 10 → ahd t = zb_S (fun j => r j t)) {post : Int32 → Prop} (hp : post (zb_S (zo_min r s))) : wpX_firstOnes post (f, aft, ahd, aN, aP, arf, aq) (zb_S s) := by
  have e : (0 : Int32) = zb_S (fun t => decide (t < 0) && zo_min r s t) := by
    rw [zb_none]
    exact zb_congr (fun t _ => by rw [decide_eq_false (by omega), Bool.false_and])
  refine ⟨11, ?_⟩
  have := zx_fo4 (f := f) (aft := aft) (aN := aN) (aP := aP) (arf := arf) (aq := aq) hh hp 10 0 rfl
  rw [← e] at this
  exact this
theorem zx_long7 (hr : zo_PO r) (hh : ∀ t, t < 10 → ahd t = zb_S (fun j => r j t)) {post : Int32 → Prop} (hp : ∀ m, zo_W r true s m → post (nI m)) : ∀ d k g m, k + d = 10 → zo_Ly r s k g m → wX_longest_7 post (zb_S s) f aft ahd aN aP arf aq (d + 1) (nI m) (zb_S g) (nI k) := by
  intro d
  induction d with
  | zero =>
    intro k g m hk h
    have e : k = 10 := by omega
    subst e
    exact br_t zx_10 (hp m (zo_LyW h))
  | succ d ih =>
    intro k g m hk h
    refine br_f (zx_nl (by omega)) ?_
    rw [zb_andn]
    refine zx_fo (s := zo_rest s g) hh ?_
    refine br_c (fun w => ?_) (fun w => ?_)
    · exact nm_r (zb_or _ _) (nm_r (nI_1 k) (ih (k + 1) _ m (by omega) (zo_LyE hr h (zb_z.mp w))))
    · have : ∃ t, t < 10 ∧ zo_min r (zo_rest s g) t = true := by
        apply Classical.byContradiction
        intro z
        apply w
        refine zb_z.mpr (fun i hi => ?_)
        cases q : zo_min r (zo_rest s g) i
        · rfl
        · exact absurd ⟨i, hi, q⟩ z
      obtain ⟨t, ht, e⟩ := this
      exact nm_r (nI_1 m) (nm_r (zb_or _ _) (nm_r (nI_1 k) (ih (k + 1) _ (m + 1) (by omega) (zo_LyS hr h ht e))))
theorem zx_longest (hr : zo_PO r) (hh : ∀ t, t < 10 → ahd t = zb_S (fun j => r j t)) {post : Int32 → Prop} (hp : ∀ m, zo_W r true s m → post (nI m)) : wpX_longest post (f, aft, ahd, aN, aP, arf, aq) (zb_S s) := by
  refine ⟨11, ?_⟩
  have := zx_long7 (f := f) (aft := aft) (aN := aN) (aP := aP) (arf := arf) (aq := aq) hr hh hp 10 0 (fun _ => false) 0 rfl zo_Ly0
  rw [← zb_none] at this
  exact this
theorem zx_hw (hr : zo_PO r) (ha : ∀ t, t < 10 → aft t = zb_S (r t)) (hh : ∀ t, t < 10 → ahd t = zb_S (fun j => r j t)) {post : Int32 → Prop} {t : Nat} (ht : t < 10) (hp : ∀ h, zo_H r t h → post (nI h)) : wpX_heightWith post (f, aft, ahd, aN, aP, arf, aq) (nI t) := by
  unfold wpX_heightWith
  refine zx_isT ht ?_
  refine br_f (by decide) ⟨zx_in ht, ?_⟩
  rw [zx_cl ht, hh t ht]
  refine zx_longest hr hh (fun w1 h1 => ⟨zx_in ht, ?_⟩)
  rw [ha t ht]
  refine zx_longest hr hh (fun w2 h2 => ?_)
  have e : (nI w1 + 1) + nI w2 = nI (w1 + 1 + w2) := by rw [nI_1, nI_add]
  rw [e]
  exact hp _ (zo_hwith hr ht h1 h2)
theorem zx_Hle {t h : Nat} (k : zo_H r t h) : h ≤ 10 := by
  obtain ⟨p, _, _, e⟩ := k.2
  rw [← e]
  exact zc_le p 10
theorem zx_h4 (hr : zo_PO r) (ha : ∀ t, t < 10 → aft t = zb_S (r t)) (hh : ∀ t, t < 10 → ahd t = zb_S (fun j => r j t)) {post : Int32 → Prop} (hp : ∀ m, zo_Mx r 10 m → post (nI m)) : ∀ d i m, i + d = 10 → m ≤ 10 → zo_Mx r i m → wX_height_4 post f aft ahd aN aP arf aq (d + 1) (nI m) (nI i) := by
  intro d
  induction d with
  | zero =>
    intro i m hi _ h
    have e : i = 10 := by omega
    subst e
    exact br_t zx_10 (hp m h)
  | succ d ih =>
    intro i m hi hm h
    refine br_f (zx_nl (by omega)) (zx_hw hr ha hh (by omega) (fun k hk => ?_))
    have k10 := zx_Hle hk
    have hS := zo_MxS h hk
    refine pk_le k m (fun w => ?_) (fun w => ?_)
    · rw [if_pos w] at hS
      exact nm_r (nI_1 i) (ih (i + 1) m (by omega) hm hS)
    · rw [if_neg (by omega)] at hS
      exact nm_r (nI_1 i) (ih (i + 1) k (by omega) k10 hS)
theorem zx_height (hr : zo_PO r) (ha : ∀ t, t < 10 → aft t = zb_S (r t)) (hh : ∀ t, t < 10 → ahd t = zb_S (fun j => r j t)) {post : Int32 → Prop} (hp : ∀ m, zo_Mx r 10 m → post (nI m)) : wpX_height post (f, aft, ahd, aN, aP, arf, aq) :=
  ⟨11, zx_h4 hr ha hh hp 10 0 0 rfl (by omega) zo_Mx0⟩
theorem zx_bes (ha : ∀ t, t < 10 → aft t = zb_S (r t)) (hh : ∀ t, t < 10 → ahd t = zb_S (fun j => r j t)) {post : Int32 → Prop} {t : Nat} (ht : t < 10) (hp : post (zb_S (zo_bes r t))) : wpX_besides post (f, aft, ahd, aN, aP, arf, aq) (nI t) := by
  refine ⟨zx_in ht, zx_in ht, ?_⟩
  rw [zx_cl ht, ha t ht, hh t ht, zb_sh t ht, zb_or, zb_or, zb_full, zb_andn]
  have e : zb_S (fun i => true && !((r t i || r i t) || i == t)) = zb_S (zo_bes r t) := zb_congr (fun i _ => by rw [Bool.true_and]; rfl)
  rw [e]
  exact hp
end
end
section
/-! zy_: Y's walks: ones, fits, greatest, size, pairs -/
theorem zy_ones4 (post : Int32 → Prop) (p : Nat → Bool) (hp : post (nI (zc p 10))) : ∀ d i, i + d = 10 → wY_ones_4 post (zb_S p) (d + 1) (nI (zc p i)) (nI i) := by
  intro d
  induction d with
  | zero =>
    intro i hi
    have e : i = 10 := by omega
    subst e
    exact br_t zx_10 hp
  | succ d ih =>
    intro i hi
    have e : nI (zc p i) + ((zb_S p >>> (nI i &&& 31)) &&& 1) = nI (zc p (i + 1)) := by
      rw [zb_sbit p (by omega), nI_add]
      rfl
    exact br_f (zx_nl (by omega)) (nm_r e (nm_r (nI_1 i) (ih (i + 1) (by omega))))
theorem zy_ones {post : Int32 → Prop} {p : Nat → Bool} (hp : post (nI (zc p 10))) : wpY_ones post (zb_S p) := ⟨11, zy_ones4 post p hp 10 0 rfl⟩
theorem zy_ix (a b : Nat) : (10 : Int32) * nI a + nI b = nI (10 * a + b) := by
  show nI 10 * nI a + nI b = _
  rw [pk_mul, nI_add]
theorem zy_in {a b : Nat} (ha : a < 10) (hb : b < 10) : vp_in ((10 : Int32) * nI a + nI b) 100 := by
  rw [zy_ix]
  exact vp_in_nI (by omega) (by decide)
theorem zy_cl {a b : Nat} (ha : a < 10) (hb : b < 10) : ((10 : Int32) * nI a + nI b).toNatClampNeg = 10 * a + b := by
  rw [zy_ix]
  exact nI_clamp (by omega)
def zy_F (r : Nat → Nat → Bool) (fst : Nat → Int32) : Prop := ∀ a b, a < 10 → b < 10 → fst (10 * a + b) = nI (r a b).toNat
theorem zy_rd {r : Nat → Nat → Bool} {fst : Nat → Int32} (h : zy_F r fst) {a b : Nat} (ha : a < 10) (hb : b < 10) : fst ((10 : Int32) * nI a + nI b).toNatClampNeg = nI (r a b).toNat := by
  rw [zy_cl ha hb]
  exact h a b ha hb
section
variable {r : Nat → Nat → Bool} {fst : Nat → Int32} {c : Bool} {p : Nat → Bool}
theorem zy_83 {post J2 J11 : Int32 → Prop} {x1 x3 : Int32} {b : Nat} (v : Bool) (h1 : v = c → J11 (nI (b + 1))) (h0 : v ≠ c → post 0) : wY_fits_83 post J2 J11 x1 (nI c.toNat) x3 (nI b) (nI v.toNat) fst := by
  cases v <;> cases c
  · exact br_t rfl (nm_r (nI_1 b) (h1 rfl))
  · exact br_f (by decide) (h0 (by decide))
  · exact br_f (by decide) (h0 (by decide))
  · exact br_t rfl (nm_r (nI_1 b) (h1 rfl))
theorem zy_fits11 (hF : zy_F r fst) {post J2 : Int32 → Prop} {a : Nat} (ha : a < 10) (h0 : ∀ b, b < a → p a = true → p b = true → (r a b || r b a) ≠ c → post 0) (h1 : (∀ b, b < a → p a = true → p b = true → (r a b || r b a) = c) → J2 (nI (a + 1))) : ∀ d b, b + d = a → (∀ b', b' < b → p a = true → p b' = true → (r a b' || r b' a) = c) → wY_fits_11 post J2 (zb_S p) (nI c.toNat) (nI a) fst (d + 1) (nI b) := by
  intro d
  induction d with
  | zero =>
    intro b hb h
    have e : b = a := by omega
    subst e
    exact br_t (nI_le (Nat.le_refl _) (by omega)) (nm_r (nI_1 b) (h1 h))
  | succ d ih =>
    intro b hb h
    have hb' : b < 10 := by omega
    have hn : (p a = true → p b = true → (r a b || r b a) = c) → wY_fits_11 post J2 (zb_S p) (nI c.toNat) (nI a) fst (d + 1) (nI (b + 1)) := fun z => ih (b + 1) (by omega) (fun b' h' pa pb => by
      by_cases e : b' = b
      · subst e; exact z pa pb
      · exact h b' (by omega) pa pb)
    have h40 : (p a = true → p b = true → (r a b || r b a) = c) → wY_fits_40 post J2 (wY_fits_11 post J2 (zb_S p) (nI c.toNat) (nI a) fst (d + 1)) (zb_S p) (nI c.toNat) (nI a) (nI b) fst := fun z => by
      unfold wY_fits_40
      exact br_t rfl (nm_r (nI_1 b) (hn z))
    refine br_f (nI_ge (by omega) (by omega)) (zb_br1 (p a) (zb_sbit p ha) (fun pa => zb_br1 (p b) (zb_sbit p hb') (fun pb => ?_) (fun pb => h40 (fun _ w => by rw [pb] at w; cases w))) (fun pa => h40 (fun w => by rw [pa] at w; cases w)))
    have h83 : ∀ v, v = (r a b || r b a) → wY_fits_83 post J2 (wY_fits_11 post J2 (zb_S p) (nI c.toNat) (nI a) fst (d + 1)) (zb_S p) (nI c.toNat) (nI a) (nI b) (nI (Bool.toNat v)) fst := fun v e => zy_83 v (fun w => hn (fun _ _ => by rw [← e]; exact w)) (fun w => h0 b (by omega) pa pb (by rw [← e]; exact w))
    refine br_f (by decide) ⟨zy_in ha hb', zb_br0 (r a b) (zy_rd hF ha hb') (fun e1 => ⟨zy_in hb' ha, zb_br0 (r b a) (zy_rd hF hb' ha) (fun e2 => ?_) (fun e2 => ?_)⟩) (fun e1 => ?_)⟩
    · exact h83 false (by rw [e1, e2]; rfl)
    · exact h83 true (by rw [e1, e2]; rfl)
    · exact h83 true (by rw [e1]; rfl)
theorem zy_fits2 (hF : zy_F r fst) {post : Int32 → Prop} (h1 : zo_A r c p → post 1) (h0 : ¬ zo_A r c p → post 0) : ∀ d a, a + d = 10 → (∀ a' b, a' < a → b < a' → p a' = true → p b = true → (r a' b || r b a') = c) → wY_fits_2 post (zb_S p) (nI c.toNat) fst (d + 1) (nI a) := by
  intro d
  induction d with
  | zero =>
    intro a ha h
    have e : a = 10 := by omega
    subst e
    refine br_t zx_10 (h1 (fun a b ha hb hab pa pb => ?_))
    by_cases e : b < a
    · exact h a b ha e pa pb
    · rw [Bool.or_comm]
      exact h b a hb (by omega) pb pa
  | succ d ih =>
    intro a ha h
    refine br_f (zx_nl (by omega)) ⟨a + 1, zy_fits11 hF (by omega) (fun b hb pa pb ne => h0 (fun z => ne (z a b (by omega) (by omega) (by omega) pa pb))) (fun z => ih (a + 1) (by omega) (fun a' b ha' hb pa pb => ?_)) a 0 (Nat.zero_add a) (fun b hb => by omega)⟩
    by_cases e : a' = a
    · subst e
      exact z b hb pa pb
    · exact h a' b (by omega) hb pa pb
theorem zy_fits (hF : zy_F r fst) {post : Int32 → Prop} (h1 : zo_A r c p → post 1) (h0 : ¬ zo_A r c p → post 0) : wpY_fits post fst (zb_S p) (nI c.toNat) := ⟨11, zy_fits2 hF h1 h0 10 0 rfl (fun a b ha => by omega)⟩
/-- the best set among those below n -/
def zy_B (r : Nat → Nat → Bool) (c : Bool) (inn out : Nat → Bool) (n : Nat) (x : Int32) : Prop :=
  (x = -1 ∧ ∀ s, s < n → ¬ zo_Q r c inn out s.testBit) ∨ (∃ b, b < n ∧ x = nI b ∧ zo_Q r c inn out b.testBit ∧ (∀ s, s < n → zo_Q r c inn out s.testBit → zc s.testBit 10 ≤ zc b.testBit 10) ∧ (∀ s, s < b → zo_Q r c inn out s.testBit → zc s.testBit 10 < zc b.testBit 10))
theorem zy_Bno {inn out : Nat → Bool} {n : Nat} {x : Int32} (h : zy_B r c inn out n x) (hq : ¬ zo_Q r c inn out n.testBit) : zy_B r c inn out (n + 1) x := by
  rcases h with ⟨e, h⟩ | ⟨b, hb, e, h1, h2, h3⟩
  · refine Or.inl ⟨e, fun s hs => ?_⟩
    by_cases z : s = n
    · rw [z]; exact hq
    · exact h s (by omega)
  · refine Or.inr ⟨b, by omega, e, h1, fun s hs q => ?_, h3⟩
    by_cases z : s = n
    · rw [z] at q; exact absurd q hq
    · exact h2 s (by omega) q
theorem zy_gr6 (hF : zy_F r fst) {inn out : Nat → Bool} {post : Int32 → Prop} (hp : ∀ x, zy_B r c inn out 1024 x → post x) : ∀ d n x, n + d = 1024 → zy_B r c inn out n x → wY_greatest_6 post (zb_S inn) (zb_S out) (nI c.toNat) fst (d + 1) x (nI n) := by
  intro d
  induction d with
  | zero =>
    intro n x hn h
    have e : n = 1024 := by omega
    subst e
    exact br_t (nI_le (a := 1024) (b := 1024) (by omega) (by omega)) (hp x h)
  | succ d ih =>
    intro n x hn h
    have hn' : n < 1024 := by omega
    have hno : ¬ zo_Q r c inn out n.testBit → wY_greatest_6 post (zb_S inn) (zb_S out) (nI c.toNat) fst (d + 1) x (nI (n + 1)) := fun z => ih (n + 1) x (by omega) (zy_Bno h z)
    have h33 : ¬ zo_Q r c inn out n.testBit → wY_greatest_33 post (wY_greatest_6 post (zb_S inn) (zb_S out) (nI c.toNat) fst (d + 1)) (zb_S inn) (zb_S out) (nI c.toNat) x (nI n) fst := fun z => by
      unfold wY_greatest_33
      exact br_t rfl (nm_r (nI_1 n) (hno z))
    have e1 : nI n &&& zb_S inn = zb_S inn ↔ zo_In inn n.testBit := by
      rw [zb_nat hn', zb_and]
      constructor
      · intro z i hi w
        have := zb_inj z i hi
        rw [w, Bool.and_true] at this
        exact this
      · intro z
        refine zb_congr (fun i hi => ?_)
        cases w : inn i
        · rw [Bool.and_false]
        · rw [z i hi w]; rfl
    have e2 : nI n &&& zb_S out = 0 ↔ ∀ i, i < 10 → out i = true → n.testBit i = false := by
      rw [zb_nat hn', zb_and, zb_z]
      constructor
      · intro z i hi w
        have := z i hi
        rw [w, Bool.and_true] at this
        exact this
      · intro z i hi
        cases w : out i
        · rw [Bool.and_false]
        · rw [z i hi w]; rfl
    refine br_f (nI_ge (b := 1024) hn' (by decide)) (br_c (fun w1 => br_c (fun w2 => ?_) (fun w2 => h33 (fun q => w2 (e2.mpr q.2.1)))) (fun w1 => h33 (fun q => w1 (e1.mpr q.1))))
    refine br_f (by decide) ?_
    have en : nI n = zb_S n.testBit := zb_nat hn'
    have hfit : ∀ {post : Int32 → Prop}, (zo_A r c n.testBit → post 1) → (¬ zo_A r c n.testBit → post 0) → wpY_fits post fst (nI n) (nI c.toNat) := fun a b => by
      rw [en]
      exact zy_fits hF a b
    refine hfit (fun hA => br_f (by decide) ?_) (fun hA => br_t rfl (nm_r (nI_1 n) (hno (fun q => hA q.2.2))))
    have hq : zo_Q r c inn out n.testBit := ⟨e1.mp w1, e2.mp w2, hA⟩
    rcases h with ⟨e, h⟩ | ⟨b, hb, e, h1, h2, h3⟩
    · refine br_t (by rw [e]; decide) (nm_r (nI_1 n) (ih (n + 1) _ (by omega) (Or.inr ⟨n, by omega, rfl, hq, fun s hs q => ?_, fun s hs q => absurd q (h s hs)⟩)))
      by_cases z : s = n
      · rw [z]; exact Nat.le_refl _
      · exact absurd q (h s (by omega))
    · subst e
      refine br_f (nI_pos (by omega)) ?_
      have o1 : ∀ {post : Int32 → Prop}, post (nI (zc n.testBit 10)) → wpY_ones post (nI n) := fun a => by rw [en]; exact zy_ones a
      have o2 : ∀ {post : Int32 → Prop}, post (nI (zc b.testBit 10)) → wpY_ones post (nI b) := fun a => by rw [zb_nat (m := b) (by omega)]; exact zy_ones a
      have b1 := zc_le n.testBit 10
      have b2 := zc_le b.testBit 10
      refine o1 (o2 (pk_le (zc n.testBit 10) (zc b.testBit 10) (fun w => nm_r (nI_1 n) (ih (n + 1) _ (by omega) (Or.inr ⟨b, by omega, rfl, h1, fun s hs q => ?_, h3⟩))) (fun w => nm_r (nI_1 n) (ih (n + 1) _ (by omega) (Or.inr ⟨n, by omega, rfl, hq, fun s hs q => ?_, fun s hs q => ?_⟩)))))
      · by_cases z : s = n
        · rw [z]; exact w
        · exact h2 s (by omega) q
      · by_cases z : s = n
        · rw [z]; exact Nat.le_refl _
        · have := h2 s (by omega) q
          omega
      · have := h2 s (by omega) q
        omega
theorem zy_greatest (hF : zy_F r fst) {inn out : Nat → Bool} (hx : ∃ p, zo_Q r c inn out p) {post : Int32 → Prop} (hp : ∀ b, zo_G r c inn out b → post (nI b)) : wpY_greatest post fst (zb_S inn) (zb_S out) (nI c.toNat) := by
  refine ⟨1025, zy_gr6 hF (fun x h => ?_) 1024 0 (-1) rfl (Or.inl ⟨rfl, fun s hs => by omega⟩)⟩
  rcases h with ⟨e, h⟩ | ⟨b, hb, e, h1, h2, h3⟩
  · obtain ⟨p, hq⟩ := hx
    exact absurd (zo_Qcongr hq (fun i hi => (zb_tb10 p hi).symm)) (h _ (zb_lt p))
  · rw [e]
    exact hp b ⟨hb, h1, h2, h3⟩
theorem zy_size (hF : zy_F r fst) {inn out : Nat → Bool} (hx : ∃ p, zo_Q r c inn out p) {post : Int32 → Prop} (hp : ∀ b, zo_G r c inn out b → post (nI (zc b.testBit 10))) : wpY_size post fst (zb_S inn) (zb_S out) (nI c.toNat) := by
  refine zy_greatest hF hx (fun b hb => ?_)
  have h := hb.1
  refine br_t (nI_pos' (by omega)) ?_
  rw [zb_nat h]
  exact zy_ones (hp b hb)
theorem zy_pairs4 (g : Nat → Bool) (hg : ∀ i, i < 100 → fst i = nI (g i).toNat) {post : Int32 → Prop} (hp : post (nI (zc g 100))) : ∀ d i, i + d = 100 → wY_pairs_4 post fst (d + 1) (nI (zc g i)) (nI i) := by
  intro d
  induction d with
  | zero =>
    intro i hi
    have e : i = 100 := by omega
    subst e
    exact br_t (nI_le (a := 100) (b := 100) (by omega) (by omega)) hp
  | succ d ih =>
    intro i hi
    have hi' : i < 100 := by omega
    have hs : zc g (i + 1) = zc g i + (g i).toNat := rfl
    refine br_f (nI_ge (b := 100) hi' (by decide)) ⟨vp_in_nI hi' (by decide), zb_br0 (g i) ?_ (fun z => ?_) (fun z => ?_)⟩
    · rw [nI_clamp (by omega)]
      exact hg i hi'
    · have := ih (i + 1) (by omega)
      rw [hs, z] at this
      exact nm_r (nI_1 i) this
    · have := ih (i + 1) (by omega)
      rw [hs, z] at this
      exact nm_r (nI_1 (zc g i)) (nm_r (nI_1 i) this)
theorem zy_pairs (hF : zy_F r fst) {post : Int32 → Prop} (hp : post (nI (zc_sum (fun t => zc (r t) 10) 10))) : wpY_pairs post fst := by
  have e := zc_grid r (fun i => r (i / 10) (i % 10)) (fun a b ha hb => by
    show r ((10 * a + b) / 10) ((10 * a + b) % 10) = r a b
    rw [show (10 * a + b) / 10 = a from by omega, show (10 * a + b) % 10 = b from by omega]) 10 (Nat.le_refl _)
  refine ⟨101, zy_pairs4 (fun i => r (i / 10) (i % 10)) (fun i hi => ?_) (by rw [show (100 : Nat) = 10 * 10 from rfl, e]; exact hp) 100 0 rfl⟩
  have := hF (i / 10) (i % 10) (by omega) (by omega)
  rw [show 10 * (i / 10) + i % 10 = i from by omega] at this
  exact this
end
end
section
/-! the greedy choice from the greatest number down finds the greatest spread with the least number -/
theorem zy_Bex {r : Nat → Nat → Bool} {c : Bool} {inn out : Nat → Bool} : ∀ n, ∃ x, zy_B r c inn out n x := by
  intro n
  induction n with
  | zero => exact ⟨-1, Or.inl ⟨rfl, fun s hs => by omega⟩⟩
  | succ n ih =>
    obtain ⟨x, h⟩ := ih
    by_cases hq : zo_Q r c inn out n.testBit
    · rcases h with ⟨e, h⟩ | ⟨b, hb, e, h1, h2, h3⟩
      · refine ⟨nI n, Or.inr ⟨n, by omega, rfl, hq, fun s hs q => ?_, fun s hs q => absurd q (h s hs)⟩⟩
        by_cases z : s = n
        · rw [z]; exact Nat.le_refl _
        · exact absurd q (h s (by omega))
      · by_cases w : zc n.testBit 10 ≤ zc b.testBit 10
        · refine ⟨nI b, Or.inr ⟨b, by omega, rfl, h1, fun s hs q => ?_, h3⟩⟩
          by_cases z : s = n
          · rw [z]; exact w
          · exact h2 s (by omega) q
        · refine ⟨nI n, Or.inr ⟨n, by omega, rfl, hq, fun s hs q => ?_, fun s hs q => ?_⟩⟩
          · by_cases z : s = n
            · rw [z]; exact Nat.le_refl _
            · have := h2 s (by omega) q
              omega
          · have := h2 s (by omega) q
            omega
    · exact ⟨x, zy_Bno h hq⟩
theorem zy_Gex {r : Nat → Nat → Bool} {c : Bool} {inn out : Nat → Bool} (hx : ∃ p, zo_Q r c inn out p) : ∃ b, zo_G r c inn out b := by
  obtain ⟨x, h⟩ := zy_Bex (r := r) (c := c) (inn := inn) (out := out) 1024
  rcases h with ⟨e, h⟩ | ⟨b, hb, e, h1, h2, h3⟩
  · obtain ⟨p, hq⟩ := hx
    exact absurd (zo_Qcongr hq (fun i hi => (zb_tb10 p hi).symm)) (h _ (zb_lt p))
  · exact ⟨b, hb, h1, h2, h3⟩
def zo_T (b i : Nat) : Nat → Bool := fun x => decide (i ≤ x) && b.testBit x
def zo_L (b i : Nat) : Nat → Bool := fun x => decide (x < i) && b.testBit x
theorem zo_T0 {b t : Nat} (h : b.testBit t = false) : zo_T b t = zo_T b (t + 1) := by
  funext x
  unfold zo_T
  by_cases e : x = t
  · rw [e, h, Bool.and_false, Bool.and_false]
  · have : decide (t ≤ x) = decide (t + 1 ≤ x) := decide_eq_decide.mpr (by omega)
    rw [this]
theorem zo_T1 {b t : Nat} (h : b.testBit t = true) : zo_T b t = zo_add (zo_T b (t + 1)) t := by
  funext x
  unfold zo_T zo_add
  by_cases e : x = t
  · rw [e, h]; simp
  · have : decide (t ≤ x) = decide (t + 1 ≤ x) := decide_eq_decide.mpr (by omega)
    have e2 : (x == t) = false := by simp [e]
    rw [this, e2, Bool.or_false]
theorem zo_TL (b i : Nat) : zc b.testBit 10 = zc (zo_L b i) 10 + zc (zo_T b i) 10 := by
  rw [zc_split b.testBit (fun x => decide (x < i))]
  congr 1
  · exact zc_congr (fun x _ => by unfold zo_L; rw [Bool.and_comm])
  · refine zc_congr (fun x _ => ?_)
    unfold zo_T
    rw [Bool.and_comm]
    congr 1
    by_cases e : x < i
    · rw [decide_eq_true e, decide_eq_false (by omega)]; rfl
    · rw [decide_eq_false e, decide_eq_true (by omega)]; rfl
def zo_Ch (r : Nat → Nat → Bool) (b i : Nat) (left : Nat → Bool) (due : Nat) : Prop :=
  (∀ t, i ≤ t → t < 10 → left t = false) ∧ zo_W r false left due ∧
  (∀ p, zo_In p left → zo_A r false p → zo_A r false (fun x => p x || zo_T b i x)) ∧
  due + zc (zo_T b i) 10 = zc b.testBit 10 ∧ (∀ t, t < 10 → t < i → b.testBit t = true → left t = true)
section
variable {r : Nat → Nat → Bool} {b : Nat} {inn out : Nat → Bool}
theorem zo_Ch0 (hi : ∀ i, i < 10 → inn i = false) (ho : ∀ i, i < 10 → out i = false) (g : zo_G r false inn out b) {w : Nat} (hw : zo_W r false (fun _ => true) w) : zo_Ch r b 10 (fun _ => true) w := by
  have hT : ∀ x, x < 10 → zo_T b 10 x = false := fun x hx => by unfold zo_T; rw [decide_eq_false (by omega), Bool.false_and]
  refine ⟨fun t h1 h2 => by omega, hw, fun p _ hA => zo_Acongr hA (fun i hi => by rw [hT i hi, Bool.or_false]), ?_, fun _ _ _ _ => rfl⟩
  rw [zc_zero hT, zo_GW g hi (fun i hi => by rw [ho i hi]; rfl) hw]
  rfl
theorem zo_ChSkip {t due : Nat} {left : Nat → Bool} (ht : t < 10) (h : zo_Ch r b (t + 1) left due) (hl : left t = false) : b.testBit t = false ∧ zo_Ch r b t left due := by
  obtain ⟨h1, h2, h3, h4, h5⟩ := h
  have hb : b.testBit t = false := by
    cases e : b.testBit t
    · rfl
    · have := h5 t ht (by omega) e
      rw [hl] at this
      cases this
  refine ⟨hb, fun x hx hx' => ?_, h2, ?_, ?_, fun x hx hx' => h5 x hx (by omega)⟩
  · by_cases e : x = t
    · rw [e]; exact hl
    · exact h1 x (by omega) hx'
  · rw [zo_T0 hb]; exact h3
  · rw [zo_T0 hb]; exact h4
theorem zo_ChOut (hi : ∀ i, i < 10 → inn i = false) (ho : ∀ i, i < 10 → out i = false) (g : zo_G r false inn out b) {t due : Nat} {left : Nat → Bool} (ht : t < 10) (h : zo_Ch r b (t + 1) left due) (hw : zo_W r false (fun i => left i && !(i == t)) due) : b.testBit t = false ∧ zo_Ch r b t (fun i => left i && !(i == t)) due := by
  obtain ⟨h1, h2, h3, h4, h5⟩ := h
  have hb : b.testBit t = false := by
    cases e : b.testBit t
    · rfl
    · exfalso
      obtain ⟨_, p, p1, p2, p3⟩ := hw
      have p1' : ∀ x, x < 10 → p x = true → left x = true ∧ x ≠ t := fun x hx z => by
        have := p1 x hx z
        rw [Bool.and_eq_true, Bool.not_eq_true', beq_eq_false_iff_ne] at this
        exact this
      have hA := h3 p (fun x hx z => (p1' x hx z).1) p2
      have ph : ∀ x, x < 10 → t + 1 ≤ x → p x = false := fun x hx z => by
        cases q : p x
        · rfl
        · have := (p1' x hx q).1
          rw [h1 x z hx] at this
          cases this
      have pt : p t = false := by
        cases q : p t
        · rfl
        · exact absurd rfl (p1' t ht q).2
      have hc : zc (fun x => p x || zo_T b (t + 1) x) 10 = zc b.testBit 10 := by
        rw [← h4, ← p3, zc_split (fun x => p x || zo_T b (t + 1) x) p]
        congr 1
        · exact zc_congr (fun x _ => by cases p x <;> cases zo_T b (t + 1) x <;> rfl)
        · refine zc_congr (fun x hx => ?_)
          cases q : p x
          · simp
          · have : zo_T b (t + 1) x = false := by
              unfold zo_T
              by_cases w : t + 1 ≤ x
              · rw [ph x hx w] at q; cases q
              · rw [decide_eq_false w, Bool.false_and]
            rw [this]; rfl
      have hlt : zb_mk (fun x => p x || zo_T b (t + 1) x) 10 < b := by
        refine zo_lt (t := t) ?_ e (fun j hj => ?_)
        · rw [zb_tb10 _ ht, pt]
          unfold zo_T
          rw [decide_eq_false (by omega)]; rfl
        · by_cases j10 : j < 10
          · rw [zb_tb10 _ j10, ph j j10 (by omega)]
            unfold zo_T
            rw [decide_eq_true (by omega), Bool.true_and, Bool.false_or]
          · have k : 2 ^ 10 ≤ 2 ^ j := Nat.pow_le_pow_right (by decide) (by omega)
            rw [Nat.testBit_lt_two_pow (Nat.lt_of_lt_of_le (zb_lt _) k), Nat.testBit_lt_two_pow (Nat.lt_of_lt_of_le g.1 k)]
      have hq : zo_Q r false inn out (fun x => p x || zo_T b (t + 1) x) := ⟨fun i h' z => (by rw [hi i h'] at z; cases z), fun i h' z => (by rw [ho i h'] at z; cases z), hA⟩
      have := g.2.2.2 _ hlt (zo_Qcongr hq (fun i hi => (zb_tb10 (fun x => p x || zo_T b (t + 1) x) hi).symm))
      rw [zc_congr (fun i hi => zb_tb10 (fun x => p x || zo_T b (t + 1) x) hi), hc] at this
      omega
  refine ⟨hb, fun x hx hx' => ?_, hw, ?_, ?_, fun x hx hx' hbx => ?_⟩
  · by_cases e : x = t
    · rw [e]; simp
    · dsimp only; rw [h1 x (by omega) hx']; rfl
  · rw [zo_T0 hb]
    refine fun p hp => h3 p (fun x hx z => ?_)
    have := hp x hx z
    rw [Bool.and_eq_true] at this
    exact this.1
  · rw [zo_T0 hb]; exact h4
  · have e : (x == t) = false := by simp; omega
    dsimp only; rw [h5 x hx (by omega) hbx, e]; rfl
theorem zo_ChIn (g : zo_G r false inn out b) {t due w : Nat} {left : Nat → Bool} (ht : t < 10) (h : zo_Ch r b (t + 1) left due) (hl : left t = true) (hw : zo_W r false (fun i => left i && !(i == t)) w) (ne : w ≠ due) : b.testBit t = true ∧ ∃ d, due = d + 1 ∧ zo_Ch r b t (fun i => (left i && !(i == t)) && zo_bes r t i) d := by
  obtain ⟨h1, h2, h3, h4, h5⟩ := h
  have hbA := g.2.1.2.2
  have hL := zo_TL b (t + 1)
  have hLA : ∀ i, zo_A r false (zo_L b i) := fun i => zo_Asub hbA (fun x _ z => by
    unfold zo_L at z
    rw [Bool.and_eq_true] at z
    exact z.2)
  have hb : b.testBit t = true := by
    cases e : b.testBit t
    · exfalso
      have a : zc (zo_L b (t + 1)) 10 ≤ w := hw.1 _ (fun x hx z => by
        unfold zo_L at z
        rw [Bool.and_eq_true, decide_eq_true_iff] at z
        have ne : x ≠ t := fun q => by rw [q, e] at z; cases z.2
        have e2 : (x == t) = false := by simp [ne]
        dsimp only; rw [h5 x hx z.1 z.2, e2]; rfl) (hLA _)
      obtain ⟨p, p1, p2, p3⟩ := hw.2
      have c := h2.1 p (fun x hx z => by
        have := p1 x hx z
        rw [Bool.and_eq_true] at this
        exact this.1) p2
      omega
    · rfl
  have hLt := zo_TL b t
  have hTt : zc (zo_T b t) 10 = zc (zo_T b (t + 1)) 10 + 1 := by
    rw [zo_T1 hb]
    unfold zo_add
    refine zc_ins ht ?_
    unfold zo_T
    rw [decide_eq_false (by omega), Bool.false_and]
  have hsub : ∀ p, zo_In p (fun i => (left i && !(i == t)) && zo_bes r t i) → zo_A r false p → zo_In (zo_add p t) left ∧ zo_A r false (zo_add p t) ∧ p t = false := fun p hp hA => by
    have hp' : ∀ x, x < 10 → p x = true → left x = true ∧ (x == t) = false ∧ zo_bes r t x = true := fun x hx z => by
      have := hp x hx z
      rw [Bool.and_eq_true, Bool.and_eq_true, Bool.not_eq_true'] at this
      exact ⟨this.1.1, this.1.2, this.2⟩
    refine ⟨fun x hx z => ?_, zo_addA hA ht (fun x hx _ z => ?_), ?_⟩
    · unfold zo_add at z
      rw [Bool.or_eq_true, beq_iff_eq] at z
      rcases z with z | z
      · exact (hp' x hx z).1
      · rw [z]; exact hl
    · have := (hp' x hx z).2.2
      unfold zo_bes at this
      cases e1 : r x t <;> cases e2 : r t x <;> simp [e1, e2] at this ⊢
    · cases e : p t
      · rfl
      · have := (hp' t ht e).2.1
        simp at this
  refine ⟨hb, zc (zo_L b t) 10, by omega, fun x hx hx' => ?_, ⟨fun p hp hA => ?_, zo_L b t, fun x hx z => ?_, hLA _, rfl⟩, fun p hp hA => ?_, by omega, fun x hx hx' hbx => ?_⟩
  · by_cases e : x = t
    · rw [e]; simp
    · dsimp only; rw [h1 x (by omega) hx']; rfl
  · obtain ⟨a1, a2, a3⟩ := hsub p hp hA
    have a4 := h2.1 _ a1 a2
    unfold zo_add at a4
    rw [zc_ins ht a3] at a4
    omega
  · unfold zo_L at z
    rw [Bool.and_eq_true, decide_eq_true_iff] at z
    have ne : x ≠ t := by omega
    have e2 : (x == t) = false := by simp [ne]
    have := hbA t x ht hx (fun q => ne q.symm) hb z.2
    unfold zo_bes
    dsimp only; rw [h5 x hx (by omega) z.2, e2, this]; rfl
  · obtain ⟨a1, a2, a3⟩ := hsub p hp hA
    refine zo_Acongr (h3 _ a1 a2) (fun x hx => ?_)
    rw [zo_T1 hb]
    unfold zo_add
    cases p x <;> cases zo_T b (t + 1) x <;> cases (x == t) <;> rfl
  · have ne : x ≠ t := by omega
    have e2 : (x == t) = false := by simp [ne]
    have := hbA t x ht hx (fun q => ne q.symm) hb hbx
    unfold zo_bes
    dsimp only; rw [h5 x hx (by omega) hbx, e2, this]; rfl
theorem zo_Wle {s : Nat → Bool} {c : Bool} {w : Nat} (h : zo_W r c s w) : w ≤ 10 := by
  obtain ⟨p, _, _, e⟩ := h.2
  rw [← e]
  exact zc_le p 10
variable {aft ahd : Nat → Int32}
theorem zx_ch23 (hr : zo_PO r) (ha : ∀ t, t < 10 → aft t = zb_S (r t)) (hh : ∀ t, t < 10 → ahd t = zb_S (fun j => r j t)) (hi : ∀ i, i < 10 → inn i = false) (ho : ∀ i, i < 10 → out i = false) (g : zo_G r false inn out b) {th : Nat} {post : Int32 → SX → Prop} (hp : ∀ f aN aP arf aq, post (nI (b.testBit th).toNat) (f, aft, ahd, aN, aP, arf, aq)) : ∀ d left due f aN aP arf aq, th + d ≤ 10 → (d = 0 → b.testBit th = false) → zo_Ch r b (th + d) left due → wX_chosen_23 post (nI th) (d + 1) (zb_S left) (nI due) (nI (th + d) + (-1)) f aft ahd aN aP arf aq := by
  intro d
  induction d with
  | zero =>
    intro left due f aN aP arf aq hd h0 h
    have e : nI (th + 0) + (-1) < nI th := by
      cases th with
      | zero => decide
      | succ n =>
        rw [Nat.add_zero, pk_m1]
        exact nI_lt (by omega) (by omega)
    have := hp f aN aP arf aq
    rw [h0 rfl] at this
    exact br_t e this
  | succ d ih =>
    intro left due f aN aP arf aq hd h0 h
    rw [show th + (d + 1) = (th + d) + 1 from rfl, pk_m1]
    have ht : th + d < 10 := by omega
    refine br_f (nI_nlt (by omega) (by omega)) (zb_br0 (left (th + d)) (zb_bit left ht) (fun z => ?_) (fun z => ?_))
    · obtain ⟨c1, c2⟩ := zo_ChSkip ht h z
      exact nm_e (ih left due _ _ _ _ _ (by omega) (fun e => by subst e; exact c1) c2)
    · rw [zb_sh _ ht, zb_andn]
      refine nm_e (zx_widthOf hr ha (fun w hw f aN aP arf aq => ?_))
      have w10 := zo_Wle hw
      have d10 := zo_Wle h.2.1
      refine pk_eq w due (fun e => ?_) (fun e => ?_)
      · rw [e] at hw
        obtain ⟨c1, c2⟩ := zo_ChOut hi ho g ht h hw
        exact nm_e (ih _ due _ _ _ _ _ (by omega) (fun e => by subst e; exact c1) c2)
      · obtain ⟨c1, d', c2, c3⟩ := zo_ChIn g ht h z hw e
        refine pk_eq (th + d) th (fun e => ?_) (fun e => ?_)
        · have := hp f aN aP arf aq
          rw [← e, c1] at this
          exact this
        · refine zx_bes ha hh ht ?_
          subst c2
          exact nm_r (zb_and _ _) (nm_r (pk_m1 d') (nm_e (ih _ d' _ _ _ _ _ (by omega) (fun e' => absurd (by omega) e) c3)))
theorem zx_chosen (hr : zo_PO r) (ha : ∀ t, t < 10 → aft t = zb_S (r t)) (hh : ∀ t, t < 10 → ahd t = zb_S (fun j => r j t)) (hi : ∀ i, i < 10 → inn i = false) (ho : ∀ i, i < 10 → out i = false) (g : zo_G r false inn out b) {th : Nat} (ht : th < 10) {f : Int32} {aN aP arf aq : Nat → Int32} {post : Int32 → SX → Prop} (hp : ∀ f aN aP arf aq, post (nI (b.testBit th).toNat) (f, aft, ahd, aN, aP, arf, aq)) : wpX_chosen post (f, aft, ahd, aN, aP, arf, aq) (nI th) := by
  unfold wpX_chosen
  refine zx_isT ht (br_f (by decide) ?_)
  rw [zb_full]
  refine zx_widthOf hr ha (fun w hw f aN aP arf aq => ?_)
  refine ⟨10 - th + 1, ?_⟩
  have := zx_ch23 hr ha hh hi ho g hp (10 - th) (fun _ => true) w f aN aP arf aq (by omega) (fun e => by omega) (by rw [show th + (10 - th) = 10 from by omega]; exact zo_Ch0 hi ho g hw)
  rw [show th + (10 - th) = 10 from by omega, show nI 10 + (-1) = (9 : Int32) from by decide] at this
  exact this
end
end
section
/-! put and release on both sides -/
def zo_lo (r : Nat → Nat → Bool) (a : Nat) : Nat → Bool := fun x => r x a || x == a
def zo_up (r : Nat → Nat → Bool) (b : Nat) : Nat → Bool := fun y => r b y || y == b
def zo_put (r : Nat → Nat → Bool) (a b : Nat) : Nat → Nat → Bool := fun x y => r x y || (zo_lo r a x && zo_up r b y)
def zo_rel (r : Nat → Nat → Bool) (th : Nat) : Nat → Nat → Bool := fun x y => (r x y && !(y == th)) && !(x == th)
theorem zo_lo_iff {r : Nat → Nat → Bool} {a x : Nat} : zo_lo r a x = true ↔ r x a = true ∨ x = a := by unfold zo_lo; rw [Bool.or_eq_true, beq_iff_eq]
theorem zo_up_iff {r : Nat → Nat → Bool} {b y : Nat} : zo_up r b y = true ↔ r b y = true ∨ y = b := by unfold zo_up; rw [Bool.or_eq_true, beq_iff_eq]
theorem zo_put_iff {r : Nat → Nat → Bool} {a b x y : Nat} : zo_put r a b x y = true ↔ r x y = true ∨ (zo_lo r a x = true ∧ zo_up r b y = true) := by unfold zo_put; rw [Bool.or_eq_true, Bool.and_eq_true]
theorem zo_lu {r : Nat → Nat → Bool} (hr : zo_PO r) {a b x : Nat} (ha : a < 10) (hb : b < 10) (hx : x < 10) (ne : a ≠ b) (hn : r b a = false) (h1 : zo_lo r a x = true) (h2 : zo_up r b x = true) : False := by
  rcases zo_lo_iff.mp h1 with h1 | h1 <;> rcases zo_up_iff.mp h2 with h2 | h2
  · have := hr.2 b x a hb hx ha h2 h1
    rw [hn] at this; cases this
  · rw [h2, hn] at h1; cases h1
  · rw [h1, hn] at h2; cases h2
  · exact ne (h1.symm.trans h2)
theorem zo_putPO {r : Nat → Nat → Bool} (hr : zo_PO r) {a b : Nat} (ha : a < 10) (hb : b < 10) (ne : a ≠ b) (hn : r b a = false) : zo_PO (zo_put r a b) := by
  constructor
  · intro x hx
    cases e : zo_put r a b x x
    · rfl
    · rcases zo_put_iff.mp e with h | h
      · rw [hr.1 x hx] at h; cases h
      · exact (zo_lu hr ha hb hx ne hn h.1 h.2).elim
  · intro x y z hx hy hz h1 h2
    rcases zo_put_iff.mp h1 with h1 | h1 <;> rcases zo_put_iff.mp h2 with h2 | h2
    · exact zo_put_iff.mpr (Or.inl (hr.2 x y z hx hy hz h1 h2))
    · refine zo_put_iff.mpr (Or.inr ⟨zo_lo_iff.mpr (Or.inl ?_), h2.2⟩)
      rcases zo_lo_iff.mp h2.1 with w | w
      · exact hr.2 x y a hx hy ha h1 w
      · rw [← w]; exact h1
    · refine zo_put_iff.mpr (Or.inr ⟨h1.1, zo_up_iff.mpr (Or.inl ?_)⟩)
      rcases zo_up_iff.mp h1.2 with w | w
      · exact hr.2 b y z hb hy hz w h2
      · rw [← w]; exact h2
    · exact (zo_lu hr ha hb hy ne hn h2.1 h1.2).elim
theorem zo_relPO {r : Nat → Nat → Bool} (hr : zo_PO r) (th : Nat) : zo_PO (zo_rel r th) := by
  constructor
  · intro x hx
    unfold zo_rel
    rw [hr.1 x hx]; rfl
  · intro x y z hx hy hz h1 h2
    unfold zo_rel at *
    rw [Bool.and_eq_true, Bool.and_eq_true] at h1 h2 ⊢
    exact ⟨⟨hr.2 x y z hx hy hz h1.1.1 h2.1.1, h2.1.2⟩, h1.2⟩
/-- an array of sets, done below i -/
def zx_st (g g' : Nat → Nat → Bool) (i : Nat) (a : Nat → Int32) : Prop := ∀ t, t < 10 → (t < i → a t = zb_S (g' t)) ∧ (i ≤ t → a t = zb_S (g t))
theorem zx_st0 {g g' : Nat → Nat → Bool} {a : Nat → Int32} (h : ∀ t, t < 10 → a t = zb_S (g t)) : zx_st g g' 0 a := fun t ht => ⟨fun z => by omega, fun _ => h t ht⟩
theorem zx_stE {g g' : Nat → Nat → Bool} {a : Nat → Int32} (h : zx_st g g' 10 a) : ∀ t, t < 10 → a t = zb_S (g' t) := fun t ht => (h t ht).1 ht
theorem zx_stS {g g' : Nat → Nat → Bool} {i : Nat} {a : Nat → Int32} (h : zx_st g g' i a) {v : Int32} (e : v = zb_S (g' i)) : zx_st g g' (i + 1) (upd a i v) := by
  intro t ht
  by_cases z : t = i
  · rw [z, pk_us]
    exact ⟨fun _ => e, fun w => by omega⟩
  · rw [pk_un z]
    exact ⟨fun w => (h t ht).1 (by omega), fun w => (h t ht).2 (by omega)⟩
theorem zx_stK {g g' : Nat → Nat → Bool} {i : Nat} {a : Nat → Int32} (h : zx_st g g' i a) (e : zb_S (g i) = zb_S (g' i)) : zx_st g g' (i + 1) a := by
  intro t ht
  refine ⟨fun w => ?_, fun w => (h t ht).2 (by omega)⟩
  by_cases z : t = i
  · rw [z, ← e]
    rw [z] at ht
    exact (h i ht).2 (Nat.le_refl _)
  · exact (h t ht).1 (by omega)
section
variable {r : Nat → Nat → Bool} {f : Int32} {aN aP arf aq : Nat → Int32} {a b : Nat}
theorem zx_put60 {post : Int32 → SX → Prop} (hp : ∀ aft ahd, (∀ t, t < 10 → aft t = zb_S (zo_put r a b t)) → (∀ t, t < 10 → ahd t = zb_S (fun j => zo_put r a b j t)) → post (nI (zc_sum (fun t => zc (zo_put r a b t) 10) 10)) (f, aft, ahd, aN, aP, arf, aq)) : ∀ d i aft ahd, i + d = 10 → zx_st r (zo_put r a b) i aft → zx_st (fun t j => r j t) (fun t j => zo_put r a b j t) i ahd → wX_put_60 post (zb_S (zo_lo r a)) (zb_S (zo_up r b)) f (d + 1) (nI i) aft ahd aN aP arf aq := by
  intro d
  induction d with
  | zero =>
    intro i aft ahd hi h1 h2
    have e : i = 10 := by omega
    subst e
    exact br_t zx_10 (zx_pairs (zx_stE h1) (hp aft ahd (zx_stE h1) (zx_stE h2)))
  | succ d ih =>
    intro i aft ahd hi h1 h2
    have hi' : i < 10 := by omega
    have h88 : ∀ aft', zx_st r (zo_put r a b) (i + 1) aft' → wX_put_88 post (wX_put_60 post (zb_S (zo_lo r a)) (zb_S (zo_up r b)) f (d + 1)) (zb_S (zo_lo r a)) (zb_S (zo_up r b)) (nI i) f aft' ahd aN aP arf aq := by
      intro aft' h1'
      unfold wX_put_88
      refine zb_br0 (zo_up r b i) (zb_bit _ hi') (fun z => nm_r (nI_1 i) (ih (i + 1) aft' ahd (by omega) h1' (zx_stK h2 (zb_congr (fun j hj => ?_))))) (fun z => ⟨zx_in hi', zx_in hi', ?_⟩)
      · show r j i = (r j i || (zo_lo r a j && zo_up r b i))
        rw [z, Bool.and_false, Bool.or_false]
      · have e : upd ahd (nI i).toNatClampNeg (ahd (nI i).toNatClampNeg ||| zb_S (zo_lo r a)) = upd ahd i (ahd i ||| zb_S (zo_lo r a)) := by rw [zx_cl hi']
        refine nm_r e (nm_r (nI_1 i) (ih (i + 1) aft' _ (by omega) h1' (zx_stS h2 ?_)))
        rw [(h2 i hi').2 (Nat.le_refl _), zb_or]
        refine zb_congr (fun j hj => ?_)
        show (r j i || zo_lo r a j) = (r j i || (zo_lo r a j && zo_up r b i))
        rw [z, Bool.and_true]
    refine br_f (zx_nl hi') (zb_br0 (zo_lo r a i) (zb_bit _ hi') (fun z => h88 aft (zx_stK h1 (zb_congr (fun j hj => ?_)))) (fun z => ⟨zx_in hi', zx_in hi', ?_⟩))
    · show r i j = (r i j || (zo_lo r a i && zo_up r b j))
      rw [z, Bool.false_and, Bool.or_false]
    · have e : upd aft (nI i).toNatClampNeg (aft (nI i).toNatClampNeg ||| zb_S (zo_up r b)) = upd aft i (aft i ||| zb_S (zo_up r b)) := by rw [zx_cl hi']
      refine nm_r e (h88 _ (zx_stS h1 ?_))
      rw [(h1 i hi').2 (Nat.le_refl _), zb_or]
      refine zb_congr (fun j hj => ?_)
      show (r i j || zo_up r b j) = (r i j || (zo_lo r a i && zo_up r b j))
      rw [z, Bool.true_and]
theorem zx_rel11 {th : Nat} (hth : th < 10) {post : Int32 → SX → Prop} (hp : ∀ aft ahd, (∀ t, t < 10 → aft t = zb_S (zo_rel r th t)) → (∀ t, t < 10 → ahd t = zb_S (fun j => zo_rel r th j t)) → post (nI (zc_sum (fun t => zc (zo_rel r th t) 10) 10)) (f, aft, ahd, aN, aP, arf, aq)) : ∀ d i aft ahd, i + d = 10 → zx_st r (fun t j => r t j && !(j == th)) i aft → zx_st (fun t j => r j t) (fun t j => r j t && !(j == th)) i ahd → wX_release_11 post (nI th) f (d + 1) (nI i) aft ahd aN aP arf aq := by
  intro d
  induction d with
  | zero =>
    intro i aft ahd hi h1 h2
    have e : i = 10 := by omega
    subst e
    have e1 : upd aft (nI th).toNatClampNeg 0 = upd aft th 0 := by rw [zx_cl hth]
    have e2 : upd ahd (nI th).toNatClampNeg 0 = upd ahd th 0 := by rw [zx_cl hth]
    have k1 : ∀ t, t < 10 → upd aft th 0 t = zb_S (zo_rel r th t) := fun t ht => by
      by_cases z : t = th
      · rw [z, pk_us, zb_none]
        exact zb_congr (fun j hj => by simp [zo_rel])
      · rw [pk_un z, zx_stE h1 t ht]
        exact zb_congr (fun j hj => by simp [zo_rel, z])
    have k2 : ∀ t, t < 10 → upd ahd th 0 t = zb_S (fun j => zo_rel r th j t) := fun t ht => by
      by_cases z : t = th
      · rw [z, pk_us, zb_none]
        exact zb_congr (fun j hj => by simp [zo_rel])
      · rw [pk_un z, zx_stE h2 t ht]
        have e : (t == th) = false := by simp [z]
        exact zb_congr (fun j hj => by
          show (r j t && !(j == th)) = ((r j t && !(t == th)) && !(j == th))
          rw [e]
          cases r j t <;> cases (j == th) <;> rfl)
    exact br_t zx_10 ⟨zx_in hth, nm_r e1 ⟨zx_in hth, nm_r e2 (zx_pairs k1 (hp _ _ k1 k2))⟩⟩
  | succ d ih =>
    intro i aft ahd hi h1 h2
    have hi' : i < 10 := by omega
    have e1 : upd aft (nI i).toNatClampNeg (aft (nI i).toNatClampNeg &&& (((1 : Int32) <<< (nI th &&& 31)) ^^^ (-1))) = upd aft i (zb_S (fun j => r i j && !(j == th))) := by rw [zx_cl hi', (h1 i hi').2 (Nat.le_refl _), zb_sh th hth, zb_andn]
    have e2 : upd ahd (nI i).toNatClampNeg (ahd (nI i).toNatClampNeg &&& (((1 : Int32) <<< (nI th &&& 31)) ^^^ (-1))) = upd ahd i (zb_S (fun j => r j i && !(j == th))) := by rw [zx_cl hi', (h2 i hi').2 (Nat.le_refl _), zb_sh th hth, zb_andn]
    exact br_f (zx_nl hi') ⟨zx_in hi', zx_in hi', nm_r e1 ⟨zx_in hi', zx_in hi', nm_r e2 (nm_r (nI_1 i) (ih (i + 1) _ _ (by omega) (zx_stS h1 rfl) (zx_stS h2 rfl)))⟩⟩
/-- Y's cells, done below n -/
def zy_P (r r' : Nat → Nat → Bool) (n : Nat) (fst : Nat → Int32) : Prop := ∀ x y, x < 10 → y < 10 → fst (10 * x + y) = nI (if 10 * x + y < n then r' x y else r x y).toNat
theorem zy_PK {r' : Nat → Nat → Bool} {x y : Nat} {fst : Nat → Int32} (hx : x < 10) (hy : y < 10) (h : zy_P r r' (10 * x + y) fst) (e : r' x y = r x y) : zy_P r r' (10 * x + (y + 1)) fst := by
  intro x' y' hx' hy'
  rw [h x' y' hx' hy']
  by_cases z : 10 * x' + y' = 10 * x + y
  · have a : x' = x := by omega
    have b : y' = y := by omega
    subst a b
    rw [if_neg (by omega), if_pos (by omega), e]
  · by_cases w : 10 * x' + y' < 10 * x + y
    · rw [if_pos w, if_pos (by omega)]
    · rw [if_neg w, if_neg (by omega)]
theorem zy_PS {r' : Nat → Nat → Bool} {x y : Nat} {fst : Nat → Int32} (hx : x < 10) (hy : y < 10) (h : zy_P r r' (10 * x + y) fst) (e : r' x y = true) : zy_P r r' (10 * x + (y + 1)) (upd fst (10 * x + y) 1) := by
  intro x' y' hx' hy'
  by_cases z : 10 * x' + y' = 10 * x + y
  · have a : x' = x := by omega
    have b : y' = y := by omega
    subst a b
    rw [pk_us, if_pos (by omega), e]
    rfl
  · rw [pk_un z, h x' y' hx' hy']
    by_cases w : 10 * x' + y' < 10 * x + y
    · rw [if_pos w, if_pos (by omega)]
    · rw [if_neg w, if_neg (by omega)]
theorem zy_Prd {r' : Nat → Nat → Bool} {n x y : Nat} {fst : Nat → Int32} (hx : x < 10) (hy : y < 10) (h : zy_P r r' n fst) (e : r' x y = r x y) : fst ((10 : Int32) * nI x + nI y).toNatClampNeg = nI (r x y).toNat := by
  rw [zy_cl hx hy, h x y hx hy, e]
  split <;> rfl
theorem zy_nar1 : vp_nar .boolean 1 = 1 := rfl
theorem zy_nar0 : vp_nar .boolean 0 = 0 := rfl
theorem zy_put46 (ha : a < 10) (hb : b < 10) (hla : ∀ x, zo_put r a b x a = r x a) (hub : ∀ y, zo_put r a b b y = r b y) {post : Int32 → SY → Prop} {J37 : Int32 → (Nat → Int32) → Prop} {x : Nat} (hx : x < 10) (hJ : ∀ fst, zy_P r (zo_put r a b) (10 * (x + 1)) fst → J37 (nI (x + 1)) fst) : ∀ d y fst, y + d = 10 → zy_P r (zo_put r a b) (10 * x + y) fst → wY_put_46 post J37 (nI a) (nI b) (nI x) (d + 1) (nI y) fst := by
  intro d
  induction d with
  | zero =>
    intro y fst hy h
    have e : y = 10 := by omega
    subst e
    exact br_t zx_10 (nm_r (nI_1 x) (hJ fst (by rw [show 10 * (x + 1) = 10 * x + 10 from by omega]; exact h)))
  | succ d ih =>
    intro y fst hy h
    have hy' : y < 10 := by omega
    have h105 : ∀ u v : Bool, u = zo_lo r a x → v = zo_up r b y → wY_put_105 post J37 (wY_put_46 post J37 (nI a) (nI b) (nI x) (d + 1)) (nI a) (nI b) (nI x) (nI y) (nI u.toNat) (nI v.toNat) fst := by
      intro u v eu ev
      unfold wY_put_105
      have hno : (zo_lo r a x && zo_up r b y) = false → wY_put_46 post J37 (nI a) (nI b) (nI x) (d + 1) (nI (y + 1)) fst := fun z => ih (y + 1) fst (by omega) (zy_PK hx hy' h (by unfold zo_put; rw [z, Bool.or_false]))
      refine zb_br0 u rfl (fun z => nm_r (nI_1 y) (hno (by rw [← eu, z]; rfl))) (fun zu => zb_br0 v rfl (fun z => nm_r (nI_1 y) (hno (by rw [← ev, z, Bool.and_false]))) (fun zv => ⟨zy_in hx hy', ?_⟩))
      have e : upd fst ((10 : Int32) * nI x + nI y).toNatClampNeg (vp_nar .boolean 1) = upd fst (10 * x + y) 1 := by rw [zy_cl hx hy', zy_nar1]
      exact nm_r e (nm_r (nI_1 y) (ih (y + 1) _ (by omega) (zy_PS hx hy' h (by unfold zo_put; rw [← eu, ← ev, zu, zv, Bool.and_self, Bool.or_true]))))
    have h77 : ∀ u : Bool, u = zo_lo r a x → wY_put_77 post J37 (wY_put_46 post J37 (nI a) (nI b) (nI x) (d + 1)) (nI a) (nI b) (nI x) (nI y) (nI u.toNat) fst := by
      intro u eu
      unfold wY_put_77
      refine pk_eq y b (fun z => ?_) (fun z => ⟨zy_in hb hy', zb_br0 (r b y) (zy_Prd hb hy' h (hub y)) (fun w => ?_) (fun w => ?_)⟩)
      · exact h105 u true eu (by rw [eq_comm, zo_up_iff]; exact Or.inr z)
      · refine h105 u false eu ?_
        unfold zo_up
        rw [w]
        simp [z]
      · exact h105 u true eu (by rw [eq_comm, zo_up_iff]; exact Or.inl w)
    refine br_f (zx_nl hy') (pk_eq x a (fun z => ?_) (fun z => ⟨zy_in hx ha, zb_br0 (r x a) (zy_Prd hx ha h (hla x)) (fun w => ?_) (fun w => ?_)⟩))
    · exact h77 true (by rw [eq_comm, zo_lo_iff]; exact Or.inr z)
    · refine h77 false ?_
      unfold zo_lo
      rw [w]
      simp [z]
    · exact h77 true (by rw [eq_comm, zo_lo_iff]; exact Or.inl w)
theorem zy_put37 (ha : a < 10) (hb : b < 10) (hla : ∀ x, zo_put r a b x a = r x a) (hub : ∀ y, zo_put r a b b y = r b y) {post : Int32 → SY → Prop} (hp : ∀ fst, zy_F (zo_put r a b) fst → post (nI (zc_sum (fun t => zc (zo_put r a b t) 10) 10)) fst) : ∀ d x fst, x + d = 10 → zy_P r (zo_put r a b) (10 * x) fst → wY_put_37 post (nI a) (nI b) (d + 1) (nI x) fst := by
  intro d
  induction d with
  | zero =>
    intro x fst hx h
    have e : x = 10 := by omega
    subst e
    have hF : zy_F (zo_put r a b) fst := fun x y hx hy => by rw [h x y hx hy, if_pos (by omega)]
    exact br_t zx_10 (zy_pairs hF (hp fst hF))
  | succ d ih =>
    intro x fst hx h
    exact br_f (zx_nl (by omega)) ⟨11, zy_put46 ha hb hla hub (by omega) (fun fst h => ih (x + 1) fst (by omega) h) 10 0 fst rfl h⟩
/-- Y's cells of the thing th, cleared below i -/
def zy_R (r : Nat → Nat → Bool) (th i : Nat) (fst : Nat → Int32) : Prop := ∀ x y, x < 10 → y < 10 → fst (10 * x + y) = nI (r x y && !((y == th && decide (x < i)) || (x == th && decide (y < i)))).toNat
theorem zy_rel11 {th : Nat} (hth : th < 10) {post : Int32 → SY → Prop} (hp : ∀ fst, zy_F (zo_rel r th) fst → post (nI (zc_sum (fun t => zc (zo_rel r th t) 10) 10)) fst) : ∀ d i fst, i + d = 10 → zy_R r th i fst → wY_release_11 post (nI th) (d + 1) (nI i) fst := by
  intro d
  induction d with
  | zero =>
    intro i fst hi h
    have e : i = 10 := by omega
    subst e
    have hF : zy_F (zo_rel r th) fst := fun x y hx hy => by
      rw [h x y hx hy, decide_eq_true hx, decide_eq_true hy]
      congr 2
      unfold zo_rel
      cases r x y <;> cases (y == th) <;> cases (x == th) <;> rfl
    exact br_t zx_10 (zy_pairs hF (hp fst hF))
  | succ d ih =>
    intro i fst hi h
    have hi' : i < 10 := by omega
    have e1 : upd fst ((10 : Int32) * nI i + nI th).toNatClampNeg (vp_nar .boolean 0) = upd fst (10 * i + th) 0 := by rw [zy_cl hi' hth, zy_nar0]
    have e2 : upd (upd fst (10 * i + th) 0) ((10 : Int32) * nI th + nI i).toNatClampNeg (vp_nar .boolean 0) = upd (upd fst (10 * i + th) 0) (10 * th + i) 0 := by rw [zy_cl hth hi', zy_nar0]
    refine br_f (zx_nl hi') ⟨zy_in hi' hth, nm_r e1 ⟨zy_in hth hi', nm_r e2 (nm_r (nI_1 i) (ih (i + 1) _ (by omega) (fun x y hx hy => ?_)))⟩⟩
    by_cases z1 : 10 * x + y = 10 * th + i
    · have a : x = th := by omega
      have b : y = i := by omega
      subst a b
      rw [pk_us]
      simp
      rfl
    · rw [pk_un z1]
      by_cases z2 : 10 * x + y = 10 * i + th
      · have a : x = i := by omega
        have b : y = th := by omega
        subst a b
        rw [pk_us]
        simp
        rfl
      · rw [pk_un z2, h x y hx hy]
        have q1 : (y == th && decide (x < i)) = (y == th && decide (x < i + 1)) := by
          by_cases w : y = th
          · have : decide (x < i) = decide (x < i + 1) := decide_eq_decide.mpr (by omega)
            rw [this]
          · have : (y == th) = false := by simp [w]
            rw [this]; rfl
        have q2 : (x == th && decide (y < i)) = (x == th && decide (y < i + 1)) := by
          by_cases w : x = th
          · have : decide (y < i) = decide (y < i + 1) := decide_eq_decide.mpr (by omega)
            rw [this]
          · have : (x == th) = false := by simp [w]
            rw [this]; rfl
        rw [q1, q2]
end
end
section
/-! small rows for the owed ones -/
theorem zx_case (x : Int32) : (∃ t, t < 10 ∧ x = nI t) ∨ ((∀ post : Int32 → Prop, post 0 → wpX_isThing post x) ∧ (∀ post : Int32 → Prop, post 1 → wpY_bad post x)) := by
  by_cases h : x < 0
  · exact Or.inr ⟨fun _ hp => br_t h hp, fun _ hp => br_t h hp⟩
  · obtain ⟨j, hj, rfl⟩ := nI_of h
    by_cases h2 : j < 10
    · exact Or.inl ⟨j, h2, rfl⟩
    · exact Or.inr ⟨fun _ hp => br_f h (br_t (nI_lt (a := 9) (by omega) hj) hp), fun _ hp => br_f h (br_f (nI_ge (a := 9) (by omega) hj) hp)⟩
theorem zy_badT {post : Int32 → Prop} {t : Nat} (ht : t < 10) (h : post 0) : wpY_bad post (nI t) := br_f (nI_pos (by omega)) (br_t (nI_le (b := 9) (by omega) (by decide)) h)
section
variable {r : Nat → Nat → Bool} {fst : Nat → Int32} {a b : Nat}
theorem zy_putNo (hF : zy_F r fst) (ha : a < 10) (hb : b < 10) (h : a = b ∨ r b a = true) {post : Int32 → SY → Prop} (hp : post (-1) fst) : wpY_put post fst (nI a) (nI b) := by
  unfold wpY_put
  refine zy_badT ha (br_t rfl (zy_badT hb (br_t rfl (br_c (fun _ => hp) (fun ne => ⟨zy_in hb ha, zb_br0 (r b a) (zy_rd hF hb ha) (fun z => ?_) (fun _ => hp)⟩)))))
  rcases h with h | h
  · exact absurd (by rw [h]) ne
  · rw [h] at z; cases z
theorem zy_putOk (hF : zy_F r fst) (ha : a < 10) (hb : b < 10) (ne : a ≠ b) (hn : r b a = false) {post : Int32 → SY → Prop} (hp : ∀ fst, zy_F (zo_put r a b) fst → post (nI (zc_sum (fun t => zc (zo_put r a b t) 10) 10)) fst) : wpY_put post fst (nI a) (nI b) := by
  have hu : zo_up r b a = false := by
    unfold zo_up
    rw [hn]
    simp [ne]
  have hl : zo_lo r a b = false := by
    unfold zo_lo
    rw [hn]
    have : b ≠ a := fun z => ne z.symm
    simp [this]
  unfold wpY_put
  refine zy_badT ha (br_t rfl (zy_badT hb (br_t rfl (pk_eq a b (fun z => absurd z ne) (fun _ => ⟨zy_in hb ha, zb_br0 (r b a) (zy_rd hF hb ha) (fun z => ?_) (fun z => ?_)⟩)))))
  · refine ⟨11, zy_put37 ha hb (fun x => ?_) (fun y => ?_) hp 10 0 fst rfl (fun x y hx hy => ?_)⟩
    · unfold zo_put
      rw [hu, Bool.and_false, Bool.or_false]
    · unfold zo_put
      rw [hl, Bool.false_and, Bool.or_false]
    · rw [if_neg (by omega)]
      exact hF x y hx hy
  · rw [hn] at z; cases z
theorem zo_Q0 {c : Bool} {inn out : Nat → Bool} (hi : ∀ i, i < 10 → inn i = false) : zo_Q r c inn out (fun _ => false) :=
  ⟨fun i h z => (by rw [hi i h] at z; cases z), fun _ _ _ => rfl, fun _ _ _ _ _ z => by cases z⟩
theorem zo_Q1 {c : Bool} {t : Nat} {out : Nat → Bool} (ho : ∀ i, i < 10 → out i = false) : zo_Q r c (fun i => i == t) out (fun i => i == t) :=
  ⟨fun _ _ z => z, fun i h z => (by rw [ho i h] at z; cases z), fun x y _ _ ne px py => by
    rw [beq_iff_eq] at px py
    exact absurd (px.trans py.symm) ne⟩
theorem zo_Gu {c : Bool} {inn out : Nat → Bool} {b' : Nat} (h : zo_G r c inn out b) (h' : zo_G r c inn out b') : b = b' := by
  have e1 := h.2.2.1 b' h'.1 h'.2.1
  have e2 := h'.2.2.1 b h.1 h.2.1
  rcases Nat.lt_trichotomy b b' with z | z | z
  · have := h'.2.2.2 b z h.2.1
    omega
  · exact z
  · have := h.2.2.2 b' z h'.2.1
    omega
theorem zy_sizeE (hF : zy_F r fst) {c : Bool} {inn out : Nat → Bool} {xi xo xc : Int32} (ei : xi = zb_S inn) (eo : xo = zb_S out) (ec : xc = nI c.toNat) (hx : ∃ p, zo_Q r c inn out p) {post : Int32 → Prop} (hp : ∀ b, zo_G r c inn out b → post (nI (zc b.testBit 10))) : wpY_size post fst xi xo xc := by
  subst ei eo ec
  exact zy_size hF hx hp
theorem zy_wb14 (hF : zy_F r fst) {th : Nat} (hth : th < 10) {x2 : Int32} (g : Nat → Bool) (hg : (x2 = 0 ∧ ∀ x, x < 10 → g x = r x th) ∨ (x2 ≠ 0 ∧ ∀ x, x < 10 → g x = r th x)) {post : Int32 → Prop} (hp : ∀ b, zo_G r false (fun _ => false) (fun x => !g x) b → post (nI (zc b.testBit 10))) : ∀ d i, i + d = 10 → wY_widthBeside_14 post (nI th) x2 fst (d + 1) (zb_S (fun x => decide (x < i) && !g x)) (nI i) := by
  intro d
  induction d with
  | zero =>
    intro i hi
    have e : i = 10 := by omega
    subst e
    have e2 : zb_S (fun x => decide (x < 10) && !g x) = zb_S (fun x => !g x) := zb_congr (fun t ht => by rw [decide_eq_true ht, Bool.true_and])
    exact br_t zx_10 (zy_sizeE hF zb_none e2 (c := false) rfl ⟨_, zo_Q0 (fun _ _ => rfl)⟩ hp)
  | succ d ih =>
    intro i hi
    have hi' : i < 10 := by omega
    have h52 : ∀ z0, z0 = nI (g i).toNat → wY_widthBeside_52 post (wY_widthBeside_14 post (nI th) x2 fst (d + 1)) (nI th) x2 (zb_S (fun x => decide (x < i) && !g x)) (nI i) z0 fst := by
      intro z0 e
      unfold wY_widthBeside_52
      refine zb_br0 (g i) e (fun z => nm_r (zx_ext2 (m := fun x => !g x) (by show (!g i) = true; rw [z]; rfl) hi') (nm_r (nI_1 i) (ih (i + 1) (by omega)))) (fun z => nm_r (nI_1 i) ?_)
      rw [← zx_ext1 (m := fun x => !g x) (by show (!g i) = false; rw [z]; rfl)]
      exact ih (i + 1) (by omega)
    refine br_f (zx_nl hi') ?_
    rcases hg with ⟨e, k⟩ | ⟨e, k⟩
    · exact br_t e ⟨zy_in hi' hth, h52 _ (by rw [zy_rd hF hi' hth, k i hi'])⟩
    · exact br_f e ⟨zy_in hth hi', h52 _ (by rw [zy_rd hF hth hi', k i hi'])⟩
theorem zy_wb (hF : zy_F r fst) {th : Nat} (hth : th < 10) {x2 : Int32} (g : Nat → Bool) (hg : (x2 = 0 ∧ ∀ x, x < 10 → g x = r x th) ∨ (x2 ≠ 0 ∧ ∀ x, x < 10 → g x = r th x)) {post : Int32 → Prop} (hp : ∀ b, zo_G r false (fun _ => false) (fun x => !g x) b → post (nI (zc b.testBit 10))) : wpY_widthBeside post fst (nI th) x2 := by
  have e : (0 : Int32) = zb_S (fun x => decide (x < 0) && !g x) := by
    rw [zb_none]
    exact zb_congr (fun t _ => by rw [decide_eq_false (by omega), Bool.false_and])
  have := zy_wb14 hF hth g hg hp 10 0 rfl
  rw [← e] at this
  unfold wpY_widthBeside
  exact zy_badT hth (br_t rfl ⟨11, this⟩)
end
end
section
/-- one order r for both: X keeps for each thing the set behind it and the set before it, Y a table of truth values -/
def i_Rel (_ : Nat) (u : SX) (v : SY) : Prop := ∃ r : Nat → Nat → Bool, zo_PO r ∧ (∀ t, t < 10 → u.2.1 t = zb_S (r t)) ∧ (∀ t, t < 10 → u.2.2.1 t = zb_S (fun j => r j t)) ∧ zy_F r v
theorem i_up {k : Nat} {u : SX} {v : SY} (h : i_Rel k u v) : i_Rel (k + 3) u v := h
theorem i_vc0 : wpX_init (fun u => wpY_init (fun v => i_Rel 0 u v)) :=
  ⟨fun _ _ => false, ⟨fun _ _ => rfl, fun _ _ _ _ _ _ z => by cases z⟩, fun _ _ => zb_none, fun _ _ => zb_none, fun _ _ _ _ => rfl⟩
theorem i_vc_put {k : Nat} {u : SX} {v : SY} (I : i_Rel k u v) (hk : k + 3 ≤ 1536) (v1 : Int32) (v2 : Int32) : wpX_put (fun r u' => wpY_put (fun r' v' => r' = r ∧ i_Rel (k + 3) u' v') v v1 v2) u v1 v2 := by
  have I' : i_Rel (k + 3) u v := I
  obtain ⟨f, aft, ahd, aN, aP, arf, aq⟩ := u
  obtain ⟨r, hr, ha, hh, hF⟩ := I
  dsimp only at ha hh
  unfold wpX_put
  rcases zx_case v1 with ⟨a, a10, rfl⟩ | ⟨bX, bY⟩
  · rcases zx_case v2 with ⟨b, b10, rfl⟩ | ⟨bX, bY⟩
    · refine zx_isT a10 (br_f (by decide) (zx_isT b10 (br_f (by decide) (pk_eq a b (fun e => zy_putNo hF a10 b10 (Or.inl e) ⟨rfl, I'⟩) (fun ne => ⟨zx_in b10, ?_⟩)))))
      rw [zx_cl b10, ha b b10]
      refine zb_br0 (r b a) (zb_bit (r b) a10) (fun z => ⟨zx_in a10, ?_⟩) (fun z => zy_putNo hF a10 b10 (Or.inr z) ⟨rfl, I'⟩)
      rw [zx_cl a10, hh a a10, zb_sh a a10, zb_sh b b10, zb_or, zb_or]
      refine nm_r (e' := zb_S (zo_lo r a)) rfl ⟨zx_in b10, nm_r (e' := zb_S (zo_up r b)) rfl ⟨11, zx_put60 (fun aft' ahd' ha' hh' => ?_) 10 0 aft ahd rfl (zx_st0 ha) (zx_st0 hh)⟩⟩
      exact zy_putOk hF a10 b10 ne z (fun fst hF' => ⟨rfl, _, zo_putPO hr a10 b10 ne z, ha', hh', hF'⟩)
    · refine zx_isT a10 (br_f (by decide) (bX _ (br_t rfl ?_)))
      unfold wpY_put
      exact zy_badT a10 (br_t rfl (bY _ (br_f (by decide) ⟨rfl, I'⟩)))
  · refine bX _ (br_t rfl ?_)
    unfold wpY_put
    exact bY _ (br_f (by decide) ⟨rfl, I'⟩)
theorem i_vc_release {k : Nat} {u : SX} {v : SY} (I : i_Rel k u v) (hk : k + 3 ≤ 1536) (v1 : Int32) : wpX_release (fun r u' => wpY_release (fun r' v' => r' = r ∧ i_Rel (k + 3) u' v') v v1) u v1 := by
  have I' : i_Rel (k + 3) u v := I
  obtain ⟨f, aft, ahd, aN, aP, arf, aq⟩ := u
  obtain ⟨r, hr, ha, hh, hF⟩ := I
  dsimp only at ha hh
  unfold wpX_release wpY_release
  rcases zx_case v1 with ⟨a, a10, rfl⟩ | ⟨bX, bY⟩
  · refine zx_isT a10 (br_f (by decide) ⟨11, zx_rel11 a10 (fun aft' ahd' ha' hh' => ?_) 10 0 aft ahd rfl (zx_st0 ha) (zx_st0 hh)⟩)
    refine zy_badT a10 (br_t rfl ⟨11, zy_rel11 a10 (fun fst hF' => ⟨rfl, _, zo_relPO hr a, ha', hh', hF'⟩) 10 0 v rfl (fun x y hx hy => ?_)⟩)
    rw [hF x y hx hy, decide_eq_false (by omega), decide_eq_false (by omega)]
    simp
  · exact bX _ (br_t rfl (bY _ (br_f (by decide) ⟨rfl, I'⟩)))
theorem i_vc_before {k : Nat} {u : SX} {v : SY} (I : i_Rel k u v) (hk : k + 3 ≤ 1536) (v1 : Int32) (v2 : Int32) : wpX_before (fun r => wpY_before (fun r' => r' = r ∧ i_Rel (k + 3) u v) v v1 v2) u v1 v2 := by
  have I' : i_Rel (k + 3) u v := I
  obtain ⟨f, aft, ahd, aN, aP, arf, aq⟩ := u
  obtain ⟨r, hr, ha, hh, hF⟩ := I
  dsimp only at ha hh
  unfold wpX_before wpY_before
  rcases zx_case v1 with ⟨a, a10, rfl⟩ | ⟨bX, bY⟩
  · rcases zx_case v2 with ⟨b, b10, rfl⟩ | ⟨bX, bY⟩
    · refine zx_isT a10 (br_f (by decide) (zx_isT b10 (br_f (by decide) ⟨zx_in a10, ?_⟩)))
      rw [zx_cl a10, ha a a10, zb_bit (r a) b10]
      refine zy_badT a10 (br_t rfl (zy_badT b10 (br_t rfl ⟨zy_in a10 b10, zb_br0 (r a b) (zy_rd hF a10 b10) (fun z => ?_) (fun z => ?_)⟩)))
      · rw [z]; exact ⟨rfl, I'⟩
      · rw [z]; exact ⟨rfl, I'⟩
    · exact zx_isT a10 (br_f (by decide) (bX _ (br_t rfl (zy_badT a10 (br_t rfl (bY _ (br_f (by decide) ⟨rfl, I'⟩)))))))
  · exact bX _ (br_t rfl (bY _ (br_f (by decide) ⟨rfl, I'⟩)))
theorem i_vc_width {k : Nat} {u : SX} {v : SY} (I : i_Rel k u v) (hk : k + 3 ≤ 1536) : wpX_width (fun r u' => wpY_width (fun r' => r' = r ∧ i_Rel (k + 3) u' v) v) u := by
  obtain ⟨f, aft, ahd, aN, aP, arf, aq⟩ := u
  obtain ⟨r, hr, ha, hh, hF⟩ := I
  dsimp only at ha hh
  unfold wpX_width wpY_width
  rw [zb_full]
  refine zx_widthOf hr ha (fun w hw f' aN' aP' arf' aq' => ?_)
  refine zy_sizeE hF zb_none zb_none (c := false) rfl ⟨_, zo_Q0 (fun _ _ => rfl)⟩ (fun b hb => ⟨?_, r, hr, ha, hh, hF⟩)
  rw [zo_GW hb (fun _ _ => rfl) (fun _ _ => rfl) hw]
theorem i_vc_widthWith {k : Nat} {u : SX} {v : SY} (I : i_Rel k u v) (hk : k + 3 ≤ 1536) (v1 : Int32) : wpX_widthWith (fun r u' => wpY_widthWith (fun r' => r' = r ∧ i_Rel (k + 3) u' v) v v1) u v1 := by
  have I' : i_Rel (k + 3) u v := I
  obtain ⟨f, aft, ahd, aN, aP, arf, aq⟩ := u
  obtain ⟨r, hr, ha, hh, hF⟩ := I
  dsimp only at ha hh
  unfold wpX_widthWith wpY_widthWith
  rcases zx_case v1 with ⟨t, t10, rfl⟩ | ⟨bX, bY⟩
  · refine zx_isT t10 (br_f (by decide) (zx_bes ha hh t10 (zx_widthOf hr ha (fun w hw f' aN' aP' arf' aq' => ?_))))
    refine zy_badT t10 (br_t rfl (zy_sizeE hF (zb_sh t t10) zb_none (c := false) rfl ⟨_, zo_Q1 (fun _ _ => rfl)⟩ (fun b hb => ⟨?_, r, hr, ha, hh, hF⟩)))
    rw [zo_with t10 (fun _ _ => rfl) (fun _ _ => rfl) hb hw]
    exact (nI_add 1 w).symm
  · exact bX _ (br_t rfl (bY _ (br_f (by decide) ⟨rfl, I'⟩)))
theorem i_vc_widthWithout {k : Nat} {u : SX} {v : SY} (I : i_Rel k u v) (hk : k + 3 ≤ 1536) (v1 : Int32) : wpX_widthWithout (fun r u' => wpY_widthWithout (fun r' => r' = r ∧ i_Rel (k + 3) u' v) v v1) u v1 := by
  have I' : i_Rel (k + 3) u v := I
  obtain ⟨f, aft, ahd, aN, aP, arf, aq⟩ := u
  obtain ⟨r, hr, ha, hh, hF⟩ := I
  dsimp only at ha hh
  unfold wpX_widthWithout wpY_widthWithout
  rcases zx_case v1 with ⟨t, t10, rfl⟩ | ⟨bX, bY⟩
  · refine zx_isT t10 (br_f (by decide) ?_)
    have e : (1023 : Int32) &&& (((1 : Int32) <<< (nI t &&& 31)) ^^^ (-1)) = zb_S (fun i => true && !(i == t)) := by rw [zb_full, zb_sh t t10, zb_andn]
    rw [e]
    refine zx_widthOf hr ha (fun w hw f' aN' aP' arf' aq' => ?_)
    refine zy_badT t10 (br_t rfl (zy_sizeE hF zb_none (zb_sh t t10) (c := false) rfl ⟨_, zo_Q0 (fun _ _ => rfl)⟩ (fun b hb => ⟨?_, r, hr, ha, hh, hF⟩)))
    rw [zo_GW hb (fun _ _ => rfl) (fun i _ => Bool.true_and _) hw]
  · exact bX _ (br_t rfl (bY _ (br_f (by decide) ⟨rfl, I'⟩)))
theorem i_vc_chosen {k : Nat} {u : SX} {v : SY} (I : i_Rel k u v) (hk : k + 3 ≤ 1536) (v1 : Int32) : wpX_chosen (fun r u' => wpY_chosen (fun r' => r' = r ∧ i_Rel (k + 3) u' v) v v1) u v1 := by
  have I' : i_Rel (k + 3) u v := I
  obtain ⟨f, aft, ahd, aN, aP, arf, aq⟩ := u
  obtain ⟨r, hr, ha, hh, hF⟩ := I
  dsimp only at ha hh
  rcases zx_case v1 with ⟨t, t10, rfl⟩ | ⟨bX, bY⟩
  · have hx : ∃ p, zo_Q r false (fun _ => false) (fun _ => false) p := ⟨_, zo_Q0 (fun _ _ => rfl)⟩
    obtain ⟨b, hb⟩ := zy_Gex hx
    refine zx_chosen hr ha hh (fun _ _ => rfl) (fun _ _ => rfl) hb t10 (fun f' aN' aP' arf' aq' => ?_)
    unfold wpY_chosen
    refine zy_badT t10 (br_t rfl ?_)
    have hg := fun post => zy_greatest (post := post) hF hx
    rw [← zb_none] at hg
    refine hg _ (fun b' hb' => ?_)
    rw [zo_Gu hb' hb, zb_nat hb.1, zb_sbit _ t10]
    exact ⟨rfl, r, hr, ha, hh, hF⟩
  · unfold wpX_chosen wpY_chosen
    exact bX _ (br_t rfl (bY _ (br_f (by decide) ⟨rfl, I'⟩)))
theorem i_vc_height {k : Nat} {u : SX} {v : SY} (I : i_Rel k u v) (hk : k + 3 ≤ 1536) : wpX_height (fun r => wpY_height (fun r' => r' = r ∧ i_Rel (k + 3) u v) v) u := by
  have I' : i_Rel (k + 3) u v := I
  obtain ⟨f, aft, ahd, aN, aP, arf, aq⟩ := u
  obtain ⟨r, hr, ha, hh, hF⟩ := I
  dsimp only at ha hh
  refine zx_height hr ha hh (fun m hm => ?_)
  unfold wpY_height
  refine zy_sizeE hF zb_none zb_none (c := true) rfl ⟨_, zo_Q0 (fun _ _ => rfl)⟩ (fun b hb => ⟨?_, I'⟩)
  rw [zo_MxG (fun _ _ => rfl) (fun _ _ => rfl) hb hm]
theorem i_vc_heightWith {k : Nat} {u : SX} {v : SY} (I : i_Rel k u v) (hk : k + 3 ≤ 1536) (v1 : Int32) : wpX_heightWith (fun r => wpY_heightWith (fun r' => r' = r ∧ i_Rel (k + 3) u v) v v1) u v1 := by
  have I' : i_Rel (k + 3) u v := I
  obtain ⟨f, aft, ahd, aN, aP, arf, aq⟩ := u
  obtain ⟨r, hr, ha, hh, hF⟩ := I
  dsimp only at ha hh
  rcases zx_case v1 with ⟨t, t10, rfl⟩ | ⟨bX, bY⟩
  · refine zx_hw hr ha hh t10 (fun h hH => ?_)
    unfold wpY_heightWith
    refine zy_badT t10 (br_t rfl (zy_sizeE hF (zb_sh t t10) zb_none (c := true) rfl ⟨_, zo_Q1 (fun _ _ => rfl)⟩ (fun b hb => ⟨?_, I'⟩)))
    rw [zo_HG t10 (fun _ _ => rfl) (fun _ _ => rfl) hb hH]
  · unfold wpX_heightWith wpY_heightWith
    exact bX _ (br_t rfl (bY _ (br_f (by decide) ⟨rfl, I'⟩)))
theorem i_vc_widthBeside {k : Nat} {u : SX} {v : SY} (I : i_Rel k u v) (hk : k + 3 ≤ 1536) (v1 : Int32) (v2 : Int32) : wpX_widthBeside (fun r u' => wpY_widthBeside (fun r' => r' = r ∧ i_Rel (k + 3) u' v) v v1 (lw_bz v2)) u v1 (lw_bz v2) := by
  have I' : i_Rel (k + 3) u v := I
  obtain ⟨f, aft, ahd, aN, aP, arf, aq⟩ := u
  obtain ⟨r, hr, ha, hh, hF⟩ := I
  dsimp only at ha hh
  unfold wpX_widthBeside
  rcases zx_case v1 with ⟨t, t10, rfl⟩ | ⟨bX, bY⟩
  · refine zx_isT t10 (br_f (by decide) (br_c (fun e => ⟨zx_in t10, ?_⟩) (fun e => ⟨zx_in t10, ?_⟩)))
    · unfold wX_widthBeside_29
      rw [zx_cl t10, hh t t10]
      refine zx_widthOf hr ha (fun w hw f' aN' aP' arf' aq' => ?_)
      refine zy_wb hF t10 (fun x => r x t) (Or.inl ⟨e, fun _ _ => rfl⟩) (fun b hb => ⟨?_, r, hr, ha, hh, hF⟩)
      rw [zo_GW hb (fun _ _ => rfl) (fun i _ => (Bool.not_not _).symm) hw]
    · unfold wX_widthBeside_29
      rw [zx_cl t10, ha t t10]
      refine zx_widthOf hr ha (fun w hw f' aN' aP' arf' aq' => ?_)
      refine zy_wb hF t10 (fun x => r t x) (Or.inr ⟨e, fun _ _ => rfl⟩) (fun b hb => ⟨?_, r, hr, ha, hh, hF⟩)
      rw [zo_GW hb (fun _ _ => rfl) (fun i _ => (Bool.not_not _).symm) hw]
  · unfold wpY_widthBeside
    exact bX _ (br_t rfl (bY _ (br_f (by decide) ⟨rfl, I'⟩)))
end
