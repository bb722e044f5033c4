section
/-! rows taken from the kit (rows to paste): numbers, stores, masks, shifts -/
theorem pk_us {f : Nat → Int32} {k : Nat} {x : Int32} : upd f k x k = x := if_pos rfl
theorem pk_un {f : Nat → Int32} {k j : Nat} {x : Int32} (h : j ≠ k) : upd f k x j = f j := if_neg h
theorem pk_uLs {f : Nat → Int64} {k : Nat} {x : Int64} : vp_updL f k x k = x := if_pos rfl
theorem pk_uLn {f : Nat → Int64} {k j : Nat} {x : Int64} (h : j ≠ k) : vp_updL f k x j = f j := if_neg h
theorem pk_sub {a b : Nat} (h : b ≤ a) : nI a - nI b = nI (a - b) := by
  obtain ⟨c, rfl⟩ : ∃ c, a = c + b := ⟨a - b, by omega⟩
  rw [← nI_add, Int32.add_sub_cancel, Nat.add_sub_cancel]
theorem pk_m1 (n : Nat) : nI (n + 1) + (-1) = nI n := by
  rw [← nI_1, Int32.add_assoc, show (1 : Int32) + (-1) = 0 from rfl, Int32.add_zero]
theorem pk_mul (a b : Nat) : nI a * nI b = nI (a * b) := (Int32.ofNat_mul a b).symm
theorem pk_div {a d : Nat} (ha : a < 2 ^ 31) (h0 : 0 < d) (hd : d < 2 ^ 31) : nI a / nI d = nI (a / d) := by
  apply Int32.toInt_inj.mp
  rw [lg_idiv_nonneg (by rw [nI_toInt ha]; omega) (by rw [nI_toInt hd]; omega), nI_toInt ha, nI_toInt hd, nI_toInt (Nat.lt_of_le_of_lt (Nat.div_le_self a d) ha)]
  first | rfl | exact (Int.natCast_ediv _ _).symm
theorem pk_rem {a d : Nat} (ha : a < 2 ^ 31) (h0 : 0 < d) (hd : d < 2 ^ 31) : nI a - nI a / nI d * nI d = nI (a % d) := by
  rw [pk_div ha h0 hd, pk_mul, pk_sub (Nat.div_mul_le_self a d)]
  exact congrArg nI (by have := Nat.div_add_mod' a d; omega)
theorem pk_sub_toInt {a b : Nat} (ha : a < 2 ^ 30) (hb : b < 2 ^ 30) : (nI a - nI b).toInt = (a : Int) - b := by
  rw [Int32.toInt_sub, nI_toInt (by omega), nI_toInt (by omega)]
  exact Int.bmod_eq_of_le (by omega) (by omega)
theorem pk_sneg {a b : Nat} (hb : b < 2 ^ 30) (h : a < b) : nI a - nI b < 0 := by
  rw [Int32.lt_iff_toInt_lt, pk_sub_toInt (by omega) hb, show (0 : Int32).toInt = 0 from by decide]
  omega
theorem pk_ix (x : Int32) {n : Nat} (hn : n < 2 ^ 31) : x < 0 ∨ nI n ≤ x ∨ ∃ j : Nat, j < n ∧ x = nI j := by
  by_cases h : x < 0
  · exact Or.inl h
  · obtain ⟨j, hj, rfl⟩ := nI_of h
    by_cases h2 : j < n
    · exact Or.inr (Or.inr ⟨j, h2, rfl⟩)
    · exact Or.inr (Or.inl (nI_le (by omega) hj))
theorem pk_le {x y : Int32} {A B : Prop} (a b : Nat) (f : a ≤ b → A) (g : b < a → B) (hx : x = nI a := by rfl) (hy : y = nI b := by rfl) (ha : a < 2 ^ 31 := by omega) (hb : b < 2 ^ 31 := by omega) : (x ≤ y → A) ∧ (¬ x ≤ y → B) := by
  subst hx hy
  rw [nI_leI ha hb]
  exact ⟨f, fun z => g (by omega)⟩
theorem pk_lt {x y : Int32} {A B : Prop} (a b : Nat) (f : a < b → A) (g : b ≤ a → B) (hx : x = nI a := by rfl) (hy : y = nI b := by rfl) (ha : a < 2 ^ 31 := by omega) (hb : b < 2 ^ 31 := by omega) : (x < y → A) ∧ (¬ x < y → B) := by
  subst hx hy
  rw [nI_ltI ha hb]
  exact ⟨f, fun z => g (by omega)⟩
theorem pk_eq {x y : Int32} {A B : Prop} (a b : Nat) (f : a = b → A) (g : a ≠ b → B) (hx : x = nI a := by rfl) (hy : y = nI b := by rfl) (ha : a < 2 ^ 31 := by omega) (hb : b < 2 ^ 31 := by omega) : (x = y → A) ∧ (¬ x = y → B) := by
  subst hx hy
  rw [nI_eq ha hb]
  exact ⟨f, g⟩
theorem pk_in {x : Int32} (n N : Nat) (h : n < N) (hx : x = nI n := by rfl) (hN : N < 2 ^ 31 := by omega) : vp_in x N := by
  subst hx
  exact vp_in_nI h hN
theorem pk_cl {x : Int32} (n : Nat) (hx : x = nI n := by rfl) (h : n < 2 ^ 31 := by omega) : x.toNatClampNeg = n := by
  subst hx
  exact nI_clamp h
theorem pk_tn {n : Nat} (h : n < 2 ^ 32) : (nI n).toBitVec.toNat = n := Nat.mod_eq_of_lt h
theorem pk_and (x : Int32) {m : Int32} (k : Nat) (hm : m.toBitVec.toNat = 2 ^ k - 1) : x &&& m = nI (x.toBitVec.toNat % 2 ^ k) := by
  apply Int32.toBitVec_inj.mp
  apply BitVec.eq_of_toNat_eq
  rw [Int32.toBitVec_and, BitVec.toNat_and, hm, Nat.and_two_pow_sub_one_eq_mod]
  show _ = (BitVec.ofNat 32 _).toNat
  rw [BitVec.toNat_ofNat]
  exact (Nat.mod_eq_of_lt (Nat.lt_of_le_of_lt (Nat.mod_le _ _) x.toBitVec.isLt)).symm
theorem pk_andN {n : Nat} (h : n < 2 ^ 32) {m : Int32} (k : Nat) (hm : m.toBitVec.toNat = 2 ^ k - 1) : nI n &&& m = nI (n % 2 ^ k) := by
  rw [pk_and _ k hm, pk_tn h]
theorem pk_andE (x : Int32) {m : Int32} (k : Nat) (hm : m.toBitVec.toNat = 2 ^ k - 1) : ∃ j : Nat, j < 2 ^ k ∧ x &&& m = nI j := ⟨_, Nat.mod_lt _ (Nat.two_pow_pos k), pk_and x k hm⟩
theorem pk_andIn (x : Int32) {m : Int32} (k : Nat) (hm : m.toBitVec.toNat = 2 ^ k - 1) (hk : k ≤ 30) : vp_in (x &&& m) (2 ^ k) := by
  obtain ⟨j, hj, e⟩ := pk_andE x k hm
  rw [e]
  exact vp_in_nI hj (Nat.lt_of_le_of_lt (Nat.pow_le_pow_right (by decide) hk) (by decide))
theorem pk_shl (a s : Int32) (k : Nat) (hs : (s.toBitVec.smod 32).toNat = k) : (a <<< s).toBitVec.toNat = a.toBitVec.toNat * 2 ^ k % 2 ^ 32 := by
  show (a.toBitVec <<< (s.toBitVec.smod 32).toNat).toNat = _
  rw [hs, BitVec.toNat_shiftLeft, Nat.shiftLeft_eq]
theorem pk_shlN {n : Nat} (s : Int32) (k : Nat) (hs : (s.toBitVec.smod 32).toNat = k) (h : n * 2 ^ k < 2 ^ 32) : nI n <<< s = nI (n * 2 ^ k) := by
  apply Int32.toBitVec_inj.mp
  apply BitVec.eq_of_toNat_eq
  have hn : n < 2 ^ 32 := Nat.lt_of_le_of_lt (Nat.le_mul_of_pos_right n (Nat.two_pow_pos k)) h
  rw [pk_shl _ _ k hs, pk_tn hn, pk_tn h, Nat.mod_eq_of_lt h]
theorem pk_shr (a s : Int32) (k : Nat) (hs : (s.toBitVec.smod 32).toNat = k) : (a >>> s).toInt = a.toInt >>> k := by
  show (a.toBitVec.sshiftRight (s.toBitVec.smod 32).toNat).toInt = _
  rw [hs, BitVec.toInt_sshiftRight]
  rfl
theorem pk_shrN {n : Nat} (h : n < 2 ^ 31) (s : Int32) (k : Nat) (hs : (s.toBitVec.smod 32).toNat = k) : nI n >>> s = nI (n / 2 ^ k) := by
  apply Int32.toInt_inj.mp
  have h2 : n / 2 ^ k ≤ n := Nat.div_le_self _ _
  rw [pk_shr _ _ k hs, nI_toInt h, nI_toInt (by omega), Int.shiftRight_eq_div_pow]
  rfl
theorem pk_lT {n : Nat} (h : n < 2 ^ 63) : (lN n).toInt = (n : Int) := lg_ofNat_toInt h
theorem pk_lLT {a b : Nat} (ha : a < 2 ^ 63) (hb : b < 2 ^ 63) : lN a < lN b ↔ a < b := by
  rw [Int64.lt_iff_toInt_lt, pk_lT ha, pk_lT hb]; omega
theorem pk_lLE {a b : Nat} (ha : a < 2 ^ 63) (hb : b < 2 ^ 63) : lN a ≤ lN b ↔ a ≤ b := by
  rw [Int64.le_iff_toInt_le, pk_lT ha, pk_lT hb]; omega
theorem pk_lEQ {a b : Nat} (ha : a < 2 ^ 63) (hb : b < 2 ^ 63) : lN a = lN b ↔ a = b := by
  rw [← Int64.toInt_inj, pk_lT ha, pk_lT hb]; omega
theorem s_l : ∀ n, n < 32 → ((nI n &&& 31).toBitVec.smod 32).toNat = n := by decide +kernel
end
section
/-! pure: sets of persons as bits, ranks, places; sums, products; sums over assignments -/
def pd_b (s p : Nat) : Nat := (s.testBit p).toNat
def pd_rk (s : Nat) : Nat → Nat
  | 0 => 0
  | p + 1 => pd_rk s p + pd_b s p
def pd_pl (s : Nat) (g : Nat → Nat) : Nat → Nat
  | 0 => 0
  | p + 1 => pd_pl s g p + pd_b s p * (g p * 3 ^ pd_rk s p)
theorem pd_b1 {s p : Nat} (h : s.testBit p = true) : pd_b s p = 1 := by unfold pd_b; rw [h]; rfl
theorem pd_b0 {s p : Nat} (h : s.testBit p = false) : pd_b s p = 0 := by unfold pd_b; rw [h]; rfl
theorem pd_rk1 {s p : Nat} (h : s.testBit p = true) : pd_rk s (p + 1) = pd_rk s p + 1 := by rw [pd_rk, pd_b1 h]
theorem pd_rk0 {s p : Nat} (h : s.testBit p = false) : pd_rk s (p + 1) = pd_rk s p := by rw [pd_rk, pd_b0 h, Nat.add_zero]
theorem pd_pl1 {s p : Nat} {g : Nat → Nat} (h : s.testBit p = true) : pd_pl s g (p + 1) = pd_pl s g p + g p * 3 ^ pd_rk s p := by rw [pd_pl, pd_b1 h, Nat.one_mul]
theorem pd_pl0 {s p : Nat} {g : Nat → Nat} (h : s.testBit p = false) : pd_pl s g (p + 1) = pd_pl s g p := by rw [pd_pl, pd_b0 h, Nat.zero_mul, Nat.add_zero]
def pd_D (g : Nat → Nat) : Prop := ∀ p, g p < 3
theorem pd_pl_lt {s : Nat} {g : Nat → Nat} (hg : pd_D g) : ∀ j, pd_pl s g j < 3 ^ pd_rk s j := by
  intro j
  induction j with
  | zero => exact Nat.one_pos
  | succ j ih =>
    cases hb : s.testBit j with
    | false => rw [pd_pl0 hb, pd_rk0 hb]; exact ih
    | true =>
      rw [pd_pl1 hb, pd_rk1 hb, Nat.pow_succ]
      have h3 : g j ≤ 2 := Nat.le_of_lt_succ (hg j)
      have h4 : g j * 3 ^ pd_rk s j ≤ 2 * 3 ^ pd_rk s j := Nat.mul_le_mul_right _ h3
      omega
theorem pd_pl_congr {s : Nat} {g g' : Nat → Nat} : ∀ j, (∀ q, q < j → s.testBit q = true → g q = g' q) → pd_pl s g j = pd_pl s g' j := by
  intro j
  induction j with
  | zero => intro _; rfl
  | succ j ih =>
    intro h
    have e := ih (fun q hq => h q (by omega))
    cases hb : s.testBit j with
    | false => rw [pd_pl0 hb, pd_pl0 hb, e]
    | true => rw [pd_pl1 hb, pd_pl1 hb, e, h j (by omega) hb]
theorem pd_pl_none {s : Nat} {g : Nat → Nat} : ∀ j, (∀ q, q < j → s.testBit q = false) → pd_pl s g j = 0 := by
  intro j
  induction j with
  | zero => intro _; rfl
  | succ j ih =>
    intro h
    rw [pd_pl0 (h j (by omega)), ih (fun q hq => h q (by omega))]
theorem pd_rk_none {s : Nat} : ∀ j, (∀ q, q < j → s.testBit q = false) → pd_rk s j = 0 := by
  intro j
  induction j with
  | zero => intro _; rfl
  | succ j ih =>
    intro h
    rw [pd_rk0 (h j (by omega)), ih (fun q hq => h q (by omega))]
theorem pd_rk_pos {s : Nat} : ∀ j, 0 < pd_rk s j → ∃ q, q < j ∧ s.testBit q = true := by
  intro j
  induction j with
  | zero => intro h; exact absurd h (Nat.lt_irrefl 0)
  | succ j ih =>
    intro h
    cases hb : s.testBit j with
    | false =>
      rw [pd_rk0 hb] at h
      obtain ⟨q, hq, e⟩ := ih h
      exact ⟨q, by omega, e⟩
    | true => exact ⟨j, by omega, hb⟩
theorem pd_rk_zero {s : Nat} : ∀ j, pd_rk s j = 0 → ∀ q, q < j → s.testBit q = false := by
  intro j
  induction j with
  | zero => intro _ q hq; exact absurd hq (Nat.not_lt_zero q)
  | succ j ih =>
    intro h q hq
    cases hb : s.testBit j with
    | true => rw [pd_rk1 hb] at h; omega
    | false =>
      rw [pd_rk0 hb] at h
      rcases Nat.lt_or_ge q j with z | z
      · exact ih h q z
      · have e : q = j := by omega
        rw [e]; exact hb
theorem pd_rk_le {s : Nat} : ∀ j, pd_rk s j ≤ j := by
  intro j
  induction j with
  | zero => exact Nat.le_refl 0
  | succ j ih =>
    cases hb : s.testBit j with
    | false => rw [pd_rk0 hb]; omega
    | true => rw [pd_rk1 hb]; omega
theorem pd_rk_sub {s s' : Nat} : ∀ j, (∀ q, q < j → s.testBit q = true → s'.testBit q = true) → pd_rk s j ≤ pd_rk s' j := by
  intro j
  induction j with
  | zero => intro _; exact Nat.le_refl 0
  | succ j ih =>
    intro h
    have e := ih (fun q hq => h q (by omega))
    cases hb : s.testBit j with
    | false => rw [pd_rk0 hb, pd_rk]; omega
    | true => rw [pd_rk1 hb, pd_rk1 (h j (by omega) hb)]; omega
theorem pd_pl_top {s : Nat} {g : Nat → Nat} {p : Nat} (hb : s.testBit p = true) : ∀ i, ∃ m e, pd_rk s (p + 1 + i) = pd_rk s p + 1 + e ∧ pd_pl s g (p + 1 + i) = pd_pl s g p + 3 ^ pd_rk s p * (g p + 3 * m) := by
  intro i
  induction i with
  | zero =>
    refine ⟨0, 0, pd_rk1 hb, ?_⟩
    show pd_pl s g (p + 1) = _
    rw [pd_pl1 hb, Nat.mul_zero, Nat.add_zero, Nat.mul_comm]
  | succ i ih =>
    obtain ⟨m, e, h1, h2⟩ := ih
    show ∃ m e, pd_rk s ((p + 1 + i) + 1) = pd_rk s p + 1 + e ∧ pd_pl s g ((p + 1 + i) + 1) = pd_pl s g p + 3 ^ pd_rk s p * (g p + 3 * m)
    cases hc : s.testBit (p + 1 + i) with
    | false => exact ⟨m, e, by rw [pd_rk0 hc, h1], by rw [pd_pl0 hc, h2]⟩
    | true =>
      refine ⟨m + 3 ^ e * g (p + 1 + i), e + 1, by rw [pd_rk1 hc, h1]; rfl, ?_⟩
      rw [pd_pl1 hc, h2, h1, Nat.pow_add, Nat.pow_add, Nat.pow_one]
      generalize 3 ^ pd_rk s p = A
      generalize 3 ^ e = E
      generalize g (p + 1 + i) = x
      grind
theorem pd_pl_dig {s : Nat} {g : Nat → Nat} (hg : pd_D g) {p j : Nat} (hp : p < j) (hb : s.testBit p = true) : pd_pl s g j / 3 ^ pd_rk s p % 3 = g p := by
  obtain ⟨m, e, _, h⟩ := pd_pl_top (g := g) hb (j - (p + 1))
  rw [show p + 1 + (j - (p + 1)) = j by omega] at h
  have h1 := pd_pl_lt (s := s) hg p
  have h2 := hg p
  rw [h, Nat.add_mul_div_left _ _ (Nat.pow_pos (by decide)), Nat.div_eq_of_lt h1]
  omega
/-! the digits of a place, of an assignment -/
def pd_ds (s k : Nat) : Nat → Nat := fun i => k / 3 ^ pd_rk s i % 3
def pd_di (a : Nat) : Nat → Nat := fun i => a / 3 ^ i % 3
theorem pd_ds_D (s k : Nat) : pd_D (pd_ds s k) := fun _ => Nat.mod_lt _ (by decide)
theorem pd_di_D (a : Nat) : pd_D (pd_di a) := fun _ => Nat.mod_lt _ (by decide)
theorem pd_ds_pl {s : Nat} {g : Nat → Nat} (hg : pd_D g) {p : Nat} (hp : p < 7) (hb : s.testBit p = true) : pd_ds s (pd_pl s g 7) p = g p := pd_pl_dig hg hp hb
def pd_gu (g : Nat → Nat) (p d : Nat) : Nat → Nat := fun j => if j = p then d else g j
theorem pd_gu_s {g : Nat → Nat} {p d : Nat} : pd_gu g p d p = d := if_pos rfl
theorem pd_gu_n {g : Nat → Nat} {p d j : Nat} (h : j ≠ p) : pd_gu g p d j = g j := if_neg h
theorem pd_gu_D {g : Nat → Nat} {p d : Nat} (h : pd_D g) (hd : d < 3) : pd_D (pd_gu g p d) := by
  intro j
  unfold pd_gu
  by_cases z : j = p
  · rw [if_pos z]; exact hd
  · rw [if_neg z]; exact h j
theorem pd_gu_c {g : Nat → Nat} {p d n e : Nat} (h : n ≠ p) : pd_gu (pd_gu g p d) n e = pd_gu (pd_gu g n e) p d := by
  funext j
  unfold pd_gu
  by_cases z : j = p
  · have z2 : ¬ j = n := by omega
    rw [if_neg z2, if_pos z, if_pos z]
  · rw [if_neg z, if_neg z]
/-! sums and products -/
def pd_su (f : Nat → Int64) : Nat → Int64
  | 0 => 0
  | n + 1 => pd_su f n + f n
def pd_pr (f : Nat → Int64) : Nat → Int64
  | 0 => 1
  | n + 1 => pd_pr f n * f n
theorem pd_su_congr {f g : Nat → Int64} : ∀ n, (∀ i, i < n → f i = g i) → pd_su f n = pd_su g n := by
  intro n
  induction n with
  | zero => intro _; rfl
  | succ n ih => intro h; rw [pd_su, pd_su, ih (fun i hi => h i (by omega)), h n (by omega)]
theorem pd_pr_congr {f g : Nat → Int64} : ∀ n, (∀ i, i < n → f i = g i) → pd_pr f n = pd_pr g n := by
  intro n
  induction n with
  | zero => intro _; rfl
  | succ n ih => intro h; rw [pd_pr, pd_pr, ih (fun i hi => h i (by omega)), h n (by omega)]
theorem pd_su_zero : ∀ n, pd_su (fun _ => 0) n = 0 := by
  intro n
  induction n with
  | zero => rfl
  | succ n ih => rw [pd_su, ih]; rfl
theorem pd_su_add (f g : Nat → Int64) : ∀ n, pd_su (fun i => f i + g i) n = pd_su f n + pd_su g n := by
  intro n
  induction n with
  | zero => rfl
  | succ n ih => rw [pd_su, pd_su, pd_su, ih]; grind
theorem pd_su_mul (f : Nat → Int64) (x : Int64) : ∀ n, pd_su (fun i => x * f i) n = x * pd_su f n := by
  intro n
  induction n with
  | zero => rw [pd_su, pd_su]; grind
  | succ n ih => rw [pd_su, pd_su, ih]; grind
theorem pd_su_swap (f : Nat → Nat → Int64) (m : Nat) : ∀ n, pd_su (fun d => pd_su (fun e => f d e) m) n = pd_su (fun e => pd_su (fun d => f d e) n) m := by
  intro n
  induction n with
  | zero =>
    show (0 : Int64) = pd_su (fun _ => 0) m
    rw [pd_su_zero]
  | succ n ih =>
    rw [pd_su, ih, ← pd_su_add]
    rfl
theorem pd_su_app (f : Nat → Int64) (m : Nat) : ∀ n, pd_su f (m + n) = pd_su f m + pd_su (fun i => f (m + i)) n := by
  intro n
  induction n with
  | zero => rw [Nat.add_zero, pd_su]; grind
  | succ n ih => rw [← Nat.add_assoc, pd_su, pd_su, ih]; grind
theorem pd_pr_mul (f g : Nat → Int64) : ∀ n, pd_pr (fun i => f i * g i) n = pd_pr f n * pd_pr g n := by
  intro n
  induction n with
  | zero => rfl
  | succ n ih => rw [pd_pr, pd_pr, pd_pr, ih]; grind
theorem pd_pr_0 {f : Nat → Int64} {i : Nat} (h : f i = 0) : ∀ n, i < n → pd_pr f n = 0 := by
  intro n
  induction n with
  | zero => intro hi; exact absurd hi (Nat.not_lt_zero i)
  | succ n ih =>
    intro hi
    rw [pd_pr]
    by_cases z : i = n
    · rw [← z, h]; grind
    · rw [ih (by omega)]; grind
theorem pd_pr_1 {f : Nat → Int64} : ∀ n, (∀ i, i < n → f i = 1) → pd_pr f n = 1 := by
  intro n
  induction n with
  | zero => intro _; rfl
  | succ n ih => intro h; rw [pd_pr, ih (fun i hi => h i (by omega)), h n (by omega)]; rfl
/-- a sum of zeros and ones is zero only where all are -/
theorem pd_su_01 {f : Nat → Int64} : ∀ n, (∀ i, i < n → f i = 0 ∨ f i = 1) → ∃ m, m ≤ n ∧ pd_su f n = lN m ∧ (m = 0 → ∀ i, i < n → f i = 0) := by
  intro n
  induction n with
  | zero => intro _; exact ⟨0, Nat.le_refl 0, rfl, fun _ i hi => absurd hi (Nat.not_lt_zero i)⟩
  | succ n ih =>
    intro h
    obtain ⟨m, h1, h2, h3⟩ := ih (fun i hi => h i (by omega))
    rcases h n (by omega) with z | z
    · refine ⟨m, by omega, by rw [pd_su, h2, z]; grind, fun hm i hi => ?_⟩
      rcases Nat.lt_or_ge i n with y | y
      · exact h3 hm i y
      · have e : i = n := by omega
        rw [e]; exact z
    · exact ⟨m + 1, by omega, by rw [pd_su, h2, z, lN_1], fun hm => absurd hm (by omega)⟩
/-! sums over assignments -/
def pd_S (l : Nat) (F : (Nat → Nat) → Int64) : Nat → (Nat → Nat) → Int64
  | 0, g => F g
  | n + 1, g => if l.testBit n = true then pd_su (fun d => pd_S l F n (pd_gu g n d)) 3 else pd_S l F n g
theorem pd_S1 {l n : Nat} {F : (Nat → Nat) → Int64} {g : Nat → Nat} (h : l.testBit n = true) : pd_S l F (n + 1) g = pd_su (fun d => pd_S l F n (pd_gu g n d)) 3 := by rw [pd_S, if_pos h]
theorem pd_S0 {l n : Nat} {F : (Nat → Nat) → Int64} {g : Nat → Nat} (h : l.testBit n = false) : pd_S l F (n + 1) g = pd_S l F n g := by rw [pd_S, if_neg (by rw [h]; decide)]
theorem pd_S_congr {l : Nat} {F F' : (Nat → Nat) → Int64} (h : ∀ g, pd_D g → F g = F' g) : ∀ n g, pd_D g → pd_S l F n g = pd_S l F' n g := by
  intro n
  induction n with
  | zero => intro g hg; exact h g hg
  | succ n ih =>
    intro g hg
    cases hb : l.testBit n with
    | false => rw [pd_S0 hb, pd_S0 hb, ih g hg]
    | true =>
      rw [pd_S1 hb, pd_S1 hb]
      exact pd_su_congr 3 (fun d hd => ih _ (pd_gu_D hg hd))
theorem pd_S_none {l : Nat} {F : (Nat → Nat) → Int64} : ∀ n g, (∀ q, q < n → l.testBit q = false) → pd_S l F n g = F g := by
  intro n
  induction n with
  | zero => intro g _; rfl
  | succ n ih => intro g h; rw [pd_S0 (h n (by omega)), ih g (fun q hq => h q (by omega))]
theorem pd_S_set {l l' : Nat} {F : (Nat → Nat) → Int64} : ∀ n g, (∀ q, q < n → l.testBit q = l'.testBit q) → pd_S l F n g = pd_S l' F n g := by
  intro n
  induction n with
  | zero => intro g _; rfl
  | succ n ih =>
    intro g h
    have e := h n (by omega)
    cases hb : l.testBit n with
    | false =>
      rw [hb] at e
      rw [pd_S0 hb, pd_S0 e.symm, ih g (fun q hq => h q (by omega))]
    | true =>
      rw [hb] at e
      rw [pd_S1 hb, pd_S1 e.symm]
      exact pd_su_congr 3 (fun d _ => ih _ (fun q hq => h q (by omega)))
theorem pd_S_comm {l p : Nat} {F : (Nat → Nat) → Int64} : ∀ n g, n ≤ p → pd_su (fun d => pd_S l F n (pd_gu g p d)) 3 = pd_S l (fun g => pd_su (fun d => F (pd_gu g p d)) 3) n g := by
  intro n
  induction n with
  | zero => intro g _; rfl
  | succ n ih =>
    intro g h
    cases hb : l.testBit n with
    | false =>
      rw [pd_S0 hb, ← ih g (by omega)]
      exact pd_su_congr 3 (fun d _ => pd_S0 hb)
    | true =>
      rw [pd_S1 hb, pd_su_congr (g := fun d => pd_su (fun e => pd_S l F n (pd_gu (pd_gu g p d) n e)) 3) 3 (fun d _ => pd_S1 hb), pd_su_swap (fun d e => pd_S l F n (pd_gu (pd_gu g p d) n e))]
      refine pd_su_congr 3 (fun e _ => ?_)
      rw [← ih _ (by omega)]
      refine pd_su_congr 3 (fun d _ => ?_)
      show pd_S l F n _ = pd_S l F n _
      rw [pd_gu_c (by omega)]
theorem pd_S_take {l l' p : Nat} {F : (Nat → Nat) → Int64} (hp : l.testBit p = true) (hp' : l'.testBit p = false) (hl : ∀ q, q ≠ p → l'.testBit q = l.testBit q) : ∀ n g, p < n → pd_S l F n g = pd_S l' (fun g => pd_su (fun d => F (pd_gu g p d)) 3) n g := by
  intro n
  induction n with
  | zero => intro g h; exact absurd h (Nat.not_lt_zero p)
  | succ n ih =>
    intro g h
    by_cases z : p = n
    · subst z
      rw [pd_S1 hp, pd_S0 hp', ← pd_S_comm p g (Nat.le_refl p)]
      exact pd_su_congr 3 (fun d _ => pd_S_set p _ (fun q hq => (hl q (by omega)).symm))
    · have e := hl n (by omega)
      cases hb : l.testBit n with
      | false => rw [pd_S0 hb, pd_S0 (e.trans hb), ih g (by omega)]
      | true =>
        rw [pd_S1 hb, pd_S1 (e.trans hb)]
        exact pd_su_congr 3 (fun d _ => ih _ (by omega))
/-- the digits below n of a, above them g -/
def pd_dg (n a : Nat) (g : Nat → Nat) : Nat → Nat := fun q => if q < n then a / 3 ^ q % 3 else g q
theorem pd_dg_s {n a d : Nat} (g : Nat → Nat) (ha : a < 3 ^ n) (hd : d < 3) : pd_dg n a (pd_gu g n d) = pd_dg (n + 1) (3 ^ n * d + a) g := by
  funext q
  unfold pd_dg pd_gu
  by_cases h : q < n
  · rw [if_pos h, if_pos (by omega)]
    obtain ⟨e, rfl⟩ : ∃ e, n = q + 1 + e := ⟨n - q - 1, by omega⟩
    have e1 : 3 ^ (q + 1 + e) * d + a = a + 3 ^ q * (3 * (3 ^ e * d)) := by
      rw [Nat.pow_add, Nat.pow_succ]
      generalize 3 ^ q = A
      generalize 3 ^ e = E
      grind
    rw [e1, Nat.add_mul_div_left _ _ (Nat.pow_pos (by decide))]
    omega
  · rw [if_neg h]
    by_cases h2 : q = n
    · subst h2
      rw [if_pos rfl, if_pos (by omega), Nat.add_comm, Nat.add_mul_div_left _ _ (Nat.pow_pos (by decide)), Nat.div_eq_of_lt ha]
      omega
    · rw [if_neg h2, if_neg (by omega)]
theorem pd_S_full {l : Nat} {F : (Nat → Nat) → Int64} : ∀ n g, (∀ q, q < n → l.testBit q = true) → pd_S l F n g = pd_su (fun a => F (pd_dg n a g)) (3 ^ n) := by
  intro n
  induction n with
  | zero =>
    intro g _
    show F g = 0 + F (pd_dg 0 0 g)
    have e : pd_dg 0 0 g = g := by
      funext q
      exact if_neg (Nat.not_lt_zero q)
    rw [e]
    grind
  | succ n ih =>
    intro g h
    have hx : ∀ d, d < 3 → pd_S l F n (pd_gu g n d) = pd_su (fun a => F (pd_dg (n + 1) (3 ^ n * d + a) g)) (3 ^ n) := by
      intro d hd
      rw [ih _ (fun q hq => h q (by omega))]
      exact pd_su_congr _ (fun a ha => by rw [pd_dg_s g ha hd])
    have e0 : pd_su (fun a => F (pd_dg (n + 1) (3 ^ n * 0 + a) g)) (3 ^ n) = pd_su (fun a => F (pd_dg (n + 1) a g)) (3 ^ n) := pd_su_congr _ (fun a _ => by rw [Nat.mul_zero, Nat.zero_add])
    rw [pd_S1 (h n (by omega)), pd_su_congr 3 hx, Nat.pow_succ, show 3 ^ n * 3 = 3 ^ n + 3 ^ n + 3 ^ n by omega, pd_su_app, pd_su_app, ← e0]
    show 0 + _ + _ + _ = _
    dsimp only
    rw [Int64.zero_add, Nat.mul_one, Nat.mul_two]
theorem pd_S_all {l n : Nat} {F : (Nat → Nat) → Int64} (h : ∀ q, q < n → l.testBit q = true) : pd_S l F n (fun _ => 0) = pd_su (fun a => F (pd_di a)) (3 ^ n) := by
  rw [pd_S_full n _ h]
  refine pd_su_congr _ (fun a ha => ?_)
  have e : pd_dg n a (fun _ => 0) = pd_di a := by
    funext q
    unfold pd_dg pd_di
    by_cases z : q < n
    · rw [if_pos z]
    · rw [if_neg z, Nat.div_eq_of_lt (Nat.lt_of_lt_of_le ha (Nat.pow_le_pow_right (by decide) (by omega)))]
  show F _ = F _
  rw [e]
end
section
/-! pure: reading bits of ints, scopes, factors, the step of taking a person out -/
theorem pd_rd {s p : Nat} (hs : s < 128) (hp : p < 7) : ((nI s >>> (nI p &&& 31)) &&& 1) = nI (pd_b s p) := by
  rw [pk_shrN (by omega) _ p (s_l p (by omega)), pk_andN (Nat.lt_of_le_of_lt (Nat.div_le_self _ _) (by omega)) 1 (by decide)]
  unfold pd_b
  rw [Nat.toNat_testBit]
theorem pd_rdt {s p : Nat} (hs : s < 128) (hp : p < 7) (h : s.testBit p = true) : ((nI s >>> (nI p &&& 31)) &&& 1) = 1 := by
  rw [pd_rd hs hp, pd_b1 h]; rfl
theorem pd_rdf {s p : Nat} (hs : s < 128) (hp : p < 7) (h : s.testBit p = false) : ¬ ((nI s >>> (nI p &&& 31)) &&& 1) = 1 := by
  rw [pd_rd hs hp, pd_b0 h]; decide
theorem pd_rdt0 {s p : Nat} (hs : s < 128) (hp : p < 7) (h : s.testBit p = true) : ¬ ((nI s >>> (nI p &&& 31)) &&& 1) = 0 := by
  rw [pd_rd hs hp, pd_b1 h]; decide
theorem pd_rdf0 {s p : Nat} (hs : s < 128) (hp : p < 7) (h : s.testBit p = false) : ((nI s >>> (nI p &&& 31)) &&& 1) = 0 := by
  rw [pd_rd hs hp, pd_b0 h]; rfl
theorem pd_sh {p : Nat} (hp : p < 8) : (1 : Int32) <<< (nI p &&& 31) = nI (2 ^ p) := by
  have h := pk_shlN (n := 1) (nI p &&& 31) p (s_l p (by omega)) (by
    rw [Nat.one_mul]
    exact Nat.lt_of_lt_of_le (Nat.pow_lt_pow_right (by decide) hp) (by decide))
  rw [Nat.one_mul] at h
  exact h
theorem pd_or (a b : Nat) : nI a ||| nI b = nI (a ||| b) := by
  apply Int32.toBitVec_inj.1
  show BitVec.ofNat 32 a ||| BitVec.ofNat 32 b = BitVec.ofNat 32 (a ||| b)
  apply BitVec.eq_of_getLsbD_eq
  intro i hi
  simp [hi]
theorem pd_or_lt {a b : Nat} (ha : a < 128) (hb : b < 128) : a ||| b < 128 := Nat.or_lt_two_pow (n := 7) ha hb
theorem pd_2p : ∀ p, p < 7 → 2 ^ p < 128 := by decide
theorem pd_t2 (p q : Nat) : (2 ^ p).testBit q = decide (p = q) := Nat.testBit_two_pow
/-! a set without a person -/
def pd_clr (a p : Nat) : Nat := a &&& (127 ^^^ 2 ^ p)
theorem pd_clr_I : ∀ a, a < 128 → ∀ p, p < 7 → nI a &&& (nI (2 ^ p) ^^^ (-1)) = nI (pd_clr a p) := by decide +kernel
theorem pd_clr_lt : ∀ a, a < 128 → ∀ p, p < 7 → pd_clr a p < 128 := by decide +kernel
theorem pd_clr_rk : ∀ a, a < 128 → ∀ p, p < 7 → a.testBit p = true → pd_rk (pd_clr a p) 7 + 1 = pd_rk a 7 := by decide +kernel
theorem pd_clr_m : ∀ p, p < 7 → ∀ q, q < 7 → (127 ^^^ 2 ^ p).testBit q = decide (q ≠ p) := by decide +kernel
theorem pd_hi {a q : Nat} (ha : a < 128) (hq : 7 ≤ q) : a.testBit q = false := Nat.testBit_lt_two_pow (Nat.lt_of_lt_of_le ha (Nat.pow_le_pow_right (n := 2) (by decide) hq))
theorem pd_clr_t {a p q : Nat} (ha : a < 128) (hp : p < 7) : (pd_clr a p).testBit q = (a.testBit q && decide (q ≠ p)) := by
  rcases Nat.lt_or_ge q 7 with h | h
  · unfold pd_clr
    rw [Nat.testBit_and, pd_clr_m p hp q h]
  · rw [pd_hi (pd_clr_lt a ha p hp) h, pd_hi ha h]; rfl
theorem pd_full_t : ∀ c, c ≤ 7 → ∀ q, q < c → (2 ^ c - 1).testBit q = true := by
  intro c _ q hq
  rw [Nat.testBit_two_pow_sub_one]
  exact decide_eq_true hq
theorem pd_full_f {c q : Nat} (h : (2 ^ c - 1).testBit q = true) : q < c := by
  rw [Nat.testBit_two_pow_sub_one] at h
  exact of_decide_eq_true h
theorem pd_full_rk : ∀ c, c < 8 → pd_rk (2 ^ c - 1) 7 = c := by decide +kernel
theorem pd_full_lt : ∀ c, c < 8 → 2 ^ c - 1 < 128 := by decide +kernel
theorem pd_full_I : ∀ c, c < 8 → ((1 : Int32) <<< (nI c &&& 31)) - 1 = nI (2 ^ c - 1) := by decide +kernel
theorem pd_rk3 : ∀ p, p < 7 → ∀ a, a < 7 → ∀ b, b < 7 → pd_rk (2 ^ p ||| 2 ^ a ||| 2 ^ b) 7 ≤ 3 := by decide +kernel
theorem pd_rk1p : ∀ p, p < 7 → pd_rk (2 ^ p) 7 ≤ 3 := by decide +kernel
theorem pd_p3 : ∀ n, n ≤ 7 → 3 ^ n ≤ 2187 := by decide
/-! the pedigree: a founder's mother is negative, else both parents stand before the child -/
def pd_P (c : Nat) (mo fa : Nat → Int32) : Prop := ∀ p, p < c → mo p < 0 ∨ ∃ a b, a < p ∧ b < p ∧ mo p = nI a ∧ fa p = nI b
/-! factors -/
def pd_fw (q : Int32) (g : Nat) : Int32 := if g = 0 then (16 - q) * (16 - q) else if g = 1 then (2 * q) * (16 - q) else q * q
def pd_pa (g a b : Nat) : Int32 := if g = 0 then (2 - nI a) * (2 - nI b) else if g = 1 then (nI a * (2 - nI b)) + ((2 - nI a) * nI b) else nI a * nI b
def pd_o (q : Int32) (mo fa : Nat → Int32) (p : Nat) (g : Nat → Nat) : Int32 := if mo p < 0 then pd_fw q (g p) else pd_pa (g p) (g (mo p).toNatClampNeg) (g (fa p).toNatClampNeg)
def pd_w (q : Int32) (mo fa se : Nat → Int32) (p : Nat) (g : Nat → Nat) : Int32 := se (3 * p + g p) * pd_o q mo fa p g
def pd_fx (q ow : Int32) (mo fa se : Nat → Int32) (A : Nat → Nat) (p : Nat) (g : Nat → Nat) : Int64 :=
  if (A p).testBit (g p) = true then (if ow = 0 then (pd_w q mo fa se p g).toInt64 else if pd_w q mo fa se p g = 0 then 0 else 1) else 0
theorem pd_o_f {q : Int32} {mo fa : Nat → Int32} {p : Nat} {g : Nat → Nat} (h : mo p < 0) : pd_o q mo fa p g = pd_fw q (g p) := if_pos h
theorem pd_nn {a : Nat} (h : a < 7) : ¬ nI a < 0 := nI_pos (by omega)
theorem pd_o_c {q : Int32} {mo fa : Nat → Int32} {p a b : Nat} {g : Nat → Nat} (ha : a < 7) (hb : b < 7) (hm : mo p = nI a) (hf : fa p = nI b) : pd_o q mo fa p g = pd_pa (g p) (g a) (g b) := by
  unfold pd_o
  rw [hm, hf, if_neg (pd_nn ha), nI_clamp (by omega), nI_clamp (by omega)]
/-! the scope of a person's table -/
def pd_sc (mo fa : Nat → Int32) (p : Nat) : Nat := if mo p < 0 then 2 ^ p else 2 ^ p ||| 2 ^ (mo p).toNatClampNeg ||| 2 ^ (fa p).toNatClampNeg
theorem pd_sc_f {mo fa : Nat → Int32} {p : Nat} (h : mo p < 0) : pd_sc mo fa p = 2 ^ p := if_pos h
theorem pd_sc_c {mo fa : Nat → Int32} {p a b : Nat} (ha : a < 7) (hb : b < 7) (hm : mo p = nI a) (hf : fa p = nI b) : pd_sc mo fa p = 2 ^ p ||| 2 ^ a ||| 2 ^ b := by
  unfold pd_sc
  rw [hm, hf, if_neg (pd_nn ha), nI_clamp (by omega), nI_clamp (by omega)]
theorem pd_sc_lt {c : Nat} {mo fa : Nat → Int32} {p : Nat} (hP : pd_P c mo fa) (hc : c ≤ 7) (hp : p < c) : pd_sc mo fa p < 128 := by
  rcases hP p hp with h | ⟨a, b, ha, hb, hm, hf⟩
  · rw [pd_sc_f h]; exact pd_2p p (by omega)
  · rw [pd_sc_c (by omega) (by omega) hm hf]
    exact pd_or_lt (pd_or_lt (pd_2p p (by omega)) (pd_2p a (by omega))) (pd_2p b (by omega))
theorem pd_sc_rk {c : Nat} {mo fa : Nat → Int32} {p : Nat} (hP : pd_P c mo fa) (hc : c ≤ 7) (hp : p < c) : pd_rk (pd_sc mo fa p) 7 ≤ 3 := by
  rcases hP p hp with h | ⟨a, b, ha, hb, hm, hf⟩
  · rw [pd_sc_f h]; exact pd_rk1p p (by omega)
  · rw [pd_sc_c (by omega) (by omega) hm hf]; exact pd_rk3 p (by omega) a (by omega) b (by omega)
theorem pd_sc_in {c : Nat} {mo fa : Nat → Int32} {p q : Nat} (hP : pd_P c mo fa) (hc : c ≤ 7) (hp : p < c) (h : (pd_sc mo fa p).testBit q = true) : q < c := by
  rcases hP p hp with z | ⟨a, b, ha, hb, hm, hf⟩
  · rw [pd_sc_f z, pd_t2] at h
    have := of_decide_eq_true h
    omega
  · rw [pd_sc_c (by omega) (by omega) hm hf, Nat.testBit_or, Nat.testBit_or, pd_t2, pd_t2, pd_t2, Bool.or_eq_true, Bool.or_eq_true, decide_eq_true_eq, decide_eq_true_eq, decide_eq_true_eq] at h
    omega
theorem pd_sc_p {mo fa : Nat → Int32} {p : Nat} : (pd_sc mo fa p).testBit p = true := by
  unfold pd_sc
  by_cases h : mo p < 0
  · rw [if_pos h, pd_t2]; exact decide_eq_true rfl
  · rw [if_neg h, Nat.testBit_or, Nat.testBit_or, pd_t2, decide_eq_true rfl]; rfl
theorem pd_sc_a {mo fa : Nat → Int32} {p a b : Nat} (ha : a < 7) (hb : b < 7) (hm : mo p = nI a) (hf : fa p = nI b) : (pd_sc mo fa p).testBit a = true := by
  rw [pd_sc_c ha hb hm hf, Nat.testBit_or, Nat.testBit_or, pd_t2 a a, decide_eq_true rfl, Bool.or_true, Bool.true_or]
theorem pd_sc_b {mo fa : Nat → Int32} {p a b : Nat} (ha : a < 7) (hb : b < 7) (hm : mo p = nI a) (hf : fa p = nI b) : (pd_sc mo fa p).testBit b = true := by
  rw [pd_sc_c ha hb hm hf, Nat.testBit_or, pd_t2 b b, decide_eq_true rfl, Bool.or_true]
/-- a factor looks at the persons of its scope alone -/
theorem pd_fx_congr {c : Nat} {q ow : Int32} {mo fa se : Nat → Int32} {A : Nat → Nat} {p : Nat} {g g' : Nat → Nat} (hP : pd_P c mo fa) (hc : c ≤ 7) (hp : p < c) (h : ∀ i, i < 7 → (pd_sc mo fa p).testBit i = true → g i = g' i) : pd_fx q ow mo fa se A p g = pd_fx q ow mo fa se A p g' := by
  have e0 : g p = g' p := h p (by omega) pd_sc_p
  have e1 : pd_o q mo fa p g = pd_o q mo fa p g' := by
    rcases hP p hp with z | ⟨a, b, ha, hb, hm, hf⟩
    · rw [pd_o_f z, pd_o_f z, e0]
    · have ha7 : a < 7 := by omega
      have hb7 : b < 7 := by omega
      rw [pd_o_c ha7 hb7 hm hf, pd_o_c ha7 hb7 hm hf, e0, h a ha7 (pd_sc_a ha7 hb7 hm hf), h b hb7 (pd_sc_b ha7 hb7 hm hf)]
  unfold pd_fx pd_w
  rw [e0, e1]
/-! tables -/
def pd_TI (T us : Nat) (S B : Nat → Nat) (sc bg : Nat → Int32) : Prop :=
  (∀ t, t < T → sc t = nI (S t) ∧ bg t = nI (B t) ∧ S t < 128 ∧ B t + 3 ^ pd_rk (S t) 7 ≤ us) ∧ (∀ t t', t < t' → t' < T → B t + 3 ^ pd_rk (S t) 7 ≤ B t')
theorem pd_TI_add {T us : Nat} {S B : Nat → Nat} {sc bg : Nat → Int32} {s : Nat} (h : pd_TI T us S B sc bg) (hs : s < 128) : pd_TI (T + 1) (us + 3 ^ pd_rk s 7) (pd_gu S T s) (pd_gu B T us) (upd sc T (nI s)) (upd bg T (nI us)) := by
  constructor
  · intro t ht
    by_cases z : t = T
    · subst z
      rw [pk_us, pk_us, pd_gu_s, pd_gu_s]
      exact ⟨rfl, rfl, hs, Nat.le_refl _⟩
    · obtain ⟨h1, h2, h3, h4⟩ := h.1 t (by omega)
      rw [pk_un z, pk_un z, pd_gu_n z, pd_gu_n z]
      exact ⟨h1, h2, h3, Nat.le_trans h4 (Nat.le_add_right _ _)⟩
  · intro t t' h1 h2
    have z : t ≠ T := by omega
    rw [pd_gu_n z, pd_gu_n z]
    by_cases y : t' = T
    · subst y
      rw [pd_gu_s]
      exact (h.1 t (by omega)).2.2.2
    · rw [pd_gu_n y]
      exact h.2 t t' h1 (by omega)
def pd_F (T : Nat) (S B : Nat → Nat) (ce : Nat → Int64) (g : Nat → Nat) : Int64 := pd_pr (fun t => ce (B t + pd_pl (S t) g 7)) T
/-- what product(p, T) gives at the genotypes g -/
def pd_Q (p T : Nat) (S B : Nat → Nat) (ce : Nat → Int64) (g : Nat → Nat) : Int64 := pd_pr (fun t => if (S t).testBit p = true then ce (B t + pd_pl (S t) g 7) else 1) T
theorem pd_out {p T us ar : Nat} {S B S' B' : Nat → Nat} {ce ce' : Nat → Int64}
    (hn : ∀ g, pd_D g → ce' (B' T + pd_pl (S' T) g 7) = pd_su (fun d => pd_Q p T S B ce (pd_gu g p d)) 3)
    (ho : ∀ t, t < T → ∀ g, pd_D g → ce' (B' t + pd_pl (S' t) g 7) = if (S t).testBit p = true then 1 else ce (B t + pd_pl (S t) g 7))
    (g : Nat → Nat) (hg : pd_D g) : pd_F (T + 1) S' B' ce' g = pd_su (fun d => pd_F T S B ce (pd_gu g p d)) 3 := by
  unfold pd_F
  rw [pd_pr, hn g hg, pd_pr_congr (g := fun t => if (S t).testBit p = true then 1 else ce (B t + pd_pl (S t) g 7)) T (fun t ht => ho t ht g hg), ← pd_su_mul]
  refine pd_su_congr 3 (fun d _ => ?_)
  unfold pd_Q
  rw [← pd_pr_mul]
  refine pd_pr_congr T (fun t _ => ?_)
  cases hb : (S t).testBit p with
  | true =>
    rw [if_pos rfl, if_pos rfl, Int64.one_mul]
  | false =>
    have e : pd_pl (S t) (pd_gu g p d) 7 = pd_pl (S t) g 7 := pd_pl_congr 7 (fun q _ hq => by
      by_cases z : q = p
      · rw [z, hb] at hq; exact absurd hq (by decide)
      · exact pd_gu_n z)
    rw [if_neg (by decide), if_neg (by decide), Int64.mul_one, e]
/-! the persons around p -/
def pd_ar (S : Nat → Nat) (p : Nat) : Nat → Nat
  | 0 => 0
  | t + 1 => if (S t).testBit p = true then pd_ar S p t ||| S t else pd_ar S p t
theorem pd_ar1 {S : Nat → Nat} {p t : Nat} (h : (S t).testBit p = true) : pd_ar S p (t + 1) = pd_ar S p t ||| S t := by rw [pd_ar, if_pos h]
theorem pd_ar0 {S : Nat → Nat} {p t : Nat} (h : (S t).testBit p = false) : pd_ar S p (t + 1) = pd_ar S p t := by rw [pd_ar, if_neg (by rw [h]; decide)]
theorem pd_ar_lt {S : Nat → Nat} {p : Nat} : ∀ T, (∀ t, t < T → S t < 128) → pd_ar S p T < 128 := by
  intro T
  induction T with
  | zero => intro _; exact (by decide : 0 < 128)
  | succ T ih =>
    intro h
    have e := ih (fun t ht => h t (by omega))
    cases hb : (S T).testBit p with
    | false => rw [pd_ar0 hb]; exact e
    | true => rw [pd_ar1 hb]; exact pd_or_lt e (h T (by omega))
theorem pd_ar_in {S : Nat → Nat} {p q : Nat} : ∀ T, (pd_ar S p T).testBit q = true → ∃ t, t < T ∧ (S t).testBit p = true ∧ (S t).testBit q = true := by
  intro T
  induction T with
  | zero => intro h; rw [pd_ar, Nat.zero_testBit] at h; exact absurd h (by decide)
  | succ T ih =>
    intro h
    cases hb : (S T).testBit p with
    | false =>
      rw [pd_ar0 hb] at h
      obtain ⟨t, h1, h2, h3⟩ := ih h
      exact ⟨t, by omega, h2, h3⟩
    | true =>
      rw [pd_ar1 hb, Nat.testBit_or, Bool.or_eq_true] at h
      rcases h with h | h
      · obtain ⟨t, h1, h2, h3⟩ := ih h
        exact ⟨t, by omega, h2, h3⟩
      · exact ⟨T, by omega, hb, h⟩
theorem pd_ar_of {S : Nat → Nat} {p q t : Nat} (hp : (S t).testBit p = true) (hq : (S t).testBit q = true) : ∀ T, t < T → (pd_ar S p T).testBit q = true := by
  intro T
  induction T with
  | zero => intro h; exact absurd h (Nat.not_lt_zero t)
  | succ T ih =>
    intro h
    by_cases z : t = T
    · subst z
      rw [pd_ar1 hp, Nat.testBit_or, hq, Bool.or_true]
    · have e := ih (by omega)
      cases hb : (S T).testBit p with
      | false => rw [pd_ar0 hb]; exact e
      | true => rw [pd_ar1 hb, Nat.testBit_or, e, Bool.true_or]
end
section
/-! X's walks: sizeOf, power, spread, placeIn, factor, openTable, personTable -/
theorem pd_div3 {a : Nat} (h : a < 2 ^ 31) : nI a / 3 = nI (a / 3) := pk_div (d := 3) h (by omega) (by omega)
theorem pd_rem3 {a : Nat} (h : a < 2 ^ 31) : nI a - nI a / 3 * 3 = nI (a % 3) := pk_rem (d := 3) h (by omega) (by omega)
section
variable {cn q ow tb us : Int32} {mo fa se al sc bg : Nat → Int32} {ce : Nat → Int64} {ge : Nat → Int32}
theorem pw_size_l {post : Int32 → Prop} {s : Nat} (hs : s < 128) (h : post (nI (pd_rk s 7))) : ∀ d j, j + d = 7 → wX_sizeOf_4 post (nI s) cn q ow tb us mo fa se al sc bg ce ge (d + 1) (nI (pd_rk s j)) (nI j) := by
  intro d
  induction d with
  | zero =>
    intro j hj
    obtain rfl : j = 7 := by omega
    exact pk_le 7 7 (fun _ => h) (fun z => absurd z (by omega))
  | succ d ih =>
    intro j hj
    refine pk_le 7 j (fun z => absurd z (by omega)) (fun _ => ?_)
    refine nm_r (e' := nI (pd_rk s (j + 1))) ?_ (nm_r (e' := nI (j + 1)) (nI_1 j) (ih (j + 1) (by omega)))
    rw [pd_rd hs (by omega), nI_add]
    rfl
theorem pw_size {post : Int32 → Prop} {u : SX} {s : Nat} (hs : s < 128) (h : post (nI (pd_rk s 7))) : wpX_sizeOf post u (nI s) := by
  obtain ⟨cn, q, ow, tb, us, mo, fa, se, al, sc, bg, ce, ge⟩ := u
  exact ⟨7 + 1, pw_size_l hs h 7 0 (by omega)⟩
theorem pw_pow_l {post : Int32 → Prop} {m : Nat} (hm : m < 2 ^ 31) (h : post (nI (3 ^ m))) : ∀ d j, j + d = m → wX_power_4 post (nI m) cn q ow tb us mo fa se al sc bg ce ge (d + 1) (nI (3 ^ j)) (nI j) := by
  intro d
  induction d with
  | zero =>
    intro j hj
    obtain rfl : j = m := by omega
    exact pk_le j j (fun _ => h) (fun z => absurd z (by omega))
  | succ d ih =>
    intro j hj
    refine pk_le m j (fun z => absurd z (by omega)) (fun _ => ?_)
    exact nm_r (e' := nI (3 ^ (j + 1))) (pk_mul (3 ^ j) 3) (nm_r (e' := nI (j + 1)) (nI_1 j) (ih (j + 1) (by omega)))
theorem pw_pow {post : Int32 → Prop} {u : SX} {m : Nat} (hm : m < 2 ^ 31) (h : post (nI (3 ^ m))) : wpX_power post u (nI m) := by
  obtain ⟨cn, q, ow, tb, us, mo, fa, se, al, sc, bg, ce, ge⟩ := u
  exact ⟨m + 1, pw_pow_l hm h m 0 (by omega)⟩
theorem pw_spr_l {post : SX → Prop} {s k : Nat} (hs : s < 128) (hk : k < 2 ^ 31) (h : ∀ ge', (∀ i, i < 7 → s.testBit i = true → ge' i = nI (pd_ds s k i)) → post (cn, q, ow, tb, us, mo, fa, se, al, sc, bg, ce, ge')) : ∀ d j ge, j + d = 7 → (∀ i, i < j → s.testBit i = true → ge i = nI (pd_ds s k i)) → wX_spread_5 post (nI s) cn q ow tb us (d + 1) (nI (k / 3 ^ pd_rk s j)) (nI j) mo fa se al sc bg ce ge := by
  intro d
  induction d with
  | zero =>
    intro j ge hj hg
    obtain rfl : j = 7 := by omega
    exact pk_le 7 7 (fun _ => h ge hg) (fun z => absurd z (by omega))
  | succ d ih =>
    intro j ge hj hg
    have hk2 : k / 3 ^ pd_rk s j < 2 ^ 31 := Nat.lt_of_le_of_lt (Nat.div_le_self _ _) hk
    refine pk_le 7 j (fun z => absurd z (by omega)) (fun _ => ?_)
    cases hb : s.testBit j with
    | false =>
      refine br_f (pd_rdf hs (by omega) hb) (nm_r (e' := nI (j + 1)) (nI_1 j) ?_)
      have w := ih (j + 1) ge (by omega) (fun i hi hbi => by
        by_cases z : i = j
        · rw [z, hb] at hbi; exact absurd hbi (by decide)
        · exact hg i (by omega) hbi)
      rw [pd_rk0 hb] at w
      exact w
    | true =>
      refine br_t (pd_rdt hs (by omega) hb) ⟨by decide, pk_in j 7 (by omega), nm_r (e' := upd ge j (nI (pd_ds s k j))) ?_ ⟨by decide, nm_r (e' := nI (k / 3 ^ pd_rk s (j + 1))) ?_ (nm_r (e' := nI (j + 1)) (nI_1 j) (ih (j + 1) _ (by omega) ?_))⟩⟩
      · rw [nI_clamp (by omega), pd_rem3 hk2]
        rfl
      · rw [pd_div3 hk2, pd_rk1 hb, Nat.pow_succ, Nat.div_div_eq_div_mul]
      · intro i hi hbi
        by_cases z : i = j
        · rw [z, pk_us]
        · rw [pk_un z]; exact hg i (by omega) hbi
theorem pw_spr {post : SX → Prop} {s k : Nat} (hs : s < 128) (hk : k < 2 ^ 31) (h : ∀ ge', (∀ i, i < 7 → s.testBit i = true → ge' i = nI (pd_ds s k i)) → post (cn, q, ow, tb, us, mo, fa, se, al, sc, bg, ce, ge')) : wpX_spread post (cn, q, ow, tb, us, mo, fa, se, al, sc, bg, ce, ge) (nI s) (nI k) := by
  have w := pw_spr_l (mo := mo) hs hk h 7 0 ge (by omega) (fun i hi => absurd hi (Nat.not_lt_zero i))
  rw [pd_rk, Nat.pow_zero, Nat.div_one] at w
  exact ⟨7 + 1, w⟩
theorem pw_pla_l {post : Int32 → Prop} {s : Nat} {G : Nat → Nat} (hs : s < 128) (hge : ∀ i, i < 7 → s.testBit i = true → ge i = nI (G i)) (h : post (nI (pd_pl s G 7))) : ∀ j hh x, j ≤ 7 → x = nI j + (-1) → hh * 3 ^ pd_rk s j + pd_pl s G j = pd_pl s G 7 → wX_placeIn_5 post (nI s) cn q ow tb us mo fa se al sc bg ce ge (j + 1) (nI hh) x := by
  intro j
  induction j with
  | zero =>
    intro hh x _ hx e
    rw [pd_rk, pd_pl, Nat.pow_zero, Nat.mul_one, Nat.add_zero] at e
    rw [hx, e]
    exact br_t (by decide) h
  | succ j ih =>
    intro hh x hj hx e
    rw [pk_m1] at hx
    subst hx
    refine br_f (nI_pos (by omega)) ?_
    cases hb : s.testBit j with
    | false =>
      refine br_f (pd_rdf hs (by omega) hb) (nm_e (ih hh _ (by omega) rfl ?_))
      rw [pd_rk0 hb, pd_pl0 hb] at e
      exact e
    | true =>
      refine br_t (pd_rdt hs (by omega) hb) ⟨pk_in j 7 (by omega), nm_r (e' := nI (hh * 3 + G j)) ?_ (nm_e (ih (hh * 3 + G j) _ (by omega) rfl ?_))⟩
      · rw [nI_clamp (by omega), hge j (by omega) hb, ← nI_add, ← pk_mul]
        rfl
      · rw [pd_rk1 hb, pd_pl1 hb, Nat.pow_succ] at e
        rw [← e]
        generalize 3 ^ pd_rk s j = A
        generalize pd_pl s G j = P
        grind
theorem pw_pla {post : Int32 → Prop} {s : Nat} {G : Nat → Nat} (hs : s < 128) (hge : ∀ i, i < 7 → s.testBit i = true → ge i = nI (G i)) (h : post (nI (pd_pl s G 7))) : wpX_placeIn post (cn, q, ow, tb, us, mo, fa, se, al, sc, bg, ce, ge) (nI s) :=
  ⟨7 + 1, pw_pla_l hs hge h 7 0 6 (by omega) (by decide) (by rw [Nat.zero_mul, Nat.zero_add])⟩
theorem pw_fw {post : Int32 → Prop} {g : Nat} (hg : g < 3) (h : post (pd_fw q g)) : wpX_founderWeight post (cn, q, ow, tb, us, mo, fa, se, al, sc, bg, ce, ge) (nI g) := by
  refine pk_eq g 0 (fun z => ?_) (fun z => pk_eq g 1 (fun y => ?_) (fun y => ?_))
  · rw [z] at h; exact h
  · rw [y] at h; exact h
  · unfold pd_fw at h
    rw [if_neg z, if_neg y] at h
    exact h
theorem pw_pa {post : Int32 → Prop} {g a b : Nat} (hg : g < 3) (h : post (pd_pa g a b)) : wpX_passed post (cn, q, ow, tb, us, mo, fa, se, al, sc, bg, ce, ge) (nI g) (nI a) (nI b) := by
  refine pk_eq g 0 (fun z => ?_) (fun z => pk_eq g 1 (fun y => ?_) (fun y => ?_))
  · rw [z] at h; exact h
  · rw [y] at h; exact h
  · unfold pd_pa at h
    rw [if_neg z, if_neg y] at h
    exact h
theorem pw_fac66 {post : Int64 → Prop} {p g : Nat} {o w : Int32} (hp : p < 7) (hg : g < 3) (hw : w = se (3 * p + g) * o) (h : post (if ow = 0 then w.toInt64 else if w = 0 then 0 else 1)) : wX_factor_66 post (nI p) (nI g) o cn q ow tb us mo fa se al sc bg ce ge := by
  have e : (nI p * 3) + nI g = nI (3 * p + g) := by
    rw [← nI_add, Nat.mul_comm, ← pk_mul]
    rfl
  refine ⟨pk_in (3 * p + g) 21 (by omega) e, nm_r (e' := w) ?_ ?_⟩
  · rw [e, nI_clamp (by omega), hw, Int32.mul_comm]
  · refine br_c (fun z => ?_) (fun z => br_c (fun y => ?_) (fun y => ?_))
    · rw [if_pos z] at h; exact h
    · rw [if_neg z, if_pos y] at h; exact h
    · rw [if_neg z, if_neg y] at h; exact h
theorem pw_fac {post : Int64 → Prop} {p : Nat} {G A : Nat → Nat} (hp : p < 7) (hG : G p < 3) (hge : ge p = nI (G p)) (hal : al p = nI (A p)) (hA : A p < 8) (hpar : mo p < 0 ∨ ∃ a b, a < 7 ∧ b < 7 ∧ mo p = nI a ∧ fa p = nI b ∧ ge a = nI (G a) ∧ ge b = nI (G b)) (h : post (pd_fx q ow mo fa se A p G)) : wpX_factor post (cn, q, ow, tb, us, mo, fa, se, al, sc, bg, ce, ge) (nI p) := by
  have ep : (nI p).toNatClampNeg = p := nI_clamp (by omega)
  refine ⟨pk_in p 7 hp, nm_r (e' := nI (G p)) (by rw [ep]; exact hge) ⟨pk_in p 7 hp, ?_⟩⟩
  rw [ep, hal]
  unfold pd_fx at h
  cases hb : (A p).testBit (G p) with
  | false =>
    rw [hb, if_neg (by decide)] at h
    exact br_t (pd_rdf0 (by omega) (by omega) hb) h
  | true =>
    rw [hb, if_pos rfl] at h
    refine br_f (pd_rdt0 (by omega) (by omega) hb) ⟨pk_in p 7 hp, ?_⟩
    rcases hpar with z | ⟨a, b, ha, hb7, hm, hf, hga, hgb⟩
    · refine br_f (Int32.not_le.mpr z) (pw_fw hG (pw_fac66 hp hG (w := pd_w q mo fa se p G) ?_ h))
      unfold pd_w
      rw [pd_o_f z]
    · rw [hm, hf]
      refine br_t (nI_pos' (by omega)) ⟨pk_in p 7 hp, pk_in a 7 ha, pk_in p 7 hp, pk_in b 7 hb7, ?_⟩
      rw [nI_clamp (n := a) (by omega), nI_clamp (n := b) (by omega), hga, hgb]
      refine pw_pa hG (pw_fac66 hp hG (w := pd_w q mo fa se p G) ?_ h)
      unfold pd_w
      rw [pd_o_c ha hb7 hm hf]
theorem pw_open {post : Int32 → SX → Prop} {T U s : Nat} (hT : T < 16) (hs : s < 128) (h : post (nI T) (cn, q, ow, nI (T + 1), nI (U + 3 ^ pd_rk s 7), mo, fa, se, al, upd sc T (nI s), upd bg T (nI U), ce, ge)) : wpX_openTable post (cn, q, ow, nI T, nI U, mo, fa, se, al, sc, bg, ce, ge) (nI s) := by
  have eT : (nI T).toNatClampNeg = T := nI_clamp (by omega)
  have hr : pd_rk s 7 < 2 ^ 31 := Nat.lt_of_le_of_lt (pd_rk_le 7) (by decide)
  refine nm_r (e' := nI (T + 1)) (nI_1 T) ⟨pk_in T 16 hT, nm_r (e' := upd sc T (nI s)) (by rw [eT]) ⟨pk_in T 16 hT, nm_r (e' := upd bg T (nI U)) (by rw [eT]) ?_⟩⟩
  exact pw_size hs (pw_pow hr (nm_r (e' := nI (U + 3 ^ pd_rk s 7)) (nI_add _ _) h))
end
end
section
/-! X's walk of personTable -/
section
variable {cn q ow tb uu : Int32} {mo fa se al sc bg : Nat → Int32}
theorem pw_per_l {post : SX → Prop} {c p T us s : Nat} {A : Nat → Nat} {ce0 : Nat → Int64} (hc : c ≤ 7) (hP : pd_P c mo fa) (hp : p < c) (hs : s = pd_sc mo fa p) (hT : T < 16) (hus : us + 27 ≤ 1320) (hA : ∀ i, i < 7 → al i = nI (A i) ∧ A i < 8) (hbg : bg T = nI us)
    (h : ∀ ce' ge', (∀ x, x < us → ce' x = ce0 x) → (∀ k, k < 3 ^ pd_rk s 7 → ce' (us + k) = pd_fx q ow mo fa se A p (pd_ds s k)) → post (cn, q, ow, tb, uu, mo, fa, se, al, sc, bg, ce', ge')) :
    ∀ d k ce ge, k + d = 3 ^ pd_rk s 7 → (∀ x, x < us → ce x = ce0 x) → (∀ i, i < k → ce (us + i) = pd_fx q ow mo fa se A p (pd_ds s i)) → wX_personTable_57 post (nI p) (nI s) (nI T) (nI (3 ^ pd_rk s 7)) (d + 1) (nI k) cn q ow tb uu mo fa se al sc bg ce ge := by
  have hs7 : s < 128 := by rw [hs]; exact pd_sc_lt hP hc hp
  have hr : pd_rk s 7 ≤ 3 := by rw [hs]; exact pd_sc_rk hP hc hp
  have hE : 3 ^ pd_rk s 7 ≤ 27 := Nat.pow_le_pow_right (n := 3) (by decide) hr
  have eT : (nI T).toNatClampNeg = T := nI_clamp (by omega)
  generalize hEE : 3 ^ pd_rk s 7 = E at *
  intro d
  induction d with
  | zero =>
    intro k ce ge hk h1 h2
    obtain rfl : k = E := by omega
    exact pk_le k k (fun _ => h ce ge h1 h2) (fun z => absurd z (by omega))
  | succ d ih =>
    intro k ce ge hk h1 h2
    refine pk_le E k (fun z => absurd z (by omega)) (fun _ => ?_)
    refine pw_spr hs7 (by omega) (fun ge' hge => ⟨pk_in T 16 hT, ?_⟩)
    have hpar : mo p < 0 ∨ ∃ a b, a < 7 ∧ b < 7 ∧ mo p = nI a ∧ fa p = nI b ∧ ge' a = nI (pd_ds s k a) ∧ ge' b = nI (pd_ds s k b) := by
      rcases hP p hp with z | ⟨a, b, ha, hb, hm, hf⟩
      · exact Or.inl z
      · have ha7 : a < 7 := by omega
        have hb7 : b < 7 := by omega
        exact Or.inr ⟨a, b, ha7, hb7, hm, hf, hge a ha7 (by rw [hs]; exact pd_sc_a ha7 hb7 hm hf), hge b hb7 (by rw [hs]; exact pd_sc_b ha7 hb7 hm hf)⟩
    have hA7 := hA p (by omega)
    refine pw_fac (G := pd_ds s k) (A := A) (by omega) (pd_ds_D s k p) (hge p (by omega) (by rw [hs]; exact pd_sc_p)) hA7.1 hA7.2 hpar ?_
    have ei : bg (nI T).toNatClampNeg + nI k = nI (us + k) := by rw [eT, hbg, nI_add]
    refine ⟨pk_in (us + k) 1320 (by omega) ei, nm_r (e' := vp_updL ce (us + k) (pd_fx q ow mo fa se A p (pd_ds s k))) (by rw [ei, nI_clamp (by omega)]) (nm_r (e' := nI (k + 1)) (nI_1 k) (ih (k + 1) _ _ (by omega) ?_ ?_))⟩
    · intro x hx
      rw [pk_uLn (by omega)]
      exact h1 x hx
    · intro i hi
      by_cases z : i = k
      · rw [z, pk_uLs]
      · rw [pk_uLn (by omega)]
        exact h2 i (by omega)
theorem pw_per {post : SX → Prop} {c p T us : Nat} {A : Nat → Nat} {ce : Nat → Int64} {ge : Nat → Int32} (hc : c ≤ 7) (hP : pd_P c mo fa) (hp : p < c) (hT : T < 16) (hus : us + 27 ≤ 1320) (hA : ∀ i, i < 7 → al i = nI (A i) ∧ A i < 8)
    (h : ∀ ce' ge', (∀ x, x < us → ce' x = ce x) → (∀ g, pd_D g → ce' (us + pd_pl (pd_sc mo fa p) g 7) = pd_fx q ow mo fa se A p g) → post (cn, q, ow, nI (T + 1), nI (us + 3 ^ pd_rk (pd_sc mo fa p) 7), mo, fa, se, al, upd sc T (nI (pd_sc mo fa p)), upd bg T (nI us), ce', ge')) :
    wpX_personTable post (cn, q, ow, nI T, nI us, mo, fa, se, al, sc, bg, ce, ge) (nI p) := by
  have hs7 : pd_sc mo fa p < 128 := pd_sc_lt hP hc hp
  have ep : (nI p).toNatClampNeg = p := nI_clamp (by omega)
  have hr : pd_rk (pd_sc mo fa p) 7 < 2 ^ 31 := Nat.lt_of_le_of_lt (pd_rk_le 7) (by decide)
  have key : wX_personTable_33 post (nI p) (nI (pd_sc mo fa p)) cn q ow (nI T) (nI us) mo fa se al sc bg ce ge := by
    refine pw_open hT hs7 ?_
    refine pw_size hs7 (pw_pow hr ⟨3 ^ pd_rk (pd_sc mo fa p) 7 + 1, ?_⟩)
    refine pw_per_l (ce0 := ce) (A := A) (us := us) hc hP hp rfl hT hus hA pk_us ?_ (3 ^ pd_rk (pd_sc mo fa p) 7) 0 ce ge (by omega) (fun x _ => rfl) (fun i hi => absurd hi (Nat.not_lt_zero i))
    intro ce' ge' h1 h2
    refine h ce' ge' h1 (fun g hg => ?_)
    rw [h2 _ (pd_pl_lt hg 7)]
    exact pd_fx_congr hP hc hp (fun i hi hb => pd_ds_pl hg hi hb)
  refine nm_r (e' := nI (2 ^ p)) (pd_sh (by omega)) ⟨pk_in p 7 (by omega), ?_⟩
  rw [ep]
  rcases hP p hp with z | ⟨a, b, ha, hb, hm, hf⟩
  · rw [pd_sc_f z] at key
    exact br_t z key
  · have ha7 : a < 7 := by omega
    have hb7 : b < 7 := by omega
    rw [pd_sc_c ha7 hb7 hm hf] at key
    refine br_f (by rw [hm]; exact nI_pos (by omega)) ⟨pk_in p 7 (by omega), pk_in p 7 (by omega), nm_r (e' := nI (2 ^ p ||| 2 ^ a ||| 2 ^ b)) ?_ key⟩
    rw [hm, hf, pd_sh (by omega), pd_sh (by omega), pd_or, pd_or]
end
end
section
/-! X's walks: around, easiest, product, takeOut -/
section
variable {cn q ow us : Int32} {mo fa se al sc bg : Nat → Int32} {ce : Nat → Int64} {ge : Nat → Int32}
theorem pw_aro_l {post : Int32 → Prop} {T p : Nat} {S : Nat → Nat} (hp : p < 7) (hT : T ≤ 16) (hS : ∀ t, t < T → sc t = nI (S t) ∧ S t < 128) (h : post (nI (pd_clr (pd_ar S p T) p))) : ∀ d t, t + d = T → wX_around_4 post (nI p) cn q ow (nI T) us mo fa se al sc bg ce ge (d + 1) (nI (pd_ar S p t)) (nI t) := by
  intro d
  induction d with
  | zero =>
    intro t ht
    obtain rfl : t = T := by omega
    refine pk_le t t (fun _ => ?_) (fun z => absurd z (by omega))
    rw [pd_sh (by omega), pd_clr_I _ (pd_ar_lt t (fun i hi => (hS i hi).2)) p hp]
    exact h
  | succ d ih =>
    intro t ht
    obtain ⟨h1, h2⟩ := hS t (by omega)
    refine pk_le T t (fun z => absurd z (by omega)) (fun _ => ⟨pk_in t 16 (by omega), ?_⟩)
    rw [nI_clamp (n := t) (by omega), h1]
    cases hb : (S t).testBit p with
    | false =>
      refine br_f (pd_rdf h2 hp hb) (nm_r (e' := nI (t + 1)) (nI_1 t) ?_)
      have w := ih (t + 1) (by omega)
      rw [pd_ar0 hb] at w
      exact w
    | true =>
      refine br_t (pd_rdt h2 hp hb) ⟨pk_in t 16 (by omega), nm_r (e' := nI (pd_ar S p (t + 1))) ?_ (nm_r (e' := nI (t + 1)) (nI_1 t) (ih (t + 1) (by omega)))⟩
      rw [pd_or, pd_ar1 hb]
theorem pw_aro {post : Int32 → Prop} {T p : Nat} {S : Nat → Nat} (hp : p < 7) (hT : T ≤ 16) (hS : ∀ t, t < T → sc t = nI (S t) ∧ S t < 128) (h : post (nI (pd_clr (pd_ar S p T) p))) : wpX_around post (cn, q, ow, nI T, us, mo, fa, se, al, sc, bg, ce, ge) (nI p) :=
  ⟨T + 1, pw_aro_l hp hT hS h T 0 (by omega)⟩
theorem pw_eas_l {post : Int32 → Prop} {T c l : Nat} {S : Nat → Nat} (hc : c ≤ 7) (hl : l < 128) (hne : ∃ p, p < c ∧ l.testBit p = true) (hT : T ≤ 16) (hS : ∀ t, t < T → sc t = nI (S t) ∧ S t < 128) (h : ∀ p, p < c → l.testBit p = true → post (nI p)) : ∀ d j x2 x3, j + d = c → ((x2 = -1 ∧ x3 = 100 ∧ ∀ i, i < j → l.testBit i = false) ∨ (∃ i m, i < j ∧ l.testBit i = true ∧ x2 = nI i ∧ x3 = nI m ∧ m < 8)) → wX_easiest_8 post (nI l) (nI c) q ow (nI T) us mo fa se al sc bg ce ge (d + 1) x2 x3 (nI j) := by
  intro d
  induction d with
  | zero =>
    intro j x2 x3 hj hI
    obtain rfl : j = c := by omega
    refine pk_le j j (fun _ => ?_) (fun z => absurd z (by omega))
    rcases hI with ⟨_, _, hn⟩ | ⟨i, m, hi, hb, e, _⟩
    · obtain ⟨p, hp, hb⟩ := hne
      rw [hn p hp] at hb
      exact absurd hb (by decide)
    · rw [e]; exact h i hi hb
  | succ d ih =>
    intro j x2 x3 hj hI
    refine pk_le c j (fun z => absurd z (by omega)) (fun _ => ?_)
    cases hb : l.testBit j with
    | false =>
      refine br_f (pd_rdf hl (by omega) hb) (nm_r (e' := nI (j + 1)) (nI_1 j) (ih (j + 1) x2 x3 (by omega) ?_))
      rcases hI with ⟨e1, e2, hn⟩ | ⟨i, m, hi, hbi, e1, e2, hm⟩
      · refine Or.inl ⟨e1, e2, fun i hi => ?_⟩
        by_cases z : i = j
        · rw [z]; exact hb
        · exact hn i (by omega)
      · exact Or.inr ⟨i, m, by omega, hbi, e1, e2, hm⟩
    | true =>
      have ha : pd_clr (pd_ar S j T) j < 128 := pd_clr_lt _ (pd_ar_lt T (fun i hi => (hS i hi).2)) j (by omega)
      have hr : pd_rk (pd_clr (pd_ar S j T) j) 7 ≤ 7 := pd_rk_le 7
      refine br_t (pd_rdt hl (by omega) hb) (pw_aro (by omega) hT hS (pw_size ha (br_c (fun z => ?_) (fun z => ?_))))
      · refine nm_r (e' := nI (j + 1)) (nI_1 j) (ih (j + 1) x2 x3 (by omega) ?_)
        rcases hI with ⟨e1, e2, hn⟩ | ⟨i, m, hi, hbi, e1, e2, hm⟩
        · rw [e2] at z
          exact absurd z (nI_ge (b := 100) (by omega) (by omega))
        · exact Or.inr ⟨i, m, by omega, hbi, e1, e2, hm⟩
      · exact nm_r (e' := nI (j + 1)) (nI_1 j) (ih (j + 1) _ _ (by omega) (Or.inr ⟨j, _, by omega, hb, rfl, rfl, by omega⟩))
theorem pw_eas {post : Int32 → Prop} {T c l : Nat} {S : Nat → Nat} (hc : c ≤ 7) (hl : l < 128) (hne : ∃ p, p < c ∧ l.testBit p = true) (hT : T ≤ 16) (hS : ∀ t, t < T → sc t = nI (S t) ∧ S t < 128) (h : ∀ p, p < c → l.testBit p = true → post (nI p)) : wpX_easiest post (nI c, q, ow, nI T, us, mo, fa, se, al, sc, bg, ce, ge) (nI l) :=
  ⟨c + 1, pw_eas_l hc hl hne hT hS h c 0 (-1) 100 (by omega) (Or.inl ⟨rfl, rfl, fun i hi => absurd hi (Nat.not_lt_zero i)⟩)⟩
theorem pd_Q1 {p t : Nat} {S B : Nat → Nat} {G : Nat → Nat} (h : (S t).testBit p = true) : pd_Q p (t + 1) S B ce G = pd_Q p t S B ce G * ce (B t + pd_pl (S t) G 7) := by
  unfold pd_Q
  rw [pd_pr, if_pos h]
theorem pd_Q0 {p t : Nat} {S B : Nat → Nat} {G : Nat → Nat} (h : (S t).testBit p = false) : pd_Q p (t + 1) S B ce G = pd_Q p t S B ce G := by
  unfold pd_Q
  rw [pd_pr, if_neg (by rw [h]; decide), Int64.mul_one]
theorem pd_Q_congr {p T : Nat} {S B G G' : Nat → Nat} {ce' : Nat → Int64} (h : ∀ t, t < T → (S t).testBit p = true → ce (B t + pd_pl (S t) G 7) = ce' (B t + pd_pl (S t) G' 7)) : pd_Q p T S B ce G = pd_Q p T S B ce' G' := by
  unfold pd_Q
  refine pd_pr_congr T (fun t ht => ?_)
  by_cases hb : (S t).testBit p = true
  · rw [if_pos hb, if_pos hb]; exact h t ht hb
  · rw [if_neg hb, if_neg hb]
theorem pw_pro_l {tb : Int32} {post : Int64 → Prop} {p e : Nat} {S B G : Nat → Nat} (hp : p < 7) (he : e ≤ 16) (hS : ∀ t, t < e → sc t = nI (S t) ∧ bg t = nI (B t) ∧ S t < 128) (hge : ∀ t, t < e → (S t).testBit p = true → ∀ i, i < 7 → (S t).testBit i = true → ge i = nI (G i)) (hB : ∀ t, t < e → (S t).testBit p = true → B t + pd_pl (S t) G 7 < 1320) (h : post (pd_Q p e S B ce G)) : ∀ d t, t + d = e → wX_product_5 post (nI p) (nI e) cn q ow tb us mo fa se al sc bg ce ge (d + 1) (pd_Q p t S B ce G) (nI t) := by
  intro d
  induction d with
  | zero =>
    intro t ht
    obtain rfl : t = e := by omega
    exact pk_le t t (fun _ => h) (fun z => absurd z (by omega))
  | succ d ih =>
    intro t ht
    obtain ⟨h1, h2, h3⟩ := hS t (by omega)
    refine pk_le e t (fun z => absurd z (by omega)) (fun _ => ⟨pk_in t 16 (by omega), ?_⟩)
    rw [nI_clamp (n := t) (by omega), h1]
    cases hb : (S t).testBit p with
    | false =>
      refine br_f (pd_rdf h3 hp hb) (nm_r (e' := nI (t + 1)) (nI_1 t) ?_)
      have w := ih (t + 1) (by omega)
      rw [pd_Q0 hb] at w
      exact w
    | true =>
      refine br_t (pd_rdt h3 hp hb) ⟨pk_in t 16 (by omega), pw_pla (G := G) h3 (hge t (by omega) hb) ?_⟩
      have hx := hB t (by omega) hb
      have ei : bg t + nI (pd_pl (S t) G 7) = nI (B t + pd_pl (S t) G 7) := by rw [h2, nI_add]
      refine ⟨pk_in t 16 (by omega), pk_in _ 1320 hx ei, nm_r (e' := pd_Q p (t + 1) S B ce G) ?_ (nm_r (e' := nI (t + 1)) (nI_1 t) (ih (t + 1) (by omega)))⟩
      rw [ei, nI_clamp (by omega), pd_Q1 hb]
theorem pw_pro {tb : Int32} {post : Int64 → Prop} {p e : Nat} {S B G : Nat → Nat} (hp : p < 7) (he : e ≤ 16) (hS : ∀ t, t < e → sc t = nI (S t) ∧ bg t = nI (B t) ∧ S t < 128) (hge : ∀ t, t < e → (S t).testBit p = true → ∀ i, i < 7 → (S t).testBit i = true → ge i = nI (G i)) (hB : ∀ t, t < e → (S t).testBit p = true → B t + pd_pl (S t) G 7 < 1320) (h : post (pd_Q p e S B ce G)) : wpX_product post (cn, q, ow, tb, us, mo, fa, se, al, sc, bg, ce, ge) (nI p) (nI e) :=
  ⟨e + 1, pw_pro_l hp he hS hge hB h e 0 (by omega)⟩
end
end
section
/-! X's walk of takeOut -/
section
variable {cn q ow tb uu : Int32} {mo fa se al sc bg : Nat → Int32} {ce : Nat → Int64}
/-- the three genotypes of p at one place -/
theorem pw_out_in {post : SX → Prop} {J : Int32 → Int32 → Int32 → Int32 → Int32 → Int32 → (Nat → Int32) → (Nat → Int32) → (Nat → Int32) → (Nat → Int32) → (Nat → Int32) → (Nat → Int32) → (Nat → Int64) → (Nat → Int32) → Prop} {p T us k : Nat} {x2 x6 : Int32} {S B G : Nat → Nat} (hp : p < 7) (hT : T < 16) (hG : pd_D G) (hk : us + k < 1320) (hus : us ≤ 1320)
    (hS : ∀ t, t < T → sc t = nI (S t) ∧ bg t = nI (B t) ∧ S t < 128) (hB : ∀ t, t < T → B t + 3 ^ pd_rk (S t) 7 ≤ us) (hbg : bg T = nI us)
    (hJ : ∀ ge', J (nI (k + 1)) cn q ow tb uu mo fa se al sc bg (vp_updL ce (us + k) (pd_su (fun d => pd_Q p T S B ce (pd_gu G p d)) 3)) ge') :
    ∀ d j ge, j + d = 3 → (∀ t, t < T → (S t).testBit p = true → ∀ i, i < 7 → i ≠ p → (S t).testBit i = true → ge i = nI (G i)) → wX_takeOut_56 post J (nI p) x2 (nI T) (nI T) x6 (nI k) cn q ow tb uu (d + 1) (pd_su (fun d => pd_Q p T S B ce (pd_gu G p d)) j) (nI j) mo fa se al sc bg ce ge := by
  have eT : (nI T).toNatClampNeg = T := nI_clamp (by omega)
  intro d
  induction d with
  | zero =>
    intro j ge hj hge
    obtain rfl : j = 3 := by omega
    have ei : bg (nI T).toNatClampNeg + nI k = nI (us + k) := by rw [eT, hbg, nI_add]
    refine pk_le 3 3 (fun _ => ⟨pk_in T 16 hT, pk_in (us + k) 1320 hk ei, nm_r (e' := vp_updL ce (us + k) (pd_su (fun d => pd_Q p T S B ce (pd_gu G p d)) 3)) ?_ (nm_r (e' := nI (k + 1)) (nI_1 k) (hJ ge))⟩) (fun z => absurd z (by omega))
    rw [ei, nI_clamp (by omega)]
  | succ d ih =>
    intro j ge hj hge
    refine pk_le 3 j (fun z => absurd z (by omega)) (fun _ => ⟨pk_in p 7 hp, nm_r (e' := upd ge p (nI j)) (by rw [nI_clamp (by omega)]) ?_⟩)
    refine pw_pro (S := S) (B := B) (G := pd_gu G p j) hp (by omega) hS ?_ ?_ ?_
    · intro t ht hb i hi hbi
      by_cases z : i = p
      · rw [z, pk_us, pd_gu_s]
      · rw [pk_un z, pd_gu_n z]; exact hge t ht hb i hi z hbi
    · intro t ht _
      have h1 := hB t ht
      have h2 := pd_pl_lt (s := S t) (pd_gu_D (p := p) hG (show j < 3 by omega)) 7
      omega
    · refine nm_r (e' := pd_su (fun d => pd_Q p T S B ce (pd_gu G p d)) (j + 1)) rfl (nm_r (e' := nI (j + 1)) (nI_1 j) (ih (j + 1) _ (by omega) ?_))
      intro t ht hb i hi z hbi
      rw [pk_un z]
      exact hge t ht hb i hi z hbi
/-- the new table's entries -/
theorem pw_out_36 {post : SX → Prop} {p T us ar : Nat} {S B : Nat → Nat} {ce0 : Nat → Int64} (hp : p < 7) (hT : T < 16) (har : ar = pd_clr (pd_ar S p T) p) (hus : us + 3 ^ pd_rk ar 7 ≤ 1320)
    (hS : ∀ t, t < T → sc t = nI (S t) ∧ bg t = nI (B t) ∧ S t < 128) (hB : ∀ t, t < T → B t + 3 ^ pd_rk (S t) 7 ≤ us) (hbg : bg T = nI us)
    (h : ∀ ce' ge', (∀ x, x < us → ce' x = ce0 x) → (∀ k, k < 3 ^ pd_rk ar 7 → ce' (us + k) = pd_su (fun d => pd_Q p T S B ce0 (pd_gu (pd_ds ar k) p d)) 3) → ∃ n, wX_takeOut_117 post (nI p) (nI T) cn q ow tb uu n 0 mo fa se al sc bg ce' ge') :
    ∀ d k ce ge, k + d = 3 ^ pd_rk ar 7 → (∀ x, x < us → ce x = ce0 x) → (∀ i, i < k → ce (us + i) = pd_su (fun d => pd_Q p T S B ce0 (pd_gu (pd_ds ar i) p d)) 3) → wX_takeOut_36 post (nI p) (nI ar) (nI T) (nI T) (nI (3 ^ pd_rk ar 7)) (d + 1) (nI k) cn q ow tb uu mo fa se al sc bg ce ge := by
  have hal : pd_ar S p T < 128 := pd_ar_lt T (fun t ht => (hS t ht).2.2)
  have har7 : ar < 128 := by rw [har]; exact pd_clr_lt _ hal p hp
  generalize hEE : 3 ^ pd_rk ar 7 = E at *
  intro d
  induction d with
  | zero =>
    intro k ce ge hk h1 h2
    obtain rfl : k = E := by omega
    exact pk_le k k (fun _ => h ce ge h1 h2) (fun z => absurd z (by omega))
  | succ d ih =>
    intro k ce ge hk h1 h2
    refine pk_le E k (fun z => absurd z (by omega)) (fun _ => pw_spr har7 (by omega) (fun ge' hge => ⟨3 + 1, ?_⟩))
    refine pw_out_in (S := S) (B := B) (G := pd_ds ar k) (us := us) hp hT (pd_ds_D ar k) (by omega) (by omega) hS hB hbg ?_ 3 0 ge' (by omega) ?_
    · intro ge2
      refine ih (k + 1) _ _ (by omega) ?_ ?_
      · intro x hx
        rw [pk_uLn (by omega)]
        exact h1 x hx
      · intro i hi
        by_cases z : i = k
        · rw [z, pk_uLs]
          refine pd_su_congr 3 (fun d hd => pd_Q_congr (fun t ht hb => ?_))
          have e1 := hB t ht
          have e2 := pd_pl_lt (s := S t) (pd_gu_D (p := p) (pd_ds_D ar k) hd) 7
          exact h1 _ (by omega)
        · rw [pk_uLn (by omega)]
          exact h2 i (by omega)
    · intro t ht hb i hi z hbi
      refine hge i hi ?_
      rw [har, pd_clr_t hal hp, pd_ar_of hb hbi T ht, decide_eq_true z]
      rfl
def pd_cl (S : Nat → Nat) (p j : Nat) : Nat → Nat := fun t => if t < j ∧ (S t).testBit p = true then 0 else S t
/-- the old tables with p are put away -/
theorem pw_out_117 {ge : Nat → Int32} {post : SX → Prop} {p T : Nat} {S B : Nat → Nat} {ce0 : Nat → Int64} (hp : p < 7) (hT : T < 16) (hS : ∀ t, t < T → bg t = nI (B t) ∧ S t < 128 ∧ B t < 1320)
    (h : ∀ sc' ce', (∀ t, t < T + 1 → sc' t = nI (pd_cl S p T t)) → (∀ t, t < T → (S t).testBit p = true → ce' (B t) = 1) → (∀ x, (∀ t, t < T → (S t).testBit p = true → x ≠ B t) → ce' x = ce0 x) → post (cn, q, ow, tb, uu, mo, fa, se, al, sc', bg, ce', ge)) :
    ∀ d j sc ce, j + d = T → (∀ t, t < T + 1 → sc t = nI (pd_cl S p j t)) → (∀ t, t < j → (S t).testBit p = true → ce (B t) = 1) → (∀ x, (∀ t, t < j → (S t).testBit p = true → x ≠ B t) → ce x = ce0 x) → wX_takeOut_117 post (nI p) (nI T) cn q ow tb uu (d + 1) (nI j) mo fa se al sc bg ce ge := by
  intro d
  induction d with
  | zero =>
    intro j sc ce hj h1 h2 h3
    obtain rfl : j = T := by omega
    exact pk_le j j (fun _ => h sc ce h1 h2 h3) (fun z => absurd z (by omega))
  | succ d ih =>
    intro j sc ce hj h1 h2 h3
    obtain ⟨e1, e2, e3⟩ := hS j (by omega)
    have ej : (nI j).toNatClampNeg = j := nI_clamp (by omega)
    have es : sc j = nI (S j) := by
      rw [h1 j (by omega)]
      unfold pd_cl
      rw [if_neg (by omega)]
    refine pk_le T j (fun z => absurd z (by omega)) (fun _ => ⟨pk_in j 16 (by omega), ?_⟩)
    rw [ej, es]
    cases hb : (S j).testBit p with
    | false =>
      refine br_f (pd_rdf e2 hp hb) (nm_r (e' := nI (j + 1)) (nI_1 j) (ih (j + 1) sc ce (by omega) ?_ ?_ ?_))
      · intro t ht
        rw [h1 t ht]
        unfold pd_cl
        by_cases z : t < j ∧ (S t).testBit p = true
        · rw [if_pos z, if_pos ⟨by omega, z.2⟩]
        · rw [if_neg z, if_neg (fun y => z ⟨by
            by_cases w : t = j
            · rw [w, hb] at y; exact absurd y.2 (by decide)
            · omega, y.2⟩)]
      · intro t ht hbt
        by_cases w : t = j
        · rw [w, hb] at hbt; exact absurd hbt (by decide)
        · exact h2 t (by omega) hbt
      · intro x hx
        exact h3 x (fun t ht hbt => hx t (by omega) hbt)
    | true =>
      refine br_t (pd_rdt e2 hp hb) ⟨pk_in j 16 (by omega), nm_r (e' := upd sc j 0) rfl ⟨pk_in j 16 (by omega), pk_in (B j) 1320 e3 e1, nm_r (e' := vp_updL ce (B j) 1) (by rw [e1, nI_clamp (by omega)]) (nm_r (e' := nI (j + 1)) (nI_1 j) (ih (j + 1) _ _ (by omega) ?_ ?_ ?_))⟩⟩
      · intro t ht
        unfold pd_cl
        by_cases w : t = j
        · rw [w, pk_us, if_pos ⟨by omega, hb⟩]; rfl
        · rw [pk_un w, h1 t ht]
          unfold pd_cl
          by_cases z : t < j ∧ (S t).testBit p = true
          · rw [if_pos z, if_pos ⟨by omega, z.2⟩]
          · rw [if_neg z, if_neg (fun y => z ⟨by omega, y.2⟩)]
      · intro t ht hbt
        by_cases w : B t = B j
        · rw [w, pk_uLs]
        · rw [pk_uLn w]
          exact h2 t (by
            have : t ≠ j := fun y => w (by rw [y])
            omega) hbt
      · intro x hx
        rw [pk_uLn (hx j (by omega) hb)]
        exact h3 x (fun t ht hbt => hx t (by omega) hbt)
end
section
variable {cn q ow : Int32} {mo fa se al sc bg : Nat → Int32} {ce : Nat → Int64} {ge : Nat → Int32}
theorem pw_out {post : SX → Prop} {p T us : Nat} {S B : Nat → Nat} (hp : p < 7) (hT : T < 16) (hI : pd_TI T us S B sc bg) (hus : us + 3 ^ pd_rk (pd_clr (pd_ar S p T) p) 7 ≤ 1320)
    (h : ∀ S' B' sc' bg' ce' ge', pd_TI (T + 1) (us + 3 ^ pd_rk (pd_clr (pd_ar S p T) p) 7) S' B' sc' bg' → (∀ t, t < T + 1 → ∀ i, (S' t).testBit i = true → i ≠ p ∧ ∃ t0, t0 < T ∧ (S t0).testBit i = true) → (∀ g, pd_D g → pd_F (T + 1) S' B' ce' g = pd_su (fun d => pd_F T S B ce (pd_gu g p d)) 3) → post (cn, q, ow, nI (T + 1), nI (us + 3 ^ pd_rk (pd_clr (pd_ar S p T) p) 7), mo, fa, se, al, sc', bg', ce', ge')) :
    wpX_takeOut post (cn, q, ow, nI T, nI us, mo, fa, se, al, sc, bg, ce, ge) (nI p) := by
  have hal : pd_ar S p T < 128 := pd_ar_lt T (fun t ht => (hI.1 t ht).2.2.1)
  have hlt : pd_clr (pd_ar S p T) p < 128 := pd_clr_lt _ hal p hp
  have hr : pd_rk (pd_clr (pd_ar S p T) p) 7 < 2 ^ 31 := Nat.lt_of_le_of_lt (pd_rk_le 7) (by decide)
  have hI2 := pd_TI_add hI hlt
  generalize har : pd_clr (pd_ar S p T) p = ar at *
  have hus0 : us ≤ 1320 := Nat.le_trans (Nat.le_add_right _ _) hus
  refine pw_aro hp (by omega) (fun t ht => ⟨(hI.1 t ht).1, (hI.1 t ht).2.2.1⟩) ?_
  rw [har]
  refine pw_open hT hlt (pw_size hlt (pw_pow hr ⟨3 ^ pd_rk ar 7 + 1, ?_⟩))
  have hSx : ∀ t, t < T → upd sc T (nI ar) t = nI (S t) ∧ upd bg T (nI us) t = nI (B t) ∧ S t < 128 := by
    intro t ht
    have z : t ≠ T := by omega
    rw [pk_un z, pk_un z]
    exact ⟨(hI.1 t ht).1, (hI.1 t ht).2.1, (hI.1 t ht).2.2.1⟩
  have hB : ∀ t, t < T → B t + 3 ^ pd_rk (S t) 7 ≤ us := fun t ht => (hI.1 t ht).2.2.2
  refine pw_out_36 (S := S) (B := B) (ce0 := ce) (us := us) hp hT har.symm hus hSx hB pk_us ?_ (3 ^ pd_rk ar 7) 0 ce ge (by omega) (fun x _ => rfl) (fun i hi => absurd hi (Nat.not_lt_zero i))
  intro ce1 ge1 k1 k2
  have hcl : ∀ t, t < T → (pd_gu S T ar t) = S t := fun t ht => pd_gu_n (by omega)
  have hclB : ∀ t, t < T → (pd_gu B T us t) = B t := fun t ht => pd_gu_n (by omega)
  refine ⟨T + 1, pw_out_117 (S := pd_gu S T ar) (B := pd_gu B T us) (ce0 := ce1) hp hT ?_ ?_ T 0 _ ce1 (by omega) ?_ (fun t ht => absurd ht (Nat.not_lt_zero t)) (fun x _ => rfl)⟩
  · intro t ht
    have w := hB t ht
    have w2 : 0 < 3 ^ pd_rk (S t) 7 := Nat.pow_pos (by decide)
    rw [hcl t ht, hclB t ht]
    exact ⟨(hSx t ht).2.1, (hSx t ht).2.2, by omega⟩
  · intro sc2 ce2 m1 m2 m3
    have hS' : ∀ t, t < T → (S t).testBit p = true → pd_cl (pd_gu S T ar) p T t = 0 := by
      intro t ht hb
      unfold pd_cl
      rw [hcl t ht, if_pos ⟨ht, hb⟩]
    have hS'' : ∀ t, t < T → (S t).testBit p = false → pd_cl (pd_gu S T ar) p T t = S t := by
      intro t ht hb
      unfold pd_cl
      rw [hcl t ht, if_neg (by rw [hb]; exact fun y => absurd y.2 (by decide))]
    have hST : pd_cl (pd_gu S T ar) p T T = ar := by
      unfold pd_cl
      rw [if_neg (by omega), pd_gu_s]
    have hrk : ∀ t, 3 ^ pd_rk (pd_cl (pd_gu S T ar) p T t) 7 ≤ 3 ^ pd_rk (pd_gu S T ar t) 7 := by
      intro t
      refine Nat.pow_le_pow_right (by decide) (pd_rk_sub 7 (fun i _ hb => ?_))
      unfold pd_cl at hb
      by_cases z : t < T ∧ (pd_gu S T ar t).testBit p = true
      · rw [if_pos z, Nat.zero_testBit] at hb; exact absurd hb (by decide)
      · rw [if_neg z] at hb; exact hb
    refine h (pd_cl (pd_gu S T ar) p T) (pd_gu B T us) sc2 (upd bg T (nI us)) ce2 ge1 ⟨?_, ?_⟩ ?_ ?_
    · intro t ht
      obtain ⟨_, i2, i3, i4⟩ := hI2.1 t ht
      refine ⟨m1 t ht, i2, ?_, ?_⟩
      · unfold pd_cl
        by_cases z : t < T ∧ (pd_gu S T ar t).testBit p = true
        · rw [if_pos z]; decide
        · rw [if_neg z]; exact i3
      · have := hrk t
        omega
    · intro t t' y1 y2
      have i := hI2.2 t t' y1 y2
      have := hrk t
      omega
    · intro t ht i hb
      by_cases z : t = T
      · rw [z, hST, ← har, pd_clr_t hal hp, Bool.and_eq_true, decide_eq_true_eq] at hb
        obtain ⟨t0, a1, _, a3⟩ := pd_ar_in T hb.1
        exact ⟨hb.2, t0, a1, a3⟩
      · have ht2 : t < T := by omega
        cases hp2 : (S t).testBit p with
        | true =>
          rw [hS' t ht2 hp2, Nat.zero_testBit] at hb
          exact absurd hb (by decide)
        | false =>
          rw [hS'' t ht2 hp2] at hb
          exact ⟨fun y => by rw [y, hp2] at hb; exact absurd hb (by decide), t, ht2, hb⟩
    · refine pd_out (us := us) (ar := ar) ?_ ?_
      · intro g hg
        have hpl := pd_pl_lt (s := ar) hg 7
        rw [hST, pd_gu_s, m3 _ (fun t ht _ => by
          have w := hB t ht
          have w2 : 0 < 3 ^ pd_rk (S t) 7 := Nat.pow_pos (by decide)
          rw [hclB t ht]
          omega), k2 _ hpl]
        refine pd_su_congr 3 (fun d hd => pd_Q_congr (fun t ht hb => ?_))
        have e : pd_pl (S t) (pd_gu (pd_ds ar (pd_pl ar g 7)) p d) 7 = pd_pl (S t) (pd_gu g p d) 7 := by
          refine pd_pl_congr 7 (fun i hi hbi => ?_)
          by_cases z : i = p
          · rw [z, pd_gu_s, pd_gu_s]
          · rw [pd_gu_n z, pd_gu_n z]
            refine pd_ds_pl hg hi ?_
            rw [← har, pd_clr_t hal hp, pd_ar_of hb hbi T ht, decide_eq_true z]
            rfl
        rw [e]
      · intro t ht g hg
        have hpl := pd_pl_lt (s := S t) hg 7
        rw [hclB t ht]
        cases hb : (S t).testBit p with
        | true =>
          rw [hS' t ht hb, pd_pl_none 7 (fun i _ => Nat.zero_testBit i), Nat.add_zero, if_pos rfl, ← hclB t ht]
          exact m2 t ht (by rw [hcl t ht]; exact hb)
        | false =>
          have w := hB t ht
          rw [hS'' t ht hb, if_neg (by decide), m3 _ (fun t2 ht2 hb2 => by
            rw [hcl t2 ht2] at hb2
            rw [hclB t2 ht2]
            rcases Nat.lt_trichotomy t t2 with y | y | y
            · have := hI.2 t t2 y ht2
              omega
            · rw [← y, hb] at hb2; exact absurd hb2 (by decide)
            · have y2 := hI.2 t2 t y ht
              have w2 : 0 < 3 ^ pd_rk (S t2) 7 := Nat.pow_pos (by decide)
              omega)]
          exact k1 _ (by omega)
  · intro t ht
    unfold pd_cl
    rw [if_neg (by omega)]
    exact (hI2.1 t ht).1
end
end
section
/-! X's walk of sum -/
theorem pd_D0 : pd_D (fun _ => 0) := fun _ => Nat.zero_lt_succ 2
theorem pw_84 {cn q ow us : Int32} {mo fa se al sc bg : Nat → Int32} {ce : Nat → Int64} {ge : Nat → Int32} {post : Int64 → SX → Prop} {T : Nat} {B : Nat → Nat} (hT : T ≤ 16) (hB : ∀ t, t < T → bg t = nI (B t) ∧ B t < 1320) (h : post (pd_pr (fun t => ce (B t)) T) (cn, q, ow, nI T, us, mo, fa, se, al, sc, bg, ce, ge)) : ∀ d t, t + d = T → wX_sum_84 post cn q ow (nI T) us mo fa se al sc bg ce ge (d + 1) (pd_pr (fun t => ce (B t)) t) (nI t) := by
  intro d
  induction d with
  | zero =>
    intro t ht
    obtain rfl : t = T := by omega
    exact pk_le t t (fun _ => h) (fun z => absurd z (by omega))
  | succ d ih =>
    intro t ht
    obtain ⟨h1, h2⟩ := hB t (by omega)
    refine pk_le T t (fun z => absurd z (by omega)) (fun _ => ⟨pk_in t 16 (by omega), ?_⟩)
    rw [nI_clamp (n := t) (by omega), h1]
    refine ⟨pk_in (B t) 1320 h2, nm_r (e' := pd_pr (fun t => ce (B t)) (t + 1)) ?_ (nm_r (e' := nI (t + 1)) (nI_1 t) (ih (t + 1) (by omega)))⟩
    rw [nI_clamp (by omega)]
    rfl
section
variable {q ow : Int32} {mo fa se al : Nat → Int32}
theorem pw_42 {post : Int64 → SX → Prop} {c : Nat} {tot : Int64} (hc : c ≤ 7) (h : ∀ tb us sc bg ce ge, post tot (nI c, q, ow, tb, us, mo, fa, se, al, sc, bg, ce, ge)) :
    ∀ d i l T us S B sc bg ce ge, i + d = c → T + d = c + c → l < 128 → (∀ j, l.testBit j = true → j < c) → pd_rk l 7 = d → 2 * us + 3 ^ d ≤ 2565 → pd_TI T us S B sc bg → (∀ t, t < T → ∀ j, (S t).testBit j = true → l.testBit j = true) → pd_S l (pd_F T S B ce) c (fun _ => 0) = tot → wX_sum_42 post (d + 1) (nI l) (nI i) (nI c) q ow (nI T) (nI us) mo fa se al sc bg ce ge := by
  intro d
  induction d with
  | zero =>
    intro i l T us S B sc bg ce ge hi hT hl hlc hr hus hI hSl htot
    obtain rfl : i = c := by omega
    have hz : ∀ j, l.testBit j = false := by
      intro j
      rcases Nat.lt_or_ge j 7 with y | y
      · exact pd_rk_zero 7 hr j y
      · exact pd_hi hl y
    refine pk_le i i (fun _ => ⟨T + 1, pw_84 (B := B) (by omega) ?_ ?_ T 0 (by omega)⟩) (fun z => absurd z (by omega))
    · intro t ht
      obtain ⟨_, h2, _, h4⟩ := hI.1 t ht
      have w2 : 0 < 3 ^ pd_rk (S t) 7 := Nat.pow_pos (by decide)
      exact ⟨h2, by omega⟩
    · have e : pd_pr (fun t => ce (B t)) T = tot := by
        rw [← htot, pd_S_none i _ (fun j _ => hz j)]
        refine pd_pr_congr T (fun t ht => ?_)
        rw [pd_pl_none 7 (fun j _ => by
          cases hb : (S t).testBit j with
          | false => rfl
          | true =>
            have y := hSl t ht j hb
            rw [hz j] at y
            exact absurd y (by decide)), Nat.add_zero]
      rw [e]
      exact h _ _ _ _ _ _
  | succ d ih =>
    intro i l T us S B sc bg ce ge hi hT hl hlc hr hus hI hSl htot
    obtain ⟨p0, _, hb0⟩ := pd_rk_pos (s := l) 7 (by omega)
    refine pk_le c i (fun z => absurd z (by omega)) (fun _ => ?_)
    refine pw_eas hc hl ⟨p0, hlc p0 hb0, hb0⟩ (by omega) (fun t ht => ⟨(hI.1 t ht).1, (hI.1 t ht).2.2.1⟩) (fun p hpc hbp => ?_)
    have hp : p < 7 := by omega
    have hal : pd_ar S p T < 128 := pd_ar_lt T (fun t ht => (hI.1 t ht).2.2.1)
    have hrc := pd_clr_rk l hl p hp hbp
    have hra : pd_rk (pd_clr (pd_ar S p T) p) 7 ≤ d := by
      refine Nat.le_trans (pd_rk_sub (s' := pd_clr l p) 7 (fun j _ hb => ?_)) (by omega)
      rw [pd_clr_t hal hp, Bool.and_eq_true] at hb
      obtain ⟨t, a1, _, a3⟩ := pd_ar_in T hb.1
      rw [pd_clr_t hl hp, hSl t a1 j a3, hb.2]
      rfl
    have h3 : 3 ^ pd_rk (pd_clr (pd_ar S p T) p) 7 ≤ 3 ^ d := Nat.pow_le_pow_right (by decide) hra
    rw [Nat.pow_succ] at hus
    refine br_f (nI_pos (by omega)) (pw_out (S := S) (B := B) (us := us) hp (by omega) hI (by omega) ?_)
    intro S' B' sc' bg' ce' ge' k1 k2 k3
    refine nm_r (e' := nI (pd_clr l p)) (by rw [pd_sh (by omega), pd_clr_I l hl p hp]) (nm_r (e' := nI (i + 1)) (nI_1 i) ?_)
    refine ih (i + 1) (pd_clr l p) (T + 1) _ S' B' sc' bg' ce' ge' (by omega) (by omega) (pd_clr_lt l hl p hp) ?_ (by omega) (by omega) k1 ?_ ?_
    · intro j hb
      rw [pd_clr_t hl hp, Bool.and_eq_true] at hb
      exact hlc j hb.1
    · intro t ht j hb
      obtain ⟨a1, t0, a2, a3⟩ := k2 t ht j hb
      rw [pd_clr_t hl hp, hSl t0 a2 j a3, decide_eq_true a1]
      rfl
    · rw [← htot, pd_S_congr k3 c (fun _ => 0) pd_D0, pd_S_take (l := l) (l' := pd_clr l p) hbp ?_ ?_ c _ hpc]
      · rw [pd_clr_t hl hp, decide_eq_false (fun y => y rfl), Bool.and_false]
      · intro j hj
        rw [pd_clr_t hl hp, decide_eq_true hj, Bool.and_true]
theorem pw_12 {post : Int64 → SX → Prop} {c : Nat} {A : Nat → Nat} (hc : c ≤ 7) (hP : pd_P c mo fa) (hA : ∀ i, i < 7 → al i = nI (A i) ∧ A i < 8) (h : ∀ tb us sc bg ce ge, post (pd_su (fun a => pd_pr (fun p => pd_fx q ow mo fa se A p (pd_di a)) c) (3 ^ c)) (nI c, q, ow, tb, us, mo, fa, se, al, sc, bg, ce, ge)) :
    ∀ d p us S B sc bg ce ge, p + d = c → us ≤ 27 * p → pd_TI p us S B sc bg → (∀ t, t < p → ∀ j, (S t).testBit j = true → j < c) → (∀ t, t < p → ∀ g, pd_D g → ce (B t + pd_pl (S t) g 7) = pd_fx q ow mo fa se A t g) → wX_sum_12 post (d + 1) (nI p) (nI c) q ow (nI p) (nI us) mo fa se al sc bg ce ge := by
  intro d
  induction d with
  | zero =>
    intro p us S B sc bg ce ge hp hus hI hSc hF
    obtain rfl : p = c := by omega
    have h3 := pd_p3 p hc
    refine pk_le p p (fun _ => nm_r (e' := nI (2 ^ p - 1)) (pd_full_I p (by omega)) ⟨p + 1, ?_⟩) (fun z => absurd z (by omega))
    refine pw_42 (c := p) hc h p 0 (2 ^ p - 1) p us S B sc bg ce ge (by omega) rfl (pd_full_lt p (by omega)) (fun j hj => pd_full_f hj) (pd_full_rk p (by omega)) (by omega) hI (fun t ht j hj => pd_full_t p hc j (hSc t ht j hj)) ?_
    rw [← pd_S_all (l := 2 ^ p - 1) (n := p) (F := fun g => pd_pr (fun i => pd_fx q ow mo fa se A i g) p) (fun j hj => pd_full_t p hc j hj)]
    refine pd_S_congr (fun g hg => ?_) p _ pd_D0
    exact pd_pr_congr p (fun t ht => hF t ht g hg)
  | succ d ih =>
    intro p us S B sc bg ce ge hp hus hI hSc hF
    have hpc : p < c := by omega
    refine pk_le c p (fun z => absurd z (by omega)) (fun _ => ?_)
    refine pw_per (A := A) hc hP hpc (by omega) (by omega) hA (fun ce' ge' k1 k2 => ?_)
    have hr : 3 ^ pd_rk (pd_sc mo fa p) 7 ≤ 3 ^ 3 := Nat.pow_le_pow_right (by decide) (pd_sc_rk hP hc hpc)
    refine nm_r (e' := nI (p + 1)) (nI_1 p) (ih (p + 1) _ (pd_gu S p (pd_sc mo fa p)) (pd_gu B p us) _ _ ce' ge' (by omega) (by omega) (pd_TI_add hI (pd_sc_lt hP hc hpc)) ?_ ?_)
    · intro t ht j hj
      by_cases z : t = p
      · rw [z, pd_gu_s] at hj
        exact pd_sc_in hP hc hpc hj
      · rw [pd_gu_n z] at hj
        exact hSc t (by omega) j hj
    · intro t ht g hg
      by_cases z : t = p
      · rw [z, pd_gu_s, pd_gu_s]
        exact k2 g hg
      · rw [pd_gu_n z, pd_gu_n z]
        have w := (hI.1 t (by omega)).2.2.2
        have w2 := pd_pl_lt (s := S t) hg 7
        rw [k1 _ (by omega)]
        exact hF t (by omega) g hg
theorem pw_sum {tb us : Int32} {sc bg : Nat → Int32} {ce : Nat → Int64} {ge : Nat → Int32} {post : Int64 → SX → Prop} {c : Nat} {A : Nat → Nat} (hc : c ≤ 7) (hP : pd_P c mo fa) (hA : ∀ i, i < 7 → al i = nI (A i) ∧ A i < 8) (h : ∀ tb us sc bg ce ge, post (pd_su (fun a => pd_pr (fun p => pd_fx q ow mo fa se A p (pd_di a)) c) (3 ^ c)) (nI c, q, ow, tb, us, mo, fa, se, al, sc, bg, ce, ge)) : wpX_sum post (nI c, q, ow, tb, us, mo, fa, se, al, sc, bg, ce, ge) :=
  ⟨c + 1, pw_12 hc hP hA h c 0 0 (fun _ => 0) (fun _ => 0) sc bg ce ge (by omega) (by omega) ⟨fun t ht => absurd ht (Nat.not_lt_zero t), fun _ t' _ ht => absurd ht (Nat.not_lt_zero t')⟩ (fun t ht => absurd ht (Nat.not_lt_zero t)) (fun t ht => absurd ht (Nat.not_lt_zero t))⟩
end
/-! allowAll -/
theorem pw_all_l {cn q ow tb us : Int32} {mo fa se sc bg : Nat → Int32} {ce : Nat → Int64} {ge : Nat → Int32} {post : SX → Prop} (h : ∀ al', (∀ i, i < 7 → al' i = nI 7) → post (cn, q, ow, tb, us, mo, fa, se, al', sc, bg, ce, ge)) : ∀ d j al, j + d = 7 → (∀ i, i < j → al i = nI 7) → wX_allowAll_7 post cn q ow tb us (d + 1) (nI j) mo fa se al sc bg ce ge := by
  intro d
  induction d with
  | zero =>
    intro j al hj hI
    obtain rfl : j = 7 := by omega
    exact pk_le 7 7 (fun _ => h al hI) (fun z => absurd z (by omega))
  | succ d ih =>
    intro j al hj hI
    refine pk_le 7 j (fun z => absurd z (by omega)) (fun _ => ⟨pk_in j 7 (by omega), nm_r (e' := upd al j (nI 7)) (by rw [nI_clamp (by omega)]; rfl) (nm_r (e' := nI (j + 1)) (nI_1 j) (ih (j + 1) _ (by omega) ?_))⟩)
    intro i hi
    by_cases z : i = j
    · rw [z, pk_us]
    · rw [pk_un z]; exact hI i (by omega)
theorem pw_all {cn q ow tb us : Int32} {mo fa se al sc bg : Nat → Int32} {ce : Nat → Int64} {ge : Nat → Int32} {post : SX → Prop} (h : ∀ al', (∀ i, i < 7 → al' i = nI 7) → post (cn, q, 0, tb, us, mo, fa, se, al', sc, bg, ce, ge)) : wpX_allowAll post (cn, q, ow, tb, us, mo, fa, se, al, sc, bg, ce, ge) :=
  ⟨7 + 1, pw_all_l h 7 0 al (by omega) (fun i hi => absurd hi (Nat.not_lt_zero i))⟩
end
section
/-! Y's walks -/
theorem yw_pow_l {cn q : Int32} {mo fa se : Nat → Int32} {post : Int32 → Prop} {m : Nat} (hm : m < 2 ^ 31) (h : post (nI (3 ^ m))) : ∀ d j, j + d = m → wY_power_4 post (nI m) cn q mo fa se (d + 1) (nI (3 ^ j)) (nI j) := by
  intro d
  induction d with
  | zero =>
    intro j hj
    obtain rfl : j = m := by omega
    exact pk_le j j (fun _ => h) (fun z => absurd z (by omega))
  | succ d ih =>
    intro j hj
    refine pk_le m j (fun z => absurd z (by omega)) (fun _ => ?_)
    refine nm_r (e' := nI (3 ^ (j + 1))) ?_ (nm_r (e' := nI (j + 1)) (nI_1 j) (ih (j + 1) (by omega)))
    rw [Nat.pow_succ, Nat.mul_comm, ← pk_mul]
    rfl
theorem yw_pow {post : Int32 → Prop} {u : SY} {m : Nat} (hm : m < 2 ^ 31) (h : post (nI (3 ^ m))) : wpY_power post u (nI m) := by
  obtain ⟨cn, q, mo, fa, se⟩ := u
  exact ⟨m + 1, yw_pow_l hm h m 0 (by omega)⟩
theorem pd_p3b {p : Nat} (hp : p < 7) : 3 ^ p < 2 ^ 31 := Nat.lt_of_le_of_lt (pd_p3 p (by omega)) (by decide)
theorem yw_gen {post : Int32 → Prop} {u : SY} {a p : Nat} (ha : a < 2 ^ 31) (hp : p < 7) (h : post (nI (pd_di a p))) : wpY_genotype post u (nI a) (nI p) := by
  obtain ⟨cn, q, mo, fa, se⟩ := u
  have h0 : 0 < 3 ^ p := Nat.pow_pos (by decide)
  unfold wpY_genotype
  dsimp only
  refine yw_pow (by omega) ⟨nI_ne0 h0 (pd_p3b hp), by decide, ?_⟩
  rw [pk_div ha h0 (pd_p3b hp), pd_rem3 (Nat.lt_of_le_of_lt (Nat.div_le_self _ _) ha)]
  exact h
theorem yw_fou {cn q : Int32} {mo fa se : Nat → Int32} {post : Int32 → Prop} {g : Nat} (hg : g < 3) (h : post (pd_fw q g)) : wpY_founded post (cn, q, mo, fa, se) (nI g) := by
  refine pk_eq g 0 (fun z => ?_) (fun z => pk_eq g 1 (fun y => ?_) (fun y => ?_))
  · rw [z] at h; exact h
  · rw [y] at h; exact h
  · unfold pd_fw at h
    rw [if_neg z, if_neg y] at h
    exact h
theorem yw_inh {u : SY} {post : Int32 → Prop} {g a b : Nat} (hg : g < 3) (h : post (pd_pa g a b)) : wpY_inherited post u (nI a) (nI b) (nI g) := by
  obtain ⟨cn, q, mo, fa, se⟩ := u
  refine pk_eq g 0 (fun z => ?_) (fun z => pk_eq g 1 (fun y => ?_) (fun y => ?_))
  · rw [z] at h; exact h
  · rw [y] at h; exact h
  · unfold pd_pa at h
    rw [if_neg z, if_neg y] at h
    exact h
section
variable {q : Int32} {mo fa se : Nat → Int32}
theorem yw_fac {cn : Int32} {post : Int32 → Prop} {c a p : Nat} (hc : c ≤ 7) (hP : pd_P c mo fa) (hp : p < c) (ha : a < 2 ^ 31) (h : post (pd_w q mo fa se p (pd_di a))) : wpY_factor post (cn, q, mo, fa, se) (nI a) (nI p) := by
  have ep : (nI p).toNatClampNeg = p := nI_clamp (by omega)
  have hg : pd_di a p < 3 := pd_di_D a p
  have e : (3 * nI p) + nI (pd_di a p) = nI (3 * p + pd_di a p) := by
    rw [← nI_add, ← pk_mul]
    rfl
  unfold wpY_factor
  dsimp only
  refine yw_gen ha (by omega) ⟨pk_in (3 * p + pd_di a p) 21 (by omega) e, nm_r (e' := se (3 * p + pd_di a p)) (by rw [e, nI_clamp (by omega)]) ⟨pk_in p 7 (by omega), ?_⟩⟩
  rw [ep]
  unfold pd_w at h
  rcases hP p hp with z | ⟨x, y, hx, hy, hm, hf⟩
  · rw [pd_o_f z] at h
    exact br_f (Int32.not_le.mpr z) (yw_fou hg h)
  · rw [pd_o_c (show x < 7 by omega) (show y < 7 by omega) hm hf] at h
    rw [hm, hf]
    exact br_t (nI_pos' (by omega)) ⟨pk_in p 7 (by omega), yw_gen ha (by omega) ⟨pk_in p 7 (by omega), yw_gen ha (by omega) (yw_inh hg h)⟩⟩
def pd_W (c : Nat) (q : Int32) (mo fa se : Nat → Int32) (a : Nat) : Int64 := pd_pr (fun p => (pd_w q mo fa se p (pd_di a)).toInt64) c
theorem yw_wei_l {post : Int64 → Prop} {c a : Nat} (hc : c ≤ 7) (hP : pd_P c mo fa) (ha : a < 2 ^ 31) (h : post (pd_W c q mo fa se a)) : ∀ d p, p + d = c → wY_weight_5 post (nI a) (nI c) q mo fa se (d + 1) (pd_W p q mo fa se a) (nI p) := by
  intro d
  induction d with
  | zero =>
    intro p hp
    obtain rfl : p = c := by omega
    exact pk_le p p (fun _ => h) (fun z => absurd z (by omega))
  | succ d ih =>
    intro p hp
    refine pk_le c p (fun z => absurd z (by omega)) (fun _ => yw_fac hc hP (by omega) ha ?_)
    exact nm_r (e' := pd_W (p + 1) q mo fa se a) rfl (nm_r (e' := nI (p + 1)) (nI_1 p) (ih (p + 1) (by omega)))
theorem yw_wei {post : Int64 → Prop} {c a : Nat} (hc : c ≤ 7) (hP : pd_P c mo fa) (ha : a < 2 ^ 31) (h : post (pd_W c q mo fa se a)) : wpY_weight post (nI c, q, mo, fa, se) (nI a) :=
  ⟨c + 1, yw_wei_l hc hP ha h c 0 (by omega)⟩
theorem yw_lik_l {post : Int64 → Prop} {c N : Nat} (hc : c ≤ 7) (hN : N ≤ 2187) (hP : pd_P c mo fa) (h : post (pd_su (pd_W c q mo fa se) N)) : ∀ d a, a + d = N → wY_likelihood_14 post (nI N) (nI c) q mo fa se (d + 1) (pd_su (pd_W c q mo fa se) a) (nI a) := by
  intro d
  induction d with
  | zero =>
    intro a ha
    obtain rfl : a = N := by omega
    exact pk_le a a (fun _ => h) (fun z => absurd z (by omega))
  | succ d ih =>
    intro a ha
    refine pk_le N a (fun z => absurd z (by omega)) (fun _ => yw_wei hc hP (by omega) ?_)
    exact nm_r (e' := pd_su (pd_W c q mo fa se) (a + 1)) rfl (nm_r (e' := nI (a + 1)) (nI_1 a) (ih (a + 1) (by omega)))
theorem yw_lik {post : Int64 → Prop} {c : Nat} (hc : c ≤ 7) (hP : pd_P c mo fa) (h : post (pd_su (pd_W c q mo fa se) (3 ^ c))) : wpY_likelihood post (nI c, q, mo, fa, se) := by
  unfold wpY_likelihood
  dsimp only
  exact yw_pow (by omega) ⟨3 ^ c + 1, yw_lik_l hc (pd_p3 c hc) hP h (3 ^ c) 0 (by omega)⟩
/-- the weight of the assignments with two given genotypes -/
def pd_W2 (c : Nat) (q : Int32) (mo fa se : Nat → Int32) (p g r h : Nat) (a : Nat) : Int64 := if pd_di a p = g ∧ pd_di a r = h then pd_W c q mo fa se a else 0
theorem yw_two_l {post : Int64 → Prop} {c N p g r h : Nat} (hc : c ≤ 7) (hN : N ≤ 2187) (hP : pd_P c mo fa) (hp : p < c) (hr : r < c) (hg : g < 3) (hh : h < 3) (hx : post (pd_su (pd_W2 c q mo fa se p g r h) N)) : ∀ d a, a + d = N → wY_shareOfTwo_51 post (nI p) (nI g) (nI r) (nI h) (nI N) (nI c) q mo fa se (d + 1) (pd_su (pd_W2 c q mo fa se p g r h) a) (nI a) := by
  intro d
  induction d with
  | zero =>
    intro a ha
    obtain rfl : a = N := by omega
    exact pk_le a a (fun _ => hx) (fun z => absurd z (by omega))
  | succ d ih =>
    intro a ha
    have w := ih (a + 1) (by omega)
    have d1 := pd_di_D a p
    have d2 := pd_di_D a r
    have e0 : ¬ (pd_di a p = g ∧ pd_di a r = h) → pd_su (pd_W2 c q mo fa se p g r h) (a + 1) = pd_su (pd_W2 c q mo fa se p g r h) a := by
      intro z
      rw [pd_su, pd_W2, if_neg z, Int64.add_zero]
    refine pk_le N a (fun z => absurd z (by omega)) (fun _ => yw_gen (by omega) (by omega) ?_)
    refine pk_eq (pd_di a p) g (fun z1 => ?_) (fun z1 => ?_)
    · refine yw_gen (by omega) (by omega) ?_
      refine pk_eq (pd_di a r) h (fun z2 => ?_) (fun z2 => ?_)
      · refine yw_wei hc hP (by omega) ?_
        refine nm_r (e' := pd_su (pd_W2 c q mo fa se p g r h) (a + 1)) ?_ (nm_r (e' := nI (a + 1)) (nI_1 a) w)
        rw [pd_su, pd_W2, if_pos ⟨z1, z2⟩]
      · rw [e0 (fun y => z2 y.2)] at w
        exact nm_r (e' := nI (a + 1)) (nI_1 a) w
    · rw [e0 (fun y => z1 y.1)] at w
      exact nm_r (e' := nI (a + 1)) (nI_1 a) w
theorem yw_per1 {c p : Nat} {post : Int32 → Prop} (hc : c ≤ 7) (hp : p < c) (h : post 1) : wpY_isPerson post (nI c, q, mo, fa, se) (nI p) :=
  br_f (nI_pos (by omega)) (pk_le c p (fun z => absurd z (by omega)) (fun _ => h))
theorem yw_per0 {c : Nat} {v : Int32} {post : Int32 → Prop} (hv : v < 0 ∨ nI c ≤ v) (h : post 0) : wpY_isPerson post (nI c, q, mo, fa, se) v :=
  br_c (fun _ => h) (fun z => br_t (hv.resolve_left z) h)
theorem yw_gt1 {u : SY} {g : Nat} {post : Int32 → Prop} (hg : g < 3) (h : post 1) : wpY_isGenotype post u (nI g) := by
  obtain ⟨cn, q, mo, fa, se⟩ := u
  exact br_f (nI_pos (by omega)) (pk_lt 2 g (fun z => absurd z (by omega)) (fun _ => h))
theorem yw_gt0 {u : SY} {v : Int32} {post : Int32 → Prop} (hv : v < 0 ∨ nI 3 ≤ v) (h : post 0) : wpY_isGenotype post u v := by
  obtain ⟨cn, q, mo, fa, se⟩ := u
  refine br_c (fun _ => h) (fun z => br_t ?_ h)
  have w := hv.resolve_left z
  rw [Int32.le_iff_toInt_le] at w
  rw [Int32.lt_iff_toInt_lt]
  have e1 : (nI 3).toInt = 3 := by decide
  have e2 : (2 : Int32).toInt = 2 := by decide
  omega
theorem yw_two {post : Int64 → Prop} {c p g r h : Nat} (hc : c ≤ 7) (hP : pd_P c mo fa) (hp : p < c) (hr : r < c) (hg : g < 3) (hh : h < 3) (hx : post (pd_su (pd_W2 c q mo fa se p g r h) (3 ^ c))) : wpY_shareOfTwo post (nI c, q, mo, fa, se) (nI p) (nI g) (nI r) (nI h) := by
  unfold wpY_shareOfTwo
  dsimp only
  exact yw_per1 hc hp (br_f (by decide) (yw_per1 hc hr (br_f (by decide) (yw_gt1 hg (br_f (by decide) (yw_gt1 hh (br_f (by decide) (yw_pow (by omega) ⟨3 ^ c + 1, yw_two_l hc (pd_p3 c hc) hP hp hr hg hh hx (3 ^ c) 0 (by omega)⟩))))))))
def pd_WC (c : Nat) (q : Int32) (mo fa se : Nat → Int32) (p : Nat) (a : Nat) : Int64 := pd_W c q mo fa se a * (nI (pd_di a p)).toInt64
theorem yw_cop_l {post : Int64 → Prop} {c N p : Nat} (hc : c ≤ 7) (hN : N ≤ 2187) (hP : pd_P c mo fa) (hp : p < c) (hx : post (pd_su (pd_WC c q mo fa se p) N)) : ∀ d a, a + d = N → wY_copies_25 post (nI p) (nI N) (nI c) q mo fa se (d + 1) (pd_su (pd_WC c q mo fa se p) a) (nI a) := by
  intro d
  induction d with
  | zero =>
    intro a ha
    obtain rfl : a = N := by omega
    exact pk_le a a (fun _ => hx) (fun z => absurd z (by omega))
  | succ d ih =>
    intro a ha
    refine pk_le N a (fun z => absurd z (by omega)) (fun _ => yw_wei hc hP (by omega) (yw_gen (by omega) (by omega) ?_))
    exact nm_r (e' := pd_su (pd_WC c q mo fa se p) (a + 1)) rfl (nm_r (e' := nI (a + 1)) (nI_1 a) (ih (a + 1) (by omega)))
theorem yw_cop {post : Int64 → Prop} {c p : Nat} (hc : c ≤ 7) (hP : pd_P c mo fa) (hp : p < c) (hx : post (pd_su (pd_WC c q mo fa se p) (3 ^ c))) : wpY_copies post (nI c, q, mo, fa, se) (nI p) := by
  unfold wpY_copies
  dsimp only
  exact yw_per1 hc hp (br_f (by decide) (yw_pow (by omega) ⟨3 ^ c + 1, yw_cop_l hc (pd_p3 c hc) hP hp hx (3 ^ c) 0 (by omega)⟩))
/-- no factor is 0 -/
def pd_ok (q : Int32) (mo fa se : Nat → Int32) (a : Nat) : Nat → Bool
  | 0 => true
  | n + 1 => pd_ok q mo fa se a n && decide (pd_w q mo fa se n (pd_di a) ≠ 0)
theorem yw_isp_l {post : Int32 → Prop} {c a : Nat} (hc : c ≤ 7) (hP : pd_P c mo fa) (ha : a < 2 ^ 31) (h1 : pd_ok q mo fa se a c = true → post 1) (h0 : pd_ok q mo fa se a c = false → post 0) : ∀ d p, p + d = c → pd_ok q mo fa se a p = true → wY_isPossible_2 post (nI a) (nI c) q mo fa se (d + 1) (nI p) := by
  have hf : ∀ d p, p + d = c → pd_ok q mo fa se a p = false → pd_ok q mo fa se a c = false := by
    intro d
    induction d with
    | zero =>
      intro p hp z
      obtain rfl : p = c := by omega
      exact z
    | succ d ih =>
      intro p hp z
      refine ih (p + 1) (by omega) ?_
      rw [pd_ok, z, Bool.false_and]
  intro d
  induction d with
  | zero =>
    intro p hp hk
    obtain rfl : p = c := by omega
    exact pk_le p p (fun _ => h1 hk) (fun z => absurd z (by omega))
  | succ d ih =>
    intro p hp hk
    refine pk_le c p (fun z => absurd z (by omega)) (fun _ => yw_fac hc hP (by omega) ha (br_c (fun z => ?_) (fun z => ?_)))
    · refine h0 (hf d (p + 1) (by omega) ?_)
      rw [pd_ok, decide_eq_false (fun y => y z), Bool.and_false]
    · refine nm_r (e' := nI (p + 1)) (nI_1 p) (ih (p + 1) (by omega) ?_)
      rw [pd_ok, hk, decide_eq_true z]
      rfl
theorem yw_isp {post : Int32 → Prop} {c a : Nat} (hc : c ≤ 7) (hP : pd_P c mo fa) (ha : a < 2 ^ 31) (h1 : pd_ok q mo fa se a c = true → post 1) (h0 : pd_ok q mo fa se a c = false → post 0) : wpY_isPossible post (nI c, q, mo, fa, se) (nI a) :=
  ⟨c + 1, yw_isp_l hc hP ha h1 h0 c 0 (by omega) rfl⟩
def pd_ys (c : Nat) (q : Int32) (mo fa se : Nat → Int32) (p : Nat) : Nat → Nat
  | 0 => 0
  | a + 1 => if pd_ok q mo fa se a c = true then pd_ys c q mo fa se p a ||| 2 ^ pd_di a p else pd_ys c q mo fa se p a
theorem yw_pos_l {post : Int32 → Prop} {c N p : Nat} (hc : c ≤ 7) (hN : N ≤ 2187) (hP : pd_P c mo fa) (hp : p < c) (hx : post (nI (pd_ys c q mo fa se p N))) : ∀ d a, a + d = N → wY_possible_24 post (nI p) (nI N) (nI c) q mo fa se (d + 1) (nI (pd_ys c q mo fa se p a)) (nI a) := by
  intro d
  induction d with
  | zero =>
    intro a ha
    obtain rfl : a = N := by omega
    exact pk_le a a (fun _ => hx) (fun z => absurd z (by omega))
  | succ d ih =>
    intro a ha
    have w := ih (a + 1) (by omega)
    have d1 := pd_di_D a p
    refine pk_le N a (fun z => absurd z (by omega)) (fun _ => yw_isp hc hP (by omega) (fun hk => ?_) (fun hk => ?_))
    · refine br_f (by decide) (yw_gen (by omega) (by omega) ?_)
      refine nm_r (e' := nI (pd_ys c q mo fa se p (a + 1))) ?_ (nm_r (e' := nI (a + 1)) (nI_1 a) w)
      rw [pd_sh (by omega), pd_or, pd_ys, if_pos hk]
    · rw [pd_ys, if_neg (by rw [hk]; decide)] at w
      exact br_t rfl (nm_r (e' := nI (a + 1)) (nI_1 a) w)
theorem yw_pos {post : Int32 → Prop} {c p : Nat} (hc : c ≤ 7) (hP : pd_P c mo fa) (hp : p < c) (hx : post (nI (pd_ys c q mo fa se p (3 ^ c)))) : wpY_possible post (nI c, q, mo, fa, se) (nI p) := by
  unfold wpY_possible
  dsimp only
  exact yw_per1 hc hp (br_f (by decide) (yw_pow (by omega) ⟨3 ^ c + 1, yw_pos_l hc (pd_p3 c hc) hP hp hx (3 ^ c) 0 (by omega)⟩))
end
end
section
/-! pure: the class's totals are the reference's -/
theorem pd_7t : ∀ d, d < 3 → (7 : Nat).testBit d = true := by decide
section
variable {q : Int32} {mo fa se : Nat → Int32}
theorem pd_fx_t {A : Nat → Nat} {i : Nat} {g : Nat → Nat} (h : (A i).testBit (g i) = true) : pd_fx q 0 mo fa se A i g = (pd_w q mo fa se i g).toInt64 := by
  unfold pd_fx
  rw [if_pos h, if_pos rfl]
theorem pd_fx_f {ow : Int32} {A : Nat → Nat} {i : Nat} {g : Nat → Nat} (h : (A i).testBit (g i) = false) : pd_fx q ow mo fa se A i g = 0 := by
  unfold pd_fx
  rw [if_neg (by rw [h]; decide)]
theorem pd_fx_1 {A : Nat → Nat} {i : Nat} {g : Nat → Nat} (h : (A i).testBit (g i) = true) (hw : pd_w q mo fa se i g ≠ 0) : pd_fx q 1 mo fa se A i g = 1 := by
  unfold pd_fx
  rw [if_pos h, if_neg (by decide), if_neg hw]
theorem pd_fx_0 {A : Nat → Nat} {i : Nat} {g : Nat → Nat} (hw : pd_w q mo fa se i g = 0) : pd_fx q 1 mo fa se A i g = 0 := by
  unfold pd_fx
  by_cases h : (A i).testBit (g i) = true
  · rw [if_pos h, if_neg (by decide), if_pos hw]
  · rw [if_neg h]
theorem pd_tW {c : Nat} : ∀ a, pd_pr (fun i => pd_fx q 0 mo fa se (fun _ => 7) i (pd_di a)) c = pd_W c q mo fa se a := by
  intro a
  exact pd_pr_congr c (fun i _ => pd_fx_t (A := fun _ => 7) (pd_7t _ (pd_di_D a i)))
theorem pd_tW2 {A : Nat → Nat} {c p g r h : Nat} (hp : p < c) (hr : r < c) (hA : ∀ i d, d < 3 → ((A i).testBit d = true ↔ (i = p → d = g) ∧ (i = r → d = h))) : ∀ a, pd_pr (fun i => pd_fx q 0 mo fa se A i (pd_di a)) c = pd_W2 c q mo fa se p g r h a := by
  intro a
  unfold pd_W2
  by_cases z : pd_di a p = g ∧ pd_di a r = h
  · rw [if_pos z]
    exact pd_pr_congr c (fun i _ => pd_fx_t ((hA i _ (pd_di_D a i)).mpr ⟨fun e => by rw [e]; exact z.1, fun e => by rw [e]; exact z.2⟩))
  · rw [if_neg z]
    by_cases y : pd_di a p = g
    · refine pd_pr_0 (i := r) (pd_fx_f ?_) c hr
      refine Bool.eq_false_iff.mpr (fun w => z ⟨y, ?_⟩)
      exact ((hA r _ (pd_di_D a r)).mp w).2 rfl
    · refine pd_pr_0 (i := p) (pd_fx_f ?_) c hp
      refine Bool.eq_false_iff.mpr (fun w => y ?_)
      exact ((hA p _ (pd_di_D a p)).mp w).1 rfl
/-- what a question with one, with two given genotypes allows -/
def pd_A1 (p g : Nat) : Nat → Nat := pd_gu (fun _ => 7) p (2 ^ g)
def pd_A2 (p g r h : Nat) : Nat → Nat := pd_gu (pd_A1 p g) r (pd_A1 p g r &&& 2 ^ h)
theorem pd_A1_t {p g i d : Nat} (hd : d < 3) : (pd_A1 p g i).testBit d = true ↔ (i = p → d = g) := by
  unfold pd_A1
  by_cases z : i = p
  · rw [z, pd_gu_s, pd_t2, decide_eq_true_eq]
    exact ⟨fun e _ => e.symm, fun e => (e rfl).symm⟩
  · rw [pd_gu_n z]
    exact ⟨fun _ y => absurd y z, fun _ => pd_7t d hd⟩
theorem pd_A2_t {p g r h i d : Nat} (hd : d < 3) : (pd_A2 p g r h i).testBit d = true ↔ (i = p → d = g) ∧ (i = r → d = h) := by
  unfold pd_A2
  by_cases z : i = r
  · rw [z, pd_gu_s, Nat.testBit_and, Bool.and_eq_true, pd_A1_t hd, pd_t2, decide_eq_true_eq]
    exact ⟨fun e => ⟨e.1, fun _ => e.2.symm⟩, fun e => ⟨e.1, (e.2 rfl).symm⟩⟩
  · rw [pd_gu_n z, pd_A1_t hd]
    exact ⟨fun e => ⟨e, fun y => absurd y z⟩, fun e => e.1⟩
theorem pd_g8 : ∀ g, g < 3 → 2 ^ g < 8 := by decide
theorem pd_A1_lt {p g i : Nat} (hg : g < 3) : pd_A1 p g i < 8 := by
  unfold pd_A1
  by_cases z : i = p
  · rw [z, pd_gu_s]; exact pd_g8 g hg
  · rw [pd_gu_n z]; decide
theorem pd_A2_lt {p g r h i : Nat} (hg : g < 3) : pd_A2 p g r h i < 8 := by
  unfold pd_A2
  by_cases z : i = r
  · rw [z, pd_gu_s]; exact Nat.lt_of_le_of_lt Nat.and_le_left (pd_A1_lt hg)
  · rw [pd_gu_n z]; exact pd_A1_lt hg
theorem pd_tot1 {c p g : Nat} (hp : p < c) (N : Nat) : pd_su (fun a => pd_pr (fun i => pd_fx q 0 mo fa se (pd_A1 p g) i (pd_di a)) c) N = pd_su (pd_W2 c q mo fa se p g p g) N :=
  pd_su_congr N (fun a _ => pd_tW2 hp hp (fun i d hd => by
    rw [pd_A1_t hd]
    exact ⟨fun e => ⟨e, e⟩, fun e => e.1⟩) a)
theorem pd_tot2 {c p g r h : Nat} (hp : p < c) (hr : r < c) (N : Nat) : pd_su (fun a => pd_pr (fun i => pd_fx q 0 mo fa se (pd_A2 p g r h) i (pd_di a)) c) N = pd_su (pd_W2 c q mo fa se p g r h) N :=
  pd_su_congr N (fun a _ => pd_tW2 hp hr (fun i d hd => pd_A2_t hd) a)
theorem pd_totC {c p : Nat} (N : Nat) : pd_su (pd_W2 c q mo fa se p 1 p 1) N + 2 * pd_su (pd_W2 c q mo fa se p 2 p 2) N = pd_su (pd_WC c q mo fa se p) N := by
  rw [← pd_su_mul, ← pd_su_add]
  refine pd_su_congr N (fun a _ => ?_)
  unfold pd_W2 pd_WC
  generalize pd_W c q mo fa se a = w
  have hd := pd_di_D a p
  generalize pd_di a p = d at hd
  match d, hd with
  | 0, _ =>
    rw [if_neg (by decide), if_neg (by decide), show (nI 0).toInt64 = 0 from by decide]
    grind
  | 1, _ =>
    rw [if_pos (by decide), if_neg (by decide), show (nI 1).toInt64 = 1 from by decide]
    grind
  | 2, _ =>
    rw [if_neg (by decide), if_pos (by decide), show (nI 2).toInt64 = 2 from by decide]
    grind
/-! possible -/
theorem pd_ok_t {a : Nat} : ∀ c, pd_ok q mo fa se a c = true → ∀ i, i < c → pd_w q mo fa se i (pd_di a) ≠ 0 := by
  intro c
  induction c with
  | zero => intro _ i hi; exact absurd hi (Nat.not_lt_zero i)
  | succ c ih =>
    intro h i hi
    rw [pd_ok, Bool.and_eq_true, decide_eq_true_eq] at h
    by_cases z : i = c
    · rw [z]; exact h.2
    · exact ih h.1 i (by omega)
theorem pd_ok_f {a : Nat} : ∀ c, pd_ok q mo fa se a c = false → ∃ i, i < c ∧ pd_w q mo fa se i (pd_di a) = 0 := by
  intro c
  induction c with
  | zero => intro h; exact absurd (show true = false from h) (by decide)
  | succ c ih =>
    intro h
    rw [pd_ok, Bool.and_eq_false_iff] at h
    rcases h with h | h
    · obtain ⟨i, hi, e⟩ := ih h
      exact ⟨i, by omega, e⟩
    · exact ⟨c, by omega, Decidable.not_not.mp (of_decide_eq_false h)⟩
theorem pd_t1y {c p g a : Nat} (hk : pd_ok q mo fa se a c = true) (hg : pd_di a p = g) : pd_pr (fun i => pd_fx q 1 mo fa se (pd_A1 p g) i (pd_di a)) c = 1 :=
  pd_pr_1 c (fun i hi => pd_fx_1 ((pd_A1_t (pd_di_D a i)).mpr (fun e => by rw [e]; exact hg)) (pd_ok_t c hk i hi))
theorem pd_t1n {c p g a : Nat} (hp : p < c) (h : ¬ (pd_ok q mo fa se a c = true ∧ pd_di a p = g)) : pd_pr (fun i => pd_fx q 1 mo fa se (pd_A1 p g) i (pd_di a)) c = 0 := by
  by_cases hg : pd_di a p = g
  · have hk : pd_ok q mo fa se a c = false := Bool.eq_false_iff.mpr (fun z => h ⟨z, hg⟩)
    obtain ⟨i, hi, e⟩ := pd_ok_f c hk
    exact pd_pr_0 (pd_fx_0 e) c hi
  · refine pd_pr_0 (i := p) (pd_fx_f ?_) c hp
    exact Bool.eq_false_iff.mpr (fun w => hg ((pd_A1_t (pd_di_D a p)).mp w rfl))
theorem pd_ys1 {c p a : Nat} (h : pd_ok q mo fa se a c = true) : pd_ys c q mo fa se p (a + 1) = pd_ys c q mo fa se p a ||| 2 ^ pd_di a p := by rw [pd_ys, if_pos h]
theorem pd_ys0 {c p a : Nat} (h : pd_ok q mo fa se a c = false) : pd_ys c q mo fa se p (a + 1) = pd_ys c q mo fa se p a := by rw [pd_ys, if_neg (by rw [h]; decide)]
theorem pd_ys_lt {c p : Nat} : ∀ N, pd_ys c q mo fa se p N < 8 := by
  intro N
  induction N with
  | zero => exact (by decide : 0 < 8)
  | succ N ih =>
    cases hk : pd_ok q mo fa se N c with
    | false => rw [pd_ys0 hk]; exact ih
    | true => rw [pd_ys1 hk]; exact Nat.or_lt_two_pow (n := 3) ih (pd_g8 _ (pd_di_D N p))
theorem pd_ys_t {c p g : Nat} : ∀ N, (pd_ys c q mo fa se p N).testBit g = true ↔ ∃ a, a < N ∧ pd_ok q mo fa se a c = true ∧ pd_di a p = g := by
  intro N
  induction N with
  | zero =>
    rw [pd_ys, Nat.zero_testBit]
    exact ⟨fun h => absurd h (by decide), fun ⟨a, h, _⟩ => absurd h (Nat.not_lt_zero a)⟩
  | succ N ih =>
    cases hk : pd_ok q mo fa se N c with
    | false =>
      rw [pd_ys0 hk, ih]
      refine ⟨fun ⟨a, h1, h2⟩ => ⟨a, by omega, h2⟩, fun ⟨a, h1, h2⟩ => ⟨a, ?_, h2⟩⟩
      have : a ≠ N := fun e => by
        rw [e, hk] at h2
        exact absurd h2.1 (by decide)
      omega
    | true =>
      rw [pd_ys1 hk, Nat.testBit_or, Bool.or_eq_true, ih, pd_t2, decide_eq_true_eq]
      constructor
      · rintro (⟨a, h1, h2⟩ | h)
        · exact ⟨a, by omega, h2⟩
        · exact ⟨N, by omega, hk, h⟩
      · rintro ⟨a, h1, h2⟩
        by_cases z : a = N
        · rw [z] at h2; exact Or.inr h2.2
        · exact Or.inl ⟨a, by omega, h2⟩
theorem pd_totP {c p g N : Nat} (hp : p < c) (hN : N ≤ 2187) : pd_su (fun a => pd_pr (fun i => pd_fx q 1 mo fa se (pd_A1 p g) i (pd_di a)) c) N = 0 ↔ (pd_ys c q mo fa se p N).testBit g = false := by
  have h01 : ∀ a, a < N → pd_pr (fun i => pd_fx q 1 mo fa se (pd_A1 p g) i (pd_di a)) c = 0 ∨ pd_pr (fun i => pd_fx q 1 mo fa se (pd_A1 p g) i (pd_di a)) c = 1 := by
    intro a _
    by_cases z : pd_ok q mo fa se a c = true ∧ pd_di a p = g
    · exact Or.inr (pd_t1y z.1 z.2)
    · exact Or.inl (pd_t1n hp z)
  obtain ⟨m, h1, h2, h3⟩ := pd_su_01 N h01
  constructor
  · intro h
    rw [h2] at h
    have hm : m = 0 := (lN_eq (by omega) (by omega)).mp h
    refine Bool.eq_false_iff.mpr (fun w => ?_)
    obtain ⟨a, a1, a2, a3⟩ := (pd_ys_t N).mp w
    have e := h3 hm a a1
    rw [pd_t1y a2 a3] at e
    exact absurd e (by decide)
  · intro h
    have e : ∀ a, a < N → pd_pr (fun i => pd_fx q 1 mo fa se (pd_A1 p g) i (pd_di a)) c = 0 := by
      intro a ha
      refine pd_t1n hp (fun z => ?_)
      rw [(pd_ys_t N).mpr ⟨a, ha, z⟩] at h
      exact absurd h (by decide)
    rw [pd_su_congr (g := fun _ => 0) N e, pd_su_zero]
end
theorem pd_low1 : ∀ y, y < 8 → ∀ j, j < 3 → y.testBit j = true → y % 2 ^ j ||| 2 ^ j = y % 2 ^ (j + 1) := by decide +kernel
theorem pd_low0 : ∀ y, y < 8 → ∀ j, j < 3 → y.testBit j = false → y % 2 ^ (j + 1) = y % 2 ^ j := by decide +kernel
theorem pd_low3 : ∀ y, y < 8 → y % 2 ^ 3 = y := by decide +kernel
end
section
/-! X's questions -/
theorem pd_and (a b : Nat) : nI a &&& nI b = nI (a &&& b) := by
  apply Int32.toBitVec_inj.1
  show BitVec.ofNat 32 a &&& BitVec.ofNat 32 b = BitVec.ofNat 32 (a &&& b)
  apply BitVec.eq_of_getLsbD_eq
  intro i hi
  simp [hi]
theorem pd_all7 {al : Nat → Int32} {p g : Nat} (hg : g < 3) (h : ∀ i, i < 7 → al i = nI 7) : ∀ i, i < 7 → upd al p (nI (2 ^ g)) i = nI (pd_A1 p g i) ∧ pd_A1 p g i < 8 := by
  intro i hi
  refine ⟨?_, pd_A1_lt hg⟩
  unfold pd_A1
  by_cases z : i = p
  · rw [z, pk_us, pd_gu_s]
  · rw [pk_un z, pd_gu_n z]; exact h i hi
section
variable {q ow tb us : Int32} {mo fa se al sc bg : Nat → Int32} {ce : Nat → Int64} {ge : Nat → Int32}
theorem pw_bad1 {c : Nat} {v : Int32} {post : Int32 → Prop} (hv : v < 0 ∨ nI c ≤ v) (h : post 1) : wpX_bad post (nI c, q, ow, tb, us, mo, fa, se, al, sc, bg, ce, ge) v :=
  br_c (fun _ => h) (fun z => br_f (Int32.not_lt.mpr (hv.resolve_left z)) h)
theorem pw_bad0 {c p : Nat} {post : Int32 → Prop} (hc : c ≤ 7) (hp : p < c) (h : post 0) : wpX_bad post (nI c, q, ow, tb, us, mo, fa, se, al, sc, bg, ce, ge) (nI p) :=
  br_f (nI_pos (by omega)) (pk_lt p c (fun _ => h) (fun z => absurd z (by omega)))
theorem pw_bg1 {u : SX} {v : Int32} {post : Int32 → Prop} (hv : v < 0 ∨ nI 3 ≤ v) (h : post 1) : wpX_badGenotype post u v := by
  obtain ⟨cn, q, ow, tb, us, mo, fa, se, al, sc, bg, ce, ge⟩ := u
  refine br_c (fun _ => h) (fun z => br_f ?_ h)
  have w := hv.resolve_left z
  rw [Int32.le_iff_toInt_le] at w
  rw [Int32.le_iff_toInt_le]
  have e1 : (nI 3).toInt = 3 := by decide
  have e2 : (2 : Int32).toInt = 2 := by decide
  omega
theorem pw_bg0 {u : SX} {g : Nat} {post : Int32 → Prop} (hg : g < 3) (h : post 0) : wpX_badGenotype post u (nI g) := by
  obtain ⟨cn, q, ow, tb, us, mo, fa, se, al, sc, bg, ce, ge⟩ := u
  exact br_f (nI_pos (by omega)) (pk_le g 2 (fun _ => h) (fun z => absurd z (by omega)))
theorem pw_lik {c : Nat} {post : Int64 → SX → Prop} (hc : c ≤ 7) (hP : pd_P c mo fa) (h : ∀ ow tb us al sc bg ce ge, post (pd_su (pd_W c q mo fa se) (3 ^ c)) (nI c, q, ow, tb, us, mo, fa, se, al, sc, bg, ce, ge)) : wpX_likelihood post (nI c, q, ow, tb, us, mo, fa, se, al, sc, bg, ce, ge) := by
  unfold wpX_likelihood
  dsimp only
  refine pw_all (fun al' hal => ?_)
  refine pw_sum (A := fun _ => 7) hc hP (fun i hi => ⟨hal i hi, by decide⟩) (fun tb us sc bg ce ge => ?_)
  rw [pd_su_congr (3 ^ c) (fun a _ => pd_tW a)]
  exact h _ _ _ _ _ _ _ _
theorem pw_sha {c p g : Nat} {post : Int64 → SX → Prop} (hc : c ≤ 7) (hP : pd_P c mo fa) (hp : p < c) (hg : g < 3) (h : ∀ ow tb us al sc bg ce ge, post (pd_su (pd_W2 c q mo fa se p g p g) (3 ^ c)) (nI c, q, ow, tb, us, mo, fa, se, al, sc, bg, ce, ge)) : wpX_share post (nI c, q, ow, tb, us, mo, fa, se, al, sc, bg, ce, ge) (nI p) (nI g) := by
  unfold wpX_share
  dsimp only
  refine pw_bad0 hc hp (br_t rfl (pw_bg0 hg (br_t rfl (pw_all (fun al' hal => ⟨pk_in p 7 (by omega), nm_r (e' := upd al' p (nI (2 ^ g))) ?_ ?_⟩)))))
  · rw [nI_clamp (by omega), pd_sh (by omega)]
  · refine pw_sum (A := pd_A1 p g) hc hP (pd_all7 hg hal) (fun tb us sc bg ce ge => ?_)
    rw [pd_tot1 hp]
    exact h _ _ _ _ _ _ _ _
theorem pw_two {c p g r h : Nat} {post : Int64 → SX → Prop} (hc : c ≤ 7) (hP : pd_P c mo fa) (hp : p < c) (hg : g < 3) (hr : r < c) (hh : h < 3) (hx : ∀ ow tb us al sc bg ce ge, post (pd_su (pd_W2 c q mo fa se p g r h) (3 ^ c)) (nI c, q, ow, tb, us, mo, fa, se, al, sc, bg, ce, ge)) : wpX_shareOfTwo post (nI c, q, ow, tb, us, mo, fa, se, al, sc, bg, ce, ge) (nI p) (nI g) (nI r) (nI h) := by
  unfold wpX_shareOfTwo
  dsimp only
  refine pw_bad0 hc hp (br_t rfl (pw_bg0 hg (br_t rfl (pw_bad0 hc hr (br_t rfl (pw_bg0 hh (br_t rfl (pw_all (fun al' hal => ⟨pk_in p 7 (by omega), nm_r (e' := upd al' p (nI (2 ^ g))) ?_ ⟨pk_in r 7 (by omega), pk_in r 7 (by omega), nm_r (e' := upd (upd al' p (nI (2 ^ g))) r (nI (pd_A1 p g r &&& 2 ^ h))) ?_ ?_⟩⟩)))))))))
  · rw [nI_clamp (by omega), pd_sh (by omega)]
  · rw [nI_clamp (n := r) (by omega), pd_sh (by omega), (pd_all7 (p := p) hg hal r (by omega)).1, pd_and]
  · refine pw_sum (A := pd_A2 p g r h) hc hP ?_ (fun tb us sc bg ce ge => ?_)
    · intro i hi
      refine ⟨?_, pd_A2_lt hg⟩
      unfold pd_A2
      by_cases z : i = r
      · rw [z, pk_us, pd_gu_s]
      · rw [pk_un z, pd_gu_n z]; exact (pd_all7 hg hal i hi).1
    · rw [pd_tot2 hp hr]
      exact hx _ _ _ _ _ _ _ _
theorem pw_cop {c p : Nat} {post : Int64 → SX → Prop} (hc : c ≤ 7) (hP : pd_P c mo fa) (hp : p < c) (h : ∀ ow tb us al sc bg ce ge, post (pd_su (pd_WC c q mo fa se p) (3 ^ c)) (nI c, q, ow, tb, us, mo, fa, se, al, sc, bg, ce, ge)) : wpX_copies post (nI c, q, ow, tb, us, mo, fa, se, al, sc, bg, ce, ge) (nI p) := by
  unfold wpX_copies
  dsimp only
  refine pw_bad0 hc hp (br_t rfl ?_)
  refine pw_sha (g := 1) hc hP hp (by decide) (fun ow tb us al sc bg ce ge => ?_)
  refine pw_sha (g := 2) hc hP hp (by decide) (fun ow tb us al sc bg ce ge => ?_)
  have w := h ow tb us al sc bg ce ge
  rw [← pd_totC] at w
  exact w
end
section
variable {q : Int32} {mo fa se : Nat → Int32}
theorem pw_pos_l {c p : Nat} {post : Int32 → SX → Prop} (hc : c ≤ 7) (hP : pd_P c mo fa) (hp : p < c) (h : ∀ ow tb us al sc bg ce ge, post (nI (pd_ys c q mo fa se p (3 ^ c))) (nI c, q, ow, tb, us, mo, fa, se, al, sc, bg, ce, ge)) : ∀ d j ow tb us al sc bg ce ge, j + d = 3 → wX_possible_14 post (nI p) (d + 1) (nI (pd_ys c q mo fa se p (3 ^ c) % 2 ^ j)) (nI j) (nI c) q ow tb us mo fa se al sc bg ce ge := by
  have hy := pd_ys_lt (c := c) (q := q) (mo := mo) (fa := fa) (se := se) (p := p) (3 ^ c)
  intro d
  induction d with
  | zero =>
    intro j ow tb us al sc bg ce ge hj
    obtain rfl : j = 3 := by omega
    refine pk_le 3 3 (fun _ => ?_) (fun z => absurd z (by omega))
    rw [pd_low3 _ hy]
    exact h _ _ _ _ _ _ _ _
  | succ d ih =>
    intro j ow tb us al sc bg ce ge hj
    refine pk_le 3 j (fun z => absurd z (by omega)) (fun _ => pw_all (fun al' hal => ⟨pk_in p 7 (by omega), nm_r (e' := upd al' p (nI (2 ^ j))) ?_ ?_⟩))
    · rw [nI_clamp (by omega), pd_sh (by omega)]
    · refine pw_sum (A := pd_A1 p j) hc hP (pd_all7 (by omega) hal) (fun tb us sc bg ce ge => ?_)
      refine br_c (fun z => ?_) (fun z => ?_)
      · have hb := (pd_totP hp (pd_p3 c hc)).mp z
        have w := ih (j + 1) 1 tb us (upd al' p (nI (2 ^ j))) sc bg ce ge (by omega)
        rw [pd_low0 _ hy j (by omega) hb] at w
        exact nm_r (e' := nI (j + 1)) (nI_1 j) w
      · have hb : (pd_ys c q mo fa se p (3 ^ c)).testBit j = true := by
          cases hk : (pd_ys c q mo fa se p (3 ^ c)).testBit j with
          | true => rfl
          | false => exact absurd ((pd_totP hp (pd_p3 c hc)).mpr hk) z
        refine nm_r (e' := nI (pd_ys c q mo fa se p (3 ^ c) % 2 ^ (j + 1))) ?_ (nm_r (e' := nI (j + 1)) (nI_1 j) (ih (j + 1) 1 tb us _ sc bg ce ge (by omega)))
        rw [pd_sh (by omega), pd_or, pd_low1 _ hy j (by omega) hb]
theorem pw_pos {ow tb us : Int32} {al sc bg : Nat → Int32} {ce : Nat → Int64} {ge : Nat → Int32} {c p : Nat} {post : Int32 → SX → Prop} (hc : c ≤ 7) (hP : pd_P c mo fa) (hp : p < c) (h : ∀ ow tb us al sc bg ce ge, post (nI (pd_ys c q mo fa se p (3 ^ c))) (nI c, q, ow, tb, us, mo, fa, se, al, sc, bg, ce, ge)) : wpX_possible post (nI c, q, ow, tb, us, mo, fa, se, al, sc, bg, ce, ge) (nI p) := by
  have w := pw_pos_l hc hP hp h 3 0 ow tb us al sc bg ce ge (by omega)
  rw [Nat.pow_zero, Nat.mod_one] at w
  unfold wpX_possible
  dsimp only
  exact pw_bad0 hc hp (br_t rfl ⟨3 + 1, w⟩)
end
end
section
/-! before: both walk down the persons; X's set is Y's with r in it -/
theorem pd_sub1 {c : Nat} (h : 0 < c) : nI c - 1 = nI c + (-1) := by
  obtain ⟨m, rfl⟩ : ∃ m, c = m + 1 := ⟨c - 1, by omega⟩
  rw [nI_pred, pk_m1]
theorem pd_two_lt {a r : Nat} (h : a < r) : 2 ^ a < 2 ^ r := Nat.pow_lt_pow_right (by decide) h
theorem pd_lt128 {y r : Nat} (hr : r < 7) (h : y < 2 ^ r) : y < 128 := Nat.lt_of_lt_of_le h (Nat.pow_le_pow_right (n := 2) (by decide) (show r ≤ 7 by omega))
section
variable {q ow tb us : Int32} {mo fa se al sc bg : Nat → Int32} {ce : Nat → Int64} {ge : Nat → Int32}
/-- what X asks at the end of its loop with the set s -/
def pd_E (post : Int32 → Prop) (x1 : Int32) (r : Nat) (s : Nat) : Prop := (x1 = nI r → post 0) ∧ (¬ x1 = nI r → (((nI s >>> (x1 &&& 31)) &&& 1) = 1 → post 1) ∧ (¬ ((nI s >>> (x1 &&& 31)) &&& 1) = 1 → post 0))
theorem pw_bef_l {c r : Nat} (hc : c ≤ 7) (hP : pd_P c mo fa) (hr : r < c) : ∀ j y, j ≤ r → y < 2 ^ r → ∃ z, z < 2 ^ r ∧ (∀ (post : Int32 → Prop) (x1 : Int32), pd_E post x1 r (2 ^ r ||| z) → wX_before_25 post x1 (nI r) (nI c) q ow tb us mo fa se al sc bg ce ge (j + 1) (nI (2 ^ r ||| y)) (nI j + (-1))) ∧ (∀ post : Int32 → Prop, post (nI z) → wY_forefathers_38 post (nI c) q mo fa se (j + 1) (nI y) (nI j + (-1))) := by
  intro j
  induction j with
  | zero =>
    intro y _ hy
    exact ⟨y, hy, fun post x1 h => br_t (by decide) h, fun post h => br_t (by decide) h⟩
  | succ j ih =>
    intro y hj hy
    have hy7 : y < 128 := pd_lt128 (by omega) hy
    have h27 : 2 ^ r ||| y < 128 := pd_or_lt (pd_2p r (by omega)) hy7
    have hbit : (2 ^ r ||| y).testBit j = y.testBit j := by
      rw [Nat.testBit_or, pd_t2, decide_eq_false (by omega), Bool.false_or]
    have ej : (nI j).toNatClampNeg = j := nI_clamp (by omega)
    rw [pk_m1]
    cases hb : y.testBit j with
    | false =>
      obtain ⟨z, hz, hX, hY⟩ := ih y (by omega) hy
      refine ⟨z, hz, fun post x1 h => ?_, fun post h => ?_⟩
      · exact br_f (nI_pos (by omega)) (br_f (pd_rdf h27 (by omega) (hbit.trans hb)) (nm_e (hX post x1 h)))
      · exact br_f (nI_pos (by omega)) (br_f (pd_rdf hy7 (by omega) hb) (nm_e (hY post h)))
    | true =>
      rcases hP j (by omega) with w | ⟨a, b, ha, hb2, hm, hf⟩
      · obtain ⟨z, hz, hX, hY⟩ := ih y (by omega) hy
        refine ⟨z, hz, fun post x1 h => ?_, fun post h => ?_⟩
        · refine br_f (nI_pos (by omega)) (br_t (pd_rdt h27 (by omega) (hbit.trans hb)) ⟨pk_in j 7 (by omega), ?_⟩)
          rw [ej]
          exact br_t w (nm_e (hX post x1 h))
        · refine br_f (nI_pos (by omega)) (br_t (pd_rdt hy7 (by omega) hb) ⟨pk_in j 7 (by omega), ?_⟩)
          rw [ej]
          exact br_t w (nm_e (hY post h))
      · have hy2 : y ||| 2 ^ a ||| 2 ^ b < 2 ^ r := Nat.or_lt_two_pow (Nat.or_lt_two_pow hy (pd_two_lt (by omega))) (pd_two_lt (by omega))
        obtain ⟨z, hz, hX, hY⟩ := ih (y ||| 2 ^ a ||| 2 ^ b) (by omega) hy2
        refine ⟨z, hz, fun post x1 h => ?_, fun post h => ?_⟩
        · refine br_f (nI_pos (by omega)) (br_t (pd_rdt h27 (by omega) (hbit.trans hb)) ⟨pk_in j 7 (by omega), ?_⟩)
          rw [ej, hm, hf]
          refine br_f (nI_pos (by omega)) ⟨pk_in j 7 (by omega), pk_in j 7 (by omega), nm_r (e' := nI (2 ^ r ||| (y ||| 2 ^ a ||| 2 ^ b))) ?_ (nm_e (hX post x1 h))⟩
          rw [pd_sh (by omega), pd_sh (by omega), pd_or, pd_or, Nat.or_assoc, Nat.or_assoc, Nat.or_assoc]
        · refine br_f (nI_pos (by omega)) (br_t (pd_rdt hy7 (by omega) hb) ⟨pk_in j 7 (by omega), ?_⟩)
          rw [ej, hm, hf]
          refine br_f (nI_pos (by omega)) ⟨pk_in j 7 (by omega), pk_in j 7 (by omega), nm_r (e' := nI (y ||| 2 ^ a ||| 2 ^ b)) ?_ (nm_e (hY post h))⟩
          rw [pd_sh (by omega), pd_sh (by omega), pd_or, pd_or]
/-- Y's way from the last person down to r changes nothing -/
theorem yw_bef_hi {c r y : Nat} (hr : r < 7) (hy : y < 2 ^ r) {post : Int32 → Prop} (h : wY_forefathers_38 post (nI c) q mo fa se (r + 1) (nI y) (nI r + (-1))) : ∀ e, r + e ≤ 7 → wY_forefathers_38 post (nI c) q mo fa se (r + e + 1) (nI y) (nI (r + e) + (-1)) := by
  intro e
  induction e with
  | zero => intro _; exact h
  | succ e ih =>
    intro he
    have w := ih (by omega)
    rw [show r + (e + 1) = (r + e) + 1 by omega, pk_m1]
    have hb : y.testBit (r + e) = false := Nat.testBit_lt_two_pow (Nat.lt_of_lt_of_le hy (Nat.pow_le_pow_right (n := 2) (by decide) (by omega)))
    exact br_f (nI_pos (by omega)) (br_f (pd_rdf (pd_lt128 hr hy) (by omega) hb) (nm_e w))
theorem pw_bef {c p r : Nat} (hc : c ≤ 7) (hP : pd_P c mo fa) (hp : p < c) (hr : r < c) : ∃ v : Int32, (∀ post : Int32 → Prop, post v → wpX_before post (nI c, q, ow, tb, us, mo, fa, se, al, sc, bg, ce, ge) (nI p) (nI r)) ∧ (∀ post : Int32 → Prop, post v → wpY_before post (nI c, q, mo, fa, se) (nI p) (nI r)) := by
  have er : (nI r).toNatClampNeg = r := nI_clamp (by omega)
  have h2r : (2 ^ r).testBit r = true := by rw [pd_t2]; exact decide_eq_true rfl
  -- the set of the parents
  obtain ⟨y0, hy0, hX0, hY0⟩ : ∃ y0, y0 < 2 ^ r ∧ (∀ post : Int32 → Prop, wX_before_25 post (nI p) (nI r) (nI c) q ow tb us mo fa se al sc bg ce ge (r + 1) (nI (2 ^ r ||| y0)) (nI r + (-1)) → wX_before_25 post (nI p) (nI r) (nI c) q ow tb us mo fa se al sc bg ce ge (r + 2) (nI (2 ^ r)) (nI r)) ∧ (∀ post : Int32 → Prop, (∃ n, wY_forefathers_38 post (nI c) q mo fa se n (nI y0) (nI c + (-1))) → wpY_forefathers post (nI c, q, mo, fa, se) (nI r)) := by
    rcases hP r hr with w | ⟨a, b, ha, hb, hm, hf⟩
    · refine ⟨0, Nat.pow_pos (by decide), fun post h => ?_, fun post h => ?_⟩
      · refine br_f (nI_pos (by omega)) (br_t (pd_rdt (pd_2p r (by omega)) (by omega) h2r) ⟨pk_in r 7 (by omega), ?_⟩)
        rw [er]
        rw [Nat.or_zero] at h
        exact br_t w (nm_e h)
      · refine ⟨pk_in r 7 (by omega), ?_⟩
        rw [er]
        exact br_f (Int32.not_le.mpr w) (nm_r (pd_sub1 (by omega)) h)
    · refine ⟨2 ^ a ||| 2 ^ b, Nat.or_lt_two_pow (pd_two_lt ha) (pd_two_lt hb), fun post h => ?_, fun post h => ?_⟩
      · refine br_f (nI_pos (by omega)) (br_t (pd_rdt (pd_2p r (by omega)) (by omega) h2r) ⟨pk_in r 7 (by omega), ?_⟩)
        rw [er, hm, hf]
        refine br_f (nI_pos (by omega)) ⟨pk_in r 7 (by omega), pk_in r 7 (by omega), nm_r (e' := nI (2 ^ r ||| (2 ^ a ||| 2 ^ b))) ?_ (nm_e h)⟩
        rw [pd_sh (by omega), pd_sh (by omega), pd_or, pd_or, Nat.or_assoc]
      · refine ⟨pk_in r 7 (by omega), ?_⟩
        rw [er, hm, hf]
        refine br_t (nI_pos' (by omega)) ⟨pk_in r 7 (by omega), pk_in r 7 (by omega), nm_r (e' := nI (2 ^ a ||| 2 ^ b)) ?_ (nm_r (pd_sub1 (by omega)) h)⟩
        rw [pd_sh (by omega), pd_sh (by omega), pd_or]
  obtain ⟨z, hz, hX, hY⟩ := pw_bef_l (q := q) (ow := ow) (tb := tb) (us := us) (se := se) (al := al) (sc := sc) (bg := bg) (ce := ce) (ge := ge) hc hP hr r y0 (Nat.le_refl r) hy0
  have hz7 : z < 128 := pd_lt128 (by omega) hz
  have h27 : 2 ^ r ||| z < 128 := pd_or_lt (pd_2p r (by omega)) hz7
  have kX : ∀ post : Int32 → Prop, pd_E post (nI p) r (2 ^ r ||| z) → wpX_before post (nI c, q, ow, tb, us, mo, fa, se, al, sc, bg, ce, ge) (nI p) (nI r) := by
    intro post h
    unfold wpX_before
    dsimp only
    exact pw_bad0 hc hp (br_t rfl (pw_bad0 hc hr (br_t rfl (nm_r (e' := nI (2 ^ r)) (pd_sh (by omega)) ⟨r + 2, hX0 post (hX post _ h)⟩))))
  have kY : ∀ post : Int32 → Prop, ((((nI z >>> (nI p &&& 31)) &&& 1) = 1 → post 1) ∧ (¬ ((nI z >>> (nI p &&& 31)) &&& 1) = 1 → post 0)) → wpY_before post (nI c, q, mo, fa, se) (nI p) (nI r) := by
    intro post h
    unfold wpY_before
    dsimp only
    refine yw_per1 hc hp (br_f (by decide) (yw_per1 hc hr (br_f (by decide) (hY0 _ ⟨c + 1, ?_⟩))))
    have w := yw_bef_hi (c := c) (q := q) (mo := mo) (fa := fa) (se := se) (by omega) hy0 (hY (fun x => (((x >>> (nI p &&& 31)) &&& 1) = 1 → post 1) ∧ (¬ ((x >>> (nI p &&& 31)) &&& 1) = 1 → post 0)) h) (c - r) (by omega)
    rw [show r + (c - r) = c by omega] at w
    exact w
  by_cases e : p = r
  · subst e
    refine ⟨0, fun post h => kX post (br_t rfl h), fun post h => kY post (br_f ?_ h)⟩
    exact pd_rdf hz7 (by omega) (Nat.testBit_lt_two_pow hz)
  · have hbit : (2 ^ r ||| z).testBit p = z.testBit p := by
      rw [Nat.testBit_or, pd_t2, decide_eq_false (fun y => e y.symm), Bool.false_or]
    have ne : ¬ nI p = nI r := fun y => e ((nI_eq (by omega) (by omega)).mp y)
    cases hb : z.testBit p with
    | true => exact ⟨1, fun post h => kX post (br_f ne (br_t (pd_rdt h27 (by omega) (hbit.trans hb)) h)), fun post h => kY post (br_t (pd_rdt hz7 (by omega) hb) h)⟩
    | false => exact ⟨0, fun post h => kX post (br_f ne (br_f (pd_rdf h27 (by omega) (hbit.trans hb)) h)), fun post h => kY post (br_f (pd_rdf hz7 (by omega) hb) h)⟩
end
/-! add -/
def pd_s3 (se : Nat → Int32) (c : Nat) : Nat → Nat → Int32
  | 0 => se
  | j + 1 => upd (pd_s3 se c j) (3 * c + j) 1
theorem pw_add_l {q ow tb us : Int32} {mo fa se al sc bg : Nat → Int32} {ce : Nat → Int64} {ge : Nat → Int32} {post : Int32 → SX → Prop} {c : Nat} (hc : c < 7) (h : post (nI c) (nI (c + 1), q, ow, tb, us, mo, fa, pd_s3 se c 3, al, sc, bg, ce, ge)) : ∀ d j, j + d = 3 → wX_add_34 post (nI c) q ow tb us (d + 1) (nI j) mo fa (pd_s3 se c j) al sc bg ce ge := by
  intro d
  induction d with
  | zero =>
    intro j hj
    obtain rfl : j = 3 := by omega
    refine pk_le 3 3 (fun _ => nm_r (e' := nI (c + 1)) (nI_1 c) ?_) (fun z => absurd z (by omega))
    rw [nI_pred]
    exact h
  | succ d ih =>
    intro j hj
    have e : (nI c * 3) + nI j = nI (3 * c + j) := by
      rw [← nI_add, Nat.mul_comm, ← pk_mul]
      rfl
    exact pk_le 3 j (fun z => absurd z (by omega)) (fun _ => ⟨pk_in (3 * c + j) 21 (by omega) e, nm_r (e' := pd_s3 se c (j + 1)) (by rw [e, nI_clamp (by omega)]; rfl) (nm_r (e' := nI (j + 1)) (nI_1 j) (ih (j + 1) (by omega)))⟩)
theorem yw_add_l {q : Int32} {mo fa se : Nat → Int32} {post : Int32 → SY → Prop} {c : Nat} (hc : c < 7) (h : post (nI c) (nI (c + 1), q, mo, fa, pd_s3 se c 3)) : ∀ d j, j + d = 3 → wY_add_34 post (nI c) q (d + 1) (nI j) mo fa (pd_s3 se c j) := by
  intro d
  induction d with
  | zero =>
    intro j hj
    obtain rfl : j = 3 := by omega
    refine pk_le 3 3 (fun _ => nm_r (e' := nI (c + 1)) (nI_1 c) ?_) (fun z => absurd z (by omega))
    rw [nI_pred]
    exact h
  | succ d ih =>
    intro j hj
    have e : (3 * nI c) + nI j = nI (3 * c + j) := by
      rw [← nI_add, ← pk_mul]
      rfl
    exact pk_le 3 j (fun z => absurd z (by omega)) (fun _ => ⟨pk_in (3 * c + j) 21 (by omega) e, nm_r (e' := pd_s3 se c (j + 1)) (by rw [e, nI_clamp (by omega)]; rfl) (nm_r (e' := nI (j + 1)) (nI_1 j) (ih (j + 1) (by omega)))⟩)
theorem pw_add7 {q ow tb us : Int32} {mo fa se al sc bg : Nat → Int32} {ce : Nat → Int64} {ge : Nat → Int32} {post : Int32 → SX → Prop} {x y : Int32} (h : post (-2) (nI 7, q, ow, tb, us, mo, fa, se, al, sc, bg, ce, ge)) : wpX_add post (nI 7, q, ow, tb, us, mo, fa, se, al, sc, bg, ce, ge) x y := br_t rfl h
theorem yw_add7 {q : Int32} {mo fa se : Nat → Int32} {post : Int32 → SY → Prop} {x y : Int32} (h : post (-2) (nI 7, q, mo, fa, se)) : wpY_add post (nI 7, q, mo, fa, se) x y := br_t rfl h
theorem pw_add {q ow tb us : Int32} {mo fa se al sc bg : Nat → Int32} {ce : Nat → Int64} {ge : Nat → Int32} {post : Int32 → SX → Prop} {c : Nat} {x y : Int32} (hc : c < 7) (h : post (nI c) (nI (c + 1), q, ow, tb, us, upd mo c x, upd fa c y, pd_s3 se c 3, al, sc, bg, ce, ge)) : wpX_add post (nI c, q, ow, tb, us, mo, fa, se, al, sc, bg, ce, ge) x y := by
  have ec : (nI c).toNatClampNeg = c := nI_clamp (by omega)
  exact pk_eq c 7 (fun z => absurd z (by omega)) (fun _ => ⟨pk_in c 7 hc, nm_r (e' := upd mo c x) (by rw [ec]) ⟨pk_in c 7 hc, nm_r (e' := upd fa c y) (by rw [ec]) ⟨3 + 1, pw_add_l hc h 3 0 (by omega)⟩⟩⟩)
theorem yw_add {q : Int32} {mo fa se : Nat → Int32} {post : Int32 → SY → Prop} {c : Nat} {x y : Int32} (hc : c < 7) (h : post (nI c) (nI (c + 1), q, upd mo c x, upd fa c y, pd_s3 se c 3)) : wpY_add post (nI c, q, mo, fa, se) x y := by
  have ec : (nI c).toNatClampNeg = c := nI_clamp (by omega)
  exact pk_eq c 7 (fun z => absurd z (by omega)) (fun _ => ⟨pk_in c 7 hc, nm_r (e' := upd mo c x) (by rw [ec]) ⟨pk_in c 7 hc, nm_r (e' := upd fa c y) (by rw [ec]) ⟨3 + 1, yw_add_l hc h 3 0 (by omega)⟩⟩⟩)
theorem pd_P_add {c : Nat} {mo fa : Nat → Int32} {x y : Int32} (hP : pd_P c mo fa) (h : x < 0 ∨ ∃ a b, a < c ∧ b < c ∧ x = nI a ∧ y = nI b) : pd_P (c + 1) (upd mo c x) (upd fa c y) := by
  intro p hp
  by_cases z : p = c
  · rw [z, pk_us, pk_us]; exact h
  · rw [pk_un z, pk_un z]; exact hP p (by omega)
end
section
/-! what is owed -/
/-- both hold the same pedigree: count, frequency, parents, what was seen; parents stand before their child -/
def i_Rel (_k : Nat) (u : SX) (v : SY) : Prop := ∃ (c : Nat) (q ow tb us : Int32) (mo fa se al sc bg : Nat → Int32) (ce : Nat → Int64) (ge : Nat → Int32), (c ≤ 7 ∧ pd_P c mo fa) ∧ u = (nI c, q, ow, tb, us, mo, fa, se, al, sc, bg, ce, ge) ∧ v = (nI c, q, mo, fa, se)
theorem pr_in {k c : Nat} {q ow tb us : Int32} {mo fa se al sc bg : Nat → Int32} {ce : Nat → Int64} {ge : Nat → Int32} (hc : c ≤ 7) (hP : pd_P c mo fa) : i_Rel k (nI c, q, ow, tb, us, mo, fa, se, al, sc, bg, ce, ge) (nI c, q, mo, fa, se) := ⟨c, q, ow, tb, us, mo, fa, se, al, sc, bg, ce, ge, ⟨hc, hP⟩, rfl, rfl⟩
theorem pr_el {P : SX → SY → Prop} {k : Nat} {u : SX} {v : SY} (h : ∀ (c : Nat) (q ow tb us : Int32) (mo fa se al sc bg : Nat → Int32) (ce : Nat → Int64) (ge : Nat → Int32), c ≤ 7 → pd_P c mo fa → P (nI c, q, ow, tb, us, mo, fa, se, al, sc, bg, ce, ge) (nI c, q, mo, fa, se)) (I : i_Rel k u v) : P u v := by
  obtain ⟨c, q, ow, tb, us, mo, fa, se, al, sc, bg, ce, ge, ⟨hc, hP⟩, e1, e2⟩ := I
  rw [e1, e2]
  exact h c q ow tb us mo fa se al sc bg ce ge hc hP
theorem i_up {k : Nat} {u : SX} {v : SY} (h : i_Rel k u v) : i_Rel (k + 5) u v := h
theorem i_vc0 : wpX_init (fun u => wpY_init (fun v => i_Rel 0 u v)) := pr_in (k := 0) (c := 0) (by decide) (fun p hp => absurd hp (Nat.not_lt_zero p))
theorem i_vc_founder {k : Nat} {u : SX} {v : SY} (I : i_Rel k u v) (hk : k + 5 ≤ 2560) : wpX_founder (fun r u' => wpY_founder (fun r' v' => r' = r ∧ i_Rel (k + 5) u' v') v) u := by
  refine pr_el (P := fun u v => wpX_founder (fun r u' => wpY_founder (fun r' v' => r' = r ∧ i_Rel (k + 5) u' v') v) u) ?_ I
  intro c q ow tb us mo fa se al sc bg ce ge hc hP
  unfold wpX_founder wpY_founder
  by_cases z : c = 7
  · subst z
    refine pw_add7 ?_
    refine yw_add7 ?_
    exact ⟨rfl, pr_in hc hP⟩
  · refine pw_add (by omega) ?_
    refine yw_add (by omega) ?_
    exact ⟨rfl, pr_in (by omega) (pd_P_add hP (Or.inl (by decide)))⟩
theorem i_vc_child {k : Nat} {u : SX} {v : SY} (I : i_Rel k u v) (hk : k + 5 ≤ 2560) (v1 : Int32) (v2 : Int32) : wpX_child (fun r u' => wpY_child (fun r' v' => r' = r ∧ i_Rel (k + 5) u' v') v v1 v2) u v1 v2 := by
  refine pr_el (P := fun u v => wpX_child (fun r u' => wpY_child (fun r' v' => r' = r ∧ i_Rel (k + 5) u' v') v v1 v2) u v1 v2) ?_ I
  intro c q ow tb us mo fa se al sc bg ce ge hc hP
  unfold wpX_child wpY_child
  have bad : ∀ w : Int32, (w < 0 ∨ nI c ≤ w) ∨ ∃ j, j < c ∧ w = nI j := by
    intro w
    rcases pk_ix w (n := c) (by omega) with h | h | h
    · exact Or.inl (Or.inl h)
    · exact Or.inl (Or.inr h)
    · exact Or.inr h
  rcases bad v1 with h1 | ⟨a, ha, rfl⟩
  · refine pw_bad1 h1 (br_f (by decide) ?_)
    exact yw_per0 h1 (br_t rfl ⟨rfl, pr_in hc hP⟩)
  · refine pw_bad0 hc ha (br_t rfl ?_)
    rcases bad v2 with h2 | ⟨b, hb, rfl⟩
    · refine pw_bad1 h2 (br_f (by decide) ?_)
      exact yw_per1 hc ha (br_f (by decide) (yw_per0 h2 (br_t rfl ⟨rfl, pr_in hc hP⟩)))
    · refine pw_bad0 hc hb (br_t rfl (br_c (fun e => ?_) (fun e => ?_)))
      · exact yw_per1 hc ha (br_f (by decide) (yw_per1 hc hb (br_f (by decide) (br_t e ⟨rfl, pr_in hc hP⟩))))
      · by_cases z : c = 7
        · subst z
          refine pw_add7 ?_
          refine yw_per1 hc ha (br_f (by decide) (yw_per1 hc hb (br_f (by decide) (br_f e (yw_add7 ?_)))))
          exact ⟨rfl, pr_in hc hP⟩
        · refine pw_add (by omega) ?_
          refine yw_per1 hc ha (br_f (by decide) (yw_per1 hc hb (br_f (by decide) (br_f e (yw_add (by omega) ?_)))))
          exact ⟨rfl, pr_in (by omega) (pd_P_add hP (Or.inr ⟨a, b, ha, hb, rfl, rfl⟩))⟩
theorem i_vc_remove {k : Nat} {u : SX} {v : SY} (I : i_Rel k u v) (hk : k + 5 ≤ 2560) : wpX_remove (fun r u' => wpY_remove (fun r' v' => r' = r ∧ i_Rel (k + 5) u' v') v) u := by
  refine pr_el (P := fun u v => wpX_remove (fun r u' => wpY_remove (fun r' v' => r' = r ∧ i_Rel (k + 5) u' v') v) u) ?_ I
  intro c q ow tb us mo fa se al sc bg ce ge hc hP
  by_cases z : c = 0
  · subst z
    exact br_t rfl (br_t rfl ⟨rfl, pr_in hc hP⟩)
  · obtain ⟨m, rfl⟩ : ∃ m, c = m + 1 := ⟨c - 1, by omega⟩
    have hn : ¬ nI (m + 1) = 0 := nI_ne0 (by omega) (by omega)
    refine br_f hn (nm_r (e' := nI m) (nI_pred m) ?_)
    refine br_f hn (nm_r (e' := nI m) (nI_pred m) ?_)
    exact ⟨rfl, pr_in (by omega) (fun p hp => hP p (by omega))⟩
theorem i_vc_persons {k : Nat} {u : SX} {v : SY} (I : i_Rel k u v) (hk : k + 5 ≤ 2560) : wpX_persons (fun r => wpY_persons (fun r' => r' = r ∧ i_Rel (k + 5) u v) v) u := by
  refine pr_el (P := fun u v => wpX_persons (fun r => wpY_persons (fun r' => r' = r ∧ i_Rel (k + 5) u v) v) u) ?_ I
  intro c q ow tb us mo fa se al sc bg ce ge hc hP
  exact ⟨rfl, pr_in hc hP⟩
theorem i_vc_frequency {k : Nat} {u : SX} {v : SY} (I : i_Rel k u v) (hk : k + 5 ≤ 2560) (v1 : Int32) : wpX_frequency (fun r u' => wpY_frequency (fun r' v' => r' = r ∧ i_Rel (k + 5) u' v') v v1) u v1 := by
  refine pr_el (P := fun u v => wpX_frequency (fun r u' => wpY_frequency (fun r' v' => r' = r ∧ i_Rel (k + 5) u' v') v v1) u v1) ?_ I
  intro c q ow tb us mo fa se al sc bg ce ge hc hP
  refine br_c (fun z => ?_) (fun z => br_c (fun y => ?_) (fun y => ?_))
  · exact br_t z ⟨rfl, pr_in hc hP⟩
  · exact br_f z (br_t y ⟨rfl, pr_in hc hP⟩)
  · exact br_f z (br_f y ⟨rfl, pr_in hc hP⟩)
theorem pd_ixY {p g : Nat} : (3 * nI p) + nI g = nI (3 * p + g) := by
  rw [← nI_add, ← pk_mul]
  rfl
theorem pd_ixX {p g : Nat} : (nI p * 3) + nI g = nI (3 * p + g) := by
  rw [← nI_add, Nat.mul_comm, ← pk_mul]
  rfl
theorem pd_bad {c : Nat} (hc : c ≤ 7) (w : Int32) : (w < 0 ∨ nI c ≤ w) ∨ ∃ j, j < c ∧ w = nI j := by
  rcases pk_ix w (n := c) (by omega) with h | h | h
  · exact Or.inl (Or.inl h)
  · exact Or.inl (Or.inr h)
  · exact Or.inr h
theorem i_vc_see {k : Nat} {u : SX} {v : SY} (I : i_Rel k u v) (hk : k + 5 ≤ 2560) (v1 : Int32) (v2 : Int32) (v3 : Int32) : wpX_see (fun r u' => wpY_see (fun r' v' => r' = r ∧ i_Rel (k + 5) u' v') v v1 v2 v3) u v1 v2 v3 := by
  refine pr_el (P := fun u v => wpX_see (fun r u' => wpY_see (fun r' v' => r' = r ∧ i_Rel (k + 5) u' v') v v1 v2 v3) u v1 v2 v3) ?_ I
  intro c q ow tb us mo fa se al sc bg ce ge hc hP
  unfold wpX_see wpY_see
  rcases pd_bad hc v1 with h1 | ⟨p, hp, rfl⟩
  · refine pw_bad1 h1 (br_f (by decide) ?_)
    exact yw_per0 h1 (br_t rfl ⟨rfl, pr_in hc hP⟩)
  · refine pw_bad0 hc hp (br_t rfl ?_)
    rcases pd_bad (c := 3) (by decide) v2 with h2 | ⟨g, hg, rfl⟩
    · refine pw_bg1 h2 (br_f (by decide) ?_)
      exact yw_per1 hc hp (br_f (by decide) (yw_gt0 h2 (br_t rfl ⟨rfl, pr_in hc hP⟩)))
    · have ex := pd_ixX (p := p) (g := g)
      have ey := pd_ixY (p := p) (g := g)
      refine pw_bg0 hg (br_t rfl (br_c (fun z => ?_) (fun z => br_c (fun y => ?_) (fun y => ?_))))
      · exact yw_per1 hc hp (br_f (by decide) (yw_gt1 hg (br_f (by decide) (br_t z ⟨rfl, pr_in hc hP⟩))))
      · refine ⟨pk_in (3 * p + g) 21 (by omega) ex, nm_r (e' := se (3 * p + g)) (by rw [ex, nI_clamp (by omega)]) ⟨pk_in (3 * p + g) 21 (by omega) ex, nm_r (e' := upd se (3 * p + g) v3) (by rw [ex, nI_clamp (by omega)]) ?_⟩⟩
        refine yw_per1 hc hp (br_f (by decide) (yw_gt1 hg (br_f (by decide) (br_f z (br_t y ?_)))))
        refine ⟨pk_in (3 * p + g) 21 (by omega) ey, nm_r (e' := se (3 * p + g)) (by rw [ey, nI_clamp (by omega)]) ⟨pk_in (3 * p + g) 21 (by omega) ey, nm_r (e' := upd se (3 * p + g) v3) (by rw [ey, nI_clamp (by omega)]) ?_⟩⟩
        exact ⟨rfl, pr_in hc hP⟩
      · exact yw_per1 hc hp (br_f (by decide) (yw_gt1 hg (br_f (by decide) (br_f z (br_f y ⟨rfl, pr_in hc hP⟩)))))
theorem i_vc_seen {k : Nat} {u : SX} {v : SY} (I : i_Rel k u v) (hk : k + 5 ≤ 2560) (v1 : Int32) (v2 : Int32) : wpX_seen (fun r => wpY_seen (fun r' => r' = r ∧ i_Rel (k + 5) u v) v v1 v2) u v1 v2 := by
  refine pr_el (P := fun u v => wpX_seen (fun r => wpY_seen (fun r' => r' = r ∧ i_Rel (k + 5) u v) v v1 v2) u v1 v2) ?_ I
  intro c q ow tb us mo fa se al sc bg ce ge hc hP
  have hI : i_Rel (k + 5) (nI c, q, ow, tb, us, mo, fa, se, al, sc, bg, ce, ge) (nI c, q, mo, fa, se) := pr_in hc hP
  unfold wpX_seen wpY_seen
  rcases pd_bad hc v1 with h1 | ⟨p, hp, rfl⟩
  · refine pw_bad1 h1 (br_f (by decide) ?_)
    exact yw_per0 h1 (br_t rfl ⟨rfl, hI⟩)
  · refine pw_bad0 hc hp (br_t rfl ?_)
    rcases pd_bad (c := 3) (by decide) v2 with h2 | ⟨g, hg, rfl⟩
    · refine pw_bg1 h2 (br_f (by decide) ?_)
      exact yw_per1 hc hp (br_f (by decide) (yw_gt0 h2 (br_t rfl ⟨rfl, hI⟩)))
    · have ex := pd_ixX (p := p) (g := g)
      have ey := pd_ixY (p := p) (g := g)
      refine pw_bg0 hg (br_t rfl ⟨pk_in (3 * p + g) 21 (by omega) ex, ?_⟩)
      refine yw_per1 hc hp (br_f (by decide) (yw_gt1 hg (br_f (by decide) ⟨pk_in (3 * p + g) 21 (by omega) ey, ?_, hI⟩)))
      rw [ex, ey]
theorem i_vc_likelihood {k : Nat} {u : SX} {v : SY} (I : i_Rel k u v) (hk : k + 5 ≤ 2560) : wpX_likelihood (fun r u' => wpY_likelihood (fun r' => r' = r ∧ i_Rel (k + 5) u' v) v) u := by
  refine pr_el (P := fun u v => wpX_likelihood (fun r u' => wpY_likelihood (fun r' => r' = r ∧ i_Rel (k + 5) u' v) v) u) ?_ I
  intro c q ow tb us mo fa se al sc bg ce ge hc hP
  refine pw_lik hc hP (fun ow tb us al sc bg ce ge => ?_)
  exact yw_lik hc hP ⟨rfl, pr_in hc hP⟩
theorem i_vc_shareOfTwo {k : Nat} {u : SX} {v : SY} (I : i_Rel k u v) (hk : k + 5 ≤ 2560) (v1 : Int32) (v2 : Int32) (v3 : Int32) (v4 : Int32) : wpX_shareOfTwo (fun r u' => wpY_shareOfTwo (fun r' => r' = r ∧ i_Rel (k + 5) u' v) v v1 v2 v3 v4) u v1 v2 v3 v4 := by
  refine pr_el (P := fun u v => wpX_shareOfTwo (fun r u' => wpY_shareOfTwo (fun r' => r' = r ∧ i_Rel (k + 5) u' v) v v1 v2 v3 v4) u v1 v2 v3 v4) ?_ I
  intro c q ow tb us mo fa se al sc bg ce ge hc hP
  have hI : i_Rel (k + 5) (nI c, q, ow, tb, us, mo, fa, se, al, sc, bg, ce, ge) (nI c, q, mo, fa, se) := pr_in hc hP
  rcases pd_bad hc v1 with h1 | ⟨p, hp, rfl⟩
  · unfold wpX_shareOfTwo wpY_shareOfTwo
    refine pw_bad1 h1 (br_f (by decide) ?_)
    exact yw_per0 h1 (br_t rfl ⟨rfl, hI⟩)
  · rcases pd_bad (c := 3) (by decide) v2 with h2 | ⟨g, hg, rfl⟩
    · unfold wpX_shareOfTwo wpY_shareOfTwo
      refine pw_bad0 hc hp (br_t rfl (pw_bg1 h2 (br_f (by decide) ?_)))
      refine yw_per1 hc hp (br_f (by decide) ?_)
      rcases pd_bad hc v3 with h3 | ⟨r, hr, rfl⟩
      · exact yw_per0 h3 (br_t rfl ⟨rfl, hI⟩)
      · exact yw_per1 hc hr (br_f (by decide) (yw_gt0 h2 (br_t rfl ⟨rfl, hI⟩)))
    · rcases pd_bad hc v3 with h3 | ⟨r, hr, rfl⟩
      · unfold wpX_shareOfTwo wpY_shareOfTwo
        refine pw_bad0 hc hp (br_t rfl (pw_bg0 hg (br_t rfl (pw_bad1 h3 (br_f (by decide) ?_)))))
        exact yw_per1 hc hp (br_f (by decide) (yw_per0 h3 (br_t rfl ⟨rfl, hI⟩)))
      · rcases pd_bad (c := 3) (by decide) v4 with h4 | ⟨h, hh, rfl⟩
        · unfold wpX_shareOfTwo wpY_shareOfTwo
          refine pw_bad0 hc hp (br_t rfl (pw_bg0 hg (br_t rfl (pw_bad0 hc hr (br_t rfl (pw_bg1 h4 (br_f (by decide) ?_)))))))
          exact yw_per1 hc hp (br_f (by decide) (yw_per1 hc hr (br_f (by decide) (yw_gt1 hg (br_f (by decide) (yw_gt0 h4 (br_t rfl ⟨rfl, hI⟩)))))))
        · refine pw_two hc hP hp hg hr hh (fun ow tb us al sc bg ce ge => ?_)
          exact yw_two hc hP hp hr hg hh ⟨rfl, pr_in hc hP⟩
theorem i_vc_share {k : Nat} {u : SX} {v : SY} (I : i_Rel k u v) (hk : k + 5 ≤ 2560) (v1 : Int32) (v2 : Int32) : wpX_share (fun r u' => wpY_share (fun r' => r' = r ∧ i_Rel (k + 5) u' v) v v1 v2) u v1 v2 := by
  refine pr_el (P := fun u v => wpX_share (fun r u' => wpY_share (fun r' => r' = r ∧ i_Rel (k + 5) u' v) v v1 v2) u v1 v2) ?_ I
  intro c q ow tb us mo fa se al sc bg ce ge hc hP
  have hI : i_Rel (k + 5) (nI c, q, ow, tb, us, mo, fa, se, al, sc, bg, ce, ge) (nI c, q, mo, fa, se) := pr_in hc hP
  rcases pd_bad hc v1 with h1 | ⟨p, hp, rfl⟩
  · unfold wpX_share wpY_share
    refine pw_bad1 h1 (br_f (by decide) ?_)
    unfold wpY_shareOfTwo
    exact yw_per0 h1 (br_t rfl ⟨rfl, hI⟩)
  · rcases pd_bad (c := 3) (by decide) v2 with h2 | ⟨g, hg, rfl⟩
    · unfold wpX_share wpY_share
      refine pw_bad0 hc hp (br_t rfl (pw_bg1 h2 (br_f (by decide) ?_)))
      unfold wpY_shareOfTwo
      exact yw_per1 hc hp (br_f (by decide) (yw_per1 hc hp (br_f (by decide) (yw_gt0 h2 (br_t rfl ⟨rfl, hI⟩)))))
    · refine pw_sha hc hP hp hg (fun ow tb us al sc bg ce ge => ?_)
      unfold wpY_share
      exact yw_two hc hP hp hp hg hg ⟨rfl, pr_in hc hP⟩
theorem i_vc_copies {k : Nat} {u : SX} {v : SY} (I : i_Rel k u v) (hk : k + 5 ≤ 2560) (v1 : Int32) : wpX_copies (fun r u' => wpY_copies (fun r' => r' = r ∧ i_Rel (k + 5) u' v) v v1) u v1 := by
  refine pr_el (P := fun u v => wpX_copies (fun r u' => wpY_copies (fun r' => r' = r ∧ i_Rel (k + 5) u' v) v v1) u v1) ?_ I
  intro c q ow tb us mo fa se al sc bg ce ge hc hP
  rcases pd_bad hc v1 with h1 | ⟨p, hp, rfl⟩
  · unfold wpX_copies wpY_copies
    refine pw_bad1 h1 (br_f (by decide) ?_)
    exact yw_per0 h1 (br_t rfl ⟨rfl, pr_in hc hP⟩)
  · refine pw_cop hc hP hp (fun ow tb us al sc bg ce ge => ?_)
    exact yw_cop hc hP hp ⟨rfl, pr_in hc hP⟩
theorem i_vc_possible {k : Nat} {u : SX} {v : SY} (I : i_Rel k u v) (hk : k + 5 ≤ 2560) (v1 : Int32) : wpX_possible (fun r u' => wpY_possible (fun r' => r' = r ∧ i_Rel (k + 5) u' v) v v1) u v1 := by
  refine pr_el (P := fun u v => wpX_possible (fun r u' => wpY_possible (fun r' => r' = r ∧ i_Rel (k + 5) u' v) v v1) u v1) ?_ I
  intro c q ow tb us mo fa se al sc bg ce ge hc hP
  rcases pd_bad hc v1 with h1 | ⟨p, hp, rfl⟩
  · unfold wpX_possible wpY_possible
    refine pw_bad1 h1 (br_f (by decide) ?_)
    exact yw_per0 h1 (br_t rfl ⟨rfl, pr_in hc hP⟩)
  · refine pw_pos hc hP hp (fun ow tb us al sc bg ce ge => ?_)
    exact yw_pos hc hP hp ⟨rfl, pr_in hc hP⟩
theorem i_vc_before {k : Nat} {u : SX} {v : SY} (I : i_Rel k u v) (hk : k + 5 ≤ 2560) (v1 : Int32) (v2 : Int32) : wpX_before (fun r => wpY_before (fun r' => r' = r ∧ i_Rel (k + 5) u v) v v1 v2) u v1 v2 := by
  refine pr_el (P := fun u v => wpX_before (fun r => wpY_before (fun r' => r' = r ∧ i_Rel (k + 5) u v) v v1 v2) u v1 v2) ?_ I
  intro c q ow tb us mo fa se al sc bg ce ge hc hP
  have hI : i_Rel (k + 5) (nI c, q, ow, tb, us, mo, fa, se, al, sc, bg, ce, ge) (nI c, q, mo, fa, se) := pr_in hc hP
  rcases pd_bad hc v1 with h1 | ⟨p, hp, rfl⟩
  · unfold wpX_before wpY_before
    refine pw_bad1 h1 (br_f (by decide) ?_)
    exact yw_per0 h1 (br_t rfl ⟨rfl, hI⟩)
  · rcases pd_bad hc v2 with h2 | ⟨r, hr, rfl⟩
    · unfold wpX_before wpY_before
      refine pw_bad0 hc hp (br_t rfl (pw_bad1 h2 (br_f (by decide) ?_)))
      exact yw_per1 hc hp (br_f (by decide) (yw_per0 h2 (br_t rfl ⟨rfl, hI⟩)))
    · obtain ⟨w, hX, hY⟩ := pw_bef (q := q) (ow := ow) (tb := tb) (us := us) (se := se) (al := al) (sc := sc) (bg := bg) (ce := ce) (ge := ge) hc hP hp hr
      exact hX _ (hY _ ⟨rfl, hI⟩)
end
