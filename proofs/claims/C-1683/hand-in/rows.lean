section
/-! pure rows to paste: stores, nI and lN arithmetic, masks, shifts, narrowing, branches by naturals (pk_le, pk_lt, pk_eq), loops (lp1 .. lp16: the measure of the state; rp1 ..: recursion), negatives. Take what you need -/
theorem pk_us {f : Nat → Int32} {k : Nat} {x : Int32} : upd f k x k = x := if_pos rfl
theorem pk_un {f : Nat → Int32} {k j : Nat} {x : Int32} (h : j ≠ k) : upd f k x j = f j := if_neg h
theorem pk_sub {a b : Nat} (h : b ≤ a) : nI a - nI b = nI (a - b) := by
  obtain ⟨c, rfl⟩ : ∃ c, a = c + b := ⟨a - b, by omega⟩
  rw [← nI_add, Int32.add_sub_cancel, Nat.add_sub_cancel]
theorem pk_m1 (n : Nat) : nI (n + 1) + (-1) = nI n := by
  rw [← nI_1, Int32.add_assoc, show (1 : Int32) + (-1) = 0 from rfl, Int32.add_zero]
theorem pk_mul (a b : Nat) : nI a * nI b = nI (a * b) := (Int32.ofNat_mul a b).symm
theorem pk_div {a d : Nat} (ha : a < 2 ^ 31) (h0 : 0 < d) (hd : d < 2 ^ 31) : nI a / nI d = nI (a / d) := by
  apply Int32.toInt_inj.mp
  rw [lg_idiv_nonneg (by rw [nI_toInt ha]; omega) (by rw [nI_toInt hd]; omega), nI_toInt ha, nI_toInt hd, nI_toInt (Nat.lt_of_le_of_lt (Nat.div_le_self a d) ha)]
  first | rfl | exact (Int.natCast_ediv _ _).symm
theorem pk_rem {a d : Nat} (ha : a < 2 ^ 31) (h0 : 0 < d) (hd : d < 2 ^ 31) : nI a - nI a / nI d * nI d = nI (a % d) := by
  rw [pk_div ha h0 hd, pk_mul, pk_sub (Nat.div_mul_le_self a d)]
  exact congrArg nI (by have := Nat.div_add_mod' a d; omega)
theorem pk_sub_toInt {a b : Nat} (ha : a < 2 ^ 30) (hb : b < 2 ^ 30) : (nI a - nI b).toInt = (a : Int) - b := by
  rw [Int32.toInt_sub, nI_toInt (by omega), nI_toInt (by omega)]
  exact Int.bmod_eq_of_le (by omega) (by omega)
theorem pk_sneg {a b : Nat} (hb : b < 2 ^ 30) (h : a < b) : nI a - nI b < 0 := by
  rw [Int32.lt_iff_toInt_lt, pk_sub_toInt (by omega) hb, show (0 : Int32).toInt = 0 from by decide]
  omega
theorem pk_ix (x : Int32) {n : Nat} (hn : n < 2 ^ 31) : x < 0 ∨ nI n ≤ x ∨ ∃ j : Nat, j < n ∧ x = nI j := by
  by_cases h : x < 0
  · exact Or.inl h
  · obtain ⟨j, hj, rfl⟩ := nI_of h
    by_cases h2 : j < n
    · exact Or.inr (Or.inr ⟨j, h2, rfl⟩)
    · exact Or.inr (Or.inl (nI_le (by omega) hj))
theorem pk_le {x y : Int32} {A B : Prop} (a b : Nat) (f : a ≤ b → A) (g : b < a → B) (hx : x = nI a := by rfl) (hy : y = nI b := by rfl) (ha : a < 2 ^ 31 := by omega) (hb : b < 2 ^ 31 := by omega) : (x ≤ y → A) ∧ (¬ x ≤ y → B) := by
  subst hx hy
  rw [nI_leI ha hb]
  exact ⟨f, fun z => g (by omega)⟩
theorem pk_lt {x y : Int32} {A B : Prop} (a b : Nat) (f : a < b → A) (g : b ≤ a → B) (hx : x = nI a := by rfl) (hy : y = nI b := by rfl) (ha : a < 2 ^ 31 := by omega) (hb : b < 2 ^ 31 := by omega) : (x < y → A) ∧ (¬ x < y → B) := by
  subst hx hy
  rw [nI_ltI ha hb]
  exact ⟨f, fun z => g (by omega)⟩
theorem pk_eq {x y : Int32} {A B : Prop} (a b : Nat) (f : a = b → A) (g : a ≠ b → B) (hx : x = nI a := by rfl) (hy : y = nI b := by rfl) (ha : a < 2 ^ 31 := by omega) (hb : b < 2 ^ 31 := by omega) : (x = y → A) ∧ (¬ x = y → B) := by
  subst hx hy
  rw [nI_eq ha hb]
  exact ⟨f, g⟩
theorem pk_in {x : Int32} (n N : Nat) (h : n < N) (hx : x = nI n := by rfl) (hN : N < 2 ^ 31 := by omega) : vp_in x N := by
  subst hx
  exact vp_in_nI h hN
theorem pk_cl {x : Int32} (n : Nat) (hx : x = nI n := by rfl) (h : n < 2 ^ 31 := by omega) : x.toNatClampNeg = n := by
  subst hx
  exact nI_clamp h
theorem pk_tn {n : Nat} (h : n < 2 ^ 32) : (nI n).toBitVec.toNat = n := Nat.mod_eq_of_lt h
theorem pk_and (x : Int32) {m : Int32} (k : Nat) (hm : m.toBitVec.toNat = 2 ^ k - 1) : x &&& m = nI (x.toBitVec.toNat % 2 ^ k) := by
  apply Int32.toBitVec_inj.mp
  apply BitVec.eq_of_toNat_eq
  rw [Int32.toBitVec_and, BitVec.toNat_and, hm, Nat.and_two_pow_sub_one_eq_mod]
  show _ = (BitVec.ofNat 32 _).toNat
  rw [BitVec.toNat_ofNat]
  exact (Nat.mod_eq_of_lt (Nat.lt_of_le_of_lt (Nat.mod_le _ _) x.toBitVec.isLt)).symm
theorem pk_andN {n : Nat} (h : n < 2 ^ 32) {m : Int32} (k : Nat) (hm : m.toBitVec.toNat = 2 ^ k - 1) : nI n &&& m = nI (n % 2 ^ k) := by
  rw [pk_and _ k hm, pk_tn h]
theorem pk_andE (x : Int32) {m : Int32} (k : Nat) (hm : m.toBitVec.toNat = 2 ^ k - 1) : ∃ j : Nat, j < 2 ^ k ∧ x &&& m = nI j := ⟨_, Nat.mod_lt _ (Nat.two_pow_pos k), pk_and x k hm⟩
end
section
/-! arrays of naturals, and the rows that turn the printed ints into naturals -/
def ss_A (f : Nat → Nat) : Nat → Int32 := fun j => nI (f j)
def ss_u (f : Nat → Nat) (k x : Nat) : Nat → Nat := fun j => if j = k then x else f j
theorem ss_us (f : Nat → Nat) (k x : Nat) : ss_u f k x k = x := if_pos rfl
theorem ss_un (f : Nat → Nat) {k j : Nat} (x : Nat) (h : j ≠ k) : ss_u f k x j = f j := if_neg h
theorem ss_upd (f : Nat → Nat) (k x : Nat) : upd (ss_A f) k (nI x) = ss_A (ss_u f k x) := by
  funext j
  by_cases h : j = k
  · subst h
    rw [pk_us]
    show nI x = nI (ss_u f j x j)
    rw [ss_us]
  · rw [pk_un h]
    show nI (f j) = nI (ss_u f k x j)
    rw [ss_un f x h]
theorem ss_upd0 (f : Nat → Nat) (k : Nat) : upd (ss_A f) k 0 = ss_A (ss_u f k 0) := ss_upd f k 0
theorem ss_ap (f : Nat → Nat) (n : Nat) : ss_A f n = nI (f n) := rfl
theorem ss_z : (fun _ => (0 : Int32)) = ss_A (fun _ => 0) := by
  funext j
  rfl
theorem ss_all (a : Nat → Int32) : ∃ f : Nat → Nat, a = ss_A f := by
  refine ⟨fun j => (a j).toBitVec.toNat, ?_⟩
  funext j
  show a j = nI (a j).toBitVec.toNat
  apply Int32.toBitVec_inj.mp
  apply BitVec.eq_of_toNat_eq
  rw [pk_tn (a j).toBitVec.isLt]
theorem ss_nb {x : Nat} (h : x ≤ 1) : vp_nar .boolean (nI x) = nI x := by
  have : x = 0 ∨ x = 1 := by omega
  rcases this with rfl | rfl <;> rfl
theorem ss_nb1 : vp_nar .boolean 1 = nI 1 := rfl
theorem ss_nb0 : vp_nar .boolean 0 = nI 0 := rfl
theorem ss_m3 (a : Nat) : nI a * 3 = nI (a * 3) := pk_mul a 3
theorem ss_m6 (a : Nat) : nI a * 6 = nI (a * 6) := pk_mul a 6
theorem ss_m36 (a : Nat) : nI a * 36 = nI (a * 36) := pk_mul a 36
theorem ss_16m (a : Nat) : 16 * nI a = nI (16 * a) := pk_mul 16 a
theorem ss_p3 (a : Nat) : nI a + 3 = nI (a + 3) := nI_add a 3
theorem ss_p1 (a : Nat) : nI a + 1 = nI (a + 1) := nI_1 a
theorem ss_s1 {a : Nat} (h : 0 < a) : nI a - 1 = nI (a - 1) := pk_sub (a := a) (b := 1) h
theorem ss_d3 {a : Nat} (h : a < 2147483648) : nI a / 3 = nI (a / 3) := pk_div (d := 3) h (by decide) (by decide)
theorem ss_d6 {a : Nat} (h : a < 2147483648) : nI a / 6 = nI (a / 6) := pk_div (d := 6) h (by decide) (by decide)
theorem ss_r3 {a : Nat} (h : a < 2147483648) : nI a - nI a / 3 * 3 = nI (a % 3) := pk_rem (d := 3) h (by decide) (by decide)
theorem ss_r3' (a : Nat) : nI a - nI (a / 3 * 3) = nI (a % 3) := by
  rw [pk_sub (by omega)]
  exact congrArg nI (by omega)
theorem ss_cl {n : Nat} (h : n < 2147483648) : (nI n).toNatClampNeg = n := nI_clamp h
theorem ss_in {n N : Nat} (h : n < N) (hN : N < 2147483648) : vp_in (nI n) N = True := eq_true (vp_in_nI h hN)
theorem ss_30 : ((3 : Int32) = 0) = False := eq_false (by decide)
theorem ss_60 : ((6 : Int32) = 0) = False := eq_false (by decide)
theorem ss_le {a b : Nat} (ha : a < 2147483648) (hb : b < 2147483648) : (nI a ≤ nI b) = (a ≤ b) := propext (nI_leI ha hb)
theorem ss_lt {a b : Nat} (ha : a < 2147483648) (hb : b < 2147483648) : (nI a < nI b) = (a < b) := propext (nI_ltI ha hb)
theorem ss_eq {a b : Nat} (ha : a < 2147483648) (hb : b < 2147483648) : (nI a = nI b) = (a = b) := propext (nI_eq ha hb)
theorem ss_eq0 {a : Nat} (ha : a < 2147483648) : (nI a = 0) = (a = 0) := propext (nI_eq (b := 0) ha (by decide))
theorem ss_le0 {a : Nat} (ha : a < 2147483648) : (nI a ≤ 0) = (a = 0) := by
  rw [show (nI a ≤ 0) = (a ≤ 0) from propext (nI_leI (b := 0) ha (by decide))]
  exact propext (by omega)
theorem ss_lt0 {a : Nat} (ha : a < 2147483648) : (nI a < 0) = False := eq_false (nI_pos ha)
theorem ss_0le {a : Nat} (ha : a < 2147483648) : (0 ≤ nI a) = True := eq_true (nI_pos' ha)
theorem ss_3le {a : Nat} (ha : a < 2147483648) : (3 ≤ nI a) = (3 ≤ a) := propext (nI_leI (a := 3) (by decide) ha)
theorem ss_6le {a : Nat} (ha : a < 2147483648) : (6 ≤ nI a) = (6 ≤ a) := propext (nI_leI (a := 6) (by decide) ha)
theorem ss_16le {a : Nat} (ha : a < 2147483648) : (16 ≤ nI a) = (16 ≤ a) := propext (nI_leI (a := 16) (by decide) ha)
theorem ss_36le {a : Nat} (ha : a < 2147483648) : (36 ≤ nI a) = (36 ≤ a) := propext (nI_leI (a := 36) (by decide) ha)
theorem ss_96le {a : Nat} (ha : a < 2147483648) : (96 ≤ nI a) = (96 ≤ a) := propext (nI_leI (a := 96) (by decide) ha)
theorem ss_le2 {a : Nat} (ha : a < 2147483648) : (nI a ≤ 2) = (a ≤ 2) := propext (nI_leI (b := 2) ha (by decide))
theorem ss_le5 {a : Nat} (ha : a < 2147483648) : (nI a ≤ 5) = (a ≤ 5) := propext (nI_leI (b := 5) ha (by decide))
theorem ss_le9 {a : Nat} (ha : a < 2147483648) : (nI a ≤ 9) = (a ≤ 9) := propext (nI_leI (b := 9) ha (by decide))
theorem ss_le16 {a : Nat} (ha : a < 2147483648) : (nI a ≤ 16) = (a ≤ 16) := propext (nI_leI (b := 16) ha (by decide))
theorem ss_lt3 {a : Nat} (ha : a < 2147483648) : (nI a < 3) = (a < 3) := propext (nI_ltI (b := 3) ha (by decide))
theorem ss_lt6 {a : Nat} (ha : a < 2147483648) : (nI a < 6) = (a < 6) := propext (nI_ltI (b := 6) ha (by decide))
theorem ss_lt16 {a : Nat} (ha : a < 2147483648) : (nI a < 16) = (a < 16) := propext (nI_ltI (b := 16) ha (by decide))
theorem ss_m1lt : ((-1 : Int32) < 0) = True := eq_true (by decide)
theorem ss_m1le : ((0 : Int32) ≤ -1) = False := eq_false (by decide)
theorem ss_10 : ((1 : Int32) = 0) = False := eq_false (by decide)
/-- an int is below 0, at least n, or nI j with j below n -/
theorem ss_cases (x : Int32) (n : Nat) (hn : n < 2147483648) : x < 0 ∨ (¬ x < 0 ∧ nI n ≤ x) ∨ ∃ j : Nat, j < n ∧ x = nI j := by
  rcases pk_ix x (n := n) hn with h | h | h
  · exact Or.inl h
  · by_cases h0 : x < 0
    · exact Or.inl h0
    · exact Or.inr (Or.inl ⟨h0, h⟩)
  · exact Or.inr (Or.inr h)
/-- sums over the numbers below n -/
def ss_sm (f : Nat → Nat) : Nat → Nat
  | 0 => 0
  | n + 1 => ss_sm f n + f n
theorem ss_sm_congr {f g : Nat → Nat} : ∀ n : Nat, (∀ j, j < n → f j = g j) → ss_sm f n = ss_sm g n := by
  intro n
  induction n with
  | zero => intro _; rfl
  | succ n ih =>
    intro h
    show ss_sm f n + f n = ss_sm g n + g n
    rw [ih (fun j hj => h j (by omega)), h n (by omega)]
theorem ss_sm_le {f g : Nat → Nat} : ∀ n : Nat, (∀ j, j < n → f j ≤ g j) → ss_sm f n ≤ ss_sm g n := by
  intro n
  induction n with
  | zero => intro _; exact Nat.le_refl 0
  | succ n ih =>
    intro h
    show ss_sm f n + f n ≤ ss_sm g n + g n
    have h1 := ih (fun j hj => h j (by omega))
    have h2 := h n (by omega)
    omega
theorem ss_sm_add (f g : Nat → Nat) (n : Nat) : ss_sm (fun j => f j + g j) n = ss_sm f n + ss_sm g n := by
  induction n with
  | zero => rfl
  | succ n ih =>
    show ss_sm (fun j => f j + g j) n + (f n + g n) = ss_sm f n + f n + (ss_sm g n + g n)
    omega
theorem ss_sm_0 {f : Nat → Nat} (n : Nat) (h : ∀ j, j < n → f j = 0) : ss_sm f n = 0 := by
  induction n with
  | zero => rfl
  | succ n ih =>
    show ss_sm f n + f n = 0
    have h1 := ih (fun j hj => h j (by omega))
    have h2 := h n (by omega)
    omega
theorem ss_sm_bd {f : Nat → Nat} {b : Nat} (n : Nat) (h : ∀ j, j < n → f j ≤ b) : ss_sm f n ≤ n * b := by
  induction n with
  | zero => exact Nat.zero_le _
  | succ n ih =>
    show ss_sm f n + f n ≤ (n + 1) * b
    have h1 := ih (fun j hj => h j (by omega))
    have h2 := h n (by omega)
    have h3 : (n + 1) * b = n * b + b := Nat.succ_mul n b
    omega
theorem ss_sm_split {f : Nat → Nat} {i : Nat} : ∀ n : Nat, i < n → ss_sm f n = ss_sm (fun j => if j = i then 0 else f j) n + f i := by
  intro n
  induction n with
  | zero => intro h; omega
  | succ n ih =>
    intro h
    show ss_sm f n + f n = ss_sm (fun j => if j = i then 0 else f j) n + (if n = i then 0 else f n) + f i
    by_cases e : n = i
    · subst e
      rw [if_pos rfl, ss_sm_congr (f := fun j => if j = n then 0 else f j) (g := f) n (fun j hj => if_neg (by omega))]
      omega
    · rw [if_neg e]
      have := ih (by omega)
      omega
theorem ss_sm_pos {f : Nat → Nat} : ∀ n : Nat, 0 < ss_sm f n → ∃ j, j < n ∧ 0 < f j := by
  intro n
  induction n with
  | zero => intro h; exact absurd h (Nat.lt_irrefl 0)
  | succ n ih =>
    intro h
    have h : 0 < ss_sm f n + f n := h
    by_cases e : 0 < f n
    · exact ⟨n, by omega, e⟩
    · obtain ⟨j, hj, hp⟩ := ih (by omega)
      exact ⟨j, by omega, hp⟩
/-- the rest of a sum below the rest of a greater one -/
theorem ss_sm_rest {f g : Nat → Nat} {i : Nat} : ∀ m : Nat, i ≤ m → (∀ j, j < m → f j ≤ g j) → ss_sm f m + ss_sm g i ≤ ss_sm g m + ss_sm f i := by
  intro m
  induction m with
  | zero =>
    intro h _
    obtain rfl : i = 0 := by omega
    exact Nat.le_refl _
  | succ m ih =>
    intro h hl
    by_cases e : i = m + 1
    · subst e; omega
    · have h1 := ih (by omega) (fun j hj => hl j (by omega))
      have h2 := hl m (by omega)
      show ss_sm f m + f m + ss_sm g i ≤ ss_sm g m + g m + ss_sm f i
      omega
end
section
/-! the plain laws of the search: the bar, the picks, the scores, the order of terms -/
def ss_gt (x : Nat → Nat) (v n : Nat) : Nat := ss_sm (fun e => if v < x e then 1 else 0) n
def ss_ec (x : Nat → Nat) (v n : Nat) : Nat := ss_sm (fun e => if x e = v then 1 else 0) n
theorem ss_gt_pos {x : Nat → Nat} {v n : Nat} (h : 0 < ss_gt x v n) : ∃ e, e < n ∧ v < x e := by
  obtain ⟨j, hj, hp⟩ := ss_sm_pos n h
  refine ⟨j, hj, ?_⟩
  by_cases c : v < x j
  · exact c
  · rw [if_neg c] at hp; omega
theorem ss_ec_pos {x : Nat → Nat} {v n : Nat} (h : 0 < ss_ec x v n) : ∃ e, e < n ∧ x e = v := by
  obtain ⟨j, hj, hp⟩ := ss_sm_pos n h
  refine ⟨j, hj, ?_⟩
  by_cases c : x j = v
  · exact c
  · rw [if_neg c] at hp; omega
theorem ss_gt_mono {x y : Nat → Nat} {v w : Nat} (n : Nat) (h : ∀ e, e < n → v < x e → w < y e) : ss_gt x v n ≤ ss_gt y w n := by
  refine ss_sm_le n fun e he => ?_
  show (if v < x e then 1 else 0) ≤ (if w < y e then 1 else 0)
  by_cases c : v < x e
  · rw [if_pos c, if_pos (h e he c)]; exact Nat.le_refl 1
  · rw [if_neg c]; exact Nat.zero_le _
theorem ss_gt_ec {x : Nat → Nat} {a v : Nat} (n : Nat) (h : a < v) : ss_gt x v n + ss_ec x v n ≤ ss_gt x a n := by
  unfold ss_gt ss_ec
  rw [← ss_sm_add]
  refine ss_sm_le n fun e he => ?_
  show (if v < x e then 1 else 0) + (if x e = v then 1 else 0) ≤ (if a < x e then 1 else 0)
  by_cases c : v < x e
  · rw [if_pos c, if_neg (show ¬ x e = v by omega), if_pos (show a < x e by omega)]; exact Nat.le_refl 1
  · rw [if_neg c]
    by_cases c2 : x e = v
    · rw [if_pos c2, if_pos (show a < x e by omega)]; exact Nat.le_refl 1
    · rw [if_neg c2]; exact Nat.zero_le _
/-- a value with fewer than k above it, and at least k with those at it, is the bar -/
theorem ss_bar1 {x : Nat → Nat} {k v n : Nat} (h1 : ss_gt x v n < k) (h2 : k ≤ ss_gt x v n + ss_ec x v n) (a : Nat) : a < v ↔ k ≤ ss_gt x a n := by
  constructor
  · intro h
    exact Nat.le_trans h2 (ss_gt_ec n h)
  · intro h
    by_cases c : a < v
    · exact c
    · have := ss_gt_mono (x := x) (y := x) (v := a) (w := v) n (fun e _ z => by omega)
      omega
theorem ss_ge_all {x : Nat → Nat} {k n : Nat} (hk : k ≤ n) (h : ∀ d, d < n → ¬ (ss_gt x (x d) n < k ∧ k ≤ ss_gt x (x d) n + ss_ec x (x d) n)) : ∀ v, k ≤ ss_gt x v n + ss_ec x v n → k ≤ ss_gt x v n := by
  intro v hv
  by_cases c : k ≤ ss_gt x v n
  · exact c
  · obtain ⟨e, he, hx⟩ := ss_ec_pos (x := x) (v := v) (n := n) (by omega)
    have := h e he
    rw [hx] at this
    omega
theorem ss_sm_1 (n : Nat) : ss_sm (fun _ => 1) n = n := by
  induction n with
  | zero => rfl
  | succ n ih =>
    show ss_sm (fun _ => 1) n + 1 = n + 1
    omega
theorem ss_gt_0 (x : Nat → Nat) (n : Nat) : ss_gt x 0 n + ss_ec x 0 n = n := by
  unfold ss_gt ss_ec
  rw [← ss_sm_add, ss_sm_congr (g := fun _ => 1) n, ss_sm_1]
  intro e _
  show (if 0 < x e then 1 else 0) + (if x e = 0 then 1 else 0) = 1
  by_cases c : x e = 0
  · rw [if_neg (by omega), if_pos c]
  · rw [if_pos (by omega), if_neg c]
theorem ss_gt_succ (x : Nat → Nat) (v n : Nat) : ss_gt x (v + 1) n + ss_ec x (v + 1) n = ss_gt x v n := by
  unfold ss_gt ss_ec
  rw [← ss_sm_add]
  refine ss_sm_congr n fun e _ => ?_
  show (if v + 1 < x e then 1 else 0) + (if x e = v + 1 then 1 else 0) = (if v < x e then 1 else 0)
  by_cases c : x e = v + 1
  · rw [if_neg (by omega), if_pos c, if_pos (by omega)]
  · rw [if_neg c]
    by_cases c2 : v < x e
    · rw [if_pos (by omega), if_pos c2]
    · rw [if_neg (by omega), if_neg c2]
/-- there is always a bar -/
theorem ss_bar2 {x : Nat → Nat} {k n b : Nat} (h0 : 0 < k) (hk : k ≤ n) (hb : ∀ e, e < n → x e ≤ b) (h : ∀ d, d < n → ¬ (ss_gt x (x d) n < k ∧ k ≤ ss_gt x (x d) n + ss_ec x (x d) n)) : False := by
  have key : ∀ v, k ≤ ss_gt x v n := by
    intro v
    induction v with
    | zero => exact ss_ge_all hk h 0 (by rw [ss_gt_0]; exact hk)
    | succ v ih => exact ss_ge_all hk h (v + 1) (by rw [ss_gt_succ]; exact ih)
  obtain ⟨e, he, hx⟩ := ss_gt_pos (Nat.lt_of_lt_of_le h0 (key b))
  have := hb e he
  omega
/-- the least number with the greatest value, if some value isn't 0 -/
def ss_mx (y : Nat → Nat) (n b : Nat) : Prop := b < n ∧ 0 < y b ∧ (∀ d, d < n → y d ≤ y b) ∧ ∀ d, d < b → y d < y b
theorem ss_mx_ex (y : Nat → Nat) (n : Nat) : (∀ d, d < n → y d = 0) ∨ ∃ b, ss_mx y n b := by
  induction n with
  | zero => exact Or.inl (fun d hd => absurd hd (Nat.not_lt_zero d))
  | succ n ih =>
    rcases ih with h | ⟨b, hb, h0, h1, h2⟩
    · by_cases c : y n = 0
      · refine Or.inl fun d hd => ?_
        by_cases e : d = n
        · rw [e]; exact c
        · exact h d (by omega)
      · refine Or.inr ⟨n, by omega, by omega, fun d hd => ?_, fun d hd => ?_⟩
        · by_cases e : d = n
          · rw [e]; exact Nat.le_refl _
          · rw [h d (by omega)]; exact Nat.zero_le _
        · rw [h d hd]; omega
    · by_cases c : y b < y n
      · refine Or.inr ⟨n, by omega, by omega, fun d hd => ?_, fun d hd => ?_⟩
        · by_cases e : d = n
          · rw [e]; exact Nat.le_refl _
          · have := h1 d (by omega); omega
        · have := h1 d hd; omega
      · refine Or.inr ⟨b, by omega, h0, fun d hd => ?_, h2⟩
        by_cases e : d = n
        · rw [e]; omega
        · exact h1 d (by omega)
/-- x is y but for what isn't needed for the next k picks -/
def ss_I (k : Nat) (x y : Nat → Nat) : Prop := ∀ d, d < 16 → x d = y d ∨ (x d = 0 ∧ k ≤ ss_gt x (y d) 16)
theorem ss_I_le {k : Nat} {x y : Nat → Nat} (h : ss_I k x y) {d : Nat} (hd : d < 16) : x d ≤ y d := by
  rcases h d hd with e | ⟨e, _⟩ <;> omega
theorem ss_gt_pick (x : Nat → Nat) {b : Nat} (v : Nat) (hb : b < 16) : ss_gt x v 16 ≤ ss_gt (ss_u x b 0) v 16 + 1 := by
  unfold ss_gt
  rw [ss_sm_split (f := fun e => if v < x e then 1 else 0) (i := b) 16 hb, ss_sm_split (f := fun e => if v < ss_u x b 0 e then 1 else 0) (i := b) 16 hb]
  have e : ss_sm (fun j => if j = b then 0 else (fun e => if v < x e then 1 else 0) j) 16 = ss_sm (fun j => if j = b then 0 else (fun e => if v < ss_u x b 0 e then 1 else 0) j) 16 := by
    refine ss_sm_congr 16 fun j _ => ?_
    show (if j = b then 0 else if v < x j then 1 else 0) = (if j = b then 0 else if v < ss_u x b 0 j then 1 else 0)
    by_cases c : j = b
    · rw [if_pos c, if_pos c]
    · rw [if_neg c, if_neg c, ss_un x 0 c]
  rw [e]
  dsimp only
  have : (if v < x b then 1 else 0) ≤ 1 := by
    by_cases c : v < x b
    · rw [if_pos c]; exact Nat.le_refl 1
    · rw [if_neg c]; exact Nat.zero_le _
  omega
theorem ss_pick {k : Nat} {x y : Nat → Nat} {b : Nat} (I : ss_I (k + 1) x y) (hb : ss_mx y 16 b) : ss_mx x 16 b ∧ x b = y b ∧ ss_I k (ss_u x b 0) (ss_u y b 0) := by
  obtain ⟨hb16, h0, h1, h2⟩ := hb
  have hxb : x b = y b := by
    rcases I b hb16 with e | ⟨_, hc⟩
    · exact e
    · obtain ⟨e, he, hx⟩ := ss_gt_pos (Nat.lt_of_lt_of_le (Nat.succ_pos k) hc)
      have h3 := ss_I_le I he
      have h4 := h1 e he
      omega
  refine ⟨⟨hb16, by omega, fun d hd => ?_, fun d hd => ?_⟩, hxb, fun d hd => ?_⟩
  · have h3 := ss_I_le I hd
    have h4 := h1 d hd
    omega
  · have h3 := ss_I_le I (d := d) (by omega)
    have h4 := h2 d hd
    omega
  · by_cases c : d = b
    · subst c
      rw [ss_us, ss_us]
      exact Or.inl rfl
    · rw [ss_un x 0 c, ss_un y 0 c]
      rcases I d hd with e | ⟨e, hc⟩
      · exact Or.inl e
      · have := ss_gt_pick x (y d) hb16
        exact Or.inr ⟨e, by omega⟩
theorem ss_I_none {k : Nat} {x y : Nat → Nat} (I : ss_I k x y) (h : ∀ d, d < 16 → y d = 0) : ∀ d, d < 16 → x d = 0 := by
  intro d hd
  have h1 := ss_I_le I hd
  have h2 := h d hd
  omega
theorem ss_I_congr {k : Nat} {x y z : Nat → Nat} (I : ss_I k x y) (h : ∀ d, d < 16 → z d = y d) : ss_I k x z := by
  intro d hd
  rw [h d hd]
  exact I d hd
/-- what is still to come behind a pick of score ls, number l1 - 1 -/
def ss_y (S : Nat → Nat) (ls l1 : Nat) (d : Nat) : Nat := if S d < ls ∨ (S d = ls ∧ l1 ≤ d) then S d else 0
theorem ss_y_next {S : Nat → Nat} {ls l1 b : Nat} (hb : ss_mx (ss_y S ls l1) 16 b) : ss_y S ls l1 b = S b ∧ ∀ d, d < 16 → ss_y S (S b) (b + 1) d = ss_u (ss_y S ls l1) b 0 d := by
  obtain ⟨hb16, h0, h1, h2⟩ := hb
  have hlb : S b < ls ∨ (S b = ls ∧ l1 ≤ b) := by
    by_cases c : S b < ls ∨ (S b = ls ∧ l1 ≤ b)
    · exact c
    · unfold ss_y at h0
      rw [if_neg c] at h0
      omega
  have eb : ss_y S ls l1 b = S b := if_pos hlb
  refine ⟨eb, fun d hd => ?_⟩
  rw [eb] at h0 h1 h2
  by_cases c : d = b
  · subst c
    rw [ss_us]
    exact if_neg (by omega)
  · rw [ss_un _ 0 c]
    unfold ss_y
    by_cases l : S d < ls ∨ (S d = ls ∧ l1 ≤ d)
    · have ed : ss_y S ls l1 d = S d := if_pos l
      have h3 := h1 d hd
      have h4 := h2 d
      rw [ed] at h3 h4
      rw [if_pos l]
      exact if_pos (by omega)
    · rw [if_neg l]
      by_cases c2 : S d < S b ∨ (S d = S b ∧ b + 1 ≤ d)
      · rw [if_pos c2]; omega
      · exact if_neg c2
theorem ss_y_0 (S : Nat → Nat) (l1 d : Nat) : ss_y S 0 l1 d = 0 := by
  unfold ss_y
  by_cases c : S d < 0 ∨ (S d = 0 ∧ l1 ≤ d)
  · rw [if_pos c]; omega
  · exact if_neg c
/-- the scores behind some terms: exact, or left out with k documents above all that the document can reach -/
def ss_Q (k : Nat) (x p S : Nat → Nat) (ah : Nat) : Prop := ∀ d, d < 16 → x d = p d ∨ (x d = 0 ∧ k ≤ ss_gt x (S d) 16 ∧ k ≤ ss_gt x ah 16)
def ss_bump (fr : Nat) (x w : Nat → Nat) (d : Nat) : Nat := if fr ≠ 0 ∨ 0 < x d then x d + w d else x d
theorem ss_bump_le (fr : Nat) (x w : Nat → Nat) (d : Nat) : x d ≤ ss_bump fr x w d := by
  unfold ss_bump
  by_cases c : fr ≠ 0 ∨ 0 < x d
  · rw [if_pos c]; omega
  · rw [if_neg c]; exact Nat.le_refl _
theorem ss_Q_step {k : Nat} {x p S w : Nat → Nat} {ah m fr : Nat} (Q : ss_Q k x p S ah) (hf : fr = 0 ↔ k ≤ ss_gt x ah 16) (hm : m ≤ ah) (hS : ∀ d, d < 16 → S d ≤ p d + ah) : ss_Q k (ss_bump fr x w) (fun d => p d + w d) S (ah - m) := by
  have mono : ∀ v, ss_gt x v 16 ≤ ss_gt (ss_bump fr x w) v 16 := fun v => ss_gt_mono 16 (fun e _ h => Nat.lt_of_lt_of_le h (ss_bump_le fr x w e))
  have mono2 : ss_gt x ah 16 ≤ ss_gt (ss_bump fr x w) (ah - m) 16 := ss_gt_mono 16 (fun e _ h => Nat.lt_of_lt_of_le (by omega) (ss_bump_le fr x w e))
  intro d hd
  show ss_bump fr x w d = p d + w d ∨ _
  by_cases c : fr ≠ 0 ∨ 0 < x d
  · have e : ss_bump fr x w d = x d + w d := if_pos c
    rcases Q d hd with h | ⟨h, h2, h3⟩
    · exact Or.inl (by omega)
    · have h4 := hf.mpr h3
      exfalso
      omega
  · have e : ss_bump fr x w d = x d := if_neg c
    have h3 : k ≤ ss_gt x ah 16 := hf.mp (by omega)
    refine Or.inr ⟨by omega, ?_, Nat.le_trans h3 mono2⟩
    rcases Q d hd with h | ⟨h, h2, _⟩
    · have h4 := hS d hd
      have h5 := ss_gt_mono (x := x) (y := x) (v := ah) (w := S d) 16 (fun e _ z => by omega)
      exact Nat.le_trans (Nat.le_trans h3 h5) (mono _)
    · exact Nat.le_trans h2 (mono _)
/-- the sum of f over the m terms in to, but for the place at -/
def ss_hole (f : Nat → Nat) (to : Nat → Nat) (a m : Nat) : Nat := ss_sm (fun j => if j = a then 0 else f (to j)) m
theorem ss_hole_end (f to : Nat → Nat) (m : Nat) : ss_hole f to m (m + 1) = ss_sm (fun j => f (to j)) m := by
  unfold ss_hole
  show ss_sm (fun j => if j = m then 0 else f (to j)) m + (if m = m then 0 else f (to m)) = _
  rw [if_pos rfl, Nat.add_zero]
  exact ss_sm_congr m fun j hj => if_neg (by omega)
theorem ss_hole_put (f to : Nat → Nat) {a m : Nat} (t : Nat) (ha : a < m) : ss_sm (fun j => f (ss_u to a t j)) m = ss_hole f to a m + f t := by
  rw [ss_sm_split (f := fun j => f (ss_u to a t j)) (i := a) m ha]
  show _ + f (ss_u to a t a) = _
  rw [ss_us]
  unfold ss_hole
  rw [ss_sm_congr (g := fun j => if j = a then 0 else f (to j)) m]
  intro j _
  show (if j = a then 0 else f (ss_u to a t j)) = (if j = a then 0 else f (to j))
  by_cases c : j = a
  · rw [if_pos c, if_pos c]
  · rw [if_neg c, if_neg c, ss_un to t c]
theorem ss_hole_shift (f to : Nat → Nat) {a m : Nat} (h0 : 0 < a) (ha : a < m) : ss_hole f (ss_u to a (to (a - 1))) (a - 1) m = ss_hole f to a m := by
  unfold ss_hole
  rw [ss_sm_split (f := fun j => if j = a - 1 then 0 else f (ss_u to a (to (a - 1)) j)) (i := a) m ha, ss_sm_split (f := fun j => if j = a then 0 else f (to j)) (i := a - 1) m (by omega)]
  show _ + (if a = a - 1 then 0 else f (ss_u to a (to (a - 1)) a)) = _ + (if a - 1 = a then 0 else f (to (a - 1)))
  rw [if_neg (by omega), if_neg (by omega), ss_us]
  refine congrArg (· + f (to (a - 1))) (ss_sm_congr m fun j _ => ?_)
  show (if j = a then 0 else if j = a - 1 then 0 else f (ss_u to a (to (a - 1)) j)) = (if j = a - 1 then 0 else if j = a then 0 else f (to j))
  by_cases c : j = a
  · rw [if_pos c, if_neg (show ¬ j = a - 1 by omega), if_pos c]
  · rw [if_neg c, if_neg c, ss_un to _ c]
end
section
/-! X: current, server, copyAll -/
/-- node n is up and its copy current -/
abbrev ss_up (run lp le : Nat → Nat) (n : Nat) : Prop := run n ≠ 0 ∧ lp n = le (n % 3)
abbrev ss_op (run lp le : Nat → Nat) (s : Nat) : Prop := ss_up run lp le s ∨ ss_up run lp le (s + 3)
section
variable {uD uT uK : Int32} {uRun uLp uRp uLe uRe uEx uCt uSe uPo uPd uPc uHv uGr uTo uSc uHd uHs : Nat → Int32} {run lp rp le re ex ct se po pd pc : Nat → Nat}
theorem xs_cur {post : Int32 → Prop} {n : Nat} (hn : n < 6) (hlp : ∀ j, lp j < 5000) (hle : ∀ j, le j < 5000) (H : post (if lp n = le (n % 3) then 1 else 0)) : wpX_current post (uD, uT, uK, uRun, (ss_A lp), uRp, (ss_A le), uRe, uEx, uCt, uSe, uPo, uPd, uPc, uHv, uGr, uTo, uSc, uHd, uHs) (nI n) := by
  have h1 := hlp n
  have h2 := hle (n % 3)
  simp (disch := omega) only [wpX_current, ss_eq, ss_m3, ss_m6, ss_m36, nI_add, ss_p1, ss_p3, ss_d3, ss_r3', ss_in, ss_30, ss_cl, ss_ap, ss_upd, ss_upd0, ss_nb1, ss_nb0, forall_eq, true_and, not_false_eq_true]
  by_cases c : lp n = le (n % 3)
  · rw [if_pos c] at H; exact br_t c H
  · rw [if_neg c] at H; exact br_f c H
theorem xs_srv19 {post : Int32 → Prop} {s : Nat} (hs : s < 3) (hrun : ∀ j, run j ≤ 1) (hlp : ∀ j, lp j < 5000) (hle : ∀ j, le j < 5000) (H1 : ss_up run lp le (s + 3) → post (nI (s + 3))) (H2 : ¬ ss_up run lp le (s + 3) → post (-1)) : wX_server_19 post (nI s) uD uT uK (ss_A run) (ss_A lp) uRp (ss_A le) uRe uEx uCt uSe uPo uPd uPc uHv uGr uTo uSc uHd uHs := by
  have h1 := hrun (s + 3)
  simp (disch := omega) only [wX_server_19, ss_eq0, ss_m3, ss_m6, ss_m36, nI_add, ss_p1, ss_p3, ss_d3, ss_r3', ss_in, ss_30, ss_cl, ss_ap, ss_upd, ss_upd0, ss_nb1, ss_nb0, forall_eq, true_and, not_false_eq_true]
  refine br_c (fun c => H2 (fun z => z.1 c)) (fun c => xs_cur (by omega) hlp hle ?_)
  by_cases c2 : lp (s + 3) = le ((s + 3) % 3)
  · rw [if_pos c2]; exact br_f (by decide) (H1 ⟨c, c2⟩)
  · rw [if_neg c2]; exact br_t rfl (H2 (fun z => c2 z.2))
theorem xs_srv {post : Int32 → Prop} {s : Nat} (hs : s < 3) (hrun : ∀ j, run j ≤ 1) (hlp : ∀ j, lp j < 5000) (hle : ∀ j, le j < 5000) (H1 : ∀ n, n < 6 → n % 3 = s → ss_up run lp le n → post (nI n)) (H2 : ¬ ss_op run lp le s → post (-1)) : wpX_server post (uD, uT, uK, (ss_A run), (ss_A lp), uRp, (ss_A le), uRe, uEx, uCt, uSe, uPo, uPd, uPc, uHv, uGr, uTo, uSc, uHd, uHs) (nI s) := by
  have h1 := hrun s
  have K1 : ss_up run lp le (s + 3) → post (nI (s + 3)) := fun z => H1 (s + 3) (by omega) (by omega) z
  simp (disch := omega) only [wpX_server, ss_eq0, ss_m3, ss_m6, ss_m36, nI_add, ss_p1, ss_p3, ss_d3, ss_r3', ss_in, ss_30, ss_cl, ss_ap, ss_upd, ss_upd0, ss_nb1, ss_nb0, forall_eq, true_and, not_false_eq_true]
  refine br_c (fun c => xs_srv19 hs hrun hlp hle K1 (fun z => H2 (fun y => y.elim (fun w => w.1 c) z))) (fun c => xs_cur (by omega) hlp hle ?_)
  by_cases c2 : lp s = le (s % 3)
  · rw [if_pos c2]; exact br_f (by decide) (H1 s (by omega) (by omega) ⟨c, c2⟩)
  · rw [if_neg c2]; exact br_t rfl (xs_srv19 hs hrun hlp hle K1 (fun z => H2 (fun y => y.elim (fun w => c2 w.2) z)))
end
/-- k entries from s on copied to t on -/
def ss_cp (a : Nat → Nat) (s t k : Nat) : Nat → Nat := fun j => if t ≤ j ∧ j < t + k then a (j - t + s) else a j
theorem ss_cp_0 (a : Nat → Nat) (s t : Nat) : ss_cp a s t 0 = a := by
  funext j
  exact if_neg (by omega)
theorem ss_cp_in (a : Nat → Nat) {s t k j : Nat} (h : j < k) : ss_cp a s t k (t + j) = a (s + j) := by
  unfold ss_cp
  rw [if_pos (by omega)]
  exact congrArg a (by omega)
theorem ss_cp_out (a : Nat → Nat) {s t k j : Nat} (h : j < t ∨ t + k ≤ j) : ss_cp a s t k j = a j := if_neg (by omega)
theorem ss_cp_step (a : Nat → Nat) {s t i N : Nat} (hi : i < N) (h : s + N ≤ t ∨ t + N ≤ s) : ss_u (ss_cp a s t i) (t + i) (ss_cp a s t i (s + i)) = ss_cp a s t (i + 1) := by
  rw [ss_cp_out a (j := s + i) (by omega)]
  funext j
  by_cases c : j = t + i
  · rw [c, ss_us, ss_cp_in a (by omega)]
  · rw [ss_un _ _ c]
    by_cases c2 : t ≤ j ∧ j < t + i
    · obtain ⟨r, rfl⟩ : ∃ r, j = t + r := ⟨j - t, by omega⟩
      rw [ss_cp_in a (by omega), ss_cp_in a (by omega)]
    · rw [ss_cp_out a (by omega), ss_cp_out a (by omega)]
theorem ss_cp_le {a : Nat → Nat} {b : Nat} (s t k : Nat) (h : ∀ j, a j ≤ b) (j : Nat) : ss_cp a s t k j ≤ b := by
  unfold ss_cp
  by_cases c : t ≤ j ∧ j < t + k
  · rw [if_pos c]; exact h _
  · rw [if_neg c]; exact h _
section
variable {uD uT uK : Int32} {uRun uLp uRp uLe uRe uEx uCt uSe uPo uPd uPc uHv uGr uTo uSc uHd uHs : Nat → Int32} {run lp rp le re ex ct se po pd pc : Nat → Nat} {post : SX → Prop} {f t : Nat}
theorem xs_cp118 (hf : f < 6) (ht : t < 6) (hne : f ≠ t) (H : post (uD, uT, uK, uRun, (ss_A (ss_u lp t (lp f))), (ss_A (ss_u rp t (rp f))), uLe, uRe, uEx, uCt, (ss_A (ss_u se t (se f))), (ss_A (ss_cp po (f * 6) (t * 6) 6)), uPd, uPc, uHv, uGr, uTo, uSc, uHd, uHs)) : ∀ d i, i + d = 6 → wX_copyAll_118 post (nI f) (nI t) uD uT uK (d + 1) (nI i) uRun (ss_A lp) (ss_A rp) uLe uRe uEx uCt (ss_A se) (ss_A (ss_cp po (f * 6) (t * 6) i)) uPd uPc uHv uGr uTo uSc uHd uHs := by
  intro d
  induction d with
  | zero =>
    intro i hi
    obtain rfl : i = 6 := by omega
    rw [wX_copyAll_118]
    refine br_t (by decide) ?_
    simp (disch := omega) only [ss_m3, ss_m6, ss_m36, nI_add, ss_p1, ss_p3, ss_d3, ss_r3', ss_in, ss_30, ss_cl, ss_ap, ss_upd, ss_upd0, ss_nb1, ss_nb0, forall_eq, true_and, not_false_eq_true]
    exact H
  | succ d ih =>
    intro i hi
    have e := ih (i + 1) (by omega)
    rw [wX_copyAll_118]
    refine br_f (nI_ge (b := 6) (by omega) (by decide)) ?_
    simp (disch := omega) only [ss_m3, ss_m6, ss_m36, nI_add, ss_p1, ss_p3, ss_d3, ss_r3', ss_in, ss_30, ss_cl, ss_ap, ss_upd, ss_upd0, ss_nb1, ss_nb0, forall_eq, true_and, not_false_eq_true]
    rw [ss_cp_step po (N := 6) (by omega) (by omega)]
    exact e
theorem xs_cp38 (hf : f < 6) (ht : t < 6) (hne : f ≠ t) (H : ∃ n, wX_copyAll_118 post (nI f) (nI t) uD uT uK n 0 uRun uLp uRp uLe uRe uEx (ss_A (ss_cp ct (f * 36) (t * 36) 36)) uSe uPo (ss_A (ss_cp pd (f * 36) (t * 36) 36)) (ss_A (ss_cp pc (f * 36) (t * 36) 36)) uHv uGr uTo uSc uHd uHs) : ∀ d i, i + d = 36 → wX_copyAll_38 post (nI f) (nI t) uD uT uK (d + 1) (nI i) uRun uLp uRp uLe uRe uEx (ss_A (ss_cp ct (f * 36) (t * 36) i)) uSe uPo (ss_A (ss_cp pd (f * 36) (t * 36) i)) (ss_A (ss_cp pc (f * 36) (t * 36) i)) uHv uGr uTo uSc uHd uHs := by
  intro d
  induction d with
  | zero =>
    intro i hi
    obtain rfl : i = 36 := by omega
    rw [wX_copyAll_38]
    exact br_t (by decide) H
  | succ d ih =>
    intro i hi
    have e := ih (i + 1) (by omega)
    rw [wX_copyAll_38]
    refine br_f (nI_ge (b := 36) (by omega) (by decide)) ?_
    simp (disch := omega) only [ss_m3, ss_m6, ss_m36, nI_add, ss_p1, ss_p3, ss_d3, ss_r3', ss_in, ss_30, ss_cl, ss_ap, ss_upd, ss_upd0, ss_nb1, ss_nb0, forall_eq, true_and, not_false_eq_true]
    rw [ss_cp_step ct (N := 36) (by omega) (by omega), ss_cp_step pd (N := 36) (by omega) (by omega), ss_cp_step pc (N := 36) (by omega) (by omega)]
    exact e
theorem xs_cp2 (hf : f < 6) (ht : t < 6) (hne : f ≠ t) (hex : ∀ j, ex j ≤ 1) (H : ∃ n, wX_copyAll_38 post (nI f) (nI t) uD uT uK n 0 uRun uLp uRp uLe uRe (ss_A (ss_cp ex (f * 6) (t * 6) 6)) uCt uSe uPo uPd uPc uHv uGr uTo uSc uHd uHs) : ∀ d i, i + d = 6 → wX_copyAll_2 post (nI f) (nI t) uD uT uK (d + 1) (nI i) uRun uLp uRp uLe uRe (ss_A (ss_cp ex (f * 6) (t * 6) i)) uCt uSe uPo uPd uPc uHv uGr uTo uSc uHd uHs := by
  intro d
  induction d with
  | zero =>
    intro i hi
    obtain rfl : i = 6 := by omega
    rw [wX_copyAll_2]
    exact br_t (by decide) H
  | succ d ih =>
    intro i hi
    have e := ih (i + 1) (by omega)
    have hx := ss_cp_le (f * 6) (t * 6) i hex (f * 6 + i)
    rw [wX_copyAll_2]
    refine br_f (nI_ge (b := 6) (by omega) (by decide)) ?_
    simp (disch := omega) only [ss_nb, ss_m3, ss_m6, ss_m36, nI_add, ss_p1, ss_p3, ss_d3, ss_r3', ss_in, ss_30, ss_cl, ss_ap, ss_upd, ss_upd0, ss_nb1, ss_nb0, forall_eq, true_and, not_false_eq_true]
    rw [ss_cp_step ex (N := 6) (by omega) (by omega)]
    exact e
theorem xs_copy (hf : f < 6) (ht : t < 6) (hne : f ≠ t) (hex : ∀ j, ex j ≤ 1) (H : post (uD, uT, uK, uRun, (ss_A (ss_u lp t (lp f))), (ss_A (ss_u rp t (rp f))), uLe, uRe, (ss_A (ss_cp ex (f * 6) (t * 6) 6)), (ss_A (ss_cp ct (f * 36) (t * 36) 36)), (ss_A (ss_u se t (se f))), (ss_A (ss_cp po (f * 6) (t * 6) 6)), (ss_A (ss_cp pd (f * 36) (t * 36) 36)), (ss_A (ss_cp pc (f * 36) (t * 36) 36)), uHv, uGr, uTo, uSc, uHd, uHs)) : wpX_copyAll post (uD, uT, uK, uRun, (ss_A lp), (ss_A rp), uLe, uRe, (ss_A ex), (ss_A ct), (ss_A se), (ss_A po), (ss_A pd), (ss_A pc), uHv, uGr, uTo, uSc, uHd, uHs) (nI f) (nI t) := by
  have h1 := xs_cp118 (post := post) hf ht hne H 6 0 rfl
  rw [ss_cp_0] at h1
  have h2 := xs_cp38 (post := post) hf ht hne ⟨7, h1⟩ 36 0 rfl
  rw [ss_cp_0, ss_cp_0, ss_cp_0] at h2
  have h3 := xs_cp2 (post := post) hf ht hne hex ⟨37, h2⟩ 6 0 rfl
  rw [ss_cp_0] at h3
  unfold wpX_copyAll
  exact ⟨7, h3⟩
end
end
section
/-! X: post, makePostings -/
theorem ss_uu (f : Nat → Nat) (k x y : Nat) : ss_u (ss_u f k x) k y = ss_u f k y := by
  funext j
  by_cases c : j = k
  · rw [c, ss_us, ss_us]
  · rw [ss_un _ _ c, ss_un _ _ c, ss_un _ _ c]
/-- the numbers below n with q -/
def ss_li (q : Nat → Bool) (n : Nat) : List Nat := (List.range n).filter q
theorem ss_li_0 (q : Nat → Bool) : ss_li q 0 = [] := rfl
theorem ss_li_t {q : Nat → Bool} {n : Nat} (h : q n = true) : ss_li q (n + 1) = ss_li q n ++ [n] := by
  unfold ss_li
  rw [List.range_succ, List.filter_append, List.filter_cons_of_pos h, List.filter_nil]
theorem ss_li_f {q : Nat → Bool} {n : Nat} (h : q n = false) : ss_li q (n + 1) = ss_li q n := by
  unfold ss_li
  rw [List.range_succ, List.filter_append, List.filter_cons_of_neg (by rw [h]; decide), List.filter_nil, List.append_nil]
theorem ss_gd_l {L M : List Nat} {j : Nat} (h : j < L.length) : (L ++ M).getD j 0 = L.getD j 0 := by
  rw [List.getD_eq_getElem?_getD, List.getD_eq_getElem?_getD, List.getElem?_append_left h]
theorem ss_gd_r (L : List Nat) (i : Nat) : (L ++ [i]).getD L.length 0 = i := by
  rw [List.getD_eq_getElem?_getD, List.getElem?_append_right (Nat.le_refl _), Nat.sub_self]
  rfl
theorem ss_len1 (L : List Nat) (i : Nat) : (L ++ [i]).length = L.length + 1 := by
  rw [List.length_append]
  rfl
theorem ss_li_len (q : Nat → Bool) (n : Nat) : (ss_li q n).length ≤ n := by
  induction n with
  | zero => exact Nat.le_refl 0
  | succ n ih =>
    cases h : q n with
    | true => rw [ss_li_t h, ss_len1]; omega
    | false => rw [ss_li_f h]; omega
theorem ss_li_sm (q : Nat → Bool) (n : Nat) : (ss_li q n).length = ss_sm (fun l => if q l = true then 1 else 0) n := by
  induction n with
  | zero => rfl
  | succ n ih =>
    show _ = ss_sm (fun l => if q l = true then 1 else 0) n + (if q n = true then 1 else 0)
    cases h : q n with
    | true => rw [ss_li_t h, ss_len1, ih, if_pos rfl]
    | false => rw [ss_li_f h, ih, if_neg (by decide)]; rfl
theorem ss_li_get {q : Nat → Bool} : ∀ n j : Nat, j < (ss_li q n).length → (ss_li q n).getD j 0 < n ∧ q ((ss_li q n).getD j 0) = true := by
  intro n
  induction n with
  | zero => intro j h; exact absurd h (Nat.not_lt_zero j)
  | succ n ih =>
    intro j h
    cases c : q n with
    | true =>
      rw [ss_li_t c] at h ⊢
      rw [ss_len1] at h
      by_cases e : j = (ss_li q n).length
      · rw [e, ss_gd_r]
        exact ⟨by omega, c⟩
      · have hj : j < (ss_li q n).length := by omega
        rw [ss_gd_l hj]
        have := ih j hj
        exact ⟨by omega, this.2⟩
    | false =>
      rw [ss_li_f c] at h ⊢
      have := ih j h
      exact ⟨by omega, this.2⟩
theorem ss_li_congr {p q : Nat → Bool} : ∀ n : Nat, (∀ l, l < n → p l = q l) → ss_li p n = ss_li q n := by
  intro n
  induction n with
  | zero => intro _; rfl
  | succ n ih =>
    intro h
    have h1 := h n (by omega)
    have h2 := ih (fun l hl => h l (by omega))
    cases c : q n with
    | true => rw [ss_li_t c, ss_li_t (h1.trans c), h2]
    | false => rw [ss_li_f c, ss_li_f (h1.trans c), h2]
/-- the postings of term t at node a, behind i documents -/
def ss_w (ex ct : Nat → Nat) (a t l : Nat) : Bool := decide (ex (a * 6 + l) ≠ 0 ∧ ct (a * 36 + l * 6 + t) ≠ 0)
def ss_PT (ex ct : Nat → Nat) (a t i : Nat) (po pd pc : Nat → Nat) : Prop := po (a * 6 + t) = (ss_li (ss_w ex ct a t) i).length ∧ ∀ j, j < (ss_li (ss_w ex ct a t) i).length → pd (a * 36 + t * 6 + j) = (ss_li (ss_w ex ct a t) i).getD j 0 * 3 + a % 3 ∧ pc (a * 36 + t * 6 + j) = ct (a * 36 + (ss_li (ss_w ex ct a t) i).getD j 0 * 6 + t)
def ss_PF (a t : Nat) (po0 pd0 pc0 po pd pc : Nat → Nat) : Prop := (∀ j, j ≠ a * 6 + t → po j = po0 j) ∧ ∀ j, j < a * 36 + t * 6 ∨ a * 36 + t * 6 + 6 ≤ j → pd j = pd0 j ∧ pc j = pc0 j
theorem ss_PT_put {ex ct : Nat → Nat} {a t i : Nat} {po pd pc : Nat → Nat} (h : ss_PT ex ct a t i po pd pc) (hq : ss_w ex ct a t i = true) : ss_PT ex ct a t (i + 1) (ss_u po (a * 6 + t) (po (a * 6 + t) + 1)) (ss_u pd (a * 36 + t * 6 + po (a * 6 + t)) (i * 3 + a % 3)) (ss_u pc (a * 36 + t * 6 + po (a * 6 + t)) (ct (a * 36 + i * 6 + t))) := by
  obtain ⟨h1, h2⟩ := h
  unfold ss_PT
  rw [ss_li_t hq, ss_len1, ss_us, h1]
  refine ⟨rfl, fun j hj => ?_⟩
  by_cases c : j = (ss_li (ss_w ex ct a t) i).length
  · rw [c, ss_us, ss_us, ss_gd_r]
    exact ⟨rfl, rfl⟩
  · rw [ss_un pd _ (by omega), ss_un pc _ (by omega), ss_gd_l (by omega)]
    exact h2 j (by omega)
theorem ss_PT_skip {ex ct : Nat → Nat} {a t i : Nat} {po pd pc : Nat → Nat} (h : ss_PT ex ct a t i po pd pc) (hq : ss_w ex ct a t i = false) : ss_PT ex ct a t (i + 1) po pd pc := by
  unfold ss_PT
  rw [ss_li_f hq]
  exact h
theorem ss_PF_put {a t x y z : Nat} {po0 pd0 pc0 po pd pc : Nat → Nat} (h : ss_PF a t po0 pd0 pc0 po pd pc) (hp : po (a * 6 + t) < 6) : ss_PF a t po0 pd0 pc0 (ss_u po (a * 6 + t) x) (ss_u pd (a * 36 + t * 6 + po (a * 6 + t)) y) (ss_u pc (a * 36 + t * 6 + po (a * 6 + t)) z) := by
  obtain ⟨h1, h2⟩ := h
  refine ⟨fun j hj => ?_, fun j hj => ?_⟩
  · rw [ss_un po _ hj]; exact h1 j hj
  · rw [ss_un pd _ (by omega), ss_un pc _ (by omega)]; exact h2 j hj
section
variable {uD uT uK : Int32} {uRun uLp uRp uLe uRe uEx uCt uSe uPo uPd uPc uHv uGr uTo uSc uHd uHs : Nat → Int32} {run lp rp le re ex ct se po pd pc : Nat → Nat} {post : SX → Prop}
theorem xs_post {a t l : Nat} (ha : a < 6) (ht : t < 6) (hl : l < 6) (hp : po (a * 6 + t) < 6) (H : post (uD, uT, uK, uRun, uLp, uRp, uLe, uRe, uEx, (ss_A ct), uSe, (ss_A (ss_u po (a * 6 + t) (po (a * 6 + t) + 1))), (ss_A (ss_u pd (a * 36 + t * 6 + po (a * 6 + t)) (l * 3 + a % 3))), (ss_A (ss_u pc (a * 36 + t * 6 + po (a * 6 + t)) (ct (a * 36 + l * 6 + t)))), uHv, uGr, uTo, uSc, uHd, uHs)) : wpX_post post (uD, uT, uK, uRun, uLp, uRp, uLe, uRe, uEx, (ss_A ct), uSe, (ss_A po), (ss_A pd), (ss_A pc), uHv, uGr, uTo, uSc, uHd, uHs) (nI a) (nI t) (nI l) := by
  simp (disch := omega) only [wpX_post, ss_m3, ss_m6, ss_m36, nI_add, ss_p1, ss_p3, ss_d3, ss_r3', ss_in, ss_30, ss_cl, ss_ap, ss_upd, ss_upd0, ss_nb1, ss_nb0, forall_eq, true_and, not_false_eq_true]
  exact H
theorem xs_mp67 {a t : Nat} {J : Int32 → Int32 → Int32 → Int32 → (Nat → Int32) → (Nat → Int32) → (Nat → Int32) → (Nat → Int32) → (Nat → Int32) → (Nat → Int32) → (Nat → Int32) → (Nat → Int32) → (Nat → Int32) → (Nat → Int32) → (Nat → Int32) → (Nat → Int32) → (Nat → Int32) → (Nat → Int32) → (Nat → Int32) → (Nat → Int32) → (Nat → Int32) → Prop} {po0 pd0 pc0 : Nat → Nat} (ha : a < 6) (ht : t < 6) (hex : ∀ j, ex j ≤ 1) (hct : ∀ j, ct j ≤ 9) (H : ∀ po pd pc, ss_PT ex ct a t 6 po pd pc → ss_PF a t po0 pd0 pc0 po pd pc → J (nI (t + 1)) uD uT uK uRun uLp uRp uLe uRe (ss_A ex) (ss_A ct) uSe (ss_A po) (ss_A pd) (ss_A pc) uHv uGr uTo uSc uHd uHs) : ∀ d i po pd pc, i + d = 6 → ss_PT ex ct a t i po pd pc → ss_PF a t po0 pd0 pc0 po pd pc → wX_makePostings_67 post J (nI a) (nI t) (d + 1) (nI i) uD uT uK uRun uLp uRp uLe uRe (ss_A ex) (ss_A ct) uSe (ss_A po) (ss_A pd) (ss_A pc) uHv uGr uTo uSc uHd uHs := by
  intro d
  induction d with
  | zero =>
    intro i po pd pc hi h1 h2
    obtain rfl : i = 6 := by omega
    rw [wX_makePostings_67]
    refine br_t (by decide) ?_
    simp (disch := omega) only [ss_m3, ss_m6, ss_m36, nI_add, ss_p1, ss_p3, ss_d3, ss_r3', ss_in, ss_30, ss_cl, ss_ap, ss_upd, ss_upd0, ss_nb1, ss_nb0, forall_eq, true_and, not_false_eq_true]
    exact H po pd pc h1 h2
  | succ d ih =>
    intro i po pd pc hi h1 h2
    have b1 := hex (a * 6 + i)
    have b2 := hct (a * 36 + i * 6 + t)
    have hl := ss_li_len (ss_w ex ct a t) i
    have hp : po (a * 6 + t) < 6 := by rw [h1.1]; omega
    rw [wX_makePostings_67]
    refine br_f (nI_ge (b := 6) (by omega) (by decide)) ?_
    simp (disch := omega) only [ss_eq0, ss_le0, ss_m3, ss_m6, ss_m36, nI_add, ss_p1, ss_p3, ss_d3, ss_r3', ss_in, ss_30, ss_cl, ss_ap, ss_upd, ss_upd0, ss_nb1, ss_nb0, forall_eq, true_and, not_false_eq_true]
    refine br_c (fun c => ?_) (fun c => br_c (fun c2 => ?_) (fun c2 => ?_))
    · exact ih (i + 1) po pd pc (by omega) (ss_PT_skip h1 (decide_eq_false (fun z => z.1 c))) h2
    · exact ih (i + 1) po pd pc (by omega) (ss_PT_skip h1 (decide_eq_false (fun z => z.2 c2))) h2
    · exact xs_post ha ht (by omega) hp (ih (i + 1) _ _ _ (by omega) (ss_PT_put h1 (decide_eq_true ⟨c, c2⟩)) (ss_PF_put h2 hp))
/-- all terms below t done, nothing else of other nodes changed -/
def ss_PA (ex ct : Nat → Nat) (a t : Nat) (po0 pd0 pc0 po pd pc : Nat → Nat) : Prop := (∀ t', t' < t → ss_PT ex ct a t' 6 po pd pc) ∧ (∀ j, j < a * 6 ∨ a * 6 + 6 ≤ j → po j = po0 j) ∧ ∀ j, j < a * 36 ∨ a * 36 + 36 ≤ j → pd j = pd0 j ∧ pc j = pc0 j
theorem ss_PA_step {ex ct : Nat → Nat} {a t : Nat} {po0 pd0 pc0 po1 pd1 pc1 po pd pc : Nat → Nat} (ht : t < 6) (h : ss_PA ex ct a t po0 pd0 pc0 po1 pd1 pc1) (h1 : ss_PT ex ct a t 6 po pd pc) (h2 : ss_PF a t (ss_u po1 (a * 6 + t) 0) pd1 pc1 po pd pc) : ss_PA ex ct a (t + 1) po0 pd0 pc0 po pd pc := by
  obtain ⟨k1, k2, k3⟩ := h
  obtain ⟨f1, f2⟩ := h2
  refine ⟨fun t' ht' => ?_, fun j hj => ?_, fun j hj => ?_⟩
  · by_cases c : t' = t
    · rw [c]; exact h1
    · have hlen := ss_li_len (ss_w ex ct a t') 6
      obtain ⟨g1, g2⟩ := k1 t' (by omega)
      refine ⟨?_, fun j hj => ?_⟩
      · rw [f1 _ (by omega), ss_un _ _ (by omega)]; exact g1
      · have e := f2 (a * 36 + t' * 6 + j) (by omega)
        rw [e.1, e.2]
        exact g2 j hj
  · rw [f1 j (by omega), ss_un _ _ (by omega)]; exact k2 j hj
  · have e := f2 j (by omega)
    rw [e.1, e.2]
    exact k3 j hj
theorem xs_mp47 {a : Nat} {po0 pd0 pc0 : Nat → Nat} (ha : a < 6) (hex : ∀ j, ex j ≤ 1) (hct : ∀ j, ct j ≤ 9) (H : ∀ po pd pc, ss_PA ex ct a 6 po0 pd0 pc0 po pd pc → post (uD, uT, uK, uRun, uLp, (ss_A (ss_u rp a (re (a % 3)))), uLe, (ss_A re), (ss_A ex), (ss_A ct), uSe, (ss_A po), (ss_A pd), (ss_A pc), uHv, uGr, uTo, uSc, uHd, uHs)) : ∀ d t po pd pc, t + d = 6 → ss_PA ex ct a t po0 pd0 pc0 po pd pc → wX_makePostings_47 post (nI a) (d + 1) (nI t) uD uT uK uRun uLp (ss_A rp) uLe (ss_A re) (ss_A ex) (ss_A ct) uSe (ss_A po) (ss_A pd) (ss_A pc) uHv uGr uTo uSc uHd uHs := by
  intro d
  induction d with
  | zero =>
    intro t po pd pc ht h1
    obtain rfl : t = 6 := by omega
    rw [wX_makePostings_47]
    refine br_t (by decide) ?_
    simp (disch := omega) only [ss_m3, ss_m6, ss_m36, nI_add, ss_p1, ss_p3, ss_d3, ss_r3', ss_in, ss_30, ss_cl, ss_ap, ss_upd, ss_upd0, ss_nb1, ss_nb0, forall_eq, true_and, not_false_eq_true]
    exact H po pd pc h1
  | succ d ih =>
    intro t po pd pc ht h1
    rw [wX_makePostings_47]
    refine br_f (nI_ge (b := 6) (by omega) (by decide)) ?_
    simp (disch := omega) only [ss_m3, ss_m6, ss_m36, nI_add, ss_p1, ss_p3, ss_d3, ss_r3', ss_in, ss_30, ss_cl, ss_ap, ss_upd, ss_upd0, ss_nb1, ss_nb0, forall_eq, true_and, not_false_eq_true]
    refine ⟨7, xs_mp67 (po0 := ss_u po (a * 6 + t) 0) (pd0 := pd) (pc0 := pc) ha (by omega) hex hct (fun po' pd' pc' k1 k2 => ih (t + 1) po' pd' pc' (by omega) (ss_PA_step (by omega) h1 k1 k2)) 6 0 (ss_u po (a * 6 + t) 0) pd pc rfl ⟨?_, fun j hj => absurd hj (Nat.not_lt_zero j)⟩ ⟨fun _ _ => rfl, fun _ _ => ⟨rfl, rfl⟩⟩⟩
    rw [ss_us]
    rfl
def ss_sx (ex : Nat → Nat) (a i : Nat) : Nat := ss_sm (fun l => if ex (a * 6 + l) ≠ 0 then 1 else 0) i
theorem xs_mp9 {a : Nat} (ha : a < 6) (hex : ∀ j, ex j ≤ 1) (H : ∃ n, wX_makePostings_47 post (nI a) n 0 uD uT uK uRun uLp uRp uLe uRe (ss_A ex) uCt (ss_A (ss_u se a (ss_sx ex a 6))) uPo uPd uPc uHv uGr uTo uSc uHd uHs) : ∀ d i, i + d = 6 → wX_makePostings_9 post (nI a) uD uT uK (d + 1) (nI i) uRun uLp uRp uLe uRe (ss_A ex) uCt (ss_A (ss_u se a (ss_sx ex a i))) uPo uPd uPc uHv uGr uTo uSc uHd uHs := by
  intro d
  induction d with
  | zero =>
    intro i hi
    obtain rfl : i = 6 := by omega
    rw [wX_makePostings_9]
    exact br_t (by decide) H
  | succ d ih =>
    intro i hi
    have e := ih (i + 1) (by omega)
    have b1 := hex (a * 6 + i)
    have es : ss_sx ex a (i + 1) = ss_sx ex a i + (if ex (a * 6 + i) ≠ 0 then 1 else 0) := rfl
    rw [es] at e
    rw [wX_makePostings_9]
    refine br_f (nI_ge (b := 6) (by omega) (by decide)) ?_
    simp (disch := omega) only [ss_eq0, ss_m3, ss_m6, ss_m36, nI_add, ss_p1, ss_p3, ss_d3, ss_r3', ss_in, ss_30, ss_cl, ss_ap, ss_upd, ss_upd0, ss_nb1, ss_nb0, forall_eq, true_and, not_false_eq_true]
    refine br_c (fun c => ?_) (fun c => ?_)
    · rw [if_neg (fun z => z c)] at e
      exact e
    · rw [if_pos c] at e
      rw [ss_us, ss_uu]
      exact e
theorem xs_mk {a : Nat} (ha : a < 6) (hex : ∀ j, ex j ≤ 1) (hct : ∀ j, ct j ≤ 9) (H : ∀ po' pd' pc', ss_PA ex ct a 6 po pd pc po' pd' pc' → post (uD, uT, uK, uRun, uLp, (ss_A (ss_u rp a (re (a % 3)))), uLe, (ss_A re), (ss_A ex), (ss_A ct), (ss_A (ss_u se a (ss_sx ex a 6))), (ss_A po'), (ss_A pd'), (ss_A pc'), uHv, uGr, uTo, uSc, uHd, uHs)) : wpX_makePostings post (uD, uT, uK, uRun, uLp, (ss_A rp), uLe, (ss_A re), (ss_A ex), (ss_A ct), (ss_A se), (ss_A po), (ss_A pd), (ss_A pc), uHv, uGr, uTo, uSc, uHd, uHs) (nI a) := by
  have h1 := xs_mp47 (post := post) (po0 := po) (pd0 := pd) (pc0 := pc) ha hex hct H 6 0 po pd pc rfl ⟨fun t' h => absurd h (Nat.not_lt_zero t'), fun _ _ => rfl, fun _ _ => ⟨rfl, rfl⟩⟩
  have h2 := xs_mp9 (post := post) (se := se) ha hex ⟨7, h1⟩ 6 0 rfl
  simp (disch := omega) only [wpX_makePostings, ss_m3, ss_m6, ss_m36, nI_add, ss_p1, ss_p3, ss_d3, ss_r3', ss_in, ss_30, ss_cl, ss_ap, ss_upd, ss_upd0, ss_nb1, ss_nb0, forall_eq, true_and, not_false_eq_true]
  exact ⟨7, h2⟩
end
end
section
/-! what holds of a node: the relation, node by node -/
def ss_D (ex ct ye yc : Nat → Nat) (n : Nat) : Prop := ∀ l, l < 6 → (l * 3 + n % 3 < 16 → ex (n * 6 + l) = ye (l * 3 + n % 3) ∧ ∀ t, t < 6 → ct (n * 36 + l * 6 + t) = yc ((l * 3 + n % 3) * 6 + t)) ∧ (16 ≤ l * 3 + n % 3 → ex (n * 6 + l) = 0)
def ss_q (sh sc : Nat → Nat) (s t l : Nat) : Bool := decide (l * 3 + s < 16 ∧ sh (l * 3 + s) ≠ 0 ∧ sc ((l * 3 + s) * 6 + t) ≠ 0)
def ss_ns (sh : Nat → Nat) (s : Nat) : Nat := ss_sm (fun l => if l * 3 + s < 16 ∧ sh (l * 3 + s) ≠ 0 then 1 else 0) 6
def ss_P (se po pd pc sh sc : Nat → Nat) (n : Nat) : Prop := se n = ss_ns sh (n % 3) ∧ ∀ t, t < 6 → po (n * 6 + t) = (ss_li (ss_q sh sc (n % 3) t) 6).length ∧ ∀ j, j < (ss_li (ss_q sh sc (n % 3) t) 6).length → pd (n * 36 + t * 6 + j) = (ss_li (ss_q sh sc (n % 3) t) 6).getD j 0 * 3 + n % 3 ∧ pc (n * 36 + t * 6 + j) = sc (((ss_li (ss_q sh sc (n % 3) t) 6).getD j 0 * 3 + n % 3) * 6 + t)
def ss_E (ye yc sh sc : Nat → Nat) (s : Nat) : Prop := ∀ d, d < 16 → d % 3 = s → sh d = ye d ∧ ∀ t, t < 6 → sc (d * 6 + t) = yc (d * 6 + t)
def ss_N (lp rp le re ex ct se po pd pc ye yc sh sc : Nat → Nat) (n : Nat) : Prop := lp n ≤ le (n % 3) ∧ rp n ≤ re (n % 3) ∧ (lp n = le (n % 3) → ss_D ex ct ye yc n ∧ (rp n = re (n % 3) → ss_P se po pd pc sh sc n) ∧ (rp n < re (n % 3) → ss_E ye yc sh sc (n % 3)))
section
variable {lp rp le re ex ct se po pd pc ye yc sh sc lp' rp' le' re' ex' ct' se' po' pd' pc' ye' yc' sh' sc' : Nat → Nat} {n : Nat}
theorem ss_D_congr (e5 : ∀ j, n * 6 ≤ j → j < n * 6 + 6 → ex' j = ex j) (e6 : ∀ j, n * 36 ≤ j → j < n * 36 + 36 → ct' j = ct j) (h : ss_D ex ct ye yc n) : ss_D ex' ct' ye yc n := by
  intro l hl
  obtain ⟨h1, h2⟩ := h l hl
  rw [e5 (n * 6 + l) (by omega) (by omega)]
  refine ⟨fun c => ⟨(h1 c).1, fun t ht => ?_⟩, h2⟩
  rw [e6 (n * 36 + l * 6 + t) (by omega) (by omega)]
  exact (h1 c).2 t ht
theorem ss_P_congr (e7 : se' n = se n) (e8 : ∀ j, n * 6 ≤ j → j < n * 6 + 6 → po' j = po j) (e9 : ∀ j, n * 36 ≤ j → j < n * 36 + 36 → pd' j = pd j ∧ pc' j = pc j) (h : ss_P se po pd pc sh sc n) : ss_P se' po' pd' pc' sh sc n := by
  obtain ⟨h1, h2⟩ := h
  refine ⟨e7.trans h1, fun t ht => ?_⟩
  obtain ⟨k1, k2⟩ := h2 t ht
  have hl := ss_li_len (ss_q sh sc (n % 3) t) 6
  refine ⟨(e8 _ (by omega) (by omega)).trans k1, fun j hj => ?_⟩
  have e := e9 (n * 36 + t * 6 + j) (by omega) (by omega)
  rw [e.1, e.2]
  exact k2 j hj
theorem ss_N_congr (e1 : lp' n = lp n) (e2 : rp' n = rp n) (e3 : le' (n % 3) = le (n % 3)) (e4 : re' (n % 3) = re (n % 3)) (e5 : ∀ j, n * 6 ≤ j → j < n * 6 + 6 → ex' j = ex j) (e6 : ∀ j, n * 36 ≤ j → j < n * 36 + 36 → ct' j = ct j) (e7 : se' n = se n) (e8 : ∀ j, n * 6 ≤ j → j < n * 6 + 6 → po' j = po j) (e9 : ∀ j, n * 36 ≤ j → j < n * 36 + 36 → pd' j = pd j ∧ pc' j = pc j) (h : ss_N lp rp le re ex ct se po pd pc ye yc sh sc n) : ss_N lp' rp' le' re' ex' ct' se' po' pd' pc' ye yc sh sc n := by
  unfold ss_N
  rw [e1, e2, e3, e4]
  obtain ⟨h1, h2, h3⟩ := h
  refine ⟨h1, h2, fun c => ?_⟩
  obtain ⟨k1, k2, k3⟩ := h3 c
  exact ⟨ss_D_congr e5 e6 k1, fun z => ss_P_congr e7 e8 e9 (k2 z), k3⟩
/-- the reference's arrays changed at other shards alone -/
theorem ss_q_congr {s t l : Nat} (hs : s < 3) (ht : t < 6) (e : ∀ d, d < 16 → d % 3 = s → sh' d = sh d ∧ ∀ t, t < 6 → sc' (d * 6 + t) = sc (d * 6 + t)) : ss_q sh' sc' s t l = ss_q sh sc s t l := by
  unfold ss_q
  by_cases c : l * 3 + s < 16
  · have k := e (l * 3 + s) c (by omega)
    rw [k.1, k.2 t ht]
  · rw [decide_eq_false (fun z => c z.1), decide_eq_false (fun z => c z.1)]
theorem ss_P_congrY (hs : n % 3 < 3) (e : ∀ d, d < 16 → d % 3 = n % 3 → sh' d = sh d ∧ ∀ t, t < 6 → sc' (d * 6 + t) = sc (d * 6 + t)) (h : ss_P se po pd pc sh sc n) : ss_P se po pd pc sh' sc' n := by
  obtain ⟨h1, h2⟩ := h
  refine ⟨h1.trans ?_, fun t ht => ?_⟩
  · refine ss_sm_congr 6 fun l hl => ?_
    show (if l * 3 + n % 3 < 16 ∧ sh (l * 3 + n % 3) ≠ 0 then 1 else 0) = (if l * 3 + n % 3 < 16 ∧ sh' (l * 3 + n % 3) ≠ 0 then 1 else 0)
    by_cases c : l * 3 + n % 3 < 16
    · rw [(e _ c (by omega)).1]
    · rw [if_neg (fun z => c z.1), if_neg (fun z => c z.1)]
  · have el : ss_li (ss_q sh' sc' (n % 3) t) 6 = ss_li (ss_q sh sc (n % 3) t) 6 := ss_li_congr 6 (fun l _ => ss_q_congr hs ht e)
    rw [el]
    obtain ⟨k1, k2⟩ := h2 t ht
    refine ⟨k1, fun j hj => ?_⟩
    obtain ⟨g1, g2⟩ := k2 j hj
    have hq := (ss_li_get 6 j hj).2
    have hq := of_decide_eq_true hq
    refine ⟨g1, g2.trans ((e _ hq.1 (by omega)).2 t ht).symm⟩
theorem ss_N_congrY (e : ∀ d, d < 16 → d % 3 = n % 3 → (ye' d = ye d ∧ ∀ t, t < 6 → yc' (d * 6 + t) = yc (d * 6 + t)) ∧ sh' d = sh d ∧ ∀ t, t < 6 → sc' (d * 6 + t) = sc (d * 6 + t)) (h : ss_N lp rp le re ex ct se po pd pc ye yc sh sc n) : ss_N lp rp le re ex ct se po pd pc ye' yc' sh' sc' n := by
  obtain ⟨h1, h2, h3⟩ := h
  refine ⟨h1, h2, fun c => ?_⟩
  obtain ⟨k1, k2, k3⟩ := h3 c
  refine ⟨fun l hl => ⟨fun z => ?_, (k1 l hl).2⟩, fun z => ss_P_congrY (by omega) (fun d hd hm => (e d hd hm).2) (k2 z), fun z d hd hm => ?_⟩
  · have g := (k1 l hl).1 z
    have f := (e _ z (by omega)).1
    rw [f.1]
    exact ⟨g.1, fun t ht => (g.2 t ht).trans (f.2 t ht).symm⟩
  · have g := k3 z d hd hm
    have f := e d hd hm
    rw [f.1.1, f.2.1]
    exact ⟨g.1, fun t ht => ((f.2.2 t ht).trans (g.2 t ht)).trans (f.1.2 t ht).symm⟩
/-- new postings stand for the documents as they are -/
theorem ss_P_make (hn : n < 6) (hD : ss_D ex ct ye yc n) (hE : ss_E ye yc sh sc (n % 3)) {po0 pd0 pc0 : Nat → Nat} (hA : ss_PA ex ct n 6 po0 pd0 pc0 po pd pc) (hse : se n = ss_sx ex n 6) : ss_P se po pd pc sh sc n := by
  refine ⟨hse.trans (ss_sm_congr 6 fun l hl => ?_), fun t ht => ?_⟩
  · show (if ex (n * 6 + l) ≠ 0 then 1 else 0) = (if l * 3 + n % 3 < 16 ∧ sh (l * 3 + n % 3) ≠ 0 then 1 else 0)
    by_cases c : l * 3 + n % 3 < 16
    · rw [((hD l hl).1 c).1, (hE _ c (by omega)).1]
      by_cases c2 : ye (l * 3 + n % 3) ≠ 0
      · rw [if_pos c2, if_pos ⟨c, c2⟩]
      · rw [if_neg c2, if_neg (fun z => c2 z.2)]
    · rw [(hD l hl).2 (by omega), if_neg (fun z => z rfl), if_neg (fun z => c z.1)]
  · have el : ss_li (ss_w ex ct n t) 6 = ss_li (ss_q sh sc (n % 3) t) 6 := by
      refine ss_li_congr 6 fun l hl => ?_
      unfold ss_w ss_q
      by_cases c : l * 3 + n % 3 < 16
      · have g := (hD l hl).1 c
        have f := hE _ c (by omega)
        rw [g.1, g.2 t ht, f.1, f.2 t ht]
        exact decide_eq_decide.mpr ⟨fun z => ⟨c, z⟩, fun z => z.2⟩
      · rw [decide_eq_false (fun z => z.1 ((hD l hl).2 (by omega))), decide_eq_false (fun z => c z.1)]
    obtain ⟨k1, k2⟩ := hA.1 t ht
    rw [el] at k1 k2
    refine ⟨k1, fun j hj => ?_⟩
    obtain ⟨g1, g2⟩ := k2 j hj
    obtain ⟨q1, q2⟩ := ss_li_get 6 j hj
    have q2 := of_decide_eq_true q2
    refine ⟨g1, g2.trans ?_⟩
    rw [((hD _ q1).1 q2.1).2 t ht, (hE _ q2.1 (by omega)).2 t ht]
theorem ss_D_copy {a o : Nat} (hm : a % 3 = o % 3) (hne : a ≠ o) (hD : ss_D ex ct ye yc a) : ss_D (ss_cp ex (a * 6) (o * 6) 6) (ss_cp ct (a * 36) (o * 36) 36) ye yc o := by
  intro l hl
  have h := hD l hl
  rw [hm] at h
  rw [ss_cp_in ex hl]
  refine ⟨fun c => ⟨(h.1 c).1, fun t ht => ?_⟩, h.2⟩
  rw [Nat.add_assoc, ss_cp_in ct (show l * 6 + t < 36 by omega), ← Nat.add_assoc]
  exact (h.1 c).2 t ht
theorem ss_P_copy {a o : Nat} (hm : a % 3 = o % 3) (hne : a ≠ o) (hP : ss_P se po pd pc sh sc a) : ss_P (ss_u se o (se a)) (ss_cp po (a * 6) (o * 6) 6) (ss_cp pd (a * 36) (o * 36) 36) (ss_cp pc (a * 36) (o * 36) 36) sh sc o := by
  obtain ⟨h1, h2⟩ := hP
  rw [hm] at h1 h2
  refine ⟨by rw [ss_us]; exact h1, fun t ht => ?_⟩
  obtain ⟨k1, k2⟩ := h2 t ht
  have hl := ss_li_len (ss_q sh sc (o % 3) t) 6
  refine ⟨by rw [ss_cp_in po ht]; exact k1, fun j hj => ?_⟩
  have k := k2 j hj
  rw [Nat.add_assoc (o * 36), ss_cp_in pd (show t * 6 + j < 36 by omega), ss_cp_in pc (show t * 6 + j < 36 by omega), ← Nat.add_assoc]
  exact k
end
end
section
/-! X: catchUp -/
def ss_bd (b : Nat) (run lp rp le re ex ct : Nat → Nat) : Prop := b < 5000 ∧ (∀ j, run j ≤ 1) ∧ (∀ j, lp j ≤ b) ∧ (∀ j, rp j ≤ b) ∧ (∀ j, le j ≤ b) ∧ (∀ j, re j ≤ b) ∧ (∀ j, ex j ≤ 1) ∧ ∀ j, ct j ≤ 9
theorem ss_lt5 {b : Nat} {f : Nat → Nat} (hb : b < 5000) (h : ∀ j, f j ≤ b) (j : Nat) : f j < 5000 := Nat.lt_of_le_of_lt (h j) hb
theorem ss_u_le {f : Nat → Nat} {b k x : Nat} (h : ∀ j, f j ≤ b) (hx : x ≤ b) (j : Nat) : ss_u f k x j ≤ b := by
  by_cases c : j = k
  · rw [c, ss_us]; exact hx
  · rw [ss_un f x c]; exact h j
/-- behind catchUp of shard s from node a: nodes of s that are up are as node a, all others as they were -/
def ss_K1 (s : Nat) (run lp rp le re lp' rp' : Nat → Nat) : Prop := (∀ n, n < 6 → n % 3 = s → run n ≠ 0 → lp' n = le s ∧ rp' n = re s) ∧ ∀ n, n < 6 → n % 3 ≠ s ∨ run n = 0 → lp' n = lp n ∧ rp' n = rp n
def ss_K (s : Nat) (run lp rp le re lp' rp' : Nat → Nat) : Prop := (∀ n, n < 6 → n % 3 = s → ss_op run lp le s → run n ≠ 0 → lp' n = le s ∧ rp' n = re s) ∧ ∀ n, n < 6 → n % 3 ≠ s ∨ ¬ ss_op run lp le s ∨ run n = 0 → lp' n = lp n ∧ rp' n = rp n
section
variable {uD uT uK : Int32} {uRun uLp uRp uLe uRe uEx uCt uSe uPo uPd uPc uHv uGr uTo uSc uHd uHs : Nat → Int32} {run lp rp le re ex ct se po pd pc ye yc sh sc : Nat → Nat} {post : SX → Prop} {b s a o : Nat}
theorem ss_copyN (ha : a < 6) (ho : o < 6) (hne : a ≠ o) (hm : a % 3 = o % 3) (B : ∀ n, n < 6 → ss_N lp rp le re ex ct se po pd pc ye yc sh sc n) : ∀ n, n < 6 → ss_N (ss_u lp o (lp a)) (ss_u rp o (rp a)) le re (ss_cp ex (a * 6) (o * 6) 6) (ss_cp ct (a * 36) (o * 36) 36) (ss_u se o (se a)) (ss_cp po (a * 6) (o * 6) 6) (ss_cp pd (a * 36) (o * 36) 36) (ss_cp pc (a * 36) (o * 36) 36) ye yc sh sc n := by
  intro n hn
  by_cases c : n = o
  · subst c
    obtain ⟨h1, h2, h3⟩ := B a ha
    rw [hm] at h1 h2 h3
    unfold ss_N
    rw [ss_us, ss_us]
    refine ⟨h1, h2, fun z => ?_⟩
    obtain ⟨k1, k2, k3⟩ := h3 z
    exact ⟨ss_D_copy hm hne k1, fun y => ss_P_copy hm hne (k2 y), k3⟩
  · exact ss_N_congr (ss_un lp _ c) (ss_un rp _ c) rfl rfl (fun j _ _ => ss_cp_out ex (by omega)) (fun j _ _ => ss_cp_out ct (by omega)) (ss_un se _ c) (fun j _ _ => ss_cp_out po (by omega)) (fun j _ _ => ⟨ss_cp_out pd (by omega), ss_cp_out pc (by omega)⟩) (B n hn)
theorem ss_makeN (ha : a < 6) (hc : lp a = le (a % 3)) (hr : rp a < re (a % 3)) {po' pd' pc' : Nat → Nat} (hA : ss_PA ex ct a 6 po pd pc po' pd' pc') (B : ∀ n, n < 6 → ss_N lp rp le re ex ct se po pd pc ye yc sh sc n) : ∀ n, n < 6 → ss_N lp (ss_u rp a (re (a % 3))) le re ex ct (ss_u se a (ss_sx ex a 6)) po' pd' pc' ye yc sh sc n := by
  intro n hn
  by_cases c : n = a
  · subst c
    obtain ⟨h1, h2, h3⟩ := B n hn
    obtain ⟨k1, k2, k3⟩ := h3 hc
    unfold ss_N
    rw [ss_us]
    exact ⟨h1, Nat.le_refl _, fun z => ⟨k1, fun _ => ss_P_make hn k1 (k3 hr) hA (ss_us se n _), fun y => absurd y (Nat.lt_irrefl _)⟩⟩
  · exact ss_N_congr rfl (ss_un rp _ c) rfl rfl (fun j _ _ => rfl) (fun j _ _ => rfl) (ss_un se _ c) (fun j _ _ => hA.2.1 j (by omega)) (fun j _ _ => hA.2.2 j (by omega)) (B n hn)
theorem xs_c81 (ha : a < 6) (ho : o < 6) (hne : a ≠ o) (hex : ∀ j, ex j ≤ 1) (H : post (uD, uT, uK, (ss_A run), (ss_A (ss_u lp o (lp a))), (ss_A (ss_u rp o (rp a))), (ss_A le), (ss_A re), (ss_A (ss_cp ex (a * 6) (o * 6) 6)), (ss_A (ss_cp ct (a * 36) (o * 36) 36)), (ss_A (ss_u se o (se a))), (ss_A (ss_cp po (a * 6) (o * 6) 6)), (ss_A (ss_cp pd (a * 36) (o * 36) 36)), (ss_A (ss_cp pc (a * 36) (o * 36) 36)), uHv, uGr, uTo, uSc, uHd, uHs)) : wX_catchUp_81 post (nI a) (nI o) uD uT uK (ss_A run) (ss_A lp) (ss_A rp) (ss_A le) (ss_A re) (ss_A ex) (ss_A ct) (ss_A se) (ss_A po) (ss_A pd) (ss_A pc) uHv uGr uTo uSc uHd uHs := by
  unfold wX_catchUp_81
  exact xs_copy ha ho hne hex H
theorem xs_c43 (ha : a < 6) (ho : o < 6) (hne : a ≠ o) (hm : a % 3 = s) (hmo : o % 3 = s) (hall : ∀ n, n < 6 → n % 3 = s → n = a ∨ n = o) (hup : ss_up run lp le a) (hb : ss_bd b run lp rp le re ex ct) (hra : rp a = re s) (B : ∀ n, n < 6 → ss_N lp rp le re ex ct se po pd pc ye yc sh sc n)
    (H : ∀ lp' rp' ex' ct' se' po' pd' pc', ss_bd b run lp' rp' le re ex' ct' → (∀ n, n < 6 → ss_N lp' rp' le re ex' ct' se' po' pd' pc' ye yc sh sc n) → ss_K1 s run lp rp le re lp' rp' → post (uD, uT, uK, (ss_A run), (ss_A lp'), (ss_A rp'), (ss_A le), (ss_A re), (ss_A ex'), (ss_A ct'), (ss_A se'), (ss_A po'), (ss_A pd'), (ss_A pc'), uHv, uGr, uTo, uSc, uHd, uHs)) : wX_catchUp_43 post (nI a) (nI o) uD uT uK (ss_A run) (ss_A lp) (ss_A rp) (ss_A le) (ss_A re) (ss_A ex) (ss_A ct) (ss_A se) (ss_A po) (ss_A pd) (ss_A pc) uHv uGr uTo uSc uHd uHs := by
  have hB := hb
  obtain ⟨hb5, hrun, hlp, hrp, hle, hre, hex, hct⟩ := hb
  have b1 := hrun o
  have b2 := ss_lt5 hb5 hrp o
  have b3 := ss_lt5 hb5 hrp a
  have hc := hup.2
  rw [hm] at hc
  have cp : post (uD, uT, uK, (ss_A run), (ss_A (ss_u lp o (lp a))), (ss_A (ss_u rp o (rp a))), (ss_A le), (ss_A re), (ss_A (ss_cp ex (a * 6) (o * 6) 6)), (ss_A (ss_cp ct (a * 36) (o * 36) 36)), (ss_A (ss_u se o (se a))), (ss_A (ss_cp po (a * 6) (o * 6) 6)), (ss_A (ss_cp pd (a * 36) (o * 36) 36)), (ss_A (ss_cp pc (a * 36) (o * 36) 36)), uHv, uGr, uTo, uSc, uHd, uHs) ∨ run o = 0 := by
    by_cases c0 : run o = 0
    · exact Or.inr c0
    · refine Or.inl (H _ _ _ _ _ _ _ _ ⟨hb5, hrun, ss_u_le hlp (hlp a), ss_u_le hrp (hrp a), hle, hre, ss_cp_le _ _ _ hex, ss_cp_le _ _ _ hct⟩ (ss_copyN ha ho hne (hm.trans hmo.symm) B) ⟨fun n hn hs _ => ?_, fun n hn hor => ?_⟩)
      · rcases hall n hn hs with rfl | rfl
        · rw [ss_un lp _ hne, ss_un rp _ hne]; exact ⟨hc, hra⟩
        · rw [ss_us, ss_us]; exact ⟨hc, hra⟩
      · have hno : n ≠ o := by
          intro e
          subst e
          rcases hor with z | z
          · exact z hmo
          · exact c0 z
        exact ⟨ss_un lp _ hno, ss_un rp _ hno⟩
  simp (disch := omega) only [wX_catchUp_43, ss_eq0, ss_le, ss_m3, ss_m6, ss_m36, nI_add, ss_p1, ss_p3, ss_d3, ss_r3', ss_in, ss_30, ss_cl, ss_ap, ss_upd, ss_upd0, ss_nb1, ss_nb0, forall_eq, true_and, not_false_eq_true]
  refine br_c (fun c => H lp rp ex ct se po pd pc hB B ⟨fun n hn hs hr => ?_, fun _ _ _ => ⟨rfl, rfl⟩⟩) (fun c => xs_cur ho (ss_lt5 hb5 hlp) (ss_lt5 hb5 hle) ?_)
  · rcases hall n hn hs with rfl | rfl
    · exact ⟨hc, hra⟩
    · exact absurd c hr
  · by_cases c2 : lp o = le (o % 3)
    · rw [if_pos c2]
      refine br_f (by decide) (br_c (fun c3 => H lp rp ex ct se po pd pc hB B ⟨fun n hn hs hr => ?_, fun _ _ _ => ⟨rfl, rfl⟩⟩) (fun c3 => xs_c81 ha ho hne hex (cp.resolve_right c)))
      rcases hall n hn hs with rfl | rfl
      · exact ⟨hc, hra⟩
      · have h2 := (B n hn).2.1
        rw [hmo] at c2 h2
        exact ⟨c2, by omega⟩
    · rw [if_neg c2]
      exact br_t rfl (xs_c81 ha ho hne hex (cp.resolve_right c))
theorem xs_c31 (hs : s < 3) (ha : a < 6) (hm : a % 3 = s) (hup : ss_up run lp le a) (hb : ss_bd b run lp rp le re ex ct) (hra : rp a = re s) (B : ∀ n, n < 6 → ss_N lp rp le re ex ct se po pd pc ye yc sh sc n)
    (H : ∀ lp' rp' ex' ct' se' po' pd' pc', ss_bd b run lp' rp' le re ex' ct' → (∀ n, n < 6 → ss_N lp' rp' le re ex' ct' se' po' pd' pc' ye yc sh sc n) → ss_K1 s run lp rp le re lp' rp' → post (uD, uT, uK, (ss_A run), (ss_A lp'), (ss_A rp'), (ss_A le), (ss_A re), (ss_A ex'), (ss_A ct'), (ss_A se'), (ss_A po'), (ss_A pd'), (ss_A pc'), uHv, uGr, uTo, uSc, uHd, uHs)) : wX_catchUp_31 post (nI s) (nI a) uD uT uK (ss_A run) (ss_A lp) (ss_A rp) (ss_A le) (ss_A re) (ss_A ex) (ss_A ct) (ss_A se) (ss_A po) (ss_A pd) (ss_A pc) uHv uGr uTo uSc uHd uHs := by
  simp (disch := omega) only [wX_catchUp_31, ss_eq, ss_p3]
  refine br_c (fun c => xs_c43 (s := s) ha (by omega) (by omega) hm (by omega) (fun n hn hn3 => by omega) hup hb hra B H) (fun c => xs_c43 (s := s) ha (by omega) (by omega) hm (by omega) (fun n hn hn3 => by omega) hup hb hra B H)
theorem xs_catch (hs : s < 3) (hb : ss_bd b run lp rp le re ex ct) (B : ∀ n, n < 6 → ss_N lp rp le re ex ct se po pd pc ye yc sh sc n)
    (H : ∀ lp' rp' ex' ct' se' po' pd' pc', ss_bd b run lp' rp' le re ex' ct' → (∀ n, n < 6 → ss_N lp' rp' le re ex' ct' se' po' pd' pc' ye yc sh sc n) → ss_K s run lp rp le re lp' rp' → post (uD, uT, uK, (ss_A run), (ss_A lp'), (ss_A rp'), (ss_A le), (ss_A re), (ss_A ex'), (ss_A ct'), (ss_A se'), (ss_A po'), (ss_A pd'), (ss_A pc'), uHv, uGr, uTo, uSc, uHd, uHs)) : wpX_catchUp post (uD, uT, uK, (ss_A run), (ss_A lp), (ss_A rp), (ss_A le), (ss_A re), (ss_A ex), (ss_A ct), (ss_A se), (ss_A po), (ss_A pd), (ss_A pc), uHv, uGr, uTo, uSc, uHd, uHs) (nI s) := by
  have hB := hb
  obtain ⟨hb5, hrun, hlp, hrp, hle, hre, hex, hct⟩ := hb
  unfold wpX_catchUp
  refine xs_srv hs hrun (ss_lt5 hb5 hlp) (ss_lt5 hb5 hle) (fun a ha hm hup => ?_) (fun hno => ?_)
  · have hopen : ss_op run lp le s := by
      have : a = s ∨ a = s + 3 := by omega
      rcases this with rfl | rfl
      · exact Or.inl hup
      · exact Or.inr hup
    have b1 := ss_lt5 hb5 hrp a
    have b2 := ss_lt5 hb5 hre s
    have h2 := (B a ha).2.1
    rw [hm] at h2
    refine br_t (nI_pos' (by omega)) ?_
    simp (disch := omega) only [ss_le, ss_m3, ss_m6, ss_m36, nI_add, ss_p1, ss_p3, ss_d3, ss_r3', ss_in, ss_30, ss_cl, ss_ap, ss_upd, ss_upd0, ss_nb1, ss_nb0, forall_eq, true_and, not_false_eq_true]
    refine br_c (fun c => xs_c31 hs ha hm hup hB (by omega) B (fun lp' rp' ex' ct' se' po' pd' pc' k1 k2 k3 => H lp' rp' ex' ct' se' po' pd' pc' k1 k2 ⟨fun n hn hn3 _ hr => k3.1 n hn hn3 hr, fun n hn hor => k3.2 n hn ?_⟩)) (fun c => xs_mk ha hex hct (fun po1 pd1 pc1 hA => xs_c31 hs ha hm hup ⟨hb5, hrun, hlp, ss_u_le hrp (hre _), hle, hre, hex, hct⟩ ?_ (ss_makeN ha hup.2 (by rw [hm]; omega) hA B) (fun lp' rp' ex' ct' se' po' pd' pc' k1 k2 k3 => H lp' rp' ex' ct' se' po' pd' pc' k1 k2 ⟨fun n hn hn3 _ hr => k3.1 n hn hn3 hr, fun n hn hor => ?_⟩)))
    · rcases hor with z | z | z
      · exact Or.inl z
      · exact absurd hopen z
      · exact Or.inr z
    · rw [ss_us, hm]
    · have hor' : n % 3 ≠ s ∨ run n = 0 := by
        rcases hor with z | z | z
        · exact Or.inl z
        · exact absurd hopen z
        · exact Or.inr z
      have k := k3.2 n hn hor'
      have hna : n ≠ a := by
        intro e
        subst e
        rcases hor' with z | z
        · exact z hm
        · exact hup.1 z
      rw [ss_un rp _ hna] at k
      exact k
  · refine br_f (by decide) (H lp rp ex ct se po pd pc hB B ⟨fun n _ _ ho _ => absurd ho hno, fun _ _ _ => ⟨rfl, rfl⟩⟩)
end
end
section
/-! Y: isDoc, isTerm, open, changed, plays, inPlay, weight, scoreOf, after -/
abbrev ss_yo (dn st : Nat → Nat) (s : Nat) : Prop := (dn s = 0 ∧ st s = 0) ∨ (dn (s + 3) = 0 ∧ st (s + 3) = 0)
abbrev ss_pz (sh dn st : Nat → Nat) (d : Nat) : Prop := sh d ≠ 0 ∧ ss_yo dn st (d % 3)
def ss_c (sh sc dn st : Nat → Nat) (d t : Nat) : Nat := if ss_pz sh dn st d then sc (d * 6 + t) else 0
def ss_DD (sh dn st : Nat → Nat) (n : Nat) : Nat := ss_sm (fun d => if ss_pz sh dn st d then 1 else 0) n
def ss_H (c : Nat → Nat → Nat) (t n : Nat) : Nat := ss_sm (fun d => if c d t ≠ 0 then 1 else 0) n
def ss_W (D : Nat) (c : Nat → Nat → Nat) (t : Nat) : Nat := if ss_H c t 16 = 0 then 0 else 16 * D / ss_H c t 16
def ss_S (D : Nat) (c : Nat → Nat → Nat) (bt : Nat → Bool) (d n : Nat) : Nat := ss_sm (fun t => if bt t = true then c d t * ss_W D c t else 0) n
def ss_bt (x : Int32) (t : Nat) : Bool := decide (((x >>> (nI t &&& 31)) &&& 1) = 1)
theorem ss_bt0 (x : Int32) (t : Nat) : (((x >>> (nI t &&& 31)) &&& 1) = 0) = (ss_bt x t = false) := by
  unfold ss_bt
  obtain ⟨j, hj, e⟩ := pk_andE (x >>> (nI t &&& 31)) (m := 1) 1 (by decide)
  rw [e]
  have : j = 0 ∨ j = 1 := by omega
  rcases this with rfl | rfl <;> decide
theorem ss_bt1 (x : Int32) (t : Nat) : (((x >>> (nI t &&& 31)) &&& 1) = 1) = (ss_bt x t = true) := by
  unfold ss_bt
  exact propext decide_eq_true_iff.symm
theorem ss_one_le {f : Nat → Nat} (n : Nat) (h : ∀ j, j < n → f j ≤ 1) : ss_sm f n ≤ n := by
  have := ss_sm_bd (b := 1) n h
  omega
theorem ss_ite1 {p : Prop} (h : Decidable p) : (@ite Nat p h 1 0) ≤ 1 := by
  by_cases c : p
  · rw [if_pos c]; exact Nat.le_refl 1
  · rw [if_neg c]; exact Nat.zero_le 1
theorem ss_DD_le (sh dn st : Nat → Nat) (n : Nat) : ss_DD sh dn st n ≤ n := ss_one_le n (fun _ _ => ss_ite1 _)
theorem ss_H_le (c : Nat → Nat → Nat) (t n : Nat) : ss_H c t n ≤ n := ss_one_le n (fun _ _ => ss_ite1 _)
theorem ss_W_le {D : Nat} (c : Nat → Nat → Nat) (t : Nat) (h : D ≤ 16) : ss_W D c t ≤ 256 := by
  unfold ss_W
  by_cases e : ss_H c t 16 = 0
  · rw [if_pos e]; exact Nat.zero_le _
  · rw [if_neg e]
    have := Nat.div_le_self (16 * D) (ss_H c t 16)
    omega
section
variable {vK : Int32} {vEx vCt vSh vSc vDn vSt vHi vHs : Nat → Int32} {ye yc sh sc dn st : Nat → Nat} {post : Int32 → Prop}
theorem ys_o29 {s : Nat} (hs : s < 3) (hdn : ∀ j, dn j ≤ 1) (hst : ∀ j, st j ≤ 1) (H1 : dn (s + 3) = 0 ∧ st (s + 3) = 0 → post 1) (H2 : ¬ (dn (s + 3) = 0 ∧ st (s + 3) = 0) → post 0) : wY_open_29 post (nI s) vK vEx vCt vSh vSc (ss_A dn) (ss_A st) vHi vHs := by
  have b1 := hdn (s + 3)
  have b2 := hst (s + 3)
  simp (disch := omega) only [wY_open_29, ss_eq0, ss_m3, ss_m6, ss_m36, ss_16m, nI_add, ss_p1, ss_p3, ss_d3, ss_r3', ss_in, ss_30, ss_cl, ss_ap, ss_upd, ss_upd0, ss_nb1, ss_nb0, forall_eq, true_and, not_false_eq_true]
  exact br_c (fun c => br_c (fun c2 => H1 ⟨c, c2⟩) (fun c2 => H2 (fun z => c2 z.2))) (fun c => H2 (fun z => c z.1))
theorem ys_open {s : Nat} (hs : s < 3) (hdn : ∀ j, dn j ≤ 1) (hst : ∀ j, st j ≤ 1) (H1 : ss_yo dn st s → post 1) (H2 : ¬ ss_yo dn st s → post 0) : wpY_open post (vK, vEx, vCt, vSh, vSc, (ss_A dn), (ss_A st), vHi, vHs) (nI s) := by
  have b1 := hdn s
  have b2 := hst s
  unfold wpY_open
  refine br_f (nI_pos (by omega)) (br_t (nI_le (b := 2) (by omega) (by decide)) ?_)
  simp (disch := omega) only [ss_eq0, ss_m3, ss_m6, ss_m36, ss_16m, nI_add, ss_p1, ss_p3, ss_d3, ss_r3', ss_in, ss_30, ss_cl, ss_ap, ss_upd, ss_upd0, ss_nb1, ss_nb0, forall_eq, true_and, not_false_eq_true]
  refine br_c (fun c => br_c (fun c2 => H1 (Or.inl ⟨c, c2⟩)) (fun c2 => ys_o29 hs hdn hst (fun z => H1 (Or.inr z)) (fun z => H2 (fun y => y.elim (fun w => c2 w.2) z)))) (fun c => ys_o29 hs hdn hst (fun z => H1 (Or.inr z)) (fun z => H2 (fun y => y.elim (fun w => c w.1) z)))
theorem ys_plays {d : Nat} (hd : d < 16) (hsh : ∀ j, sh j ≤ 1) (hdn : ∀ j, dn j ≤ 1) (hst : ∀ j, st j ≤ 1) (H1 : ss_pz sh dn st d → post 1) (H2 : ¬ ss_pz sh dn st d → post 0) : wpY_plays post (vK, vEx, vCt, (ss_A sh), vSc, (ss_A dn), (ss_A st), vHi, vHs) (nI d) := by
  have b1 := hsh d
  simp (disch := omega) only [wpY_plays, ss_eq0, ss_m3, ss_m6, ss_m36, ss_16m, nI_add, ss_p1, ss_p3, ss_d3, ss_r3', ss_in, ss_30, ss_cl, ss_ap, ss_upd, ss_upd0, ss_nb1, ss_nb0, forall_eq, true_and, not_false_eq_true]
  refine br_c (fun c => H2 (fun z => z.1 c)) (fun c => ys_open (by omega) hdn hst (fun z => br_f (by decide) (H1 ⟨c, z⟩)) (fun z => br_t rfl (H2 (fun y => z y.2))))
theorem ys_ip4 (hsh : ∀ j, sh j ≤ 1) (hdn : ∀ j, dn j ≤ 1) (hst : ∀ j, st j ≤ 1) (H : post (nI (ss_DD sh dn st 16))) : ∀ d i, i + d = 16 → wY_inPlay_4 post vK vEx vCt (ss_A sh) vSc (ss_A dn) (ss_A st) vHi vHs (d + 1) (nI (ss_DD sh dn st i)) (nI i) := by
  intro d
  induction d with
  | zero =>
    intro i hi
    obtain rfl : i = 16 := by omega
    rw [wY_inPlay_4]
    exact br_t (by decide) H
  | succ d ih =>
    intro i hi
    have e := ih (i + 1) (by omega)
    have es : ss_DD sh dn st (i + 1) = ss_DD sh dn st i + (if ss_pz sh dn st i then 1 else 0) := rfl
    rw [es] at e
    rw [wY_inPlay_4]
    refine br_f (nI_ge (b := 16) (by omega) (by decide)) ?_
    simp (disch := omega) only [ss_m3, ss_m6, ss_m36, ss_16m, nI_add, ss_p1, ss_p3, ss_d3, ss_r3', ss_in, ss_30, ss_cl, ss_ap, ss_upd, ss_upd0, ss_nb1, ss_nb0, forall_eq, true_and, not_false_eq_true]
    refine ys_plays (by omega) hsh hdn hst (fun z => br_f (by decide) ?_) (fun z => br_t rfl ?_)
    · rw [if_pos z] at e
      exact e
    · rw [if_neg z] at e
      exact e
theorem ys_inPlay (hsh : ∀ j, sh j ≤ 1) (hdn : ∀ j, dn j ≤ 1) (hst : ∀ j, st j ≤ 1) (H : post (nI (ss_DD sh dn st 16))) : wpY_inPlay post (vK, vEx, vCt, (ss_A sh), vSc, (ss_A dn), (ss_A st), vHi, vHs) := by
  unfold wpY_inPlay
  exact ⟨17, ys_ip4 hsh hdn hst H 16 0 rfl⟩
theorem ys_w15 {t : Nat} (ht : t < 6) (hsh : ∀ j, sh j ≤ 1) (hsc : ∀ j, sc j ≤ 9) (hdn : ∀ j, dn j ≤ 1) (hst : ∀ j, st j ≤ 1) (H : post (nI (ss_W (ss_DD sh dn st 16) (ss_c sh sc dn st) t))) : ∀ d i, i + d = 16 → wY_weight_15 post (nI t) vK vEx vCt (ss_A sh) (ss_A sc) (ss_A dn) (ss_A st) vHi vHs (d + 1) (nI (ss_H (ss_c sh sc dn st) t i)) (nI i) := by
  intro d
  induction d with
  | zero =>
    intro i hi
    obtain rfl : i = 16 := by omega
    have hH := ss_H_le (ss_c sh sc dn st) t 16
    have hD := ss_DD_le sh dn st 16
    rw [wY_weight_15]
    refine br_t (by decide) ?_
    unfold ss_W at H
    by_cases c : ss_H (ss_c sh sc dn st) t 16 = 0
    · rw [if_pos c] at H
      rw [c]
      exact br_t rfl H
    · rw [if_neg c] at H
      have c' := nI_ne0 (n := ss_H (ss_c sh sc dn st) t 16) (by omega) (by omega)
      refine br_f c' (ys_inPlay hsh hdn hst ⟨c', ?_⟩)
      rw [ss_16m, pk_div (by omega) (by omega) (by omega)]
      exact H
  | succ d ih =>
    intro i hi
    have e := ih (i + 1) (by omega)
    have es : ss_H (ss_c sh sc dn st) t (i + 1) = ss_H (ss_c sh sc dn st) t i + (if ss_c sh sc dn st i t ≠ 0 then 1 else 0) := rfl
    rw [es] at e
    have b1 := hsc (i * 6 + t)
    rw [wY_weight_15]
    refine br_f (nI_ge (b := 16) (by omega) (by decide)) ?_
    simp (disch := omega) only [ss_le0, ss_m3, ss_m6, ss_m36, ss_16m, nI_add, ss_p1, ss_p3, ss_d3, ss_r3', ss_in, ss_30, ss_cl, ss_ap, ss_upd, ss_upd0, ss_nb1, ss_nb0, forall_eq, true_and, not_false_eq_true]
    refine ys_plays (by omega) hsh hdn hst (fun z => br_f (by decide) ?_) (fun z => br_t rfl ?_)
    · have ec : ss_c sh sc dn st i t = sc (i * 6 + t) := if_pos z
      rw [ec] at e
      refine br_c (fun c => ?_) (fun c => ?_)
      · rw [if_neg (fun y => y c)] at e
        exact e
      · rw [if_pos c] at e
        exact e
    · have ec : ss_c sh sc dn st i t = 0 := if_neg z
      rw [ec, if_neg (fun y => y rfl)] at e
      exact e
theorem ys_isTerm {t : Nat} (ht : t < 6) (H : post 1) : wpY_isTerm post (vK, vEx, vCt, vSh, vSc, vDn, vSt, vHi, vHs) (nI t) := by
  unfold wpY_isTerm
  exact br_f (nI_pos (by omega)) (br_f (nI_ge (b := 6) (by omega) (by decide)) H)
theorem ys_isDoc {t : Nat} (ht : t < 16) (H : post 1) : wpY_isDoc post (vK, vEx, vCt, vSh, vSc, vDn, vSt, vHi, vHs) (nI t) := by
  unfold wpY_isDoc
  exact br_f (nI_pos (by omega)) (br_f (nI_ge (b := 16) (by omega) (by decide)) H)
theorem ys_weight {t : Nat} (ht : t < 6) (hsh : ∀ j, sh j ≤ 1) (hsc : ∀ j, sc j ≤ 9) (hdn : ∀ j, dn j ≤ 1) (hst : ∀ j, st j ≤ 1) (H : post (nI (ss_W (ss_DD sh dn st 16) (ss_c sh sc dn st) t))) : wpY_weight post (vK, vEx, vCt, (ss_A sh), (ss_A sc), (ss_A dn), (ss_A st), vHi, vHs) (nI t) := by
  unfold wpY_weight
  exact ys_isTerm ht (br_f (by decide) ⟨17, ys_w15 ht hsh hsc hdn hst H 16 0 rfl⟩)
theorem ys_s5 {x : Int32} {d : Nat} (hd : d < 16) (hpz : ss_pz sh dn st d) (hsh : ∀ j, sh j ≤ 1) (hsc : ∀ j, sc j ≤ 9) (hdn : ∀ j, dn j ≤ 1) (hst : ∀ j, st j ≤ 1) (H : post (nI (ss_S (ss_DD sh dn st 16) (ss_c sh sc dn st) (ss_bt x) d 6))) : ∀ r t, t + r = 6 → wY_scoreOf_5 post (nI d) x vK vEx vCt (ss_A sh) (ss_A sc) (ss_A dn) (ss_A st) vHi vHs (r + 1) (nI (ss_S (ss_DD sh dn st 16) (ss_c sh sc dn st) (ss_bt x) d t)) (nI t) := by
  intro r
  induction r with
  | zero =>
    intro t ht
    obtain rfl : t = 6 := by omega
    rw [wY_scoreOf_5]
    exact br_t (by decide) H
  | succ r ih =>
    intro t ht
    have e := ih (t + 1) (by omega)
    have es : ss_S (ss_DD sh dn st 16) (ss_c sh sc dn st) (ss_bt x) d (t + 1) = ss_S (ss_DD sh dn st 16) (ss_c sh sc dn st) (ss_bt x) d t + (if ss_bt x t = true then ss_c sh sc dn st d t * ss_W (ss_DD sh dn st 16) (ss_c sh sc dn st) t else 0) := rfl
    rw [es] at e
    rw [wY_scoreOf_5]
    refine br_f (nI_ge (b := 6) (by omega) (by decide)) ?_
    simp (disch := omega) only [ss_bt0, ss_m3, ss_m6, ss_m36, ss_16m, nI_add, ss_p1, ss_p3, ss_d3, ss_r3', ss_in, ss_30, ss_cl, ss_ap, ss_upd, ss_upd0, ss_nb1, ss_nb0, forall_eq, true_and, not_false_eq_true]
    refine br_c (fun c => ?_) (fun c => ?_)
    · rw [if_neg (by rw [c]; decide)] at e
      exact e
    · have ct : ss_bt x t = true := by
        cases h : ss_bt x t
        · exact absurd h c
        · rfl
      have ec : ss_c sh sc dn st d t = sc (d * 6 + t) := if_pos hpz
      rw [if_pos ct, ec] at e
      refine ys_weight (by omega) hsh hsc hdn hst ?_
      rw [pk_mul, nI_add]
      exact e
theorem ys_scoreOf {x : Int32} {d : Nat} (hd : d < 16) (hpz : ss_pz sh dn st d) (hsh : ∀ j, sh j ≤ 1) (hsc : ∀ j, sc j ≤ 9) (hdn : ∀ j, dn j ≤ 1) (hst : ∀ j, st j ≤ 1) (H : post (nI (ss_S (ss_DD sh dn st 16) (ss_c sh sc dn st) (ss_bt x) d 6))) : wpY_scoreOf post (vK, vEx, vCt, (ss_A sh), (ss_A sc), (ss_A dn), (ss_A st), vHi, vHs) (nI d) x := by
  unfold wpY_scoreOf
  exact ⟨7, ys_s5 hd hpz hsh hsc hdn hst H 6 0 rfl⟩
end
theorem ss_S_0 {sh sc dn st : Nat → Nat} {D : Nat} {bt : Nat → Bool} {d : Nat} (h : ¬ ss_pz sh dn st d) (n : Nat) : ss_S D (ss_c sh sc dn st) bt d n = 0 := by
  refine ss_sm_0 n fun t _ => ?_
  have ec : ss_c sh sc dn st d t = 0 := if_neg h
  show (if bt t = true then ss_c sh sc dn st d t * ss_W D (ss_c sh sc dn st) t else 0) = 0
  rw [ec, Nat.zero_mul]
  by_cases c : bt t = true
  · rw [if_pos c]
  · rw [if_neg c]
/-- the number of the last hit as an int, -1 ahead of the first -/
def ss_lm : Nat → Int32
  | 0 => -1
  | n + 1 => nI n
theorem ss_lm_le {d l : Nat} (hd : d < 16) (hl : l ≤ 16) : (nI d ≤ ss_lm l) = (d < l) := by
  cases l with
  | zero =>
    have h : ¬ nI d ≤ (-1 : Int32) := by
      rw [Int32.le_iff_toInt_le, nI_toInt (by omega), show (-1 : Int32).toInt = -1 from by decide]
      omega
    exact propext ⟨fun z => absurd z h, fun z => absurd z (Nat.not_lt_zero d)⟩
  | succ l =>
    show (nI d ≤ nI l) = (d < l + 1)
    rw [ss_le (by omega) (by omega)]
    exact propext (by omega)
section
variable {vK : Int32} {vEx vCt vSh vSc vDn vSt vHi vHs : Nat → Int32} {ye yc sh sc dn st S : Nat → Nat} {post : Int32 → Prop} {x : Int32}
theorem ys_a36 {J : Int32 → Int32 → Int32 → Prop} {x4 : Int32} {ls l1 bs i : Nat} (hS : S i < 100000) (hls : ls ≤ 1000000) (hl1 : l1 ≤ 16) (hbs : bs < 100000) (hi : i < 16) (H1 : bs < ss_y S ls l1 i → J (nI i) (nI (S i)) (nI (i + 1))) (H2 : ss_y S ls l1 i ≤ bs → J x4 (nI bs) (nI (i + 1))) : wY_after_36 post J x (nI ls) (ss_lm l1) x4 (nI bs) (nI i) (nI (S i)) vK vEx vCt vSh vSc vDn vSt vHi vHs := by
  simp (disch := omega) only [wY_after_36, wY_after_56, wY_after_60, wY_after_61, ss_lt, ss_eq, ss_le, ss_lm_le, ss_p1, forall_eq]
  have k1 : (S i < ls ∨ (S i = ls ∧ l1 ≤ i)) → (S i ≤ bs → J x4 (nI bs) (nI (i + 1))) ∧ (¬ S i ≤ bs → ((1 : Int32) = 0 → J x4 (nI bs) (nI (i + 1))) ∧ (¬ (1 : Int32) = 0 → J (nI i) (nI (S i)) (nI (i + 1)))) := by
    intro hl
    have e : ss_y S ls l1 i = S i := if_pos hl
    rw [e] at H1 H2
    exact br_c H2 (fun c => br_f (by decide) (H1 (by omega)))
  have k2 : ¬ (S i < ls ∨ (S i = ls ∧ l1 ≤ i)) → (S i ≤ bs → J x4 (nI bs) (nI (i + 1))) ∧ (¬ S i ≤ bs → (True → J x4 (nI bs) (nI (i + 1))) ∧ (¬ True → J (nI i) (nI (S i)) (nI (i + 1)))) := by
    intro hl
    have e : ss_y S ls l1 i = 0 := if_neg hl
    rw [e] at H1 H2
    have H2 := H2 (Nat.zero_le _)
    exact br_c (fun _ => H2) (fun c => br_t trivial H2)
  refine br_c (fun c => k1 (Or.inl c)) (fun c => br_c (fun c2 => br_c (fun c3 => k2 ?_) (fun c3 => k1 (Or.inr ⟨c2, by omega⟩))) (fun c2 => k2 ?_))
  · omega
  · omega
theorem ys_a9 {ls l1 : Nat} (hSy : ∀ d, d < 16 → S d = ss_S (ss_DD sh dn st 16) (ss_c sh sc dn st) (ss_bt x) d 6) (hS : ∀ d, d < 16 → S d < 100000) (hls : ls ≤ 1000000) (hl1 : l1 ≤ 16) (hsh : ∀ j, sh j ≤ 1) (hsc : ∀ j, sc j ≤ 9) (hdn : ∀ j, dn j ≤ 1) (hst : ∀ j, st j ≤ 1) (Inv : Nat → Int32 → Nat → Prop) (hI : ∀ i x4 bs, i < 16 → Inv i x4 bs → bs < 100000 ∧ (bs < ss_y S ls l1 i → Inv (i + 1) (nI i) (S i)) ∧ (ss_y S ls l1 i ≤ bs → Inv (i + 1) x4 bs)) (H : ∀ x4 bs, Inv 16 x4 bs → post x4) : ∀ r i x4 bs, i + r = 16 → Inv i x4 bs → wY_after_9 post x (nI ls) (ss_lm l1) vK vEx vCt (ss_A sh) (ss_A sc) (ss_A dn) (ss_A st) vHi vHs (r + 1) x4 (nI bs) (nI i) := by
  intro r
  induction r with
  | zero =>
    intro i x4 bs hi h
    obtain rfl : i = 16 := by omega
    rw [wY_after_9]
    exact br_t (by decide) (H x4 bs h)
  | succ r ih =>
    intro i x4 bs hi h
    obtain ⟨h1, h2, h3⟩ := hI i x4 bs (by omega) h
    have k : wY_after_36 post (wY_after_9 post x (nI ls) (ss_lm l1) vK vEx vCt (ss_A sh) (ss_A sc) (ss_A dn) (ss_A st) vHi vHs (r + 1)) x (nI ls) (ss_lm l1) x4 (nI bs) (nI i) (nI (S i)) vK vEx vCt (ss_A sh) (ss_A sc) (ss_A dn) (ss_A st) vHi vHs := ys_a36 (hS i (by omega)) hls hl1 h1 (by omega) (fun c => ih (i + 1) (nI i) (S i) (by omega) (h2 c)) (fun c => ih (i + 1) x4 bs (by omega) (h3 c))
    rw [wY_after_9]
    refine br_f (nI_ge (b := 16) (by omega) (by decide)) ?_
    refine ys_plays (by omega) hsh hdn hst (fun z => br_f (by decide) (ys_scoreOf (by omega) z hsh hsc hdn hst ?_)) (fun z => br_t rfl ?_)
    · rw [← hSy i (by omega)]
      exact k
    · have e : S i = 0 := (hSy i (by omega)).trans (ss_S_0 z 6)
      rw [e] at k
      exact k
theorem ys_after_none {ls l1 : Nat} (hSy : ∀ d, d < 16 → S d = ss_S (ss_DD sh dn st 16) (ss_c sh sc dn st) (ss_bt x) d 6) (hS : ∀ d, d < 16 → S d < 100000) (hls : ls ≤ 1000000) (hl1 : l1 ≤ 16) (hsh : ∀ j, sh j ≤ 1) (hsc : ∀ j, sc j ≤ 9) (hdn : ∀ j, dn j ≤ 1) (hst : ∀ j, st j ≤ 1) (hy : ∀ d, d < 16 → ss_y S ls l1 d = 0) (H : post (-1)) : wpY_after post (vK, vEx, vCt, (ss_A sh), (ss_A sc), (ss_A dn), (ss_A st), vHi, vHs) x (nI ls) (ss_lm l1) := by
  unfold wpY_after
  refine ⟨17, ys_a9 hSy hS hls hl1 hsh hsc hdn hst (fun _ x4 bs => x4 = -1 ∧ bs = 0) (fun i x4 bs hi h => ⟨by omega, fun c => ?_, fun _ => h⟩) (fun x4 bs h => by rw [h.1]; exact H) 16 0 (-1) 0 rfl ⟨rfl, rfl⟩⟩
  have := hy i hi
  omega
theorem ys_after_some {ls l1 b : Nat} (hSy : ∀ d, d < 16 → S d = ss_S (ss_DD sh dn st 16) (ss_c sh sc dn st) (ss_bt x) d 6) (hS : ∀ d, d < 16 → S d < 100000) (hls : ls ≤ 1000000) (hl1 : l1 ≤ 16) (hsh : ∀ j, sh j ≤ 1) (hsc : ∀ j, sc j ≤ 9) (hdn : ∀ j, dn j ≤ 1) (hst : ∀ j, st j ≤ 1) (hy : ss_mx (ss_y S ls l1) 16 b) (H : post (nI b)) : wpY_after post (vK, vEx, vCt, (ss_A sh), (ss_A sc), (ss_A dn), (ss_A st), vHi, vHs) x (nI ls) (ss_lm l1) := by
  have hn := ss_y_next hy
  obtain ⟨hb, h0, hm, hl⟩ := hy
  have hSb := hS b hb
  unfold wpY_after
  refine ⟨17, ys_a9 hSy hS hls hl1 hsh hsc hdn hst (fun i x4 bs => (i ≤ b → bs < ss_y S ls l1 b) ∧ (b < i → x4 = nI b ∧ bs = ss_y S ls l1 b)) (fun i x4 bs hi h => ?_) (fun x4 bs h => by rw [(h.2 hb).1]; exact H) 16 0 (-1) 0 rfl ⟨fun _ => h0, fun z => absurd z (Nat.not_lt_zero b)⟩⟩
  obtain ⟨h1, h2⟩ := h
  have hmi := hm i hi
  refine ⟨?_, fun c => ⟨fun z => ?_, fun z => ?_⟩, fun c => ⟨fun z => h1 (by omega), fun z => ?_⟩⟩
  · by_cases c : i ≤ b
    · have := h1 c; omega
    · have := (h2 (by omega)).2; omega
  · have hli := hl i (by omega)
    by_cases e : ss_y S ls l1 i = S i
    · omega
    · have : ss_y S ls l1 i = 0 ∨ ss_y S ls l1 i = S i := by
        unfold ss_y
        by_cases q : S i < ls ∨ (S i = ls ∧ l1 ≤ i)
        · exact Or.inr (if_pos q)
        · exact Or.inl (if_neg q)
      omega
  · by_cases e : i = b
    · subst e
      exact ⟨rfl, hn.1.symm⟩
    · have := (h2 (by omega)).2
      omega
  · by_cases e : i = b
    · subst e
      have := h1 (Nat.le_refl _)
      omega
    · exact h2 (by omega)
end
end
section
/-! X: weightOf, mostOf, lessThan, gather -/
def ss_wt (dd : Nat) (hv : Nat → Nat) (t : Nat) : Nat := if hv t = 0 then 0 else 16 * dd / hv t
theorem ss_li_idx {q : Nat → Bool} {l : Nat} : ∀ n : Nat, l < n → q l = true → ∃ j, j < (ss_li q n).length ∧ (ss_li q n).getD j 0 = l := by
  intro n
  induction n with
  | zero => intro h; exact absurd h (Nat.not_lt_zero l)
  | succ n ih =>
    intro h hq
    by_cases e : l = n
    · subst e
      rw [ss_li_t hq]
      exact ⟨(ss_li q l).length, by rw [ss_len1]; omega, ss_gd_r _ _⟩
    · obtain ⟨j, hj, ej⟩ := ih (by omega) hq
      cases c : q n with
      | true =>
        rw [ss_li_t c]
        exact ⟨j, by rw [ss_len1]; omega, by rw [ss_gd_l hj]; exact ej⟩
      | false =>
        rw [ss_li_f c]
        exact ⟨j, hj, ej⟩
section
variable {uD uT uK : Int32} {uRun uLp uRp uLe uRe uEx uCt uSe uPo uPd uPc uHv uGr uTo uSc uHd uHs : Nat → Int32} {run lp rp le re ex ct se po pd pc hv gr sh sc dn st : Nat → Nat} {dd a t : Nat}
theorem xs_wt {post : Int32 → Prop} (ht : t < 6) (hd : dd ≤ 18) (hh : hv t ≤ 18) (H : post (nI (ss_wt dd hv t))) : wpX_weightOf post ((nI dd), uT, uK, uRun, uLp, uRp, uLe, uRe, uEx, uCt, uSe, uPo, uPd, uPc, (ss_A hv), uGr, uTo, uSc, uHd, uHs) (nI t) := by
  unfold ss_wt at H
  simp (disch := omega) only [wpX_weightOf, ss_eq0, ss_m3, ss_m6, ss_m36, ss_16m, nI_add, ss_p1, ss_p3, ss_d3, ss_r3', ss_in, ss_30, ss_cl, ss_ap, ss_upd, ss_upd0, ss_nb1, ss_nb0, forall_eq, true_and, not_false_eq_true]
  by_cases c : hv t = 0
  · rw [if_pos c] at H
    exact br_t c H
  · rw [if_neg c] at H
    refine br_f c ⟨c, ?_⟩
    rw [pk_div (by omega) (by omega) (by omega)]
    exact H
theorem xs_most {post : Int32 → Prop} (ht : t < 6) (hd : dd ≤ 18) (hh : hv t ≤ 18) (H : post (nI (ss_wt dd hv t * gr t))) : wpX_mostOf post ((nI dd), uT, uK, uRun, uLp, uRp, uLe, uRe, uEx, uCt, uSe, uPo, uPd, uPc, (ss_A hv), (ss_A gr), uTo, uSc, uHd, uHs) (nI t) := by
  unfold wpX_mostOf
  refine xs_wt ht hd hh ⟨vp_in_nI ht (by decide), ?_⟩
  rw [ss_cl (by omega), ss_ap, pk_mul]
  exact H
theorem xs_less {post : Int32 → Prop} {x : Int32} (ht : t < 6) (hd : dd ≤ 18) (hh : hv t ≤ 18) (H0 : post 0) (H1 : post 1) : wpX_lessThan post ((nI dd), uT, uK, uRun, uLp, uRp, uLe, uRe, uEx, uCt, uSe, uPo, uPd, uPc, (ss_A hv), (ss_A gr), uTo, uSc, uHd, uHs) (nI t) x := by
  unfold wpX_lessThan
  exact xs_most ht hd hh (br_c (fun _ => H0) (fun _ => H1))
def ss_Gt (pc gr0 : Nat → Nat) (a t i : Nat) (gr : Nat → Nat) : Prop := (∀ j, j ≠ t → gr j = gr0 j) ∧ gr0 t ≤ gr t ∧ gr t ≤ 9 ∧ ∀ j, j < i → pc (a * 36 + t * 6 + j) ≤ gr t
theorem xs_g25 {post : SX → Prop} {n : Nat} {gr0 : Nat → Nat} (ha : a < 6) (ht : t < 6) (hn : n ≤ 6) (hpc : ∀ j, j < n → pc (a * 36 + t * 6 + j) ≤ 9) (H : ∀ gr, ss_Gt pc gr0 a t n gr → post (uD, uT, uK, uRun, uLp, uRp, uLe, uRe, uEx, uCt, uSe, uPo, uPd, (ss_A pc), uHv, (ss_A gr), uTo, uSc, uHd, uHs)) : ∀ d i gr, i + d = n → ss_Gt pc gr0 a t i gr → wX_gatherTerm_25 post (nI a) (nI t) (nI n) uD uT uK (d + 1) (nI i) uRun uLp uRp uLe uRe uEx uCt uSe uPo uPd (ss_A pc) uHv (ss_A gr) uTo uSc uHd uHs := by
  intro d
  induction d with
  | zero =>
    intro i gr hi h
    obtain rfl : i = n := by omega
    rw [wX_gatherTerm_25]
    exact br_t (nI_le (Nat.le_refl _) (by omega)) (H gr h)
  | succ d ih =>
    intro i gr hi h
    have b1 := hpc i (by omega)
    obtain ⟨h1, h2, h3, h4⟩ := h
    rw [wX_gatherTerm_25]
    refine br_f (nI_ge (by omega) (by omega)) ?_
    simp (disch := omega) only [ss_le, ss_m3, ss_m6, ss_m36, ss_16m, nI_add, ss_p1, ss_p3, ss_d3, ss_r3', ss_in, ss_30, ss_cl, ss_ap, ss_upd, ss_upd0, ss_nb1, ss_nb0, forall_eq, true_and, not_false_eq_true]
    refine br_c (fun c => ih (i + 1) gr (by omega) ⟨h1, h2, h3, fun j hj => ?_⟩) (fun c => ih (i + 1) _ (by omega) ⟨fun j hj => ?_, ?_, ?_, fun j hj => ?_⟩)
    · by_cases e : j = i
      · rw [e]; exact c
      · exact h4 j (by omega)
    · rw [ss_un gr _ hj]; exact h1 j hj
    · rw [ss_us]; omega
    · rw [ss_us]; exact b1
    · rw [ss_us]
      by_cases e : j = i
      · rw [e]; exact Nat.le_refl _
      · have := h4 j (by omega)
        omega
theorem xs_gT {post : SX → Prop} (ha : a < 6) (ht : t < 6) (hpo : po (a * 6 + t) ≤ 6) (hpc : ∀ j, j < po (a * 6 + t) → pc (a * 36 + t * 6 + j) ≤ 9) (hg : gr t ≤ 9) (H : ∀ gr', ss_Gt pc gr a t (po (a * 6 + t)) gr' → post (uD, uT, uK, uRun, uLp, uRp, uLe, uRe, uEx, uCt, uSe, (ss_A po), uPd, (ss_A pc), (ss_A (ss_u hv t (hv t + po (a * 6 + t)))), (ss_A gr'), uTo, uSc, uHd, uHs)) : wpX_gatherTerm post (uD, uT, uK, uRun, uLp, uRp, uLe, uRe, uEx, uCt, uSe, (ss_A po), uPd, (ss_A pc), (ss_A hv), (ss_A gr), uTo, uSc, uHd, uHs) (nI a) (nI t) := by
  simp (disch := omega) only [wpX_gatherTerm, ss_m3, ss_m6, ss_m36, ss_16m, nI_add, ss_p1, ss_p3, ss_d3, ss_r3', ss_in, ss_30, ss_cl, ss_ap, ss_upd, ss_upd0, ss_nb1, ss_nb0, forall_eq, true_and, not_false_eq_true]
  exact ⟨_, xs_g25 ha ht hpo hpc H (po (a * 6 + t)) 0 gr (by omega) ⟨fun _ _ => rfl, Nat.le_refl _, hg, fun j hj => absurd hj (Nat.not_lt_zero j)⟩⟩
def ss_G6 (po pc hv0 gr0 : Nat → Nat) (a t : Nat) (hv gr : Nat → Nat) : Prop := ∀ t', t' < 6 → hv t' = hv0 t' + (if t' < t then po (a * 6 + t') else 0) ∧ gr0 t' ≤ gr t' ∧ gr t' ≤ 9 ∧ (t' < t → ∀ j, j < po (a * 6 + t') → pc (a * 36 + t' * 6 + j) ≤ gr t')
theorem ss_G6_step {po pc hv0 gr0 hv gr gr' : Nat → Nat} {a t : Nat} (ht : t < 6) (h : ss_G6 po pc hv0 gr0 a t hv gr) (k : ss_Gt pc gr a t (po (a * 6 + t)) gr') : ss_G6 po pc hv0 gr0 a (t + 1) (ss_u hv t (hv t + po (a * 6 + t))) gr' := by
  intro t' ht'
  obtain ⟨h1, h2, h3, h4⟩ := h t' ht'
  obtain ⟨k1, k2, k3, k4⟩ := k
  by_cases c : t' = t
  · subst c
    rw [ss_us, if_pos (by omega)]
    rw [if_neg (by omega)] at h1
    exact ⟨by omega, by omega, k3, fun _ => k4⟩
  · rw [ss_un hv _ c, k1 t' c]
    refine ⟨?_, h2, h3, fun z => h4 (by omega)⟩
    rw [h1]
    by_cases c2 : t' < t
    · rw [if_pos c2, if_pos (by omega)]
    · rw [if_neg c2, if_neg (by omega)]
theorem xs_g67 {post : SX → Prop} {J : Int32 → Int32 → Int32 → Int32 → (Nat → Int32) → (Nat → Int32) → (Nat → Int32) → (Nat → Int32) → (Nat → Int32) → (Nat → Int32) → (Nat → Int32) → (Nat → Int32) → (Nat → Int32) → (Nat → Int32) → (Nat → Int32) → (Nat → Int32) → (Nat → Int32) → (Nat → Int32) → (Nat → Int32) → (Nat → Int32) → (Nat → Int32) → Prop} {s : Nat} {hv0 gr0 : Nat → Nat} (ha : a < 6) (hpo : ∀ t, t < 6 → po (a * 6 + t) ≤ 6) (hpc : ∀ t, t < 6 → ∀ j, j < po (a * 6 + t) → pc (a * 36 + t * 6 + j) ≤ 9) (H : ∀ hv gr, ss_G6 po pc hv0 gr0 a 6 hv gr → J (nI (s + 1)) uD uT uK uRun uLp uRp uLe uRe uEx uCt uSe (ss_A po) uPd (ss_A pc) (ss_A hv) (ss_A gr) uTo uSc uHd uHs) : ∀ d t hv gr, t + d = 6 → ss_G6 po pc hv0 gr0 a t hv gr → wX_gather_67 post J (nI s) (nI a) (d + 1) (nI t) uD uT uK uRun uLp uRp uLe uRe uEx uCt uSe (ss_A po) uPd (ss_A pc) (ss_A hv) (ss_A gr) uTo uSc uHd uHs := by
  intro d
  induction d with
  | zero =>
    intro t hv gr ht h
    obtain rfl : t = 6 := by omega
    rw [wX_gather_67]
    refine br_t (by decide) ?_
    simp (disch := omega) only [ss_m3, ss_m6, ss_m36, ss_16m, nI_add, ss_p1, ss_p3, ss_d3, ss_r3', ss_in, ss_30, ss_cl, ss_ap, ss_upd, ss_upd0, ss_nb1, ss_nb0, forall_eq, true_and, not_false_eq_true]
    exact H hv gr h
  | succ d ih =>
    intro t hv gr ht h
    rw [wX_gather_67]
    refine br_f (nI_ge (b := 6) (by omega) (by decide)) ?_
    simp (disch := omega) only [ss_m3, ss_m6, ss_m36, ss_16m, nI_add, ss_p1, ss_p3, ss_d3, ss_r3', ss_in, ss_30, ss_cl, ss_ap, ss_upd, ss_upd0, ss_nb1, ss_nb0, forall_eq, true_and, not_false_eq_true]
    exact xs_gT ha (by omega) (hpo t (by omega)) (hpc t (by omega)) (h t (by omega)).2.2.1 (fun gr' k => ih (t + 1) _ _ (by omega) (ss_G6_step (by omega) h k))
/-- the counts behind s shards -/
def ss_G3 (sh sc dn st : Nat → Nat) (s dd : Nat) (hv gr : Nat → Nat) : Prop := dd = ss_sm (fun s' => if ss_yo dn st s' then ss_ns sh s' else 0) s ∧ ∀ t, t < 6 → hv t = ss_sm (fun s' => if ss_yo dn st s' then (ss_li (ss_q sh sc s' t) 6).length else 0) s ∧ gr t ≤ 9 ∧ ∀ d, d < 16 → d % 3 < s → ss_c sh sc dn st d t ≤ gr t
theorem ss_G3_skip {s : Nat} (hs : s < 3) (hno : ¬ ss_yo dn st s) (h : ss_G3 sh sc dn st s dd hv gr) : ss_G3 sh sc dn st (s + 1) dd hv gr := by
  obtain ⟨h1, h2⟩ := h
  refine ⟨?_, fun t ht => ?_⟩
  · show dd = ss_sm _ s + (if ss_yo dn st s then ss_ns sh s else 0)
    rw [if_neg hno, Nat.add_zero]
    exact h1
  · obtain ⟨k1, k2, k3⟩ := h2 t ht
    refine ⟨?_, k2, fun d hd hm => ?_⟩
    · show hv t = ss_sm _ s + (if ss_yo dn st s then (ss_li (ss_q sh sc s t) 6).length else 0)
      rw [if_neg hno, Nat.add_zero]
      exact k1
    · by_cases c : d % 3 = s
      · have e : ss_c sh sc dn st d t = 0 := if_neg (fun z => hno (by rw [← c]; exact z.2))
        rw [e]
        exact Nat.zero_le _
      · exact k3 d hd (by omega)
theorem ss_G3_step {s : Nat} {hv' gr' : Nat → Nat} (hs : s < 3) (hm : a % 3 = s) (hyo : ss_yo dn st s) (hP : ss_P se po pd pc sh sc a) (h : ss_G3 sh sc dn st s dd hv gr) (k : ss_G6 po pc hv gr a 6 hv' gr') : ss_G3 sh sc dn st (s + 1) (dd + se a) hv' gr' := by
  obtain ⟨h1, h2⟩ := h
  obtain ⟨p1, p2⟩ := hP
  rw [hm] at p1 p2
  refine ⟨?_, fun t ht => ?_⟩
  · show dd + se a = ss_sm _ s + (if ss_yo dn st s then ss_ns sh s else 0)
    rw [if_pos hyo, h1, p1]
  · obtain ⟨k1, k2, k3⟩ := h2 t ht
    obtain ⟨g1, g2, g3, g4⟩ := k t ht
    obtain ⟨q1, q2⟩ := p2 t ht
    rw [if_pos ht] at g1
    refine ⟨?_, g3, fun d hd hd3 => ?_⟩
    · show hv' t = ss_sm _ s + (if ss_yo dn st s then (ss_li (ss_q sh sc s t) 6).length else 0)
      rw [if_pos hyo, g1, k1, q1]
    · by_cases c : d % 3 = s
      · by_cases c2 : sh d ≠ 0 ∧ sc (d * 6 + t) ≠ 0
        · have ed : d / 3 * 3 + s = d := by omega
          obtain ⟨j, hj, ej⟩ := ss_li_idx (q := ss_q sh sc s t) (l := d / 3) 6 (by omega) (decide_eq_true (by rw [ed]; exact ⟨hd, c2⟩))
          have g := g4 ht j (by rw [q1]; exact hj)
          have q := (q2 j hj).2
          rw [ej, ed] at q
          rw [q] at g
          unfold ss_c
          by_cases z : ss_pz sh dn st d
          · rw [if_pos z]; exact g
          · rw [if_neg z]; exact Nat.zero_le _
        · have e : ss_c sh sc dn st d t = 0 := by
            unfold ss_c
            by_cases z : ss_pz sh dn st d
            · rw [if_pos z]
              by_cases y : sc (d * 6 + t) = 0
              · exact y
              · exact absurd ⟨z.1, y⟩ c2
            · exact if_neg z
          rw [e]
          exact Nat.zero_le _
      · have := k3 d hd (by omega)
        omega
theorem ss_ns_le (sh : Nat → Nat) (s : Nat) : ss_ns sh s ≤ 6 := ss_one_le 6 (fun _ _ => ss_ite1 _)
theorem xs_g35 {post : SX → Prop} (hrun : ∀ j, run j ≤ 1) (hlp : ∀ j, lp j < 5000) (hle : ∀ j, le j < 5000) (hsc : ∀ j, sc j ≤ 9) (hop : ∀ s, s < 3 → (ss_op run lp le s ↔ ss_yo dn st s)) (hP : ∀ n, n < 6 → ss_up run lp le n → ss_P se po pd pc sh sc n) (H : ∀ dd hv gr, ss_G3 sh sc dn st 3 dd hv gr → post ((nI dd), uT, uK, (ss_A run), (ss_A lp), uRp, (ss_A le), uRe, uEx, uCt, (ss_A se), (ss_A po), (ss_A pd), (ss_A pc), (ss_A hv), (ss_A gr), uTo, uSc, uHd, uHs)) : ∀ d s dd hv gr, s + d = 3 → ss_G3 sh sc dn st s dd hv gr → wX_gather_35 post (d + 1) (nI s) (nI dd) uT uK (ss_A run) (ss_A lp) uRp (ss_A le) uRe uEx uCt (ss_A se) (ss_A po) (ss_A pd) (ss_A pc) (ss_A hv) (ss_A gr) uTo uSc uHd uHs := by
  intro d
  induction d with
  | zero =>
    intro s dd hv gr hs h
    obtain rfl : s = 3 := by omega
    rw [wX_gather_35]
    exact br_t (by decide) (H dd hv gr h)
  | succ d ih =>
    intro s dd hv gr hs h
    rw [wX_gather_35]
    refine br_f (nI_ge (b := 3) (by omega) (by decide)) ?_
    simp (disch := omega) only [ss_m3, ss_m6, ss_m36, ss_16m, nI_add, ss_p1, ss_p3, ss_d3, ss_r3', ss_in, ss_30, ss_cl, ss_ap, ss_upd, ss_upd0, ss_nb1, ss_nb0, forall_eq, true_and, not_false_eq_true]
    refine xs_srv (by omega) hrun hlp hle (fun a ha hm hup => br_f (nI_pos (by omega)) ?_) (fun hno => br_t (by decide) ?_)
    · have hyo : ss_yo dn st s := by
        refine (hop s (by omega)).mp ?_
        have : a = s ∨ a = s + 3 := by omega
        rcases this with rfl | rfl
        · exact Or.inl hup
        · exact Or.inr hup
      have hPa := hP a ha hup
      have hpo : ∀ t, t < 6 → po (a * 6 + t) ≤ 6 := by
        intro t ht
        rw [(hPa.2 t ht).1]
        exact ss_li_len _ 6
      have hpc : ∀ t, t < 6 → ∀ j, j < po (a * 6 + t) → pc (a * 36 + t * 6 + j) ≤ 9 := by
        intro t ht j hj
        rw [(hPa.2 t ht).1] at hj
        rw [((hPa.2 t ht).2 j hj).2]
        exact hsc _
      simp (disch := omega) only [ss_m3, ss_m6, ss_m36, ss_16m, nI_add, ss_p1, ss_p3, ss_d3, ss_r3', ss_in, ss_30, ss_cl, ss_ap, ss_upd, ss_upd0, ss_nb1, ss_nb0, forall_eq, true_and, not_false_eq_true]
      refine ⟨7, xs_g67 (hv0 := hv) (gr0 := gr) ha hpo hpc (fun hv' gr' k => ih (s + 1) _ _ _ (by omega) (ss_G3_step (by omega) hm hyo hPa h k)) 6 0 hv gr rfl (fun t ht => ⟨?_, Nat.le_refl _, (h.2 t ht).2.1, fun z => absurd z (Nat.not_lt_zero t)⟩)⟩
      rw [if_neg (Nat.not_lt_zero t)]
      rfl
    · exact ih (s + 1) dd hv gr (by omega) (ss_G3_skip (by omega) (fun z => hno ((hop s (by omega)).mpr z)) h)
theorem xs_g7 {post : SX → Prop} (H : ∀ hv gr, (∀ t, t < 6 → hv t = 0 ∧ gr t = 0) → ∃ n, wX_gather_35 post n 0 uD uT uK uRun uLp uRp uLe uRe uEx uCt uSe uPo uPd uPc (ss_A hv) (ss_A gr) uTo uSc uHd uHs) : ∀ d i hv gr, i + d = 6 → (∀ t, t < i → hv t = 0 ∧ gr t = 0) → wX_gather_7 post uD uT uK (d + 1) (nI i) uRun uLp uRp uLe uRe uEx uCt uSe uPo uPd uPc (ss_A hv) (ss_A gr) uTo uSc uHd uHs := by
  intro d
  induction d with
  | zero =>
    intro i hv gr hi h
    obtain rfl : i = 6 := by omega
    rw [wX_gather_7]
    exact br_t (by decide) (H hv gr h)
  | succ d ih =>
    intro i hv gr hi h
    rw [wX_gather_7]
    refine br_f (nI_ge (b := 6) (by omega) (by decide)) ?_
    simp (disch := omega) only [ss_m3, ss_m6, ss_m36, ss_16m, nI_add, ss_p1, ss_p3, ss_d3, ss_r3', ss_in, ss_30, ss_cl, ss_ap, ss_upd, ss_upd0, ss_nb1, ss_nb0, forall_eq, true_and, not_false_eq_true]
    refine ih (i + 1) _ _ (by omega) (fun t ht => ?_)
    by_cases c : t = i
    · rw [c, ss_us, ss_us]; exact ⟨rfl, rfl⟩
    · rw [ss_un hv _ c, ss_un gr _ c]; exact h t (by omega)
end
theorem ss_tot (b : Nat → Nat) : ss_sm b 16 = ss_sm (fun s => ss_sm (fun l => if l * 3 + s < 16 then b (l * 3 + s) else 0) 6) 3 := by
  simp [ss_sm]
  omega
theorem ss_DD_tot (sh dn st : Nat → Nat) : ss_sm (fun s => if ss_yo dn st s then ss_ns sh s else 0) 3 = ss_DD sh dn st 16 := by
  unfold ss_DD
  rw [ss_tot]
  refine ss_sm_congr 3 fun s hs => ?_
  show (if ss_yo dn st s then ss_ns sh s else 0) = ss_sm (fun l => if l * 3 + s < 16 then (if ss_pz sh dn st (l * 3 + s) then 1 else 0) else 0) 6
  have em : ∀ l, (l * 3 + s) % 3 = s := fun l => by omega
  by_cases c : ss_yo dn st s
  · rw [if_pos c]
    refine ss_sm_congr 6 fun l hl => ?_
    show (if l * 3 + s < 16 ∧ sh (l * 3 + s) ≠ 0 then 1 else 0) = (if l * 3 + s < 16 then (if ss_pz sh dn st (l * 3 + s) then 1 else 0) else 0)
    by_cases c1 : l * 3 + s < 16
    · rw [if_pos c1]
      by_cases c2 : sh (l * 3 + s) ≠ 0
      · rw [if_pos ⟨c1, c2⟩, if_pos ⟨c2, by rw [em]; exact c⟩]
      · rw [if_neg (fun z => c2 z.2), if_neg (fun z => c2 z.1)]
    · rw [if_neg c1, if_neg (fun z => c1 z.1)]
  · rw [if_neg c]
    refine (ss_sm_0 6 fun l hl => ?_).symm
    show (if l * 3 + s < 16 then (if ss_pz sh dn st (l * 3 + s) then 1 else 0) else 0) = 0
    rw [if_neg (c := ss_pz sh dn st (l * 3 + s)) (fun z => c (by have := z.2; rw [em] at this; exact this))]
    by_cases c1 : l * 3 + s < 16
    · rw [if_pos c1]
    · rw [if_neg c1]
theorem ss_H_tot (sh sc dn st : Nat → Nat) (t : Nat) : ss_sm (fun s => if ss_yo dn st s then (ss_li (ss_q sh sc s t) 6).length else 0) 3 = ss_H (ss_c sh sc dn st) t 16 := by
  unfold ss_H
  rw [ss_tot]
  refine ss_sm_congr 3 fun s hs => ?_
  show (if ss_yo dn st s then (ss_li (ss_q sh sc s t) 6).length else 0) = ss_sm (fun l => if l * 3 + s < 16 then (if ss_c sh sc dn st (l * 3 + s) t ≠ 0 then 1 else 0) else 0) 6
  have em : ∀ l, (l * 3 + s) % 3 = s := fun l => by omega
  by_cases c : ss_yo dn st s
  · rw [if_pos c, ss_li_sm]
    refine ss_sm_congr 6 fun l hl => ?_
    show (if ss_q sh sc s t l = true then 1 else 0) = (if l * 3 + s < 16 then (if ss_c sh sc dn st (l * 3 + s) t ≠ 0 then 1 else 0) else 0)
    by_cases c1 : l * 3 + s < 16
    · rw [if_pos c1]
      by_cases c2 : sh (l * 3 + s) ≠ 0
      · have ec : ss_c sh sc dn st (l * 3 + s) t = sc ((l * 3 + s) * 6 + t) := if_pos ⟨c2, by rw [em]; exact c⟩
        rw [ec]
        by_cases c3 : sc ((l * 3 + s) * 6 + t) ≠ 0
        · have hq : ss_q sh sc s t l = true := decide_eq_true ⟨c1, c2, c3⟩
          rw [if_pos c3, if_pos hq]
        · rw [if_neg c3, if_neg (fun z => c3 (of_decide_eq_true z).2.2)]
      · have ec : ss_c sh sc dn st (l * 3 + s) t = 0 := if_neg (fun z => c2 z.1)
        rw [ec, if_neg (fun z => c2 (of_decide_eq_true z).2.1), if_neg (fun z => z rfl)]
    · rw [if_neg c1, if_neg (fun z => c1 (of_decide_eq_true z).1)]
  · rw [if_neg c]
    refine (ss_sm_0 6 fun l hl => ?_).symm
    show (if l * 3 + s < 16 then (if ss_c sh sc dn st (l * 3 + s) t ≠ 0 then 1 else 0) else 0) = 0
    have ec : ss_c sh sc dn st (l * 3 + s) t = 0 := if_neg (fun z => c (by have := z.2; rw [em] at this; exact this))
    rw [ec, if_neg (c := (0 : Nat) ≠ 0) (fun z => z rfl)]
    by_cases c1 : l * 3 + s < 16
    · rw [if_pos c1]
    · rw [if_neg c1]
section
variable {uD uT uK : Int32} {uRun uLp uRp uLe uRe uEx uCt uSe uPo uPd uPc uHv uGr uTo uSc uHd uHs : Nat → Int32} {run lp le se po pd pc hv gr sh sc dn st : Nat → Nat} {dd : Nat}
theorem xs_gather {post : SX → Prop} (hrun : ∀ j, run j ≤ 1) (hlp : ∀ j, lp j < 5000) (hle : ∀ j, le j < 5000) (hsc : ∀ j, sc j ≤ 9) (hop : ∀ s, s < 3 → (ss_op run lp le s ↔ ss_yo dn st s)) (hP : ∀ n, n < 6 → ss_up run lp le n → ss_P se po pd pc sh sc n) (H : ∀ hv gr, (∀ t, t < 6 → hv t = ss_H (ss_c sh sc dn st) t 16 ∧ gr t ≤ 9 ∧ ∀ d, d < 16 → ss_c sh sc dn st d t ≤ gr t) → post ((nI (ss_DD sh dn st 16)), uT, uK, (ss_A run), (ss_A lp), uRp, (ss_A le), uRe, uEx, uCt, (ss_A se), (ss_A po), (ss_A pd), (ss_A pc), (ss_A hv), (ss_A gr), uTo, uSc, uHd, uHs)) : wpX_gather post (uD, uT, uK, (ss_A run), (ss_A lp), uRp, (ss_A le), uRe, uEx, uCt, (ss_A se), (ss_A po), (ss_A pd), (ss_A pc), (ss_A hv), (ss_A gr), uTo, uSc, uHd, uHs) := by
  unfold wpX_gather
  refine ⟨7, xs_g7 (fun hv gr h => ⟨4, xs_g35 hrun hlp hle hsc hop hP (fun dd hv gr k => ?_) 3 0 0 hv gr rfl ⟨rfl, fun t ht => ⟨?_, ?_, fun d hd z => absurd z (Nat.not_lt_zero _)⟩⟩⟩) 6 0 hv gr rfl (fun t ht => absurd ht (Nat.not_lt_zero t))⟩
  · obtain ⟨k1, k2⟩ := k
    rw [k1, ss_DD_tot]
    refine H hv gr fun t ht => ?_
    obtain ⟨g1, g2, g3⟩ := k2 t ht
    refine ⟨by rw [g1, ss_H_tot], g2, fun d hd => g3 d hd (by omega)⟩
  · rw [(h t ht).1]; rfl
  · rw [(h t ht).2]; exact Nat.zero_le _
end
end
section
/-! X: orderTerms, bar -/
theorem ss_mm {a : Nat} (h : 0 < a) : nI a + (-1) = nI (a - 1) := by
  obtain ⟨c, rfl⟩ : ∃ c, a = c + 1 := ⟨a - 1, by omega⟩
  exact pk_m1 c
/-- the m first places of to hold the terms below t that are in the set, each once -/
def ss_O (bt : Nat → Bool) (t m : Nat) (to : Nat → Nat) : Prop := m ≤ t ∧ (∀ j, j < m → to j < 6) ∧ ∀ f : Nat → Nat, ss_sm (fun j => f (to j)) m = ss_sm (fun t' => if bt t' = true then f t' else 0) t
/-- the same with a hole at a -/
def ss_Oh (bt : Nat → Bool) (t m a : Nat) (to : Nat → Nat) : Prop := m ≤ t ∧ (∀ j, j < m + 1 → j ≠ a → to j < 6) ∧ ∀ f : Nat → Nat, ss_hole f to a (m + 1) = ss_sm (fun t' => if bt t' = true then f t' else 0) t
theorem ss_O_hole {bt : Nat → Bool} {t m : Nat} {to : Nat → Nat} (h : ss_O bt t m to) : ss_Oh bt t m m to := by
  obtain ⟨h1, h2, h3⟩ := h
  refine ⟨h1, fun j hj hn => h2 j (by omega), fun f => ?_⟩
  rw [ss_hole_end]
  exact h3 f
theorem ss_Oh_put {bt : Nat → Bool} {t m a : Nat} {to : Nat → Nat} (h : ss_Oh bt t m a to) (ht : t < 6) (hb : bt t = true) (ha : a ≤ m) : ss_O bt (t + 1) (m + 1) (ss_u to a t) := by
  obtain ⟨h1, h2, h3⟩ := h
  refine ⟨by omega, fun j hj => ?_, fun f => ?_⟩
  · by_cases c : j = a
    · rw [c, ss_us]; exact ht
    · rw [ss_un to _ c]; exact h2 j hj c
  · rw [ss_hole_put f to t (by omega), h3 f]
    show _ = ss_sm _ t + (if bt t = true then f t else 0)
    rw [if_pos hb]
theorem ss_Oh_shift {bt : Nat → Bool} {t m a : Nat} {to : Nat → Nat} (h : ss_Oh bt t m a to) (h0 : 0 < a) (ha : a ≤ m) : ss_Oh bt t m (a - 1) (ss_u to a (to (a - 1))) := by
  obtain ⟨h1, h2, h3⟩ := h
  refine ⟨h1, fun j hj hn => ?_, fun f => ?_⟩
  · by_cases c : j = a
    · rw [c, ss_us]; exact h2 (a - 1) (by omega) (by omega)
    · rw [ss_un to _ c]; exact h2 j hj c
  · rw [ss_hole_shift f to h0 (by omega)]
    exact h3 f
theorem ss_O_skip {bt : Nat → Bool} {t m : Nat} {to : Nat → Nat} (h : ss_O bt t m to) (hb : ¬ bt t = true) : ss_O bt (t + 1) m to := by
  obtain ⟨h1, h2, h3⟩ := h
  refine ⟨by omega, h2, fun f => ?_⟩
  rw [h3 f]
  show _ = ss_sm _ t + (if bt t = true then f t else 0)
  rw [if_neg hb]
  rfl
section
variable {uD uT uK : Int32} {uRun uLp uRp uLe uRe uEx uCt uSe uPo uPd uPc uHv uGr uTo uSc uHd uHs : Nat → Int32} {hv gr to : Nat → Nat} {dd t m : Nat} {post : SX → Prop} {x y : Int32}
theorem xs_o75 {J : Int32 → Int32 → (Nat → Int32) → (Nat → Int32) → (Nat → Int32) → (Nat → Int32) → (Nat → Int32) → (Nat → Int32) → (Nat → Int32) → (Nat → Int32) → (Nat → Int32) → (Nat → Int32) → (Nat → Int32) → (Nat → Int32) → (Nat → Int32) → (Nat → Int32) → (Nat → Int32) → (Nat → Int32) → (Nat → Int32) → Prop} {a : Nat} {bt : Nat → Bool} (ht : t < 6) (hb : bt t = true) (ha : a ≤ m) (h : ss_Oh bt t m a to) (H : ∀ to, ss_O bt (t + 1) (m + 1) to → J (nI (t + 1)) (nI (m + 1)) uRun uLp uRp uLe uRe uEx uCt uSe uPo uPd uPc (ss_A hv) (ss_A gr) (ss_A to) uSc uHd uHs) : wX_orderTerms_75 post J x (nI t) (nI a) (nI dd) (nI m) uK uRun uLp uRp uLe uRe uEx uCt uSe uPo uPd uPc (ss_A hv) (ss_A gr) (ss_A to) uSc uHd uHs := by
  have := h.1
  simp (disch := omega) only [wX_orderTerms_75, ss_m3, ss_m6, ss_m36, ss_16m, nI_add, ss_p1, ss_p3, ss_d3, ss_r3', ss_in, ss_30, ss_cl, ss_ap, ss_upd, ss_upd0, ss_nb1, ss_nb0, forall_eq, true_and, not_false_eq_true]
  exact H _ (ss_Oh_put h ht hb ha)
theorem xs_o34 {J : Int32 → Int32 → (Nat → Int32) → (Nat → Int32) → (Nat → Int32) → (Nat → Int32) → (Nat → Int32) → (Nat → Int32) → (Nat → Int32) → (Nat → Int32) → (Nat → Int32) → (Nat → Int32) → (Nat → Int32) → (Nat → Int32) → (Nat → Int32) → (Nat → Int32) → (Nat → Int32) → (Nat → Int32) → (Nat → Int32) → Prop} {bt : Nat → Bool} (ht : t < 6) (hb : bt t = true) (hd : dd ≤ 18) (hh : ∀ t, t < 6 → hv t ≤ 18) (H : ∀ to, ss_O bt (t + 1) (m + 1) to → J (nI (t + 1)) (nI (m + 1)) uRun uLp uRp uLe uRe uEx uCt uSe uPo uPd uPc (ss_A hv) (ss_A gr) (ss_A to) uSc uHd uHs) : ∀ a to, a ≤ m → ss_Oh bt t m a to → wX_orderTerms_34 post J x (nI t) y (nI dd) (nI m) uK (a + 1) (nI a) uRun uLp uRp uLe uRe uEx uCt uSe uPo uPd uPc (ss_A hv) (ss_A gr) (ss_A to) uSc uHd uHs := by
  intro a
  induction a with
  | zero =>
    intro to ha h
    rw [wX_orderTerms_34]
    exact br_t (by decide) (xs_o75 ht hb ha h H)
  | succ a ih =>
    intro to ha h
    have h1 := h.1
    have h2 := h.2.1 a (by omega) (by omega)
    rw [wX_orderTerms_34]
    refine br_f (nI_nle (by omega) (by omega)) ?_
    simp (disch := omega) only [ss_s1, ss_mm, ss_m3, ss_m6, ss_m36, ss_16m, nI_add, ss_p1, ss_p3, ss_d3, ss_r3', ss_in, ss_30, ss_cl, ss_ap, ss_upd, ss_upd0, ss_nb1, ss_nb0, forall_eq, true_and, not_false_eq_true]
    have e : a + 1 - 1 = a := by omega
    rw [e]
    refine xs_less h2 hd (hh _ h2) (br_t rfl (xs_o75 ht hb ha h H)) (br_f (by decide) ?_)
    have k := ss_Oh_shift h (Nat.succ_pos a) ha
    rw [e] at k
    exact ih _ (by omega) k
theorem xs_o7 (hd : dd ≤ 18) (hh : ∀ t, t < 6 → hv t ≤ 18) (H : ∀ m to, ss_O (ss_bt x) 6 m to → post ((nI dd), (nI m), uK, uRun, uLp, uRp, uLe, uRe, uEx, uCt, uSe, uPo, uPd, uPc, (ss_A hv), (ss_A gr), (ss_A to), uSc, uHd, uHs)) : ∀ d t m to, t + d = 6 → ss_O (ss_bt x) t m to → wX_orderTerms_7 post x (nI dd) uK (d + 1) (nI t) (nI m) uRun uLp uRp uLe uRe uEx uCt uSe uPo uPd uPc (ss_A hv) (ss_A gr) (ss_A to) uSc uHd uHs := by
  intro d
  induction d with
  | zero =>
    intro t m to ht h
    obtain rfl : t = 6 := by omega
    rw [wX_orderTerms_7]
    exact br_t (by decide) (H m to h)
  | succ d ih =>
    intro t m to ht h
    rw [wX_orderTerms_7]
    refine br_f (nI_ge (b := 6) (by omega) (by decide)) ?_
    simp (disch := omega) only [ss_bt1, ss_m3, ss_m6, ss_m36, ss_16m, nI_add, ss_p1, ss_p3, ss_d3, ss_r3', ss_in, ss_30, ss_cl, ss_ap, ss_upd, ss_upd0, ss_nb1, ss_nb0, forall_eq, true_and, not_false_eq_true]
    refine br_c (fun c => xs_most (by omega) hd (hh t (by omega)) ⟨m + 1, xs_o34 (by omega) c hd hh (fun to k => ih (t + 1) (m + 1) to (by omega) k) m to (Nat.le_refl m) (ss_O_hole h)⟩) (fun c => ih (t + 1) m to (by omega) (ss_O_skip h c))
theorem xs_order (hd : dd ≤ 18) (hh : ∀ t, t < 6 → hv t ≤ 18) (H : ∀ m to, ss_O (ss_bt x) 6 m to → post ((nI dd), (nI m), uK, uRun, uLp, uRp, uLe, uRe, uEx, uCt, uSe, uPo, uPd, uPc, (ss_A hv), (ss_A gr), (ss_A to), uSc, uHd, uHs)) : wpX_orderTerms post ((nI dd), uT, uK, uRun, uLp, uRp, uLe, uRe, uEx, uCt, uSe, uPo, uPd, uPc, (ss_A hv), (ss_A gr), (ss_A to), uSc, uHd, uHs) x := by
  unfold wpX_orderTerms
  exact ⟨7, xs_o7 hd hh H 6 0 0 to rfl ⟨Nat.le_refl 0, fun j hj => absurd hj (Nat.not_lt_zero j), fun f => rfl⟩⟩
end
section
variable {uD uT uK : Int32} {uRun uLp uRp uLe uRe uEx uCt uSe uPo uPd uPc uHv uGr uTo uSc uHd uHs : Nat → Int32} {z : Nat → Nat} {post : Int32 → Prop} {k d : Nat}
theorem ss_gt_s (z : Nat → Nat) (v e : Nat) : ss_gt z v (e + 1) = ss_gt z v e + (if v < z e then 1 else 0) := rfl
theorem ss_ec_s (z : Nat → Nat) (v e : Nat) : ss_ec z v (e + 1) = ss_ec z v e + (if z e = v then 1 else 0) := rfl
theorem ss_gt_le (z : Nat → Nat) (v e : Nat) : ss_gt z v e ≤ e := ss_one_le e (fun _ _ => ss_ite1 _)
theorem ss_ec_le (z : Nat → Nat) (v e : Nat) : ss_ec z v e ≤ e := ss_one_le e (fun _ _ => ss_ite1 _)
theorem xs_b16 {J : Int32 → Prop} (hd : d < 16) (hk : k ≤ 16) (hz : ∀ e, e < 16 → z e ≤ 100000) (Hj : ¬ (ss_gt z (z d) 16 < k ∧ k ≤ ss_gt z (z d) 16 + ss_ec z (z d) 16) → J (nI (d + 1))) (Hp : ss_gt z (z d) 16 < k ∧ k ≤ ss_gt z (z d) 16 + ss_ec z (z d) 16 → post (nI (z d))) : ∀ r e, e + r = 16 → wX_bar_16 post J (nI k) (nI d) uD uT uK uRun uLp uRp uLe uRe uEx uCt uSe uPo uPd uPc uHv uGr uTo (ss_A z) uHd uHs (r + 1) (nI (ss_gt z (z d) e)) (nI (ss_ec z (z d) e)) (nI e) := by
  have hzd := hz d hd
  intro r
  induction r with
  | zero =>
    intro e he
    obtain rfl : e = 16 := by omega
    have g1 := ss_gt_le z (z d) 16
    have g2 := ss_ec_le z (z d) 16
    rw [wX_bar_16]
    refine br_t (by decide) ?_
    simp (disch := omega) only [ss_le, ss_lt, ss_m3, ss_m6, ss_m36, ss_16m, nI_add, ss_p1, ss_p3, ss_d3, ss_r3', ss_in, ss_30, ss_cl, ss_ap, ss_upd, ss_upd0, ss_nb1, ss_nb0, forall_eq, true_and, not_false_eq_true]
    exact br_c (fun c => Hj (by omega)) (fun c => br_c (fun c2 => Hj (by omega)) (fun c2 => Hp (by omega)))
  | succ r ih =>
    intro e he
    have i1 := ih (e + 1) (by omega)
    have hze := hz e (by omega)
    rw [ss_gt_s, ss_ec_s] at i1
    rw [wX_bar_16]
    refine br_f (nI_ge (b := 16) (by omega) (by decide)) ?_
    simp (disch := omega) only [wX_bar_42, ss_le, ss_eq, ss_m3, ss_m6, ss_m36, ss_16m, nI_add, ss_p1, ss_p3, ss_d3, ss_r3', ss_in, ss_30, ss_cl, ss_ap, ss_upd, ss_upd0, ss_nb1, ss_nb0, forall_eq, true_and, not_false_eq_true]
    refine br_c (fun c => ?_) (fun c => ?_)
    · rw [if_neg (c := z d < z e) (by omega)] at i1
      refine br_c (fun c2 => ?_) (fun c2 => ?_)
      · rw [if_pos c2] at i1; exact i1
      · rw [if_neg c2] at i1; exact i1
    · rw [if_pos (c := z d < z e) (by omega)] at i1
      refine br_c (fun c2 => ?_) (fun c2 => ?_)
      · rw [if_pos c2] at i1; exact i1
      · rw [if_neg c2] at i1; exact i1
theorem xs_b2 (h0 : 0 < k) (hk : k ≤ 16) (hz : ∀ e, e < 16 → z e ≤ 100000) (H : ∀ v, v ≤ 100000 → (∀ a, a < v ↔ k ≤ ss_gt z a 16) → post (nI v)) : ∀ r d, d + r = 16 → (∀ e, e < d → ¬ (ss_gt z (z e) 16 < k ∧ k ≤ ss_gt z (z e) 16 + ss_ec z (z e) 16)) → wX_bar_2 post (nI k) uD uT uK uRun uLp uRp uLe uRe uEx uCt uSe uPo uPd uPc uHv uGr uTo (ss_A z) uHd uHs (r + 1) (nI d) := by
  intro r
  induction r with
  | zero =>
    intro d hd h
    obtain rfl : d = 16 := by omega
    exact absurd h (fun h => ss_bar2 h0 hk hz h)
  | succ r ih =>
    intro d hd h
    rw [wX_bar_2]
    refine br_f (nI_ge (b := 16) (by omega) (by decide)) ⟨17, xs_b16 (by omega) hk hz (fun c => ih (d + 1) (by omega) (fun e he => ?_)) (fun c => H (z d) (hz d (by omega)) (ss_bar1 c.1 c.2)) 16 0 rfl⟩
    by_cases e1 : e = d
    · rw [e1]; exact c
    · exact h e (by omega)
theorem xs_bar (h0 : 0 < k) (hk : k ≤ 16) (hz : ∀ e, e < 16 → z e ≤ 100000) (H : ∀ v, v ≤ 100000 → (∀ a, a < v ↔ k ≤ ss_gt z a 16) → post (nI v)) : wpX_bar post (uD, uT, uK, uRun, uLp, uRp, uLe, uRe, uEx, uCt, uSe, uPo, uPd, uPc, uHv, uGr, uTo, (ss_A z), uHd, uHs) (nI k) := by
  unfold wpX_bar
  exact ⟨17, xs_b2 h0 hk hz H 16 0 rfl (fun e he => absurd he (Nat.not_lt_zero e))⟩
end
end
section
/-! X: scoreTerm, scoreAll -/
theorem ss_u_self (f : Nat → Nat) (k : Nat) : ss_u f k (f k) = f := by
  funext j
  by_cases c : j = k
  · rw [c, ss_us]
  · rw [ss_un f _ c]
theorem ss_bump_eq {fr d : Nat} {x y w w' : Nat → Nat} (hx : x d = y d) (hw : w d = w' d) : ss_bump fr x w d = ss_bump fr y w' d := by
  unfold ss_bump
  rw [hx, hw]
theorem ss_bump_0 {fr d : Nat} {x w : Nat → Nat} (hw : w d = 0) : ss_bump fr x w d = x d := by
  unfold ss_bump
  rw [hw]
  by_cases c : fr ≠ 0 ∨ 0 < x d
  · rw [if_pos c]; rfl
  · rw [if_neg c]
theorem ss_bump_bd (fr : Nat) (x w : Nat → Nat) (d : Nat) : ss_bump fr x w d ≤ x d + w d := by
  unfold ss_bump
  by_cases c : fr ≠ 0 ∨ 0 < x d
  · rw [if_pos c]; exact Nat.le_refl _
  · rw [if_neg c]; exact Nat.le_add_right _ _
def ss_fo (s fr : Nat) (w x : Nat → Nat) (l : Nat) : Nat → Nat := ss_u x (l * 3 + s) (ss_bump fr x w (l * 3 + s))
theorem ss_fold {s fr : Nat} (hs : s < 3) (q : Nat → Bool) (w x : Nat → Nat) : ∀ n d : Nat, (ss_li q n).foldl (ss_fo s fr w) x d = if d % 3 = s ∧ d / 3 < n ∧ q (d / 3) = true then ss_bump fr x w d else x d := by
  intro n
  induction n with
  | zero =>
    intro d
    rw [if_neg (fun z => absurd z.2.1 (Nat.not_lt_zero _))]
    rfl
  | succ n ih =>
    intro d
    cases c : q n with
    | true =>
      rw [ss_li_t c, List.foldl_append]
      show ss_u ((ss_li q n).foldl (ss_fo s fr w) x) (n * 3 + s) (ss_bump fr ((ss_li q n).foldl (ss_fo s fr w) x) w (n * 3 + s)) d = _
      by_cases e : d = n * 3 + s
      · have h1 : d / 3 = n := by omega
        have h2 : d % 3 = s := by omega
        rw [← e, ss_us, if_pos ⟨h2, by omega, by rw [h1]; exact c⟩]
        refine ss_bump_eq ?_ rfl
        rw [ih d, if_neg (by omega)]
      · rw [ss_un _ _ e, ih d]
        by_cases k : d % 3 = s ∧ d / 3 < n ∧ q (d / 3) = true
        · rw [if_pos k, if_pos ⟨k.1, by omega, k.2.2⟩]
        · rw [if_neg k, if_neg (fun z => k ⟨z.1, by omega, z.2.2⟩)]
    | false =>
      rw [ss_li_f c, ih d]
      by_cases k : d % 3 = s ∧ d / 3 < n ∧ q (d / 3) = true
      · rw [if_pos k, if_pos ⟨k.1, by omega, k.2.2⟩]
      · have k' : ¬ (d % 3 = s ∧ d / 3 < n + 1 ∧ q (d / 3) = true) := by
          intro z
          by_cases e : d / 3 = n
          · have := z.2.2
            rw [e, c] at this
            exact absurd this (by decide)
          · exact k ⟨z.1, by omega, z.2.2⟩
        rw [if_neg k, if_neg k']
section
variable {uD uT uK : Int32} {uRun uLp uRp uLe uRe uEx uCt uSe uPo uPd uPc uHv uGr uTo uSc uHd uHs : Nat → Int32} {run lp rp le re se po pd pc hv gr to sh sc dn st : Nat → Nat} {dd a t m fr W s k : Nat} {post : SX → Prop}
theorem xs_s10 {z : Nat → Nat} (ha : a < 6) (ht : t < 6) (hm : a % 3 = s) (hfr : fr ≤ 1) (hW : W ≤ 256) (hsc : ∀ j, sc j ≤ 9) (hP : ss_P se po pd pc sh sc a) (H : post (uD, uT, uK, uRun, uLp, uRp, uLe, uRe, uEx, uCt, uSe, (ss_A po), (ss_A pd), (ss_A pc), uHv, uGr, uTo, (ss_A z), uHd, uHs)) : ∀ (R P : List Nat) (x : Nat → Nat), ss_li (ss_q sh sc s t) 6 = P ++ R → R.foldl (ss_fo s fr (fun d => sc (d * 6 + t) * W)) x = z → (∀ d, d < 16 → x d ≤ 100000 + P.length * 2304) → wX_scoreTerm_10 post (nI a) (nI t) (nI fr) (nI W) uD uT uK (R.length + 1) (nI P.length) uRun uLp uRp uLe uRe uEx uCt uSe (ss_A po) (ss_A pd) (ss_A pc) uHv uGr uTo (ss_A x) uHd uHs := by
  obtain ⟨q1, q2⟩ := hP.2 t ht
  rw [hm] at q1 q2
  have hlen := ss_li_len (ss_q sh sc s t) 6
  intro R
  induction R with
  | nil =>
    intro P x hL hz hx
    rw [List.append_nil] at hL
    rw [hL] at q1 hlen
    rw [show x = z from hz]
    show wX_scoreTerm_10 post (nI a) (nI t) (nI fr) (nI W) uD uT uK (0 + 1) (nI P.length) uRun uLp uRp uLe uRe uEx uCt uSe (ss_A po) (ss_A pd) (ss_A pc) uHv uGr uTo (ss_A z) uHd uHs
    rw [wX_scoreTerm_10]
    simp (disch := omega) only [ss_m3, ss_m6, ss_m36, ss_16m, nI_add, ss_p1, ss_p3, ss_d3, ss_r3', ss_in, ss_30, ss_cl, ss_ap, ss_upd, ss_upd0, ss_nb1, ss_nb0, forall_eq, true_and, not_false_eq_true]
    rw [q1]
    exact br_t (nI_le (Nat.le_refl _) (by omega)) H
  | cons l R ih =>
    intro P x hL hz hx
    have hPl : P.length < (ss_li (ss_q sh sc s t) 6).length := by
      rw [hL, List.length_append]
      show P.length < P.length + (R.length + 1)
      omega
    have hgd : (ss_li (ss_q sh sc s t) 6).getD P.length 0 = l := by
      rw [hL, List.getD_eq_getElem?_getD, List.getElem?_append_right (Nat.le_refl _), Nat.sub_self]
      rfl
    have e := q2 P.length hPl
    obtain ⟨g1, g2⟩ := ss_li_get 6 P.length hPl
    rw [hgd] at e g1 g2
    obtain ⟨e1, e2⟩ := e
    have g3 := of_decide_eq_true g2
    have hd16 := g3.1
    have hxd := hx (l * 3 + s) hd16
    have hb : sc ((l * 3 + s) * 6 + t) * W ≤ 9 * 256 := Nat.mul_le_mul (hsc _) hW
    have hL' : ss_li (ss_q sh sc s t) 6 = (P ++ [l]) ++ R := by
      rw [List.append_assoc]
      exact hL
    have nxt := ih (P ++ [l]) (ss_fo s fr (fun d => sc (d * 6 + t) * W) x l) hL' hz (fun d hd => by
      rw [ss_len1]
      have h1 := hx d hd
      unfold ss_fo
      by_cases c : d = l * 3 + s
      · have h2 := ss_bump_bd fr x (fun d => sc (d * 6 + t) * W) (l * 3 + s)
        rw [c, ss_us]
        omega
      · rw [ss_un x _ c]
        omega)
    rw [ss_len1] at nxt
    show wX_scoreTerm_10 post (nI a) (nI t) (nI fr) (nI W) uD uT uK ((R.length + 1) + 1) (nI P.length) uRun uLp uRp uLe uRe uEx uCt uSe (ss_A po) (ss_A pd) (ss_A pc) uHv uGr uTo (ss_A x) uHd uHs
    rw [wX_scoreTerm_10]
    simp (disch := omega) only [wX_scoreTerm_63, pk_mul, ss_eq0, ss_le0, e1, e2, ss_m3, ss_m6, ss_m36, ss_16m, nI_add, ss_p1, ss_p3, ss_d3, ss_r3', ss_in, ss_30, ss_cl, ss_ap, ss_upd, ss_upd0, ss_nb1, ss_nb0, forall_eq, true_and, not_false_eq_true]
    rw [q1, Nat.mul_comm W]
    have yes : (fr ≠ 0 ∨ 0 < x (l * 3 + s)) → wX_scoreTerm_10 post (nI a) (nI t) (nI fr) (nI W) uD uT uK (R.length + 1) (nI (P.length + 1)) uRun uLp uRp uLe uRe uEx uCt uSe (ss_A po) (ss_A pd) (ss_A pc) uHv uGr uTo (ss_A (ss_u x (l * 3 + s) (x (l * 3 + s) + sc ((l * 3 + s) * 6 + t) * W))) uHd uHs := by
      intro c
      unfold ss_fo at nxt
      have eb : ss_bump fr x (fun d => sc (d * 6 + t) * W) (l * 3 + s) = x (l * 3 + s) + sc ((l * 3 + s) * 6 + t) * W := if_pos c
      rw [eb] at nxt
      exact nxt
    refine br_f (nI_ge hPl (by omega)) (br_c (fun c => br_c (fun c2 => ?_) (fun c2 => yes (Or.inr (by omega)))) (fun c => yes (Or.inl c)))
    unfold ss_fo at nxt
    have eb : ss_bump fr x (fun d => sc (d * 6 + t) * W) (l * 3 + s) = x (l * 3 + s) := if_neg (by omega)
    rw [eb, ss_u_self] at nxt
    exact nxt
theorem xs_sT {x : Nat → Nat} (ha : a < 6) (ht : t < 6) (hm : a % 3 = s) (hfr : fr ≤ 1) (hd : dd ≤ 18) (hh : hv t ≤ 18) (hW : ss_wt dd hv t ≤ 256) (hsc : ∀ j, sc j ≤ 9) (hP : ss_P se po pd pc sh sc a) (hx : ∀ d, d < 16 → x d ≤ 100000) (H : post ((nI dd), uT, uK, uRun, uLp, uRp, uLe, uRe, uEx, uCt, uSe, (ss_A po), (ss_A pd), (ss_A pc), (ss_A hv), uGr, uTo, (ss_A ((ss_li (ss_q sh sc s t) 6).foldl (ss_fo s fr (fun d => sc (d * 6 + t) * ss_wt dd hv t)) x)), uHd, uHs)) : wpX_scoreTerm post ((nI dd), uT, uK, uRun, uLp, uRp, uLe, uRe, uEx, uCt, uSe, (ss_A po), (ss_A pd), (ss_A pc), (ss_A hv), uGr, uTo, (ss_A x), uHd, uHs) (nI a) (nI t) (nI fr) := by
  unfold wpX_scoreTerm
  exact xs_wt ht hd hh ⟨_, xs_s10 ha ht hm hfr hW hsc hP H (ss_li (ss_q sh sc s t) 6) [] x rfl rfl (fun d hd => by have := hx d hd; omega)⟩
/-- the scores behind s shards of a term -/
def ss_S3 (s fr : Nat) (x0 w x : Nat → Nat) : Prop := ∀ d, d < 16 → x d = if d % 3 < s then ss_bump fr x0 w d else x0 d
theorem ss_S3_skip {x0 x : Nat → Nat} (hs : s < 3) (hno : ¬ ss_yo dn st s) (h : ss_S3 s fr x0 (fun d => ss_c sh sc dn st d t * W) x) : ss_S3 (s + 1) fr x0 (fun d => ss_c sh sc dn st d t * W) x := by
  intro d hd
  rw [h d hd]
  by_cases c : d % 3 < s
  · rw [if_pos c, if_pos (by omega)]
  · rw [if_neg c]
    by_cases c2 : d % 3 = s
    · have e : ss_c sh sc dn st d t = 0 := if_neg (fun z => hno (by rw [← c2]; exact z.2))
      rw [if_pos (by omega)]
      refine (ss_bump_0 ?_).symm
      show ss_c sh sc dn st d t * W = 0
      rw [e, Nat.zero_mul]
    · rw [if_neg (by omega)]
theorem ss_S3_step {x0 x : Nat → Nat} (hs : s < 3) (hyo : ss_yo dn st s) (h : ss_S3 s fr x0 (fun d => ss_c sh sc dn st d t * W) x) : ss_S3 (s + 1) fr x0 (fun d => ss_c sh sc dn st d t * W) ((ss_li (ss_q sh sc s t) 6).foldl (ss_fo s fr (fun d => sc (d * 6 + t) * W)) x) := by
  intro d hd
  rw [ss_fold hs]
  have hx := h d hd
  by_cases c : d % 3 = s
  · rw [if_neg (by omega)] at hx
    rw [if_pos (c := d % 3 < s + 1) (by omega)]
    have ed : d / 3 * 3 + s = d := by omega
    by_cases q : ss_q sh sc s t (d / 3) = true
    · rw [if_pos ⟨c, by omega, q⟩]
      have q' := of_decide_eq_true q
      rw [ed] at q'
      refine ss_bump_eq hx ?_
      have e : ss_c sh sc dn st d t = sc (d * 6 + t) := if_pos ⟨q'.2.1, by rw [c]; exact hyo⟩
      show sc (d * 6 + t) * W = ss_c sh sc dn st d t * W
      rw [e]
    · rw [if_neg (fun z => q z.2.2), hx]
      refine (ss_bump_0 ?_).symm
      show ss_c sh sc dn st d t * W = 0
      have e : ss_c sh sc dn st d t = 0 := by
        unfold ss_c
        by_cases z : ss_pz sh dn st d
        · rw [if_pos z]
          by_cases y : sc (d * 6 + t) = 0
          · exact y
          · exact absurd (decide_eq_true (by rw [ed]; exact ⟨hd, z.1, y⟩)) q
        · exact if_neg z
      rw [e, Nat.zero_mul]
  · rw [if_neg (fun z => c z.1), hx]
    by_cases c2 : d % 3 < s
    · rw [if_pos c2, if_pos (by omega)]
    · rw [if_neg c2, if_neg (by omega)]
theorem ss_S3_bd {x0 x w : Nat → Nat} (h : ss_S3 s fr x0 w x) (hx : ∀ d, d < 16 → x0 d ≤ 20000) (hw : ∀ d, d < 16 → w d ≤ 2304) : ∀ d, d < 16 → x d ≤ 100000 := by
  intro d hd
  rw [h d hd]
  have h1 := hx d hd
  have h2 := hw d hd
  by_cases c : d % 3 < s
  · rw [if_pos c]
    have := ss_bump_bd fr x0 w d
    omega
  · rw [if_neg c]; omega
theorem xs_85 {J : Int32 → Int32 → Int32 → Int32 → Int32 → (Nat → Int32) → (Nat → Int32) → (Nat → Int32) → (Nat → Int32) → (Nat → Int32) → (Nat → Int32) → (Nat → Int32) → (Nat → Int32) → (Nat → Int32) → (Nat → Int32) → (Nat → Int32) → (Nat → Int32) → (Nat → Int32) → (Nat → Int32) → (Nat → Int32) → (Nat → Int32) → (Nat → Int32) → Prop} {x0 : Nat → Nat} {i ah : Nat} {y : Int32} (hrun : ∀ j, run j ≤ 1) (hlp : ∀ j, lp j < 5000) (hle : ∀ j, le j < 5000) (hsc : ∀ j, sc j ≤ 9) (hop : ∀ s, s < 3 → (ss_op run lp le s ↔ ss_yo dn st s)) (hP : ∀ n, n < 6 → ss_up run lp le n → ss_P se po pd pc sh sc n) (hi : i < 6) (hto : to i < 6) (hfr : fr ≤ 1) (hd : dd ≤ 18) (hh : hv (to i) ≤ 18) (hW : ss_wt dd hv (to i) ≤ 256) (hM : ss_wt dd hv (to i) * gr (to i) ≤ ah) (hx0 : ∀ d, d < 16 → x0 d ≤ 20000)
    (H : ∀ x, (∀ d, d < 16 → x d = ss_bump fr x0 (fun d => ss_c sh sc dn st d (to i) * ss_wt dd hv (to i)) d) → J (nI (ah - ss_wt dd hv (to i) * gr (to i))) (nI (i + 1)) (nI dd) (nI m) uK (ss_A run) (ss_A lp) uRp (ss_A le) uRe uEx uCt uSe (ss_A po) (ss_A pd) (ss_A pc) (ss_A hv) (ss_A gr) (ss_A to) (ss_A x) uHd uHs) : ∀ r s x, s + r = 3 → ss_S3 s fr x0 (fun d => ss_c sh sc dn st d (to i) * ss_wt dd hv (to i)) x → wX_scoreAll_85 post J y (nI ah) (nI i) (nI fr) (r + 1) (nI s) (nI dd) (nI m) uK (ss_A run) (ss_A lp) uRp (ss_A le) uRe uEx uCt uSe (ss_A po) (ss_A pd) (ss_A pc) (ss_A hv) (ss_A gr) (ss_A to) (ss_A x) uHd uHs := by
  have hcb : ∀ d, d < 16 → ss_c sh sc dn st d (to i) * ss_wt dd hv (to i) ≤ 2304 := by
    intro d _
    have h1 : ss_c sh sc dn st d (to i) ≤ 9 := by
      unfold ss_c
      by_cases z : ss_pz sh dn st d
      · rw [if_pos z]; exact hsc _
      · rw [if_neg z]; exact Nat.zero_le _
    exact Nat.mul_le_mul h1 hW
  intro r
  induction r with
  | zero =>
    intro s x hs h
    obtain rfl : s = 3 := by omega
    rw [wX_scoreAll_85]
    refine br_t (by decide) ?_
    simp (disch := omega) only [ss_m3, ss_m6, ss_m36, ss_16m, nI_add, ss_p1, ss_p3, ss_d3, ss_r3', ss_in, ss_30, ss_cl, ss_ap, ss_upd, ss_upd0, ss_nb1, ss_nb0, forall_eq, true_and, not_false_eq_true]
    refine xs_most hto hd hh ?_
    rw [pk_sub hM]
    refine H x fun d hd => ?_
    rw [h d hd, if_pos (by omega)]
  | succ r ih =>
    intro s x hs h
    rw [wX_scoreAll_85]
    refine br_f (nI_ge (b := 3) (by omega) (by decide)) ?_
    simp (disch := omega) only [ss_m3, ss_m6, ss_m36, ss_16m, nI_add, ss_p1, ss_p3, ss_d3, ss_r3', ss_in, ss_30, ss_cl, ss_ap, ss_upd, ss_upd0, ss_nb1, ss_nb0, forall_eq, true_and, not_false_eq_true]
    refine xs_srv (by omega) hrun hlp hle (fun a ha hm hup => br_f (nI_pos (by omega)) ?_) (fun hno => br_t (by decide) ?_)
    · have hyo : ss_yo dn st s := by
        refine (hop s (by omega)).mp ?_
        have : a = s ∨ a = s + 3 := by omega
        rcases this with rfl | rfl
        · exact Or.inl hup
        · exact Or.inr hup
      exact xs_sT ha hto hm hfr hd hh hW hsc (hP a ha hup) (ss_S3_bd h hx0 hcb) (ih (s + 1) _ (by omega) (ss_S3_step (by omega) hyo h))
    · exact ih (s + 1) x (by omega) (ss_S3_skip (by omega) (fun z => hno ((hop s (by omega)).mpr z)) h)
end
end
section
/-! X: scoreAll -/
theorem ss_sm_mono {f : Nat → Nat} {i : Nat} : ∀ m : Nat, i ≤ m → ss_sm f i ≤ ss_sm f m := by
  intro m
  induction m with
  | zero =>
    intro h
    obtain rfl : i = 0 := by omega
    exact Nat.le_refl _
  | succ m ih =>
    intro h
    by_cases e : i = m + 1
    · rw [e]; exact Nat.le_refl _
    · have := ih (by omega)
      show _ ≤ ss_sm f m + f m
      omega
theorem ss_gt_congr {x y : Nat → Nat} {v : Nat} (n : Nat) (h : ∀ d, d < n → x d = y d) : ss_gt x v n = ss_gt y v n := by
  refine ss_sm_congr n fun d hd => ?_
  show (if v < x d then 1 else 0) = (if v < y d then 1 else 0)
  rw [h d hd]
theorem ss_Q_congr {k ah : Nat} {x y p q S : Nat → Nat} (h : ∀ d, d < 16 → x d = y d) (hp : ∀ d, d < 16 → p d = q d) (Q : ss_Q k y q S ah) : ss_Q k x p S ah := by
  intro d hd
  rw [h d hd, hp d hd, ss_gt_congr 16 h, ss_gt_congr 16 h]
  exact Q d hd
section
variable {uD uT uK : Int32} {uRun uLp uRp uLe uRe uEx uCt uSe uPo uPd uPc uHv uGr uTo uSc uHd uHs : Nat → Int32} {run lp rp le re se po pd pc hv gr to sh sc dn st S : Nat → Nat} {dd m k : Nat} {post : SX → Prop}
/-- a document's score from the first i terms in order -/
def ss_p (c : Nat → Nat → Nat) (dd : Nat) (hv to : Nat → Nat) (i d : Nat) : Nat := ss_sm (fun j => c d (to j) * ss_wt dd hv (to j)) i
/-- what the first i terms in order can give -/
def ss_ah (dd : Nat) (hv gr to : Nat → Nat) (i : Nat) : Nat := ss_sm (fun j => ss_wt dd hv (to j) * gr (to j)) i
theorem xs_54 (hrun : ∀ j, run j ≤ 1) (hlp : ∀ j, lp j < 5000) (hle : ∀ j, le j < 5000) (hsc : ∀ j, sc j ≤ 9) (hop : ∀ s, s < 3 → (ss_op run lp le s ↔ ss_yo dn st s)) (hP : ∀ n, n < 6 → ss_up run lp le n → ss_P se po pd pc sh sc n) (hm : m ≤ 6) (hto : ∀ j, j < m → to j < 6) (hd : dd ≤ 18) (hh : ∀ t, t < 6 → hv t ≤ 18) (hW : ∀ t, t < 6 → ss_wt dd hv t ≤ 256) (hg : ∀ t, t < 6 → gr t ≤ 9 ∧ ∀ d, d < 16 → ss_c sh sc dn st d t ≤ gr t) (h0 : 0 < k) (hk : k ≤ 16)
    (H : ∀ x, ss_I k x (ss_p (ss_c sh sc dn st) dd hv to m) → (∀ d, d < 16 → x d ≤ 20000) → post ((nI dd), (nI m), uK, (ss_A run), (ss_A lp), uRp, (ss_A le), uRe, uEx, uCt, uSe, (ss_A po), (ss_A pd), (ss_A pc), (ss_A hv), (ss_A gr), (ss_A to), (ss_A x), uHd, uHs)) : ∀ r i ah x, i + r = m → ah + ss_ah dd hv gr to i = ss_ah dd hv gr to m → ss_Q k x (ss_p (ss_c sh sc dn st) dd hv to i) (ss_p (ss_c sh sc dn st) dd hv to m) ah → wX_scoreAll_54 post (nI k) (r + 1) (nI ah) (nI i) (nI dd) (nI m) uK (ss_A run) (ss_A lp) uRp (ss_A le) uRe uEx uCt uSe (ss_A po) (ss_A pd) (ss_A pc) (ss_A hv) (ss_A gr) (ss_A to) (ss_A x) uHd uHs := by
  have hwg : ∀ t, t < 6 → ss_wt dd hv t * gr t ≤ 2304 := fun t ht => Nat.mul_le_mul (hW t ht) (hg t ht).1
  have hcw : ∀ t, t < 6 → ∀ d, d < 16 → ss_c sh sc dn st d t * ss_wt dd hv t ≤ ss_wt dd hv t * gr t := by
    intro t ht d hd
    rw [Nat.mul_comm]
    exact Nat.mul_le_mul (Nat.le_refl _) ((hg t ht).2 d hd)
  have hpb : ∀ i, i ≤ m → ∀ d, d < 16 → ss_p (ss_c sh sc dn st) dd hv to i d ≤ 13824 := by
    intro i hi d hd
    have h1 := ss_sm_bd (f := fun j => ss_c sh sc dn st d (to j) * ss_wt dd hv (to j)) (b := 2304) i (fun j hj => Nat.le_trans (hcw _ (hto j (by omega)) d hd) (hwg _ (hto j (by omega))))
    have h2 : i * 2304 ≤ 6 * 2304 := Nat.mul_le_mul (by omega) (Nat.le_refl _)
    exact Nat.le_trans h1 h2
  have hxb : ∀ i, i ≤ m → ∀ x ah, ss_Q k x (ss_p (ss_c sh sc dn st) dd hv to i) (ss_p (ss_c sh sc dn st) dd hv to m) ah → ∀ d, d < 16 → x d ≤ 13824 := by
    intro i hi x ah Q d hd
    have h1 := hpb i hi d hd
    rcases Q d hd with e | ⟨e, _⟩ <;> omega
  have hab : ∀ i, i ≤ m → ss_ah dd hv gr to i ≤ 13824 := by
    intro i hi
    have h1 := ss_sm_bd (f := fun j => ss_wt dd hv (to j) * gr (to j)) (b := 2304) i (fun j hj => hwg _ (hto j (by omega)))
    have h2 : i * 2304 ≤ 6 * 2304 := Nat.mul_le_mul (by omega) (Nat.le_refl _)
    exact Nat.le_trans h1 h2
  intro r
  induction r with
  | zero =>
    intro i ah x hi ha Q
    obtain rfl : i = m := by omega
    rw [wX_scoreAll_54]
    refine br_t (nI_le (Nat.le_refl _) (by omega)) (H x (fun d hd => ?_) (fun d hd => by have := hxb i (Nat.le_refl _) x ah Q d hd; omega))
    rcases Q d hd with e | ⟨e, h1, _⟩
    · exact Or.inl e
    · exact Or.inr ⟨e, h1⟩
  | succ r ih =>
    intro i ah x hi ha Q
    have hti := hto i (by omega)
    have hx := hxb i (by omega) x ah Q
    have hA := hab m (Nat.le_refl m)
    have hM : ss_wt dd hv (to i) * gr (to i) ≤ ah := by
      have h1 := ss_sm_mono (f := fun j => ss_wt dd hv (to j) * gr (to j)) (i := i + 1) m (by omega)
      have h2 : ss_sm (fun j => ss_wt dd hv (to j) * gr (to j)) (i + 1) = ss_ah dd hv gr to i + ss_wt dd hv (to i) * gr (to i) := rfl
      have h3 : ss_sm (fun j => ss_wt dd hv (to j) * gr (to j)) m = ss_ah dd hv gr to m := rfl
      omega
    have ha' : ah - ss_wt dd hv (to i) * gr (to i) + ss_ah dd hv gr to (i + 1) = ss_ah dd hv gr to m := by
      have h2 : ss_ah dd hv gr to (i + 1) = ss_ah dd hv gr to i + ss_wt dd hv (to i) * gr (to i) := rfl
      omega
    have hS : ∀ d, d < 16 → ss_p (ss_c sh sc dn st) dd hv to m d ≤ ss_p (ss_c sh sc dn st) dd hv to i d + ah := by
      intro d hd
      have h1 := ss_sm_rest (f := fun j => ss_c sh sc dn st d (to j) * ss_wt dd hv (to j)) (g := fun j => ss_wt dd hv (to j) * gr (to j)) (i := i) m (by omega) (fun j hj => hcw _ (hto j hj) d hd)
      unfold ss_p
      unfold ss_ah at ha
      omega
    have nxt : ∀ fr, fr ≤ 1 → (fr = 0 ↔ k ≤ ss_gt x ah 16) → ∃ n, wX_scoreAll_85 post (wX_scoreAll_54 post (nI k) (r + 1)) (nI k) (nI ah) (nI i) (nI fr) n (nI 0) (nI dd) (nI m) uK (ss_A run) (ss_A lp) uRp (ss_A le) uRe uEx uCt uSe (ss_A po) (ss_A pd) (ss_A pc) (ss_A hv) (ss_A gr) (ss_A to) (ss_A x) uHd uHs := by
      intro fr hfr hf
      have Q' := ss_Q_step (w := fun d => ss_c sh sc dn st d (to i) * ss_wt dd hv (to i)) Q hf hM hS
      refine ⟨4, xs_85 hrun hlp hle hsc hop hP (by omega) hti hfr hd (hh _ hti) (hW _ hti) hM (fun d hd => by have := hx d hd; omega) (fun x' hx' => ih (i + 1) _ x' (by omega) ha' (ss_Q_congr hx' (fun d _ => rfl) Q')) 3 0 x rfl (fun d hd => ?_)⟩
      rw [if_neg (Nat.not_lt_zero _)]
    rw [wX_scoreAll_54]
    refine br_f (nI_ge (by omega) (by omega)) (xs_bar h0 hk (fun e he => by have := hx e he; omega) (fun v hv1 hbar => ?_))
    refine br_c (fun c => nxt 0 (by omega) ?_) (fun c => nxt 1 (by omega) ?_)
    · rw [ss_lt (by omega) (by omega)] at c
      exact ⟨fun _ => (hbar ah).mp c, fun _ => rfl⟩
    · rw [ss_lt (by omega) (by omega)] at c
      exact ⟨fun z => absurd z (by decide), fun z => absurd ((hbar ah).mpr z) c⟩
theorem xs_33 {y ah : Int32} (H : ∀ x, (∀ d, d < 16 → x d = 0) → ∃ n, wX_scoreAll_54 post y n ah 0 uD uT uK uRun uLp uRp uLe uRe uEx uCt uSe uPo uPd uPc uHv uGr uTo (ss_A x) uHd uHs) : ∀ r i x, i + r = 16 → (∀ d, d < i → x d = 0) → wX_scoreAll_33 post y ah uD uT uK (r + 1) (nI i) uRun uLp uRp uLe uRe uEx uCt uSe uPo uPd uPc uHv uGr uTo (ss_A x) uHd uHs := by
  intro r
  induction r with
  | zero =>
    intro i x hi h
    obtain rfl : i = 16 := by omega
    rw [wX_scoreAll_33]
    exact br_t (by decide) (H x h)
  | succ r ih =>
    intro i x hi h
    rw [wX_scoreAll_33]
    refine br_f (nI_ge (b := 16) (by omega) (by decide)) ?_
    simp (disch := omega) only [ss_m3, ss_m6, ss_m36, ss_16m, nI_add, ss_p1, ss_p3, ss_d3, ss_r3', ss_in, ss_30, ss_cl, ss_ap, ss_upd, ss_upd0, ss_nb1, ss_nb0, forall_eq, true_and, not_false_eq_true]
    refine ih (i + 1) _ (by omega) (fun d hd => ?_)
    by_cases c : d = i
    · rw [c, ss_us]
    · rw [ss_un x _ c]; exact h d (by omega)
theorem xs_4 {y : Int32} (hm : m ≤ 6) (hto : ∀ j, j < m → to j < 6) (hd : dd ≤ 18) (hh : ∀ t, t < 6 → hv t ≤ 18) (H : ∃ n, wX_scoreAll_33 post y (nI (ss_ah dd hv gr to m)) (nI dd) (nI m) uK n 0 uRun uLp uRp uLe uRe uEx uCt uSe uPo uPd uPc (ss_A hv) (ss_A gr) (ss_A to) uSc uHd uHs) : ∀ r i, i + r = m → wX_scoreAll_4 post y (nI dd) (nI m) uK uRun uLp uRp uLe uRe uEx uCt uSe uPo uPd uPc (ss_A hv) (ss_A gr) (ss_A to) uSc uHd uHs (r + 1) (nI (ss_ah dd hv gr to i)) (nI i) := by
  intro r
  induction r with
  | zero =>
    intro i hi
    obtain rfl : i = m := by omega
    rw [wX_scoreAll_4]
    exact br_t (nI_le (Nat.le_refl _) (by omega)) H
  | succ r ih =>
    intro i hi
    have hti := hto i (by omega)
    have e := ih (i + 1) (by omega)
    have es : ss_ah dd hv gr to (i + 1) = ss_ah dd hv gr to i + ss_wt dd hv (to i) * gr (to i) := rfl
    rw [es] at e
    rw [wX_scoreAll_4]
    refine br_f (nI_ge (by omega) (by omega)) ?_
    simp (disch := omega) only [ss_m3, ss_m6, ss_m36, ss_16m, nI_add, ss_p1, ss_p3, ss_d3, ss_r3', ss_in, ss_30, ss_cl, ss_ap, ss_upd, ss_upd0, ss_nb1, ss_nb0, forall_eq, true_and, not_false_eq_true]
    refine xs_most hti hd (hh _ hti) ?_
    rw [nI_add]
    exact e
theorem xs_scoreAll {x : Nat → Nat} (hrun : ∀ j, run j ≤ 1) (hlp : ∀ j, lp j < 5000) (hle : ∀ j, le j < 5000) (hsc : ∀ j, sc j ≤ 9) (hop : ∀ s, s < 3 → (ss_op run lp le s ↔ ss_yo dn st s)) (hP : ∀ n, n < 6 → ss_up run lp le n → ss_P se po pd pc sh sc n) (hm : m ≤ 6) (hto : ∀ j, j < m → to j < 6) (hd : dd ≤ 18) (hh : ∀ t, t < 6 → hv t ≤ 18) (hW : ∀ t, t < 6 → ss_wt dd hv t ≤ 256) (hg : ∀ t, t < 6 → gr t ≤ 9 ∧ ∀ d, d < 16 → ss_c sh sc dn st d t ≤ gr t) (h0 : 0 < k) (hk : k ≤ 16)
    (H : ∀ x, ss_I k x (ss_p (ss_c sh sc dn st) dd hv to m) → (∀ d, d < 16 → x d ≤ 20000) → post ((nI dd), (nI m), uK, (ss_A run), (ss_A lp), uRp, (ss_A le), uRe, uEx, uCt, uSe, (ss_A po), (ss_A pd), (ss_A pc), (ss_A hv), (ss_A gr), (ss_A to), (ss_A x), uHd, uHs)) : wpX_scoreAll post ((nI dd), (nI m), uK, (ss_A run), (ss_A lp), uRp, (ss_A le), uRe, uEx, uCt, uSe, (ss_A po), (ss_A pd), (ss_A pc), (ss_A hv), (ss_A gr), (ss_A to), (ss_A x), uHd, uHs) (nI k) := by
  unfold wpX_scoreAll
  refine ⟨m + 1, xs_4 hm hto hd hh ⟨17, xs_33 (fun x hx => ⟨m + 1, xs_54 hrun hlp hle hsc hop hP hm hto hd hh hW hg h0 hk H m 0 (ss_ah dd hv gr to m) x (Nat.zero_add m) rfl (fun d hd => Or.inl ?_)⟩) 16 0 x rfl (fun d hd => absurd hd (Nat.not_lt_zero d))⟩ m 0 (Nat.zero_add m)⟩
  rw [hx d hd]
  rfl
end
end
section
/-! X: keepBest; both: the picks in lockstep -/
def ss_vl (x : Nat → Nat) : Nat → Nat
  | 0 => 0
  | j + 1 => x j
section
variable {uD uT uK : Int32} {uRun uLp uRp uLe uRe uEx uCt uSe uPo uPd uPc uHv uGr uTo uSc uHd uHs : Nat → Int32} {kp : Nat} {x hd hs : Nat → Nat} {post : SX → Prop}
theorem xs_kb4 (hkp : kp < 16) (hx : ∀ d, d < 16 → x d ≤ 100000) (Inv : Nat → Nat → Prop) (hI : ∀ i l, i < 16 → Inv i l → l ≤ 16 ∧ (x i ≤ ss_vl x l → Inv (i + 1) l) ∧ (ss_vl x l < x i → Inv (i + 1) (i + 1))) (H0 : Inv 16 0 → post (uD, uT, (nI kp), uRun, uLp, uRp, uLe, uRe, uEx, uCt, uSe, uPo, uPd, uPc, uHv, uGr, uTo, (ss_A x), (ss_A hd), (ss_A hs))) (H1 : ∀ j, Inv 16 (j + 1) → j < 16 ∧ post (uD, uT, (nI (kp + 1)), uRun, uLp, uRp, uLe, uRe, uEx, uCt, uSe, uPo, uPd, uPc, uHv, uGr, uTo, (ss_A (ss_u x j 0)), (ss_A (ss_u hd kp j)), (ss_A (ss_u hs kp (x j))))) : ∀ r i l, i + r = 16 → Inv i l → wX_keepBest_4 post uD uT (nI kp) uRun uLp uRp uLe uRe uEx uCt uSe uPo uPd uPc uHv uGr uTo (ss_A x) (ss_A hd) (ss_A hs) (r + 1) (ss_lm l) (nI i) := by
  intro r
  induction r with
  | zero =>
    intro i l hi h
    obtain rfl : i = 16 := by omega
    rw [wX_keepBest_4]
    refine br_t (by decide) ?_
    cases l with
    | zero => exact br_f (by decide) (H0 h)
    | succ j =>
      obtain ⟨hj, k⟩ := H1 j h
      refine br_t (nI_pos' (by omega)) ?_
      simp (disch := omega) only [ss_lm, ss_m3, ss_m6, ss_m36, ss_16m, nI_add, ss_p1, ss_p3, ss_d3, ss_r3', ss_in, ss_30, ss_cl, ss_ap, ss_upd, ss_upd0, ss_nb1, ss_nb0, forall_eq, true_and, not_false_eq_true]
      exact k
  | succ r ih =>
    intro i l hi h
    obtain ⟨hl, h1, h2⟩ := hI i l (by omega) h
    have hxi := hx i (by omega)
    have i1 := fun z => ih (i + 1) l (by omega) (h1 z)
    have i2 := fun z => ih (i + 1) (i + 1) (by omega) (h2 z)
    rw [wX_keepBest_4]
    refine br_f (nI_ge (b := 16) (by omega) (by decide)) ?_
    cases l with
    | zero =>
      simp (disch := omega) only [ss_le0, ss_m3, ss_m6, ss_m36, ss_16m, nI_add, ss_p1, ss_p3, ss_d3, ss_r3', ss_in, ss_30, ss_cl, ss_ap, ss_upd, ss_upd0, ss_nb1, ss_nb0, forall_eq, true_and, not_false_eq_true]
      refine br_c (fun c => i1 (by rw [c]; exact Nat.zero_le _)) (fun c => br_t (by decide) (i2 ?_))
      show 0 < x i
      omega
    | succ j =>
      have hxj := hx j (by omega)
      show vp_in (nI i) 16 ∧ _
      simp (disch := omega) only [ss_lm, ss_le0, ss_le, ss_lt0, ss_m3, ss_m6, ss_m36, ss_16m, nI_add, ss_p1, ss_p3, ss_d3, ss_r3', ss_in, ss_30, ss_cl, ss_ap, ss_upd, ss_upd0, ss_nb1, ss_nb0, forall_eq, true_and, not_false_eq_true]
      refine br_c (fun c => i1 (by rw [c]; exact Nat.zero_le _)) (fun c => ⟨fun z => absurd z (fun z => z), fun _ => br_c (fun c2 => i1 c2) (fun c2 => i2 ?_)⟩)
      show x j < x i
      omega
theorem xs_kb_none (hkp : kp < 16) (hx : ∀ d, d < 16 → x d = 0) (H : post (uD, uT, (nI kp), uRun, uLp, uRp, uLe, uRe, uEx, uCt, uSe, uPo, uPd, uPc, uHv, uGr, uTo, (ss_A x), (ss_A hd), (ss_A hs))) : wpX_keepBest post (uD, uT, (nI kp), uRun, uLp, uRp, uLe, uRe, uEx, uCt, uSe, uPo, uPd, uPc, uHv, uGr, uTo, (ss_A x), (ss_A hd), (ss_A hs)) := by
  unfold wpX_keepBest
  refine ⟨17, xs_kb4 hkp (fun d hd => by rw [hx d hd]; exact Nat.zero_le _) (fun _ l => l = 0) (fun i l hi h => ⟨by omega, fun _ => h, fun z => ?_⟩) (fun _ => H) (fun j h => absurd h (Nat.succ_ne_zero j)) 16 0 0 rfl rfl⟩
  rw [hx i hi] at z
  exact absurd z (Nat.not_lt_zero _)
theorem xs_kb_some {b : Nat} (hkp : kp < 16) (hx : ∀ d, d < 16 → x d ≤ 100000) (hb : ss_mx x 16 b) (H : post (uD, uT, (nI (kp + 1)), uRun, uLp, uRp, uLe, uRe, uEx, uCt, uSe, uPo, uPd, uPc, uHv, uGr, uTo, (ss_A (ss_u x b 0)), (ss_A (ss_u hd kp b)), (ss_A (ss_u hs kp (x b))))) : wpX_keepBest post (uD, uT, (nI kp), uRun, uLp, uRp, uLe, uRe, uEx, uCt, uSe, uPo, uPd, uPc, uHv, uGr, uTo, (ss_A x), (ss_A hd), (ss_A hs)) := by
  obtain ⟨hb16, h0, hm, hl⟩ := hb
  unfold wpX_keepBest
  refine ⟨17, xs_kb4 hkp hx (fun i l => (i ≤ b → ss_vl x l < x b ∧ l ≤ i) ∧ (b < i → l = b + 1)) (fun i l hi h => ?_) (fun h => absurd (h.2 hb16) (by omega)) (fun j h => ?_) 16 0 0 rfl ⟨fun _ => ⟨h0, Nat.le_refl 0⟩, fun z => absurd z (Nat.not_lt_zero b)⟩⟩
  · obtain ⟨h1, h2⟩ := h
    have hmi := hm i hi
    refine ⟨?_, fun c => ⟨fun z => ?_, fun z => ?_⟩, fun c => ⟨fun z => ?_, fun z => ?_⟩⟩
    · by_cases c : i ≤ b
      · have := (h1 c).2; omega
      · have := h2 (by omega); omega
    · have := h1 (by omega)
      exact ⟨this.1, by omega⟩
    · by_cases e : i = b
      · subst e
        have := (h1 (Nat.le_refl _)).1
        omega
      · exact h2 (by omega)
    · have := hl i (by omega)
      exact ⟨this, Nat.le_refl _⟩
    · by_cases e : i = b
      · rw [e]
      · have e2 := h2 (by omega)
        rw [e2] at c
        have c' : x b < x i := c
        omega
  · have e := h.2 hb16
    obtain rfl : j = b := by omega
    exact ⟨hb16, H⟩
end
section
variable {uD uT uK : Int32} {uRun uLp uRp uLe uRe uEx uCt uSe uPo uPd uPc uHv uGr uTo uSc uHd uHs : Nat → Int32} {vK : Int32} {vEx vCt vSh vSc vDn vSt vHi vHs : Nat → Int32} {sh sc dn st S : Nat → Nat} {mst : Nat} {w k : Int32}
theorem ss_picks (hm : mst ≤ 16) (hk1 : ∀ i, i < mst → ¬ k ≤ nI i) (hk2 : k ≤ nI mst ∨ mst = 16) (hSy : ∀ d, d < 16 → S d = ss_S (ss_DD sh dn st 16) (ss_c sh sc dn st) (ss_bt w) d 6) (hS : ∀ d, d < 16 → S d < 100000) (hsh : ∀ j, sh j ≤ 1) (hsc : ∀ j, sc j ≤ 9) (hdn : ∀ j, dn j ≤ 1) (hst : ∀ j, st j ≤ 1) : ∀ r i x ls l1 kp hd hs, i + r = mst → kp ≤ i → ls ≤ 1000000 → l1 ≤ 16 → ss_I r x (ss_y S ls l1) → (∀ d, d < 16 → x d ≤ 100000) → ∃ kp' x' hd' hs', kp' ≤ 16 ∧ (∀ p : Int32 → SX → Prop, p (nI kp') (uD, uT, (nI kp'), uRun, uLp, uRp, uLe, uRe, uEx, uCt, uSe, uPo, uPd, uPc, uHv, uGr, uTo, (ss_A x'), (ss_A hd'), (ss_A hs')) → wX_search_45 p (nI mst) (r + 1) (nI i) uD uT (nI kp) uRun uLp uRp uLe uRe uEx uCt uSe uPo uPd uPc uHv uGr uTo (ss_A x) (ss_A hd) (ss_A hs)) ∧ ∀ p : Int32 → SY → Prop, p (nI kp') ((nI kp'), vEx, vCt, (ss_A sh), (ss_A sc), (ss_A dn), (ss_A st), (ss_A hd'), (ss_A hs')) → wY_search_14 p w k (r + 1) (nI ls) (ss_lm l1) (nI i) (nI kp) vEx vCt (ss_A sh) (ss_A sc) (ss_A dn) (ss_A st) (ss_A hd) (ss_A hs) := by
  intro r
  induction r with
  | zero =>
    intro i x ls l1 kp hd hs hi hkp hls hl1 I hx
    obtain rfl : i = mst := by omega
    refine ⟨kp, x, hd, hs, by omega, fun p h => ?_, fun p h => ?_⟩
    · rw [wX_search_45]
      exact br_t (nI_le (Nat.le_refl _) (by omega)) h
    · rw [wY_search_14]
      by_cases c : k ≤ nI i
      · exact br_t c h
      · have e : i = 16 := hk2.resolve_left c
        refine br_f c (br_t ?_ h)
        rw [e]
        decide
  | succ r ih =>
    intro i x ls l1 kp hd hs hi hkp hls hl1 I hx
    rcases ss_mx_ex (ss_y S ls l1) 16 with hy | ⟨b, hb⟩
    · have hx0 := ss_I_none I hy
      obtain ⟨kp', x', hd', hs', h16, hX, hY⟩ := ih (i + 1) x 0 l1 kp hd hs (by omega) (by omega) (by omega) hl1 (fun d hd => Or.inl (by rw [hx0 d hd, ss_y_0])) hx
      refine ⟨kp', x', hd', hs', h16, fun p h => ?_, fun p h => ?_⟩
      · rw [wX_search_45]
        refine br_f (nI_ge (by omega) (by omega)) (xs_kb_none (by omega) hx0 ?_)
        exact nm_r (nI_1 i) (hX p h)
      · rw [wY_search_14]
        refine br_f (hk1 i (by omega)) (br_f (nI_ge (b := 16) (by omega) (by decide)) (ys_after_none hSy hS hls hl1 hsh hsc hdn hst hy (br_t (by decide) ?_)))
        exact nm_r (nI_1 i) (hY p h)
    · obtain ⟨hmx, hxb, I'⟩ := ss_pick I hb
      obtain ⟨hyb, hyn⟩ := ss_y_next hb
      have hb16 := hb.1
      have hSb := hS b hb16
      have hpz : ss_pz sh dn st b := by
        by_cases c : ss_pz sh dn st b
        · exact c
        · have e := (hSy b hb16).trans (ss_S_0 c 6)
          have h0 := hb.2.1
          rw [hyb, e] at h0
          exact absurd h0 (Nat.lt_irrefl 0)
      obtain ⟨kp', x', hd', hs', h16, hX, hY⟩ := ih (i + 1) (ss_u x b 0) (S b) (b + 1) (kp + 1) (ss_u hd kp b) (ss_u hs kp (S b)) (by omega) (by omega) (by omega) (by omega) (ss_I_congr I' hyn) (fun d hd => by
        by_cases c : d = b
        · rw [c, ss_us]; omega
        · rw [ss_un x _ c]; exact hx d hd)
      refine ⟨kp', x', hd', hs', h16, fun p h => ?_, fun p h => ?_⟩
      · rw [wX_search_45]
        refine br_f (nI_ge (by omega) (by omega)) (xs_kb_some (by omega) hx hmx ?_)
        rw [hxb, hyb]
        exact nm_r (nI_1 i) (hX p h)
      · rw [wY_search_14]
        refine br_f (hk1 i (by omega)) (br_f (nI_ge (b := 16) (by omega) (by decide)) (ys_after_some hSy hS hls hl1 hsh hsc hdn hst hb (br_f (nI_pos (by omega)) (ys_scoreOf hb16 hpz hsh hsc hdn hst ?_))))
        rw [← hSy b hb16]
        have k := hY p h
        simp (disch := omega) only [ss_m3, ss_m6, ss_m36, ss_16m, nI_add, ss_p1, ss_p3, ss_d3, ss_r3', ss_in, ss_30, ss_cl, ss_ap, ss_upd, ss_upd0, ss_nb1, ss_nb0, forall_eq, true_and, not_false_eq_true]
        exact k
end
end
section
/-! the relation of the two states -/
def ss_R (k kp : Nat) (run lp rp le re ex ct se po pd pc ye yc sh sc dn st : Nat → Nat) : Prop := kp ≤ 16 ∧ (∀ j, run j ≤ 1 ∧ lp j ≤ k ∧ rp j ≤ k ∧ le j ≤ k ∧ re j ≤ k ∧ ex j ≤ 1 ∧ ct j ≤ 9) ∧ (∀ j, ye j ≤ 1 ∧ yc j ≤ 9 ∧ sh j ≤ 1 ∧ sc j ≤ 9 ∧ dn j ≤ 1 ∧ st j ≤ 1) ∧ (∀ n, n < 6 → ss_N lp rp le re ex ct se po pd pc ye yc sh sc n) ∧ (∀ n, n < 6 → (dn n = 0 ↔ run n ≠ 0) ∧ (st n = 0 ↔ lp n = le (n % 3))) ∧ ∀ n, n < 6 → run n ≠ 0 → ss_op run lp le (n % 3) → lp n = le (n % 3) ∧ rp n = re (n % 3)
/-- the relation at the head of a turn -/
def i_Rel (k : Nat) (u : SX) (v : SY) : Prop := ∃ (fD fT : Int32) (kp : Nat) (run lp rp le re ex ct se po pd pc hv gr to x hd hs ye yc sh sc dn st : Nat → Nat), u = (fD, fT, (nI kp), (ss_A run), (ss_A lp), (ss_A rp), (ss_A le), (ss_A re), (ss_A ex), (ss_A ct), (ss_A se), (ss_A po), (ss_A pd), (ss_A pc), (ss_A hv), (ss_A gr), (ss_A to), (ss_A x), (ss_A hd), (ss_A hs)) ∧ v = ((nI kp), (ss_A ye), (ss_A yc), (ss_A sh), (ss_A sc), (ss_A dn), (ss_A st), (ss_A hd), (ss_A hs)) ∧ ss_R k kp run lp rp le re ex ct se po pd pc ye yc sh sc dn st
theorem ss_el {k : Nat} {u : SX} {v : SY} {P : SX → SY → Prop} (h : ∀ (fD fT : Int32) (kp : Nat) (run lp rp le re ex ct se po pd pc hv gr to x hd hs ye yc sh sc dn st : Nat → Nat), ss_R k kp run lp rp le re ex ct se po pd pc ye yc sh sc dn st → P (fD, fT, (nI kp), (ss_A run), (ss_A lp), (ss_A rp), (ss_A le), (ss_A re), (ss_A ex), (ss_A ct), (ss_A se), (ss_A po), (ss_A pd), (ss_A pc), (ss_A hv), (ss_A gr), (ss_A to), (ss_A x), (ss_A hd), (ss_A hs)) ((nI kp), (ss_A ye), (ss_A yc), (ss_A sh), (ss_A sc), (ss_A dn), (ss_A st), (ss_A hd), (ss_A hs))) (I : i_Rel k u v) : P u v :=
  Exists.elim I fun fD I => Exists.elim I fun fT I => Exists.elim I fun kp I => Exists.elim I fun run I => Exists.elim I fun lp I => Exists.elim I fun rp I => Exists.elim I fun le I => Exists.elim I fun re I => Exists.elim I fun ex I => Exists.elim I fun ct I => Exists.elim I fun se I => Exists.elim I fun po I => Exists.elim I fun pd I => Exists.elim I fun pc I => Exists.elim I fun hv I => Exists.elim I fun gr I => Exists.elim I fun to I => Exists.elim I fun x I => Exists.elim I fun hd I => Exists.elim I fun hs I => Exists.elim I fun ye I => Exists.elim I fun yc I => Exists.elim I fun sh I => Exists.elim I fun sc I => Exists.elim I fun dn I => Exists.elim I fun st I => by
    rw [I.1, I.2.1]
    exact h fD fT kp run lp rp le re ex ct se po pd pc hv gr to x hd hs ye yc sh sc dn st I.2.2
theorem ss_il {k : Nat} {fD fT : Int32} {kp : Nat} {run lp rp le re ex ct se po pd pc hv gr to x hd hs ye yc sh sc dn st : Nat → Nat} (h : ss_R k kp run lp rp le re ex ct se po pd pc ye yc sh sc dn st) : i_Rel k (fD, fT, (nI kp), (ss_A run), (ss_A lp), (ss_A rp), (ss_A le), (ss_A re), (ss_A ex), (ss_A ct), (ss_A se), (ss_A po), (ss_A pd), (ss_A pc), (ss_A hv), (ss_A gr), (ss_A to), (ss_A x), (ss_A hd), (ss_A hs)) ((nI kp), (ss_A ye), (ss_A yc), (ss_A sh), (ss_A sc), (ss_A dn), (ss_A st), (ss_A hd), (ss_A hs)) := ⟨fD, fT, kp, run, lp, rp, le, re, ex, ct, se, po, pd, pc, hv, gr, to, x, hd, hs, ye, yc, sh, sc, dn, st, rfl, rfl, h⟩
section
variable {k kp : Nat} {run lp rp le re ex ct se po pd pc hv gr to x hd hs ye yc sh sc dn st : Nat → Nat}
theorem ss_R_up {k' : Nat} (hk : k ≤ k') (h : ss_R k kp run lp rp le re ex ct se po pd pc ye yc sh sc dn st) : ss_R k' kp run lp rp le re ex ct se po pd pc ye yc sh sc dn st := by
  obtain ⟨h1, h2, h3⟩ := h
  refine ⟨h1, fun j => ?_, h3⟩
  obtain ⟨a1, a2, a3, a4, a5, a6⟩ := h2 j
  exact ⟨a1, by omega, by omega, by omega, by omega, a6⟩
theorem ss_R_upn (h : ss_R k kp run lp rp le re ex ct se po pd pc ye yc sh sc dn st) {n : Nat} (hn : n < 6) : ss_up run lp le n ↔ dn n = 0 ∧ st n = 0 := by
  obtain ⟨e1, e2⟩ := h.2.2.2.2.1 n hn
  exact ⟨fun z => ⟨e1.mpr z.1, e2.mpr z.2⟩, fun z => ⟨e1.mp z.1, e2.mp z.2⟩⟩
theorem ss_R_op (h : ss_R k kp run lp rp le re ex ct se po pd pc ye yc sh sc dn st) : ∀ s, s < 3 → (ss_op run lp le s ↔ ss_yo dn st s) := by
  intro s hs
  have e1 := ss_R_upn h (n := s) (by omega)
  have e2 := ss_R_upn h (n := s + 3) (by omega)
  exact ⟨fun z => z.elim (fun y => Or.inl (e1.mp y)) (fun y => Or.inr (e2.mp y)), fun z => z.elim (fun y => Or.inl (e1.mpr y)) (fun y => Or.inr (e2.mpr y))⟩
theorem ss_up_op {n s : Nat} (hn : n < 6) (hm : n % 3 = s) (h : ss_up run lp le n) : ss_op run lp le s := by
  have : n = s ∨ n = s + 3 := by omega
  rcases this with rfl | rfl
  · exact Or.inl h
  · exact Or.inr h
theorem ss_R_P (h : ss_R k kp run lp rp le re ex ct se po pd pc ye yc sh sc dn st) : ∀ n, n < 6 → ss_up run lp le n → ss_P se po pd pc sh sc n := by
  intro n hn hup
  have t := h.2.2.2.2.2 n hn hup.1 (ss_up_op hn rfl hup)
  exact ((h.2.2.2.1 n hn).2.2 t.1).2.1 t.2
theorem ss_R_D (h : ss_R k kp run lp rp le re ex ct se po pd pc ye yc sh sc dn st) : ∀ n, n < 6 → ss_up run lp le n → ss_D ex ct ye yc n := by
  intro n hn hup
  exact ((h.2.2.2.1 n hn).2.2 hup.2).1
theorem ss_R_run (h : ss_R k kp run lp rp le re ex ct se po pd pc ye yc sh sc dn st) : ∀ j, run j ≤ 1 := fun j => (h.2.1 j).1
theorem ss_R_lp (h : ss_R k kp run lp rp le re ex ct se po pd pc ye yc sh sc dn st) (hk : k + 4 ≤ 2048) : ∀ j, lp j < 5000 := fun j => by have := (h.2.1 j).2.1; omega
theorem ss_R_le (h : ss_R k kp run lp rp le re ex ct se po pd pc ye yc sh sc dn st) (hk : k + 4 ≤ 2048) : ∀ j, le j < 5000 := fun j => by have := (h.2.1 j).2.2.2.1; omega
theorem ss_R_ex (h : ss_R k kp run lp rp le re ex ct se po pd pc ye yc sh sc dn st) : ∀ j, ex j ≤ 1 := fun j => (h.2.1 j).2.2.2.2.2.1
theorem ss_R_ct (h : ss_R k kp run lp rp le re ex ct se po pd pc ye yc sh sc dn st) : ∀ j, ct j ≤ 9 := fun j => (h.2.1 j).2.2.2.2.2.2
theorem ss_R_ye (h : ss_R k kp run lp rp le re ex ct se po pd pc ye yc sh sc dn st) : ∀ j, ye j ≤ 1 := fun j => (h.2.2.1 j).1
theorem ss_R_yc (h : ss_R k kp run lp rp le re ex ct se po pd pc ye yc sh sc dn st) : ∀ j, yc j ≤ 9 := fun j => (h.2.2.1 j).2.1
theorem ss_R_sh (h : ss_R k kp run lp rp le re ex ct se po pd pc ye yc sh sc dn st) : ∀ j, sh j ≤ 1 := fun j => (h.2.2.1 j).2.2.1
theorem ss_R_sc (h : ss_R k kp run lp rp le re ex ct se po pd pc ye yc sh sc dn st) : ∀ j, sc j ≤ 9 := fun j => (h.2.2.1 j).2.2.2.1
theorem ss_R_dn (h : ss_R k kp run lp rp le re ex ct se po pd pc ye yc sh sc dn st) : ∀ j, dn j ≤ 1 := fun j => (h.2.2.1 j).2.2.2.2.1
theorem ss_R_st (h : ss_R k kp run lp rp le re ex ct se po pd pc ye yc sh sc dn st) : ∀ j, st j ≤ 1 := fun j => (h.2.2.1 j).2.2.2.2.2
theorem ss_R_bd (h : ss_R k kp run lp rp le re ex ct se po pd pc ye yc sh sc dn st) {b : Nat} (hb : b < 5000) (hk : k ≤ b) : ss_bd b run lp rp le re ex ct := by
  obtain ⟨h1, h2, h3⟩ := h
  exact ⟨hb, fun j => (h2 j).1, fun j => Nat.le_trans (h2 j).2.1 hk, fun j => Nat.le_trans (h2 j).2.2.1 hk, fun j => Nat.le_trans (h2 j).2.2.2.1 hk, fun j => Nat.le_trans (h2 j).2.2.2.2.1 hk, fun j => (h2 j).2.2.2.2.2.1, fun j => (h2 j).2.2.2.2.2.2⟩
end
theorem i_up {k : Nat} {u : SX} {v : SY} (h : i_Rel k u v) : i_Rel (k + 4) u v := by
  refine ss_el (P := fun u v => i_Rel (k + 4) u v) ?_ h
  intro fD fT kp run lp rp le re ex ct se po pd pc hv gr to x hd hs ye yc sh sc dn st hR
  exact ss_il (ss_R_up (by omega) hR)
section
variable {uD uT uK : Int32} {uRun uLp uRp uLe uRe uEx uCt uSe uPo uPd uPc uHv uGr uTo uSc uHd uHs : Nat → Int32} {vK : Int32} {vEx vCt vSh vSc vDn vSt vHi vHs : Nat → Int32} {post : Int32 → Prop}
theorem xs_bd_t {x : Int32} (h : x < 0 ∨ ¬ x < 0 ∧ nI 16 ≤ x) (H : post 1) : wpX_badDoc post x := by
  unfold wpX_badDoc
  rcases h with h | ⟨h, h2⟩
  · exact br_t h H
  · exact br_f h (br_f (Int32.not_lt.mpr h2) H)
theorem xs_bd_f {d : Nat} (h : d < 16) (H : post 0) : wpX_badDoc post (nI d) := by
  unfold wpX_badDoc
  exact br_f (nI_pos (by omega)) (br_t (nI_lt (b := 16) h (by decide)) H)
theorem ys_isDoc_f {x : Int32} (h : x < 0 ∨ ¬ x < 0 ∧ nI 16 ≤ x) (H : post 0) : wpY_isDoc post (vK, vEx, vCt, vSh, vSc, vDn, vSt, vHi, vHs) x := by
  unfold wpY_isDoc
  rcases h with h | ⟨h, h2⟩
  · exact br_t h H
  · exact br_f h (br_t h2 H)
theorem ys_isTerm_f {x : Int32} (h : x < 0 ∨ ¬ x < 0 ∧ nI 6 ≤ x) (H : post 0) : wpY_isTerm post (vK, vEx, vCt, vSh, vSc, vDn, vSt, vHi, vHs) x := by
  unfold wpY_isTerm
  rcases h with h | ⟨h, h2⟩
  · exact br_t h H
  · exact br_f h (br_t h2 H)
end
theorem i_vc_hit {k : Nat} {u : SX} {v : SY} (I : i_Rel k u v) (hk : k + 4 ≤ 2048) (v1 : Int32) : wpX_hit (fun r => wpY_hit (fun r' => r' = r ∧ i_Rel (k + 4) u v) v v1) u v1 := by
  refine ss_el (P := fun u v => wpX_hit (fun r => wpY_hit (fun r' => r' = r ∧ i_Rel (k + 4) u v) v v1) u v1) ?_ I
  intro fD fT kp run lp rp le re ex ct se po pd pc hv gr to x hd hs ye yc sh sc dn st hR
  have hI := ss_il (fD := fD) (fT := fT) (hv := hv) (gr := gr) (to := to) (x := x) (hd := hd) (hs := hs) (ss_R_up (k' := k + 4) (by omega) hR)
  have hkp := hR.1
  unfold wpX_hit wpY_hit
  by_cases c : v1 < 0
  · exact br_t c (br_t c ⟨rfl, hI⟩)
  · obtain ⟨j, hj, rfl⟩ := nI_of c
    by_cases c2 : j < kp
    · exact br_f c (br_t (nI_lt c2 (by omega)) ⟨vp_in_nI (by omega) (by decide), br_f c (br_f (nI_ge c2 (by omega)) ⟨vp_in_nI (by omega) (by decide), rfl, hI⟩)⟩)
    · exact br_f c (br_f (nI_nlt (by omega) hj) (br_f c (br_t (nI_le (by omega) hj) ⟨rfl, hI⟩)))
theorem i_vc_score {k : Nat} {u : SX} {v : SY} (I : i_Rel k u v) (hk : k + 4 ≤ 2048) (v1 : Int32) : wpX_score (fun r => wpY_score (fun r' => r' = r ∧ i_Rel (k + 4) u v) v v1) u v1 := by
  refine ss_el (P := fun u v => wpX_score (fun r => wpY_score (fun r' => r' = r ∧ i_Rel (k + 4) u v) v v1) u v1) ?_ I
  intro fD fT kp run lp rp le re ex ct se po pd pc hv gr to x hd hs ye yc sh sc dn st hR
  have hI := ss_il (fD := fD) (fT := fT) (hv := hv) (gr := gr) (to := to) (x := x) (hd := hd) (hs := hs) (ss_R_up (k' := k + 4) (by omega) hR)
  have hkp := hR.1
  unfold wpX_score wpY_score
  by_cases c : v1 < 0
  · exact br_t c (br_t c ⟨rfl, hI⟩)
  · obtain ⟨j, hj, rfl⟩ := nI_of c
    by_cases c2 : j < kp
    · exact br_f c (br_t (nI_lt c2 (by omega)) ⟨vp_in_nI (by omega) (by decide), br_f c (br_f (nI_ge c2 (by omega)) ⟨vp_in_nI (by omega) (by decide), rfl, hI⟩)⟩)
    · exact br_f c (br_f (nI_nlt (by omega) hj) (br_f c (br_t (nI_le (by omega) hj) ⟨rfl, hI⟩)))
theorem i_vc_open {k : Nat} {u : SX} {v : SY} (I : i_Rel k u v) (hk : k + 4 ≤ 2048) (v1 : Int32) : wpX_open (fun r => wpY_open (fun r' => r' = r ∧ i_Rel (k + 4) u v) v v1) u v1 := by
  refine ss_el (P := fun u v => wpX_open (fun r => wpY_open (fun r' => r' = r ∧ i_Rel (k + 4) u v) v v1) u v1) ?_ I
  intro fD fT kp run lp rp le re ex ct se po pd pc hv gr to x hd hs ye yc sh sc dn st hR
  have hI := ss_il (fD := fD) (fT := fT) (hv := hv) (gr := gr) (to := to) (x := x) (hd := hd) (hs := hs) (ss_R_up (k' := k + 4) (by omega) hR)
  rcases ss_cases v1 3 (by decide) with c | ⟨c, c2⟩ | ⟨s, hs3, rfl⟩
  · unfold wpX_open wpY_open
    exact br_t c (br_t c ⟨rfl, hI⟩)
  · unfold wpX_open wpY_open
    refine br_f c (br_f (Int32.not_lt.mpr c2) (br_f c (br_f (fun z => ?_) ⟨rfl, hI⟩)))
    exact absurd (Int32.le_trans c2 z) (by decide)
  · unfold wpX_open
    refine br_f (nI_pos (by omega)) (br_t (nI_lt (b := 3) hs3 (by decide)) ?_)
    refine xs_srv hs3 (ss_R_run hR) (ss_R_lp hR hk) (ss_R_le hR hk) (fun n hn hm hup => ?_) (fun hno => ?_)
    · refine br_f (nI_pos (by omega)) (ys_open hs3 (ss_R_dn hR) (ss_R_st hR) (fun _ => ⟨rfl, hI⟩) (fun z => absurd ((ss_R_op hR s hs3).mp (ss_up_op hn hm hup)) z))
    · refine br_t (by decide) (ys_open hs3 (ss_R_dn hR) (ss_R_st hR) (fun z => absurd ((ss_R_op hR s hs3).mpr z) hno) (fun _ => ⟨rfl, hI⟩))
theorem i_vc_count {k : Nat} {u : SX} {v : SY} (I : i_Rel k u v) (hk : k + 4 ≤ 2048) (v1 : Int32) (v2 : Int32) : wpX_count (fun r => wpY_count (fun r' => r' = r ∧ i_Rel (k + 4) u v) v v1 v2) u v1 v2 := by
  refine ss_el (P := fun u v => wpX_count (fun r => wpY_count (fun r' => r' = r ∧ i_Rel (k + 4) u v) v v1 v2) u v1 v2) ?_ I
  intro fD fT kp run lp rp le re ex ct se po pd pc hv gr to x hd hs ye yc sh sc dn st hR
  have hI := ss_il (fD := fD) (fT := fT) (hv := hv) (gr := gr) (to := to) (x := x) (hd := hd) (hs := hs) (ss_R_up (k' := k + 4) (by omega) hR)
  unfold wpX_count wpY_count
  have hc1 := ss_cases v1 16 (by decide)
  rw [← or_assoc] at hc1
  rcases hc1 with c | ⟨d, hd16, rfl⟩
  · exact xs_bd_t c (br_f (by decide) (ys_isDoc_f c (br_t rfl ⟨rfl, hI⟩)))
  · refine xs_bd_f hd16 (br_t rfl ?_)
    rcases ss_cases v2 6 (by decide) with c | ⟨c, c2⟩ | ⟨t, ht, rfl⟩
    · exact br_t c (ys_isDoc hd16 (br_f (by decide) (ys_isTerm_f (Or.inl c) (br_t rfl ⟨rfl, hI⟩))))
    · exact br_f c (br_f (Int32.not_lt.mpr c2) (ys_isDoc hd16 (br_f (by decide) (ys_isTerm_f (Or.inr ⟨c, c2⟩) (br_t rfl ⟨rfl, hI⟩)))))
    · refine br_f (nI_pos (by omega)) (br_t (nI_lt (b := 6) ht (by decide)) ?_)
      have b0 := ss_R_ye hR d
      simp (disch := omega) only [ss_m3, ss_m6, ss_m36, ss_16m, nI_add, ss_p1, ss_p3, ss_d3, ss_r3', ss_in, ss_30, ss_cl, ss_ap, ss_upd, ss_upd0, ss_nb1, ss_nb0, forall_eq, true_and, not_false_eq_true]
      refine xs_srv (by omega) (ss_R_run hR) (ss_R_lp hR hk) (ss_R_le hR hk) (fun n hn hm hup => ?_) (fun hno => ?_)
      · have hD := ss_R_D hR n hn hup (d / 3) (by omega)
        have ed : d / 3 * 3 + n % 3 = d := by omega
        rw [ed] at hD
        obtain ⟨e1, e2⟩ := hD.1 hd16
        have e2 := e2 t ht
        have e3 : (n * 6 + d / 3) * 6 + t = n * 36 + d / 3 * 6 + t := by omega
        refine br_t (nI_pos' (by omega)) ?_
        simp (disch := omega) only [ss_eq0, e1, e3, e2, ss_m3, ss_m6, ss_m36, ss_16m, nI_add, ss_p1, ss_p3, ss_d3, ss_r3', ss_in, ss_30, ss_cl, ss_ap, ss_upd, ss_upd0, ss_nb1, ss_nb0, forall_eq, true_and, not_false_eq_true]
        have hy := (ss_R_op hR (d % 3) (by omega)).mp (ss_up_op hn hm hup)
        refine br_c (fun c => ?_) (fun c => ?_)
        · refine ys_isDoc hd16 (br_f (by decide) (ys_isTerm ht (br_f (by decide) (ys_open (by omega) (ss_R_dn hR) (ss_R_st hR) (fun _ => br_f (by decide) (br_t c hI)) (fun z => absurd hy z)))))
        · refine ys_isDoc hd16 (br_f (by decide) (ys_isTerm ht (br_f (by decide) (ys_open (by omega) (ss_R_dn hR) (ss_R_st hR) (fun _ => br_f (by decide) (br_f c hI)) (fun z => absurd hy z)))))
      · exact br_f (by decide) (ys_isDoc hd16 (br_f (by decide) (ys_isTerm ht (br_f (by decide) (ys_open (by omega) (ss_R_dn hR) (ss_R_st hR) (fun z => absurd ((ss_R_op hR (d % 3) (by omega)).mpr z) hno) (fun _ => br_t rfl hI))))))
end
section
/-! owed: init, inPlay, weight, search -/
theorem xs_init {post : SX → Prop} (H : ∀ run : Nat → Nat, (∀ j, run j ≤ 1) → (∀ j, j < 6 → run j = 1) → post (0, 0, 0, (ss_A run), (fun _ => 0), (fun _ => 0), (fun _ => 0), (fun _ => 0), (fun _ => 0), (fun _ => 0), (fun _ => 0), (fun _ => 0), (fun _ => 0), (fun _ => 0), (fun _ => 0), (fun _ => 0), (fun _ => 0), (fun _ => 0), (fun _ => 0), (fun _ => 0))) : ∀ r i run, i + r = 6 → (∀ j, run j ≤ 1) → (∀ j, j < i → run j = 1) → wX_init_143 post 0 0 0 (r + 1) (nI i) (ss_A run) (fun _ => 0) (fun _ => 0) (fun _ => 0) (fun _ => 0) (fun _ => 0) (fun _ => 0) (fun _ => 0) (fun _ => 0) (fun _ => 0) (fun _ => 0) (fun _ => 0) (fun _ => 0) (fun _ => 0) (fun _ => 0) (fun _ => 0) (fun _ => 0) := by
  intro r
  induction r with
  | zero =>
    intro i run hi h1 h2
    obtain rfl : i = 6 := by omega
    rw [wX_init_143]
    exact br_t (by decide) (H run h1 h2)
  | succ r ih =>
    intro i run hi h1 h2
    rw [wX_init_143]
    refine br_f (nI_ge (b := 6) (by omega) (by decide)) ?_
    simp (disch := omega) only [ss_m3, ss_m6, ss_m36, ss_16m, nI_add, ss_p1, ss_p3, ss_d3, ss_r3', ss_in, ss_30, ss_cl, ss_ap, ss_upd, ss_upd0, ss_nb1, ss_nb0, forall_eq, true_and, not_false_eq_true]
    refine ih (i + 1) _ (by omega) (ss_u_le h1 (Nat.le_refl 1)) (fun j hj => ?_)
    by_cases c : j = i
    · rw [c, ss_us]
    · rw [ss_un run _ c]; exact h2 j (by omega)
theorem ss_q0 (s t : Nat) : ss_li (ss_q (fun _ => 0) (fun _ => 0) s t) 6 = [] := by
  have h : (ss_li (ss_q (fun _ => 0) (fun _ => 0) s t) 6).length = 0 := by
    rw [ss_li_sm]
    refine ss_sm_0 6 fun l _ => ?_
    exact if_neg (fun z => (of_decide_eq_true z).2.1 rfl)
  exact List.eq_nil_of_length_eq_zero h
theorem ss_R_init {run : Nat → Nat} (h1 : ∀ j, run j ≤ 1) (h2 : ∀ j, j < 6 → run j = 1) : ss_R 0 0 run (fun _ => 0) (fun _ => 0) (fun _ => 0) (fun _ => 0) (fun _ => 0) (fun _ => 0) (fun _ => 0) (fun _ => 0) (fun _ => 0) (fun _ => 0) (fun _ => 0) (fun _ => 0) (fun _ => 0) (fun _ => 0) (fun _ => 0) (fun _ => 0) := by
  refine ⟨Nat.zero_le _, fun j => ⟨h1 j, Nat.zero_le _, Nat.zero_le _, Nat.zero_le _, Nat.zero_le _, Nat.zero_le _, Nat.zero_le _⟩, fun j => ⟨Nat.zero_le _, Nat.zero_le _, Nat.zero_le _, Nat.zero_le _, Nat.zero_le _, Nat.zero_le _⟩, fun n hn => ⟨Nat.le_refl 0, Nat.le_refl 0, fun _ => ⟨fun l hl => ⟨fun _ => ⟨rfl, fun t _ => rfl⟩, fun _ => rfl⟩, fun _ => ⟨?_, fun t ht => ?_⟩, fun z => absurd z (Nat.lt_irrefl 0)⟩⟩, fun n hn => ⟨⟨fun _ => by rw [h2 n hn]; decide, fun _ => rfl⟩, ⟨fun _ => rfl, fun _ => rfl⟩⟩, fun n hn _ _ => ⟨rfl, rfl⟩⟩
  · refine (ss_sm_0 6 fun l _ => ?_).symm
    exact if_neg (fun z => z.2 rfl)
  · rw [ss_q0]
    exact ⟨rfl, fun j hj => absurd hj (Nat.not_lt_zero j)⟩
theorem i_vc0 : wpX_init (fun u => wpY_init (fun v => i_Rel 0 u v)) := by
  unfold wpX_init wpY_init
  refine ⟨7, xs_init (fun run h1 h2 => ?_) 6 0 (fun _ => 0) rfl (fun _ => Nat.zero_le 1) (fun j hj => absurd hj (Nat.not_lt_zero j))⟩
  exact ss_il (fD := 0) (fT := 0) (hv := fun _ => 0) (gr := fun _ => 0) (to := fun _ => 0) (x := fun _ => 0) (hd := fun _ => 0) (hs := fun _ => 0) (ss_R_init h1 h2)
theorem ss_wt_eq {dd t : Nat} {hv : Nat → Nat} {c : Nat → Nat → Nat} (h : hv t = ss_H c t 16) : ss_wt dd hv t = ss_W dd c t := by
  unfold ss_wt ss_W
  rw [h]
theorem i_vc_inPlay {k : Nat} {u : SX} {v : SY} (I : i_Rel k u v) (hk : k + 4 ≤ 2048) : wpX_inPlay (fun r u' => wpY_inPlay (fun r' => r' = r ∧ i_Rel (k + 4) u' v) v) u := by
  refine ss_el (P := fun u v => wpX_inPlay (fun r u' => wpY_inPlay (fun r' => r' = r ∧ i_Rel (k + 4) u' v) v) u) ?_ I
  intro fD fT kp run lp rp le re ex ct se po pd pc hv gr to x hd hs ye yc sh sc dn st hR
  unfold wpX_inPlay
  refine xs_gather (ss_R_run hR) (ss_R_lp hR hk) (ss_R_le hR hk) (ss_R_sc hR) (ss_R_op hR) (ss_R_P hR) (fun hv' gr' hg => ?_)
  exact ys_inPlay (ss_R_sh hR) (ss_R_dn hR) (ss_R_st hR) ⟨rfl, ss_il (ss_R_up (by omega) hR)⟩
theorem i_vc_weight {k : Nat} {u : SX} {v : SY} (I : i_Rel k u v) (hk : k + 4 ≤ 2048) (v1 : Int32) : wpX_weight (fun r u' => wpY_weight (fun r' => r' = r ∧ i_Rel (k + 4) u' v) v v1) u v1 := by
  refine ss_el (P := fun u v => wpX_weight (fun r u' => wpY_weight (fun r' => r' = r ∧ i_Rel (k + 4) u' v) v v1) u v1) ?_ I
  intro fD fT kp run lp rp le re ex ct se po pd pc hv gr to x hd hs ye yc sh sc dn st hR
  have hI := ss_il (fD := fD) (fT := fT) (hv := hv) (gr := gr) (to := to) (x := x) (hd := hd) (hs := hs) (ss_R_up (k' := k + 4) (by omega) hR)
  unfold wpX_weight
  rcases ss_cases v1 6 (by decide) with c | ⟨c, c2⟩ | ⟨t, ht, rfl⟩
  · refine br_t c ?_
    unfold wpY_weight
    exact ys_isTerm_f (Or.inl c) (br_t rfl ⟨rfl, hI⟩)
  · refine br_f c (br_f (Int32.not_lt.mpr c2) ?_)
    unfold wpY_weight
    exact ys_isTerm_f (Or.inr ⟨c, c2⟩) (br_t rfl ⟨rfl, hI⟩)
  · refine br_f (nI_pos (by omega)) (br_t (nI_lt (b := 6) ht (by decide)) ?_)
    refine xs_gather (ss_R_run hR) (ss_R_lp hR hk) (ss_R_le hR hk) (ss_R_sc hR) (ss_R_op hR) (ss_R_P hR) (fun hv' gr' hg => ?_)
    have h1 := ss_DD_le sh dn st 16
    have h2 := ss_H_le (ss_c sh sc dn st) t 16
    have e := (hg t ht).1
    refine xs_wt ht (by omega) (by omega) ?_
    rw [ss_wt_eq e]
    exact ys_weight ht (ss_R_sh hR) (ss_R_sc hR) (ss_R_dn hR) (ss_R_st hR) ⟨rfl, ss_il (ss_R_up (by omega) hR)⟩
section
variable {fD fT w p : Int32} {k kp mst : Nat} {run lp rp le re ex ct se po pd pc hv gr to x hd hs ye yc sh sc dn st : Nat → Nat}
theorem xs_main (hR : ss_R k kp run lp rp le re ex ct se po pd pc ye yc sh sc dn st) (hk : k + 4 ≤ 2048) (h0 : 0 < mst) (hm : mst ≤ 16) (hk1 : ∀ i, i < mst → ¬ p ≤ nI i) (hk2 : p ≤ nI mst ∨ mst = 16) : wX_search_17 (fun r u' => wpY_search (fun r' v' => r' = r ∧ i_Rel (k + 4) u' v') ((nI kp), (ss_A ye), (ss_A yc), (ss_A sh), (ss_A sc), (ss_A dn), (ss_A st), (ss_A hd), (ss_A hs)) w p) w (nI mst) fD fT (nI kp) (ss_A run) (ss_A lp) (ss_A rp) (ss_A le) (ss_A re) (ss_A ex) (ss_A ct) (ss_A se) (ss_A po) (ss_A pd) (ss_A pc) (ss_A hv) (ss_A gr) (ss_A to) (ss_A x) (ss_A hd) (ss_A hs) := by
  unfold wX_search_17
  refine br_f (nI_ne0 h0 (by omega)) ?_
  refine xs_gather (ss_R_run hR) (ss_R_lp hR hk) (ss_R_le hR hk) (ss_R_sc hR) (ss_R_op hR) (ss_R_P hR) (fun hv1 gr1 hg => ?_)
  have h1 := ss_DD_le sh dn st 16
  have hh : ∀ t, t < 6 → hv1 t ≤ 18 := fun t ht => by
    have h2 := ss_H_le (ss_c sh sc dn st) t 16
    have e := (hg t ht).1
    omega
  have hWe : ∀ t, t < 6 → ss_wt (ss_DD sh dn st 16) hv1 t = ss_W (ss_DD sh dn st 16) (ss_c sh sc dn st) t := fun t ht => ss_wt_eq (hg t ht).1
  have hW : ∀ t, t < 6 → ss_wt (ss_DD sh dn st 16) hv1 t ≤ 256 := fun t ht => by
    rw [hWe t ht]
    exact ss_W_le _ t h1
  refine xs_order (by omega) hh (fun m to1 hO => ?_)
  refine xs_scoreAll (ss_R_run hR) (ss_R_lp hR hk) (ss_R_le hR hk) (ss_R_sc hR) (ss_R_op hR) (ss_R_P hR) hO.1 hO.2.1 (by omega) hh hW (fun t ht => (hg t ht).2) h0 hm (fun x1 hI hxb => ?_)
  have hSy : ∀ d, d < 16 → ss_p (ss_c sh sc dn st) (ss_DD sh dn st 16) hv1 to1 m d = ss_S (ss_DD sh dn st 16) (ss_c sh sc dn st) (ss_bt w) d 6 := by
    intro d _
    unfold ss_p ss_S
    rw [hO.2.2 (fun t => ss_c sh sc dn st d t * ss_wt (ss_DD sh dn st 16) hv1 t)]
    refine ss_sm_congr 6 fun t ht => ?_
    show (if ss_bt w t = true then ss_c sh sc dn st d t * ss_wt (ss_DD sh dn st 16) hv1 t else 0) = _
    rw [hWe t ht]
  have hS : ∀ d, d < 16 → ss_p (ss_c sh sc dn st) (ss_DD sh dn st 16) hv1 to1 m d < 100000 := by
    intro d hd
    have hm6 := hO.1
    have hb := ss_sm_bd (f := fun j => ss_c sh sc dn st d (to1 j) * ss_wt (ss_DD sh dn st 16) hv1 (to1 j)) (b := 2304) m (fun j hj => by
      have ht := hO.2.1 j hj
      have g := hg _ ht
      have g1 : ss_c sh sc dn st d (to1 j) ≤ 9 := Nat.le_trans (g.2.2 d hd) g.2.1
      exact Nat.mul_le_mul g1 (hW _ ht))
    have hb2 : m * 2304 ≤ 6 * 2304 := Nat.mul_le_mul hm6 (Nat.le_refl _)
    unfold ss_p
    omega
  obtain ⟨kp1, x2, hd1, hs1, h16, hX, hY⟩ := ss_picks (k := p) (w := w) hm hk1 hk2 hSy hS (ss_R_sh hR) (ss_R_sc hR) (ss_R_dn hR) (ss_R_st hR) mst 0 x1 1000000 0 0 hd hs (Nat.zero_add mst) (Nat.le_refl 0) (Nat.le_refl _) (Nat.zero_le _) (ss_I_congr hI (fun d hd => if_pos (Or.inl (by have := hS d hd; omega)))) (fun d hd => by have := hxb d hd; omega)
  refine ⟨mst + 1, hX _ ?_⟩
  unfold wpY_search
  refine ⟨mst + 1, hY _ ⟨rfl, ss_il (ss_R_up (by omega) ⟨h16, hR.2⟩)⟩⟩
theorem xs_main0 (hR : ss_R k kp run lp rp le re ex ct se po pd pc ye yc sh sc dn st) (hp : p ≤ 0) : wX_search_17 (fun r u' => wpY_search (fun r' v' => r' = r ∧ i_Rel (k + 4) u' v') ((nI kp), (ss_A ye), (ss_A yc), (ss_A sh), (ss_A sc), (ss_A dn), (ss_A st), (ss_A hd), (ss_A hs)) w p) w 0 fD fT (nI kp) (ss_A run) (ss_A lp) (ss_A rp) (ss_A le) (ss_A re) (ss_A ex) (ss_A ct) (ss_A se) (ss_A po) (ss_A pd) (ss_A pc) (ss_A hv) (ss_A gr) (ss_A to) (ss_A x) (ss_A hd) (ss_A hs) := by
  unfold wX_search_17
  refine br_t rfl ?_
  unfold wpY_search
  refine ⟨1, ?_⟩
  rw [wY_search_14]
  exact br_t hp ⟨rfl, ss_il (kp := 0) (ss_R_up (by omega) ⟨Nat.zero_le _, hR.2⟩)⟩
end
theorem i_vc_search {k : Nat} {u : SX} {v : SY} (I : i_Rel k u v) (hk : k + 4 ≤ 2048) (v1 : Int32) (v2 : Int32) : wpX_search (fun r u' => wpY_search (fun r' v' => r' = r ∧ i_Rel (k + 4) u' v') v v1 v2) u v1 v2 := by
  refine ss_el (P := fun u v => wpX_search (fun r u' => wpY_search (fun r' v' => r' = r ∧ i_Rel (k + 4) u' v') v v1 v2) u v1 v2) ?_ I
  intro fD fT kp run lp rp le re ex ct se po pd pc hv gr to x hd hs ye yc sh sc dn st hR
  unfold wpX_search
  by_cases c : v2 < 0
  · refine br_f (Int32.not_le.mpr c) ?_
    unfold wX_search_8
    exact br_t (by decide) (xs_main0 hR (Int32.le_of_lt c))
  · obtain ⟨j, hj, rfl⟩ := nI_of c
    refine br_t (nI_pos' hj) ?_
    unfold wX_search_8
    by_cases c0 : j = 0
    · subst c0
      exact br_t (by decide) (xs_main0 hR (by decide))
    · by_cases c16 : j ≤ 16
      · refine br_t (nI_le (b := 16) c16 (by decide)) (xs_main hR hk (by omega) c16 (fun i hi => nI_ge hi hj) (Or.inl (nI_le (Nat.le_refl _) hj)))
      · refine br_f (nI_ge (a := 16) (by omega) hj) (xs_main (mst := 16) hR hk (by omega) (by omega) (fun i hi => nI_ge (by omega) hj) (Or.inr rfl))
end
section
/-! put and delete -/
def ss_cz (a : Nat → Nat) (b k : Nat) : Nat → Nat := fun j => if b ≤ j ∧ j < b + k then 0 else a j
theorem ss_cz_0 (a : Nat → Nat) (b : Nat) : ss_cz a b 0 = a := by
  funext j
  exact if_neg (by omega)
theorem ss_cz_step (a : Nat → Nat) (b i : Nat) : ss_u (ss_cz a b i) (b + i) 0 = ss_cz a b (i + 1) := by
  funext j
  unfold ss_cz
  by_cases c : j = b + i
  · rw [c, ss_us, if_pos (by omega)]
  · rw [ss_un _ _ c]
    by_cases c2 : b ≤ j ∧ j < b + i
    · rw [if_pos c2, if_pos (by omega)]
    · rw [if_neg c2, if_neg (by omega)]
theorem ss_cz_le {a : Nat → Nat} {m : Nat} (b k : Nat) (h : ∀ j, a j ≤ m) (j : Nat) : ss_cz a b k j ≤ m := by
  unfold ss_cz
  by_cases c : b ≤ j ∧ j < b + k
  · rw [if_pos c]; exact Nat.zero_le _
  · rw [if_neg c]; exact h j
/-- the counts of the document at a, behind a put -/
def ss_nc (e : Nat) (ct : Nat → Nat) (a t c : Nat) : Nat → Nat := ss_u (if e = 0 then ss_cz ct (a * 6) 6 else ct) (a * 6 + t) c
theorem ss_nc_at (e : Nat) (ct : Nat → Nat) (a t c : Nat) : ss_nc e ct a t c (a * 6 + t) = c := ss_us _ _ _
theorem ss_nc_in (e : Nat) (ct : Nat → Nat) {a t c t' : Nat} (h : t' ≠ t) (h6 : t' < 6) : ss_nc e ct a t c (a * 6 + t') = if e = 0 then 0 else ct (a * 6 + t') := by
  unfold ss_nc
  rw [ss_un _ _ (by omega)]
  by_cases z : e = 0
  · rw [if_pos z, if_pos z]
    exact if_pos (by omega)
  · rw [if_neg z, if_neg z]
theorem ss_nc_out (e : Nat) (ct : Nat → Nat) {a t c j : Nat} (ht : t < 6) (h : j < a * 6 ∨ a * 6 + 6 ≤ j) : ss_nc e ct a t c j = ct j := by
  unfold ss_nc
  rw [ss_un _ _ (by omega)]
  by_cases z : e = 0
  · rw [if_pos z]
    exact if_neg (by omega)
  · rw [if_neg z]
theorem ss_nc_le {ct : Nat → Nat} {m c : Nat} (e a t : Nat) (h : ∀ j, ct j ≤ m) (hc : c ≤ m) : ∀ j, ss_nc e ct a t c j ≤ m := by
  unfold ss_nc
  refine ss_u_le ?_ hc
  by_cases z : e = 0
  · rw [if_pos z]; exact ss_cz_le _ _ h
  · rw [if_neg z]; exact h
theorem ss_D_put {ex ct ye yc : Nat → Nat} {n l d t c : Nat} (hD : ss_D ex ct ye yc n) (hl : l < 6) (ed : l * 3 + n % 3 = d) (hd : d < 16) (ht : t < 6) : ss_D (ss_u ex (n * 6 + l) 1) (ss_nc (ex (n * 6 + l)) ct (n * 6 + l) t c) (ss_u ye d 1) (ss_nc (ye d) yc d t c) n := by
  intro l' hl'
  have h := hD l' hl'
  have h0 := hD l hl
  rw [ed] at h0
  obtain ⟨g1, g2⟩ := h0.1 hd
  by_cases e : l' = l
  · subst e
    rw [ed, ss_us, ss_us, g1]
    refine ⟨fun _ => ⟨rfl, fun t' ht' => ?_⟩, fun z => absurd hd (by omega)⟩
    have e2 : n * 36 + l' * 6 + t' = (n * 6 + l') * 6 + t' := by omega
    have g := g2 t' ht'
    rw [e2] at g ⊢
    by_cases et : t' = t
    · rw [et, ss_nc_at, ss_nc_at]
    · rw [ss_nc_in _ _ et ht', ss_nc_in _ _ et ht', g]
  · rw [ss_un ex _ (by omega), ss_un ye _ (by omega)]
    refine ⟨fun z => ⟨(h.1 z).1, fun t' ht' => ?_⟩, h.2⟩
    rw [ss_nc_out _ _ ht (by omega), ss_nc_out _ _ ht (by omega)]
    exact (h.1 z).2 t' ht'
theorem ss_D_del {ex ct ye yc : Nat → Nat} {n l d : Nat} (hD : ss_D ex ct ye yc n) (hl : l < 6) (ed : l * 3 + n % 3 = d) (hd : d < 16) : ss_D (ss_u ex (n * 6 + l) 0) ct (ss_u ye d 0) yc n := by
  intro l' hl'
  have h := hD l' hl'
  by_cases e : l' = l
  · subst e
    rw [ed] at h ⊢
    rw [ss_us, ss_us]
    exact ⟨fun z => ⟨rfl, (h.1 z).2⟩, fun _ => rfl⟩
  · rw [ss_un ex _ (by omega), ss_un ye _ (by omega)]
    exact h
/-- the nodes of shard s below j that serve have had the change, the others are as they were -/
def ss_PU (s j : Nat) (run lp le ex ct ye' yc' lp' ex' ct' : Nat → Nat) : Prop := ∀ n, n < 6 → (n % 3 = s → n < j → ss_up run lp le n → lp' n = lp n + 1 ∧ ss_D ex' ct' ye' yc' n) ∧ (¬ (n % 3 = s ∧ n < j ∧ ss_up run lp le n) → lp' n = lp n ∧ (∀ i, n * 6 ≤ i → i < n * 6 + 6 → ex' i = ex i) ∧ ∀ i, n * 36 ≤ i → i < n * 36 + 36 → ct' i = ct i)
section
variable {s j : Nat} {run lp le ex ct ye' yc' lp' ex' ct' ex2 ct2 : Nat → Nat}
theorem ss_PU_0 : ss_PU s s run lp le ex ct ye' yc' lp ex ct := fun n _ => ⟨fun h1 h2 _ => absurd h1 (by omega), fun _ => ⟨rfl, fun _ _ _ => rfl, fun _ _ _ => rfl⟩⟩
theorem ss_PU_skip (hj : j % 3 = s) (hno : ¬ ss_up run lp le j) (h : ss_PU s j run lp le ex ct ye' yc' lp' ex' ct') : ss_PU s (j + 3) run lp le ex ct ye' yc' lp' ex' ct' := by
  intro n hn
  obtain ⟨h1, h2⟩ := h n hn
  by_cases e : n = j
  · subst e
    exact ⟨fun _ _ z => absurd z hno, fun _ => h2 (fun z => hno z.2.2)⟩
  · exact ⟨fun a b c => h1 a (by omega) c, fun z => h2 (fun y => z ⟨y.1, by omega, y.2.2⟩)⟩
theorem ss_PU_step (hj6 : j < 6) (hj : j % 3 = s) (hup : ss_up run lp le j) (hD : ss_D ex2 ct2 ye' yc' j) (f1 : ∀ i, i < j * 6 ∨ j * 6 + 6 ≤ i → ex2 i = ex' i) (f2 : ∀ i, i < j * 36 ∨ j * 36 + 36 ≤ i → ct2 i = ct' i) (h : ss_PU s j run lp le ex ct ye' yc' lp' ex' ct') : ss_PU s (j + 3) run lp le ex ct ye' yc' (ss_u lp' j (lp' j + 1)) ex2 ct2 := by
  intro n hn
  obtain ⟨h1, h2⟩ := h n hn
  by_cases e : n = j
  · subst e
    rw [ss_us, (h2 (fun z => absurd z.2.1 (Nat.lt_irrefl _))).1]
    exact ⟨fun _ _ _ => ⟨rfl, hD⟩, fun z => absurd ⟨hj, by omega, hup⟩ z⟩
  · rw [ss_un lp' _ e]
    refine ⟨fun a b c => ?_, fun z => ?_⟩
    · obtain ⟨k1, k2⟩ := h1 a (by omega) c
      exact ⟨k1, ss_D_congr (fun i _ _ => f1 i (by omega)) (fun i _ _ => f2 i (by omega)) k2⟩
    · obtain ⟨k1, k2, k3⟩ := h2 (fun y => z ⟨y.1, by omega, y.2.2⟩)
      exact ⟨k1, fun i a b => (f1 i (by omega)).trans (k2 i a b), fun i a b => (f2 i (by omega)).trans (k3 i a b)⟩
end
section
variable {k kp s : Nat} {run lp rp le re ex ct se po pd pc hv gr to x hd hs ye yc sh sc dn st lp' ex' ct' ye' yc' st' : Nat → Nat}
theorem ss_R_change (hR : ss_R k kp run lp rp le re ex ct se po pd pc ye yc sh sc dn st) (hs : s < 3) (hop : ss_op run lp le s) (hPU : ss_PU s (s + 6) run lp le ex ct ye' yc' lp' ex' ct') (b1 : ∀ j, lp' j ≤ k + 1 ∧ ex' j ≤ 1 ∧ ct' j ≤ 9) (b2 : ∀ j, ye' j ≤ 1 ∧ yc' j ≤ 9 ∧ st' j ≤ 1) (hY : ∀ d, d < 16 → d % 3 ≠ s → ye' d = ye d ∧ ∀ t, t < 6 → yc' (d * 6 + t) = yc (d * 6 + t)) (hst : ∀ n, n < 6 → st' n = if n % 3 = s ∧ dn n ≠ 0 then 1 else st n) : ss_R (k + 4) kp run lp' rp (ss_u le s (le s + 1)) re ex' ct' se po pd pc ye' yc' sh sc dn st' := by
  have hR0 := hR
  obtain ⟨r1, r2, r3, r4, r5, r6⟩ := hR
  have key : ∀ n, n < 6 → n % 3 = s → (lp' n ≤ le s + 1 ∧ (lp' n = le s + 1 ↔ ss_up run lp le n)) := by
    intro n hn hm
    obtain ⟨p1, p2⟩ := hPU n hn
    have hle := (r4 n hn).1
    rw [hm] at hle
    by_cases c : ss_up run lp le n
    · have e := (p1 hm (by omega) c).1
      have c2 := c.2
      rw [hm] at c2
      exact ⟨by omega, fun _ => c, fun _ => by omega⟩
    · have e := (p2 (fun z => c z.2.2)).1
      exact ⟨by omega, fun z => by omega, fun z => absurd z c⟩
  refine ⟨r1, fun j => ?_, fun j => ?_, fun n hn => ?_, fun n hn => ⟨(r5 n hn).1, ?_⟩, fun n hn hr ho => ?_⟩
  · obtain ⟨a1, a2, a3, a4, a5, a6, a7⟩ := r2 j
    obtain ⟨c1, c2, c3⟩ := b1 j
    refine ⟨a1, by omega, by omega, ?_, by omega, c2, c3⟩
    have := (r2 s).2.2.2.1
    exact ss_u_le (b := k + 4) (fun i => by have := (r2 i).2.2.2.1; omega) (by omega) j
  · obtain ⟨a1, a2, a3, a4, a5, a6⟩ := r3 j
    obtain ⟨c1, c2, c3⟩ := b2 j
    exact ⟨c1, c2, a3, a4, a5, c3⟩
  · by_cases hm : n % 3 = s
    · obtain ⟨k1, k2⟩ := key n hn hm
      have N := r4 n hn
      unfold ss_N at N ⊢
      rw [hm] at N ⊢
      rw [ss_us]
      refine ⟨k1, N.2.1, fun z => ?_⟩
      have up := k2.mp z
      have td := r6 n hn up.1 (by rw [hm]; exact hop)
      rw [hm] at td
      refine ⟨((hPU n hn).1 hm (by omega) up).2, fun y => (N.2.2 td.1).2.1 y, fun y => ?_⟩
      omega
    · obtain ⟨p1, p2, p3⟩ := (hPU n hn).2 (fun z => hm z.1)
      refine ss_N_congrY (ye := ye) (yc := yc) (sh := sh) (sc := sc) (fun d hd he => ⟨hY d hd (by omega), rfl, fun _ _ => rfl⟩) ?_
      exact ss_N_congr p1 rfl (ss_un le _ hm) rfl p2 p3 rfl (fun _ _ _ => rfl) (fun _ _ _ => ⟨rfl, rfl⟩) (r4 n hn)
  · rw [hst n hn]
    by_cases hm : n % 3 = s
    · obtain ⟨k1, k2⟩ := key n hn hm
      rw [hm, ss_us, k2, ss_R_upn hR0 hn]
      by_cases c : dn n = 0
      · rw [if_neg (fun z => z.2 c)]
        exact ⟨fun z => ⟨c, z⟩, fun z => z.2⟩
      · rw [if_pos ⟨rfl, c⟩]
        exact ⟨fun z => absurd z (by decide), fun z => absurd z.1 c⟩
    · rw [if_neg (fun z => hm z.1), ss_un le _ hm, ((hPU n hn).2 (fun z => hm z.1)).1]
      exact (r5 n hn).2
  · by_cases hm : n % 3 = s
    · have td := r6 n hn hr (by rw [hm]; exact hop)
      have up : ss_up run lp le n := ⟨hr, td.1⟩
      have e := (key n hn hm).2.mpr up
      rw [hm] at td ⊢
      rw [ss_us]
      exact ⟨e, td.2⟩
    · have hn3 : n % 3 < 3 := Nat.mod_lt n (by decide)
      rw [ss_un le _ hm, ((hPU n hn).2 (fun z => hm z.1)).1]
      refine r6 n hn hr ?_
      have tr : ∀ m, m < 6 → m % 3 = n % 3 → ss_up run lp' (ss_u le s (le s + 1)) m → ss_up run lp le m := by
        intro m hm6 hmm z
        have hms : m % 3 ≠ s := by omega
        have z2 := z.2
        rw [ss_un le _ hms, ((hPU m hm6).2 (fun z => hms z.1)).1] at z2
        exact ⟨z.1, z2⟩
      rcases ho with z | z
      · exact Or.inl (tr _ (by omega) (by omega) z)
      · exact Or.inr (tr _ (by omega) (by omega) z)
end
end
section
/-! put and delete: the walks, and what is owed -/
section
variable {uD uT uK : Int32} {uRun uLp uRp uLe uRe uEx uCt uSe uPo uPd uPc uHv uGr uTo uSc uHd uHs : Nat → Int32} {run lp rp le re ex ct : Nat → Nat} {post : SX → Prop} {n l t c s : Nat}
theorem xs_p48 {a : Nat} (ha : a < 36) (hn : n < 6) (ht : t < 6) (H : post (uD, uT, uK, uRun, (ss_A (ss_u lp n (lp n + 1))), uRp, uLe, uRe, (ss_A (ss_u ex a 1)), (ss_A (ss_u ct (a * 6 + t) c)), uSe, uPo, uPd, uPc, uHv, uGr, uTo, uSc, uHd, uHs)) : wX_putOn_48 post (nI n) (nI t) (nI c) (nI a) uD uT uK uRun (ss_A lp) uRp uLe uRe (ss_A ex) (ss_A ct) uSe uPo uPd uPc uHv uGr uTo uSc uHd uHs := by
  simp (disch := omega) only [wX_putOn_48, ss_m3, ss_m6, ss_m36, ss_16m, nI_add, ss_p1, ss_p3, ss_d3, ss_r3', ss_in, ss_30, ss_cl, ss_ap, ss_upd, ss_upd0, ss_nb1, ss_nb0, forall_eq, true_and, not_false_eq_true]
  exact H
theorem xs_p21 {a : Nat} (ha : a < 36) (H : wX_putOn_48 post (nI n) (nI t) (nI c) (nI a) uD uT uK uRun uLp uRp uLe uRe uEx (ss_A (ss_cz ct (a * 6) 6)) uSe uPo uPd uPc uHv uGr uTo uSc uHd uHs) : ∀ r i, i + r = 6 → wX_putOn_21 post (nI n) (nI t) (nI c) (nI a) uD uT uK (r + 1) (nI i) uRun uLp uRp uLe uRe uEx (ss_A (ss_cz ct (a * 6) i)) uSe uPo uPd uPc uHv uGr uTo uSc uHd uHs := by
  intro r
  induction r with
  | zero =>
    intro i hi
    obtain rfl : i = 6 := by omega
    rw [wX_putOn_21]
    exact br_t (by decide) H
  | succ r ih =>
    intro i hi
    have e := ih (i + 1) (by omega)
    rw [wX_putOn_21]
    refine br_f (nI_ge (b := 6) (by omega) (by decide)) ?_
    simp (disch := omega) only [ss_m3, ss_m6, ss_m36, ss_16m, nI_add, ss_p1, ss_p3, ss_d3, ss_r3', ss_in, ss_30, ss_cl, ss_ap, ss_upd, ss_upd0, ss_nb1, ss_nb0, forall_eq, true_and, not_false_eq_true]
    rw [ss_cz_step]
    exact e
theorem xs_putOn (hn : n < 6) (hl : l < 6) (ht : t < 6) (hex : ∀ j, ex j ≤ 1) (H : post (uD, uT, uK, uRun, (ss_A (ss_u lp n (lp n + 1))), uRp, uLe, uRe, (ss_A (ss_u ex (n * 6 + l) 1)), (ss_A (ss_nc (ex (n * 6 + l)) ct (n * 6 + l) t c)), uSe, uPo, uPd, uPc, uHv, uGr, uTo, uSc, uHd, uHs)) : wpX_putOn post (uD, uT, uK, uRun, (ss_A lp), uRp, uLe, uRe, (ss_A ex), (ss_A ct), uSe, uPo, uPd, uPc, uHv, uGr, uTo, uSc, uHd, uHs) (nI n) (nI l) (nI t) (nI c) := by
  have b1 := hex (n * 6 + l)
  unfold ss_nc at H
  simp (disch := omega) only [wpX_putOn, ss_eq0, ss_m3, ss_m6, ss_m36, ss_16m, nI_add, ss_p1, ss_p3, ss_d3, ss_r3', ss_in, ss_30, ss_cl, ss_ap, ss_upd, ss_upd0, ss_nb1, ss_nb0, forall_eq, true_and, not_false_eq_true]
  refine br_c (fun z => ?_) (fun z => ?_)
  · rw [if_pos z] at H
    have h1 := xs_p21 (post := post) (n := n) (t := t) (c := c) (ct := ct) (a := n * 6 + l) (by omega) (xs_p48 (by omega) hn ht H) 6 0 rfl
    rw [ss_cz_0] at h1
    exact ⟨7, h1⟩
  · rw [if_neg z] at H
    exact xs_p48 (by omega) hn ht H
end
section
variable {uD uT uK : Int32} {uRun uLp uRp uLe uRe uEx uCt uSe uPo uPd uPc uHv uGr uTo uSc uHd uHs : Nat → Int32} {run lp rp le re ex ct ye yc ye' yc' lp' ex' ct' : Nat → Nat} {post : Int32 → SX → Prop} {k d t c s : Nat} {old : Int32}
theorem xs_put96 (hk : k + 4 ≤ 2048) (hs : s = d % 3) (hd : d < 16) (ht : t < 6) (hc : c ≤ 9) (hrun : ∀ j, run j ≤ 1) (hle : ∀ j, le j < 5000) (hlp : ∀ j, lp j ≤ k) (hD : ∀ n, n < 6 → ss_up run lp le n → ss_D ex ct ye yc n)
    (H : ∀ lp' ex' ct', ss_PU s (s + 6) run lp le ex ct (ss_u ye d 1) (ss_nc (ye d) yc d t c) lp' ex' ct' → (∀ j, lp' j ≤ k + 1 ∧ ex' j ≤ 1 ∧ ct' j ≤ 9) → post old (uD, uT, uK, (ss_A run), (ss_A lp'), uRp, (ss_A (ss_u le s (le s + 1))), uRe, (ss_A ex'), (ss_A ct'), uSe, uPo, uPd, uPc, uHv, uGr, uTo, uSc, uHd, uHs)) : ∀ r j lp' ex' ct', j + 3 * r = s + 6 → ss_PU s j run lp le ex ct (ss_u ye d 1) (ss_nc (ye d) yc d t c) lp' ex' ct' → (∀ j, lp' j ≤ k + 1 ∧ ex' j ≤ 1 ∧ ct' j ≤ 9) → wX_put_96 post (nI d) (nI t) (nI c) (nI s) old (r + 1) (nI j) uD uT uK (ss_A run) (ss_A lp') uRp (ss_A le) uRe (ss_A ex') (ss_A ct') uSe uPo uPd uPc uHv uGr uTo uSc uHd uHs := by
  intro r
  induction r with
  | zero =>
    intro j lp' ex' ct' hj h b
    obtain rfl : j = s + 6 := by omega
    rw [wX_put_96]
    refine br_t (nI_le (a := 6) (by omega) (by omega)) ?_
    simp (disch := omega) only [ss_m3, ss_m6, ss_m36, ss_16m, nI_add, ss_p1, ss_p3, ss_d3, ss_r3', ss_in, ss_30, ss_cl, ss_ap, ss_upd, ss_upd0, ss_nb1, ss_nb0, forall_eq, true_and, not_false_eq_true]
    exact H lp' ex' ct' h b
  | succ r ih =>
    intro j lp' ex' ct' hj h b
    by_cases hj6 : j < 6
    · have hjs : j % 3 = s := by omega
      have b1 := hrun j
      obtain ⟨f1, f2, f3⟩ := (h j hj6).2 (fun z => absurd z.2.1 (Nat.lt_irrefl _))
      have hex' : ∀ i, ex' i ≤ 1 := fun i => (b i).2.1
      have hct' : ∀ i, ct' i ≤ 9 := fun i => (b i).2.2
      rw [wX_put_96]
      refine br_f (nI_ge (b := 6) (by omega) (by decide)) ?_
      simp (disch := omega) only [ss_eq0, ss_m3, ss_m6, ss_m36, ss_16m, nI_add, ss_p1, ss_p3, ss_d3, ss_r3', ss_in, ss_30, ss_cl, ss_ap, ss_upd, ss_upd0, ss_nb1, ss_nb0, forall_eq, true_and, not_false_eq_true]
      refine br_c (fun z => ih (j + 3) lp' ex' ct' (by omega) (ss_PU_skip hjs (fun y => y.1 z) h) b) (fun z => xs_cur hj6 (fun i => by have := (b i).1; omega) hle ?_)
      rw [f1]
      by_cases c2 : lp j = le (j % 3)
      · rw [if_pos c2]
        have hup : ss_up run lp le j := ⟨z, c2⟩
        have hDj := ss_D_put (t := t) (c := c) (ss_D_congr f2 f3 (hD j hj6 hup)) (show d / 3 < 6 by omega) (show d / 3 * 3 + j % 3 = d by omega) hd ht
        have hl := hlp j
        refine br_f (by decide) (xs_putOn hj6 (by omega) ht hex' (ih (j + 3) _ _ _ (by omega) (ss_PU_step hj6 hjs hup hDj (fun i hi => ss_un ex' _ (by omega)) (fun i hi => ss_nc_out _ ct' ht (by omega)) h) (fun i => ⟨?_, ?_, ?_⟩)))
        · exact ss_u_le (fun i => (b i).1) (by rw [f1]; omega) i
        · exact ss_u_le hex' (Nat.le_refl 1) i
        · exact ss_nc_le _ _ _ hct' hc i
      · rw [if_neg c2]
        exact br_t rfl (ih (j + 3) lp' ex' ct' (by omega) (ss_PU_skip hjs (fun y => c2 y.2) h) b)
    · omega
theorem xs_del48 (hk : k + 4 ≤ 2048) (hs : s = d % 3) (hd : d < 16) (hrun : ∀ j, run j ≤ 1) (hle : ∀ j, le j < 5000) (hlp : ∀ j, lp j ≤ k) (hD : ∀ n, n < 6 → ss_up run lp le n → ss_D ex ct ye yc n)
    (H : ∀ lp' ex', ss_PU s (s + 6) run lp le ex ct (ss_u ye d 0) yc lp' ex' ct → (∀ j, lp' j ≤ k + 1 ∧ ex' j ≤ 1) → post 0 (uD, uT, uK, (ss_A run), (ss_A lp'), uRp, (ss_A (ss_u le s (le s + 1))), uRe, (ss_A ex'), (ss_A ct), uSe, uPo, uPd, uPc, uHv, uGr, uTo, uSc, uHd, uHs)) : ∀ r j lp' ex', j + 3 * r = s + 6 → ss_PU s j run lp le ex ct (ss_u ye d 0) yc lp' ex' ct → (∀ j, lp' j ≤ k + 1 ∧ ex' j ≤ 1) → wX_delete_48 post (nI d) (nI s) uD uT uK (r + 1) (nI j) (ss_A run) (ss_A lp') uRp (ss_A le) uRe (ss_A ex') (ss_A ct) uSe uPo uPd uPc uHv uGr uTo uSc uHd uHs := by
  intro r
  induction r with
  | zero =>
    intro j lp' ex' hj h b
    obtain rfl : j = s + 6 := by omega
    rw [wX_delete_48]
    refine br_t (nI_le (a := 6) (by omega) (by omega)) ?_
    simp (disch := omega) only [ss_m3, ss_m6, ss_m36, ss_16m, nI_add, ss_p1, ss_p3, ss_d3, ss_r3', ss_in, ss_30, ss_cl, ss_ap, ss_upd, ss_upd0, ss_nb1, ss_nb0, forall_eq, true_and, not_false_eq_true]
    exact H lp' ex' h b
  | succ r ih =>
    intro j lp' ex' hj h b
    by_cases hj6 : j < 6
    · have hjs : j % 3 = s := by omega
      have b1 := hrun j
      obtain ⟨f1, f2, f3⟩ := (h j hj6).2 (fun z => absurd z.2.1 (Nat.lt_irrefl _))
      have hex' : ∀ i, ex' i ≤ 1 := fun i => (b i).2
      rw [wX_delete_48]
      refine br_f (nI_ge (b := 6) (by omega) (by decide)) ?_
      simp (disch := omega) only [ss_eq0, ss_m3, ss_m6, ss_m36, ss_16m, nI_add, ss_p1, ss_p3, ss_d3, ss_r3', ss_in, ss_30, ss_cl, ss_ap, ss_upd, ss_upd0, ss_nb1, ss_nb0, forall_eq, true_and, not_false_eq_true]
      refine br_c (fun z => ih (j + 3) lp' ex' (by omega) (ss_PU_skip hjs (fun y => y.1 z) h) b) (fun z => xs_cur hj6 (fun i => by have := (b i).1; omega) hle ?_)
      have hl := hlp j
      by_cases c2 : lp j = le (j % 3)
      · rw [if_pos (by rw [f1]; exact c2)]
        have hup : ss_up run lp le j := ⟨z, c2⟩
        have hDj := ss_D_del (ss_D_congr f2 (fun _ _ _ => rfl) (hD j hj6 hup)) (show d / 3 < 6 by omega) (show d / 3 * 3 + j % 3 = d by omega) hd
        refine br_f (by decide) (ih (j + 3) _ _ (by omega) (ss_PU_step hj6 hjs hup hDj (fun i hi => ss_un ex' _ (by omega)) (fun i hi => rfl) h) (fun i => ⟨?_, ?_⟩))
        · exact ss_u_le (fun i => (b i).1) (by rw [f1]; omega) i
        · exact ss_u_le hex' (Nat.zero_le 1) i
      · rw [if_neg (by rw [f1]; exact c2)]
        exact br_t rfl (ih (j + 3) lp' ex' (by omega) (ss_PU_skip hjs (fun y => c2 y.2) h) b)
    · omega
end
section
variable {vK : Int32} {vEx vCt vSh vSc vDn vSt vHi vHs : Nat → Int32} {ye yc dn st : Nat → Nat} {d t c : Nat}
theorem ys_ch20 {post : SY → Prop} {s : Nat} (hs : s < 3) (hdn : ∀ j, dn j ≤ 1) (hst : ∀ j, st j ≤ 1) (H : ∀ st', (∀ n, n < 6 → st' n = if n = s + 3 ∧ dn n ≠ 0 then 1 else st n) → (∀ j, st' j ≤ 1) → post (vK, vEx, vCt, vSh, vSc, (ss_A dn), (ss_A st'), vHi, vHs)) : wY_changed_20 post (nI s) vK vEx vCt vSh vSc (ss_A dn) (ss_A st) vHi vHs := by
  have b1 := hdn (s + 3)
  simp (disch := omega) only [wY_changed_20, ss_eq0, ss_m3, ss_m6, ss_m36, ss_16m, nI_add, ss_p1, ss_p3, ss_d3, ss_r3', ss_in, ss_30, ss_cl, ss_ap, ss_upd, ss_upd0, ss_nb1, ss_nb0, forall_eq, true_and, not_false_eq_true]
  refine br_c (fun z => H st (fun n hn => ?_) hst) (fun z => H _ (fun n hn => ?_) (ss_u_le hst (Nat.le_refl 1)))
  · rw [if_neg (fun y => y.2 (by rw [y.1]; exact z))]
  · by_cases e : n = s + 3
    · rw [e, ss_us, if_pos ⟨rfl, z⟩]
    · rw [ss_un st _ e, if_neg (fun y => e y.1)]
theorem ys_changed {post : SY → Prop} (hd : d < 16) (hdn : ∀ j, dn j ≤ 1) (hst : ∀ j, st j ≤ 1) (H : ∀ st', (∀ n, n < 6 → st' n = if n % 3 = d % 3 ∧ dn n ≠ 0 then 1 else st n) → (∀ j, st' j ≤ 1) → post (vK, vEx, vCt, vSh, vSc, (ss_A dn), (ss_A st'), vHi, vHs)) : wpY_changed post (vK, vEx, vCt, vSh, vSc, (ss_A dn), (ss_A st), vHi, vHs) (nI d) := by
  have b1 := hdn (d % 3)
  simp (disch := omega) only [wpY_changed, ss_eq0, ss_m3, ss_m6, ss_m36, ss_16m, nI_add, ss_p1, ss_p3, ss_d3, ss_r3', ss_in, ss_30, ss_cl, ss_ap, ss_upd, ss_upd0, ss_nb1, ss_nb0, forall_eq, true_and, not_false_eq_true]
  refine br_c (fun z => ys_ch20 (by omega) hdn hst (fun st' h b => H st' (fun n hn => ?_) b)) (fun z => ys_ch20 (by omega) hdn (ss_u_le hst (Nat.le_refl 1)) (fun st' h b => H st' (fun n hn => ?_) b))
  · rw [h n hn]
    by_cases e : n = d % 3
    · rw [if_neg (by omega), if_neg (fun y => y.2 (by rw [e]; exact z))]
    · by_cases y : n % 3 = d % 3 ∧ dn n ≠ 0
      · rw [if_pos y, if_pos ⟨by omega, y.2⟩]
      · rw [if_neg y, if_neg (fun w => y ⟨by omega, w.2⟩)]
  · rw [h n hn]
    by_cases e : n = d % 3
    · rw [if_neg (by omega), e, ss_us, if_pos ⟨by omega, z⟩]
    · rw [ss_un st _ e]
      by_cases y : n % 3 = d % 3 ∧ dn n ≠ 0
      · rw [if_pos y, if_pos ⟨by omega, y.2⟩]
      · rw [if_neg y, if_neg (fun w => y ⟨by omega, w.2⟩)]
theorem ys_put89 {post : Int32 → SY → Prop} (hd : d < 16) (ht : t < 6) (hdn : ∀ j, dn j ≤ 1) (hst : ∀ j, st j ≤ 1) (H : ∀ st', (∀ n, n < 6 → st' n = if n % 3 = d % 3 ∧ dn n ≠ 0 then 1 else st n) → (∀ j, st' j ≤ 1) → post (nI (yc (d * 6 + t))) (vK, vEx, (ss_A (ss_u yc (d * 6 + t) c)), vSh, vSc, (ss_A dn), (ss_A st'), vHi, vHs)) : wY_put_89 post (nI d) (nI t) (nI c) vK vEx (ss_A yc) vSh vSc (ss_A dn) (ss_A st) vHi vHs := by
  simp (disch := omega) only [wY_put_89, ss_m3, ss_m6, ss_m36, ss_16m, nI_add, ss_p1, ss_p3, ss_d3, ss_r3', ss_in, ss_30, ss_cl, ss_ap, ss_upd, ss_upd0, ss_nb1, ss_nb0, forall_eq, true_and, not_false_eq_true]
  exact ys_changed hd hdn hst H
theorem ys_put63 {post : Int32 → SY → Prop} (hd : d < 16) (H : wY_put_89 post (nI d) (nI t) (nI c) vK vEx (ss_A (ss_cz yc (d * 6) 6)) vSh vSc vDn vSt vHi vHs) : ∀ r i, i + r = 6 → wY_put_63 post (nI d) (nI t) (nI c) vK (r + 1) (nI i) vEx (ss_A (ss_cz yc (d * 6) i)) vSh vSc vDn vSt vHi vHs := by
  intro r
  induction r with
  | zero =>
    intro i hi
    obtain rfl : i = 6 := by omega
    rw [wY_put_63]
    exact br_t (by decide) H
  | succ r ih =>
    intro i hi
    have e := ih (i + 1) (by omega)
    rw [wY_put_63]
    refine br_f (nI_ge (b := 6) (by omega) (by decide)) ?_
    simp (disch := omega) only [ss_m3, ss_m6, ss_m36, ss_16m, nI_add, ss_p1, ss_p3, ss_d3, ss_r3', ss_in, ss_30, ss_cl, ss_ap, ss_upd, ss_upd0, ss_nb1, ss_nb0, forall_eq, true_and, not_false_eq_true]
    rw [ss_cz_step]
    exact e
theorem ys_put {post : Int32 → SY → Prop} (hd : d < 16) (ht : t < 6) (hc : c ≤ 9) (hye : ∀ j, ye j ≤ 1) (hdn : ∀ j, dn j ≤ 1) (hst : ∀ j, st j ≤ 1) (hop : ss_yo dn st (d % 3)) (H : ∀ st', (∀ n, n < 6 → st' n = if n % 3 = d % 3 ∧ dn n ≠ 0 then 1 else st n) → (∀ j, st' j ≤ 1) → post (nI (if ye d = 0 then 0 else yc (d * 6 + t))) (vK, (ss_A (ss_u ye d 1)), (ss_A (ss_nc (ye d) yc d t c)), vSh, vSc, (ss_A dn), (ss_A st'), vHi, vHs)) : wpY_put post (vK, (ss_A ye), (ss_A yc), vSh, vSc, (ss_A dn), (ss_A st), vHi, vHs) (nI d) (nI t) (nI c) := by
  have b1 := hye d
  unfold wpY_put
  refine ys_isDoc hd (br_f (by decide) (ys_isTerm ht (br_f (by decide) (br_f (nI_pos (by omega)) (br_t (nI_le (b := 9) hc (by decide)) ?_)))))
  simp (disch := omega) only [ss_eq0, ss_m3, ss_m6, ss_m36, ss_16m, nI_add, ss_p1, ss_p3, ss_d3, ss_r3', ss_in, ss_30, ss_cl, ss_ap, ss_upd, ss_upd0, ss_nb1, ss_nb0, forall_eq, true_and, not_false_eq_true]
  refine ys_open (by omega) hdn hst (fun _ => br_f (by decide) ?_) (fun z => absurd hop z)
  unfold ss_nc at H
  refine br_c (fun z => ?_) (fun z => ?_)
  · rw [if_pos z, if_pos z] at H
    have h1 := ys_put63 (post := post) (yc := yc) (t := t) (c := c) hd (ys_put89 hd ht hdn hst (fun st' h b => by
      have e : ss_cz yc (d * 6) 6 (d * 6 + t) = 0 := if_pos (by omega)
      rw [e]
      exact H st' h b)) 6 0 rfl
    rw [ss_cz_0] at h1
    exact ⟨7, h1⟩
  · have e : ss_u ye d 1 = ye := by
      have e1 : ye d = 1 := by omega
      rw [← e1]
      exact ss_u_self ye d
    rw [if_neg z, if_neg z, e] at H
    exact ys_put89 hd ht hdn hst H
theorem ys_delete {post : Int32 → SY → Prop} (hd : d < 16) (hye : ∀ j, ye j ≤ 1) (hdn : ∀ j, dn j ≤ 1) (hst : ∀ j, st j ≤ 1) (hop : ss_yo dn st (d % 3)) (he : ye d ≠ 0) (H : ∀ st', (∀ n, n < 6 → st' n = if n % 3 = d % 3 ∧ dn n ≠ 0 then 1 else st n) → (∀ j, st' j ≤ 1) → post 0 (vK, (ss_A (ss_u ye d 0)), vCt, vSh, vSc, (ss_A dn), (ss_A st'), vHi, vHs)) : wpY_delete post (vK, (ss_A ye), vCt, vSh, vSc, (ss_A dn), (ss_A st), vHi, vHs) (nI d) := by
  have b1 := hye d
  unfold wpY_delete
  refine ys_isDoc hd (br_f (by decide) ?_)
  simp (disch := omega) only [ss_eq0, ss_m3, ss_m6, ss_m36, ss_16m, nI_add, ss_p1, ss_p3, ss_d3, ss_r3', ss_in, ss_30, ss_cl, ss_ap, ss_upd, ss_upd0, ss_nb1, ss_nb0, forall_eq, true_and, not_false_eq_true]
  exact ys_open (by omega) hdn hst (fun _ => br_f (by decide) (br_f he (ys_changed hd hdn hst H))) (fun z => absurd hop z)
end
end
section
/-! owed: put, delete, crash -/
theorem i_vc_put {k : Nat} {u : SX} {v : SY} (I : i_Rel k u v) (hk : k + 4 ≤ 2048) (v1 : Int32) (v2 : Int32) (v3 : Int32) : wpX_put (fun r u' => wpY_put (fun r' v' => r' = r ∧ i_Rel (k + 4) u' v') v v1 v2 v3) u v1 v2 v3 := by
  refine ss_el (P := fun u v => wpX_put (fun r u' => wpY_put (fun r' v' => r' = r ∧ i_Rel (k + 4) u' v') v v1 v2 v3) u v1 v2 v3) ?_ I
  intro fD fT kp run lp rp le re ex ct se po pd pc hv gr to x hd hs ye yc sh sc dn st hR
  have hI := ss_il (fD := fD) (fT := fT) (hv := hv) (gr := gr) (to := to) (x := x) (hd := hd) (hs := hs) (ss_R_up (k' := k + 4) (by omega) hR)
  unfold wpX_put
  have hc1 := ss_cases v1 16 (by decide)
  rw [← or_assoc] at hc1
  rcases hc1 with c | ⟨d, hd16, rfl⟩
  · refine xs_bd_t c (br_f (by decide) ?_)
    unfold wpY_put
    exact ys_isDoc_f c (br_t rfl ⟨rfl, hI⟩)
  refine xs_bd_f hd16 (br_t rfl ?_)
  rcases ss_cases v2 6 (by decide) with c | ⟨c, c2⟩ | ⟨t, ht, rfl⟩
  · refine br_t c ?_
    unfold wpY_put
    exact ys_isDoc hd16 (br_f (by decide) (ys_isTerm_f (Or.inl c) (br_t rfl ⟨rfl, hI⟩)))
  · refine br_f c (br_t c2 ?_)
    unfold wpY_put
    exact ys_isDoc hd16 (br_f (by decide) (ys_isTerm_f (Or.inr ⟨c, c2⟩) (br_t rfl ⟨rfl, hI⟩)))
  refine br_f (nI_pos (by omega)) (br_f (nI_ge (b := 6) ht (by decide)) ?_)
  by_cases c : v3 < 0
  · refine br_t c ?_
    unfold wpY_put
    exact ys_isDoc hd16 (br_f (by decide) (ys_isTerm ht (br_f (by decide) (br_t c ⟨rfl, hI⟩))))
  obtain ⟨n9, hn9, rfl⟩ := nI_of c
  refine br_f c ?_
  by_cases c9 : n9 ≤ 9
  · refine br_t (nI_le (b := 9) c9 (by decide)) ?_
    simp (disch := omega) only [ss_m3, ss_m6, ss_m36, ss_16m, nI_add, ss_p1, ss_p3, ss_d3, ss_r3', ss_in, ss_30, ss_cl, ss_ap, ss_upd, ss_upd0, ss_nb1, ss_nb0, forall_eq, true_and, not_false_eq_true]
    refine xs_srv (by omega) (ss_R_run hR) (ss_R_lp hR hk) (ss_R_le hR hk) (fun n hn hm hup => ?_) (fun hno => ?_)
    · have hD := ss_R_D hR n hn hup (d / 3) (by omega)
      have ed : d / 3 * 3 + n % 3 = d := by omega
      rw [ed] at hD
      obtain ⟨e1, e2⟩ := hD.1 hd16
      have e2 := e2 t ht
      have e3 : (n * 6 + d / 3) * 6 + t = n * 36 + d / 3 * 6 + t := by omega
      have b0 := ss_R_ye hR d
      have hop := ss_up_op hn hm hup
      have hy := (ss_R_op hR (d % 3) (by omega)).mp hop
      have main : ∀ old : Int32, nI (if ye d = 0 then 0 else yc (d * 6 + t)) = old → ∃ n96, wX_put_96 (fun r u' => wpY_put (fun r' v' => r' = r ∧ i_Rel (k + 4) u' v') ((nI kp), (ss_A ye), (ss_A yc), (ss_A sh), (ss_A sc), (ss_A dn), (ss_A st), (ss_A hd), (ss_A hs)) (nI d) (nI t) (nI n9)) (nI d) (nI t) (nI n9) (nI (d % 3)) old n96 (nI (d % 3)) fD fT (nI kp) (ss_A run) (ss_A lp) (ss_A rp) (ss_A le) (ss_A re) (ss_A ex) (ss_A ct) (ss_A se) (ss_A po) (ss_A pd) (ss_A pc) (ss_A hv) (ss_A gr) (ss_A to) (ss_A x) (ss_A hd) (ss_A hs) := by
        intro old ho
        refine ⟨3, xs_put96 (k := k) (ye := ye) (yc := yc) hk rfl hd16 ht c9 (ss_R_run hR) (ss_R_le hR hk) (fun j => (hR.2.1 j).2.1) (ss_R_D hR) (fun lp' ex' ct' hPU b => ?_) 2 (d % 3) lp ex ct (by omega) ss_PU_0 (fun j => ⟨by have := (hR.2.1 j).2.1; omega, ss_R_ex hR j, ss_R_ct hR j⟩)⟩
        refine ys_put hd16 ht c9 (ss_R_ye hR) (ss_R_dn hR) (ss_R_st hR) hy (fun st' hst hb => ⟨ho, ss_il (ss_R_change hR (by omega) hop hPU b (fun j => ⟨ss_u_le (ss_R_ye hR) (Nat.le_refl 1) j, ss_nc_le _ _ _ (ss_R_yc hR) c9 j, hb j⟩) (fun e he hem => ⟨ss_un ye _ (fun z => hem (by rw [z])), fun t' ht' => ss_nc_out _ yc ht ?_⟩) hst)⟩)
        have : e ≠ d := fun z => hem (by rw [z])
        omega
      refine br_t (nI_pos' (by omega)) ?_
      simp (disch := omega) only [ss_eq0, e1, e3, e2, ss_m3, ss_m6, ss_m36, ss_16m, nI_add, ss_p1, ss_p3, ss_d3, ss_r3', ss_in, ss_30, ss_cl, ss_ap, ss_upd, ss_upd0, ss_nb1, ss_nb0, forall_eq, true_and, not_false_eq_true]
      refine br_c (fun z => main 0 ?_) (fun z => main _ ?_)
      · rw [if_pos z]; rfl
      · rw [if_neg z]
    · refine br_f (by decide) ?_
      unfold wpY_put
      refine ys_isDoc hd16 (br_f (by decide) (ys_isTerm ht (br_f (by decide) (br_f c (br_t (nI_le (b := 9) c9 (by decide)) ?_)))))
      simp (disch := omega) only [ss_m3, ss_m6, ss_m36, ss_16m, nI_add, ss_p1, ss_p3, ss_d3, ss_r3', ss_in, ss_30, ss_cl, ss_ap, ss_upd, ss_upd0, ss_nb1, ss_nb0, forall_eq, true_and, not_false_eq_true]
      exact ys_open (by omega) (ss_R_dn hR) (ss_R_st hR) (fun z => absurd ((ss_R_op hR (d % 3) (by omega)).mpr z) hno) (fun _ => br_t rfl hI)
  · refine br_f (nI_ge (a := 9) (by omega) hn9) ?_
    unfold wpY_put
    exact ys_isDoc hd16 (br_f (by decide) (ys_isTerm ht (br_f (by decide) (br_f c (br_f (nI_ge (a := 9) (by omega) hn9) ⟨rfl, hI⟩)))))
theorem i_vc_delete {k : Nat} {u : SX} {v : SY} (I : i_Rel k u v) (hk : k + 4 ≤ 2048) (v1 : Int32) : wpX_delete (fun r u' => wpY_delete (fun r' v' => r' = r ∧ i_Rel (k + 4) u' v') v v1) u v1 := by
  refine ss_el (P := fun u v => wpX_delete (fun r u' => wpY_delete (fun r' v' => r' = r ∧ i_Rel (k + 4) u' v') v v1) u v1) ?_ I
  intro fD fT kp run lp rp le re ex ct se po pd pc hv gr to x hd hs ye yc sh sc dn st hR
  have hI := ss_il (fD := fD) (fT := fT) (hv := hv) (gr := gr) (to := to) (x := x) (hd := hd) (hs := hs) (ss_R_up (k' := k + 4) (by omega) hR)
  unfold wpX_delete
  have hc1 := ss_cases v1 16 (by decide)
  rw [← or_assoc] at hc1
  rcases hc1 with c | ⟨d, hd16, rfl⟩
  · refine xs_bd_t c (br_f (by decide) ?_)
    unfold wpY_delete
    exact ys_isDoc_f c (br_t rfl ⟨rfl, hI⟩)
  refine xs_bd_f hd16 (br_t rfl ?_)
  simp (disch := omega) only [ss_m3, ss_m6, ss_m36, ss_16m, nI_add, ss_p1, ss_p3, ss_d3, ss_r3', ss_in, ss_30, ss_cl, ss_ap, ss_upd, ss_upd0, ss_nb1, ss_nb0, forall_eq, true_and, not_false_eq_true]
  refine xs_srv (by omega) (ss_R_run hR) (ss_R_lp hR hk) (ss_R_le hR hk) (fun n hn hm hup => ?_) (fun hno => ?_)
  · have hD := ss_R_D hR n hn hup (d / 3) (by omega)
    have ed : d / 3 * 3 + n % 3 = d := by omega
    rw [ed] at hD
    obtain ⟨e1, _⟩ := hD.1 hd16
    have b0 := ss_R_ye hR d
    have hop := ss_up_op hn hm hup
    have hy := (ss_R_op hR (d % 3) (by omega)).mp hop
    refine br_t (nI_pos' (by omega)) ?_
    simp (disch := omega) only [ss_eq0, e1, ss_m3, ss_m6, ss_m36, ss_16m, nI_add, ss_p1, ss_p3, ss_d3, ss_r3', ss_in, ss_30, ss_cl, ss_ap, ss_upd, ss_upd0, ss_nb1, ss_nb0, forall_eq, true_and, not_false_eq_true]
    refine br_c (fun z => ?_) (fun z => ?_)
    · unfold wpY_delete
      refine ys_isDoc hd16 (br_f (by decide) ?_)
      simp (disch := omega) only [ss_eq0, ss_m3, ss_m6, ss_m36, ss_16m, nI_add, ss_p1, ss_p3, ss_d3, ss_r3', ss_in, ss_30, ss_cl, ss_ap, ss_upd, ss_upd0, ss_nb1, ss_nb0, forall_eq, true_and, not_false_eq_true]
      exact ys_open (by omega) (ss_R_dn hR) (ss_R_st hR) (fun _ => br_f (by decide) (br_t z hI)) (fun z => absurd hy z)
    · refine ⟨3, xs_del48 (k := k) (ye := ye) (yc := yc) hk rfl hd16 (ss_R_run hR) (ss_R_le hR hk) (fun j => (hR.2.1 j).2.1) (ss_R_D hR) (fun lp' ex' hPU b => ?_) 2 (d % 3) lp ex (by omega) ss_PU_0 (fun j => ⟨by have := (hR.2.1 j).2.1; omega, ss_R_ex hR j⟩)⟩
      exact ys_delete hd16 (ss_R_ye hR) (ss_R_dn hR) (ss_R_st hR) hy z (fun st' hst hb => ⟨rfl, ss_il (ss_R_change hR (by omega) hop hPU (fun j => ⟨(b j).1, (b j).2, ss_R_ct hR j⟩) (fun j => ⟨ss_u_le (ss_R_ye hR) (Nat.zero_le 1) j, ss_R_yc hR j, hb j⟩) (fun e he hem => ⟨ss_un ye _ (fun z => hem (by rw [z])), fun t' ht' => rfl⟩) hst)⟩)
  · refine br_f (by decide) ?_
    unfold wpY_delete
    refine ys_isDoc hd16 (br_f (by decide) ?_)
    simp (disch := omega) only [ss_m3, ss_m6, ss_m36, ss_16m, nI_add, ss_p1, ss_p3, ss_d3, ss_r3', ss_in, ss_30, ss_cl, ss_ap, ss_upd, ss_upd0, ss_nb1, ss_nb0, forall_eq, true_and, not_false_eq_true]
    exact ys_open (by omega) (ss_R_dn hR) (ss_R_st hR) (fun z => absurd ((ss_R_op hR (d % 3) (by omega)).mpr z) hno) (fun _ => br_t rfl hI)
section
variable {k kp a : Nat} {run lp rp le re ex ct se po pd pc hv gr to x hd hs ye yc sh sc dn st : Nat → Nat}
theorem ss_R_crash (hR : ss_R k kp run lp rp le re ex ct se po pd pc ye yc sh sc dn st) (ha : a < 6) : ss_R k kp (ss_u run a 0) lp rp le re ex ct se po pd pc ye yc sh sc (ss_u dn a 1) st := by
  obtain ⟨r1, r2, r3, r4, r5, r6⟩ := hR
  have tr : ∀ m, ss_up (ss_u run a 0) lp le m → ss_up run lp le m := by
    intro m z
    by_cases e : m = a
    · have := z.1
      rw [e, ss_us] at this
      exact absurd rfl this
    · have := z.1
      rw [ss_un run _ e] at this
      exact ⟨this, z.2⟩
  refine ⟨r1, fun j => ⟨ss_u_le (fun j => (r2 j).1) (Nat.zero_le 1) j, (r2 j).2⟩, fun j => ?_, r4, fun n hn => ⟨?_, (r5 n hn).2⟩, fun n hn hr ho => ?_⟩
  · obtain ⟨a1, a2, a3, a4, a5, a6⟩ := r3 j
    exact ⟨a1, a2, a3, a4, ss_u_le (fun j => (r3 j).2.2.2.2.1) (Nat.le_refl 1) j, a6⟩
  · by_cases e : n = a
    · rw [e, ss_us, ss_us]
      exact ⟨fun z => absurd z (by decide), fun z => absurd rfl z⟩
    · rw [ss_un dn _ e, ss_un run _ e]
      exact (r5 n hn).1
  · have hne : n ≠ a := by
      intro e
      rw [e, ss_us] at hr
      exact hr rfl
    rw [ss_un run _ hne] at hr
    exact r6 n hn hr (ho.elim (fun z => Or.inl (tr _ z)) (fun z => Or.inr (tr _ z)))
end
theorem xs_bn_t {post : Int32 → Prop} {x : Int32} (h : x < 0 ∨ ¬ x < 0 ∧ nI 6 ≤ x) (H : post 1) : wpX_badNode post x := by
  unfold wpX_badNode
  rcases h with h | ⟨h, h2⟩
  · exact br_t h H
  · exact br_f h (br_f (Int32.not_lt.mpr h2) H)
theorem xs_bn_f {post : Int32 → Prop} {d : Nat} (h : d < 6) (H : post 0) : wpX_badNode post (nI d) := by
  unfold wpX_badNode
  exact br_f (nI_pos (by omega)) (br_t (nI_lt (b := 6) h (by decide)) H)
theorem ss_5 {x : Int32} (h : nI 6 ≤ x) : ¬ x ≤ 5 := fun z => absurd (Int32.le_trans h z) (by decide)
theorem i_vc_crash {k : Nat} {u : SX} {v : SY} (I : i_Rel k u v) (hk : k + 4 ≤ 2048) (v1 : Int32) : wpX_crash (fun r u' => wpY_crash (fun r' v' => r' = r ∧ i_Rel (k + 4) u' v') v v1) u v1 := by
  refine ss_el (P := fun u v => wpX_crash (fun r u' => wpY_crash (fun r' v' => r' = r ∧ i_Rel (k + 4) u' v') v v1) u v1) ?_ I
  intro fD fT kp run lp rp le re ex ct se po pd pc hv gr to x hd hs ye yc sh sc dn st hR
  have hI := ss_il (fD := fD) (fT := fT) (hv := hv) (gr := gr) (to := to) (x := x) (hd := hd) (hs := hs) (ss_R_up (k' := k + 4) (by omega) hR)
  unfold wpX_crash wpY_crash
  have hc1 := ss_cases v1 6 (by decide)
  rw [← or_assoc] at hc1
  rcases hc1 with c | ⟨a, ha, rfl⟩
  · refine xs_bn_t c (br_f (by decide) ?_)
    rcases c with c | ⟨c, c2⟩
    · exact br_t c ⟨rfl, hI⟩
    · exact br_f c (br_f (ss_5 c2) ⟨rfl, hI⟩)
  · have b1 := ss_R_run hR a
    have b2 := ss_R_dn hR a
    have e := (hR.2.2.2.2.1 a ha).1
    have hN := ss_il (fD := fD) (fT := fT) (hv := hv) (gr := gr) (to := to) (x := x) (hd := hd) (hs := hs) (ss_R_crash (ss_R_up (k' := k + 4) (by omega) hR) ha)
    refine xs_bn_f ha (br_t rfl ?_)
    simp (disch := omega) only [wX_crash_24, wY_crash_26, ss_eq0, ss_m3, ss_m6, ss_m36, ss_16m, nI_add, ss_p1, ss_p3, ss_d3, ss_r3', ss_in, ss_30, ss_cl, ss_ap, ss_upd, ss_upd0, ss_nb1, ss_nb0, forall_eq, true_and, not_false_eq_true]
    refine br_c (fun z => ?_) (fun z => ?_)
    · refine br_f (nI_pos (by omega)) (br_t (nI_le (b := 5) (by omega) (by decide)) (br_f (fun y => e.mp y z) ?_))
      exact hN
    · refine br_f (nI_pos (by omega)) (br_t (nI_le (b := 5) (by omega) (by decide)) (br_t (e.mpr z) ?_))
      exact hN
end
section
/-! owed: restart, refresh -/
section
variable {vK : Int32} {vEx vCt vSh vSc vDn vSt vHi vHs : Nat → Int32} {dn st : Nat → Nat} {s : Nat} {post : Int32 → SY → Prop} {z0 : Int32}
theorem ys_r62 (hs : s < 3) (hdn : ∀ j, dn j ≤ 1) (hst : ∀ j, st j ≤ 1) (H : ∀ st', (∀ n, n < 6 → st' n = if n = s + 3 ∧ ss_yo dn st s ∧ dn n = 0 then 0 else st n) → (∀ j, st' j ≤ 1) → post z0 (vK, vEx, vCt, vSh, vSc, (ss_A dn), (ss_A st'), vHi, vHs)) : wY_restart_62 post z0 (nI s) vK vEx vCt vSh vSc (ss_A dn) (ss_A st) vHi vHs := by
  have b1 := hdn (s + 3)
  unfold wY_restart_62
  refine ys_open hs hdn hst (fun o => br_f (by decide) ?_) (fun o => br_t rfl (H st (fun n hn => ?_) hst))
  · simp (disch := omega) only [ss_eq0, ss_m3, ss_m6, ss_m36, ss_16m, nI_add, ss_p1, ss_p3, ss_d3, ss_r3', ss_in, ss_30, ss_cl, ss_ap, ss_upd, ss_upd0, ss_nb1, ss_nb0, forall_eq, true_and, not_false_eq_true]
    refine br_c (fun z => H _ (fun n hn => ?_) (ss_u_le hst (Nat.zero_le 1))) (fun z => H st (fun n hn => ?_) hst)
    · by_cases e : n = s + 3
      · rw [e, ss_us, if_pos ⟨rfl, o, z⟩]
      · rw [ss_un st _ e, if_neg (fun y => e y.1)]
    · rw [if_neg (fun y => z (by rw [← y.1]; exact y.2.2))]
  · rw [if_neg (fun y => o y.2.1)]
theorem ys_r26 {a : Nat} (ha : a < 6) (hdn : ∀ j, dn j ≤ 1) (hst : ∀ j, st j ≤ 1) (H : ∀ st', (∀ n, n < 6 → st' n = if n % 3 = a % 3 ∧ ss_yo (ss_u dn a 0) st (a % 3) ∧ ss_u dn a 0 n = 0 then 0 else st n) → (∀ j, st' j ≤ 1) → post z0 (vK, vEx, vCt, vSh, vSc, (ss_A (ss_u dn a 0)), (ss_A st'), vHi, vHs)) : wY_restart_26 post (nI a) z0 vK vEx vCt vSh vSc (ss_A dn) (ss_A st) vHi vHs := by
  have hdn1 : ∀ j, ss_u dn a 0 j ≤ 1 := ss_u_le hdn (Nat.zero_le 1)
  have b1 := hdn1 (a % 3)
  simp (disch := omega) only [wY_restart_26, ss_eq0, ss_m3, ss_m6, ss_m36, ss_16m, nI_add, ss_p1, ss_p3, ss_d3, ss_r3', ss_in, ss_30, ss_cl, ss_ap, ss_upd, ss_upd0, ss_nb1, ss_nb0, forall_eq, true_and, not_false_eq_true]
  have keep : wY_restart_62 post z0 (nI (a % 3)) vK vEx vCt vSh vSc (ss_A (ss_u dn a 0)) (ss_A st) vHi vHs ∨ (ss_yo (ss_u dn a 0) st (a % 3) ∧ ss_u dn a 0 (a % 3) = 0) := by
    by_cases c : ss_yo (ss_u dn a 0) st (a % 3) ∧ ss_u dn a 0 (a % 3) = 0
    · exact Or.inr c
    · refine Or.inl (ys_r62 (by omega) hdn1 hst (fun st' h b => H st' (fun n hn => ?_) b))
      rw [h n hn]
      by_cases e : n = a % 3 + 3
      · have e3 : n % 3 = a % 3 := by omega
        by_cases y : ss_yo (ss_u dn a 0) st (a % 3) ∧ ss_u dn a 0 n = 0
        · rw [if_pos ⟨e, y⟩, if_pos ⟨e3, y⟩]
        · rw [if_neg (fun w => y w.2), if_neg (fun w => y w.2)]
      · rw [if_neg (fun w => e w.1)]
        by_cases y : n % 3 = a % 3 ∧ ss_yo (ss_u dn a 0) st (a % 3) ∧ ss_u dn a 0 n = 0
        · have e2 : n = a % 3 := by omega
          exact absurd ⟨y.2.1, by rw [← e2]; exact y.2.2⟩ c
        · rw [if_neg y]
  refine ys_open (by omega) hdn1 hst (fun o => br_f (by decide) (br_c (fun z => ?_) (fun z => ?_))) (fun o => br_t rfl ?_)
  · refine ys_r62 (by omega) hdn1 (ss_u_le hst (Nat.zero_le 1)) (fun st' h b => H st' (fun n hn => ?_) b)
    have o2 : ss_yo (ss_u dn a 0) (ss_u st (a % 3) 0) (a % 3) := Or.inl ⟨z, ss_us _ _ _⟩
    rw [h n hn]
    by_cases e : n = a % 3
    · rw [if_neg (fun w => absurd w.1 (by omega)), e, ss_us, if_pos ⟨by omega, o, z⟩]
    · rw [ss_un st _ e]
      by_cases e2 : n = a % 3 + 3
      · have e3 : n % 3 = a % 3 := by omega
        by_cases y : ss_u dn a 0 n = 0
        · rw [if_pos ⟨e2, o2, y⟩, if_pos ⟨e3, o, y⟩]
        · rw [if_neg (fun w => y w.2.2), if_neg (fun w => y w.2.2)]
      · rw [if_neg (fun w => e2 w.1), if_neg (fun w => absurd w.1 (by omega))]
  · exact keep.resolve_right (fun w => z w.2)
  · exact keep.resolve_right (fun w => o w.1)
end
section
variable {k kp a : Nat} {run lp rp le re ex ct se po pd pc hv gr to x hd hs ye yc sh sc dn st lp' rp' ex' ct' se' po' pd' pc' st' : Nat → Nat}
theorem ss_R_restart (hR : ss_R k kp run lp rp le re ex ct se po pd pc ye yc sh sc dn st) (ha : a < 6) (hb : ss_bd k (ss_u run a 1) lp' rp' le re ex' ct') (B : ∀ n, n < 6 → ss_N lp' rp' le re ex' ct' se' po' pd' pc' ye yc sh sc n) (hK : ss_K (a % 3) (ss_u run a 1) lp rp le re lp' rp') (hst : ∀ n, n < 6 → st' n = if n % 3 = a % 3 ∧ ss_yo (ss_u dn a 0) st (a % 3) ∧ ss_u dn a 0 n = 0 then 0 else st n) (hst1 : ∀ j, st' j ≤ 1) : ss_R k kp (ss_u run a 1) lp' rp' le re ex' ct' se' po' pd' pc' ye yc sh sc (ss_u dn a 0) st' := by
  obtain ⟨r1, r2, r3, r4, r5, r6⟩ := hR
  obtain ⟨b0, b1, b2, b3, b4, b5, b6, b7⟩ := hb
  obtain ⟨k1, k2⟩ := hK
  have hrd : ∀ n, n < 6 → (ss_u dn a 0 n = 0 ↔ ss_u run a 1 n ≠ 0) := by
    intro n hn
    by_cases e : n = a
    · rw [e, ss_us, ss_us]
      exact ⟨fun _ => by decide, fun _ => rfl⟩
    · rw [ss_un dn _ e, ss_un run _ e]
      exact (r5 n hn).1
  have hup : ∀ n, n < 6 → (ss_up (ss_u run a 1) lp le n ↔ ss_u dn a 0 n = 0 ∧ st n = 0) := by
    intro n hn
    have e1 := hrd n hn
    have e2 := (r5 n hn).2
    exact ⟨fun z => ⟨e1.mpr z.1, e2.mpr z.2⟩, fun z => ⟨e1.mp z.1, e2.mp z.2⟩⟩
  have hop : ∀ s, s < 3 → (ss_op (ss_u run a 1) lp le s ↔ ss_yo (ss_u dn a 0) st s) := by
    intro s hs
    have e1 := hup s (by omega)
    have e2 := hup (s + 3) (by omega)
    exact ⟨fun z => z.elim (fun y => Or.inl (e1.mp y)) (fun y => Or.inr (e2.mp y)), fun z => z.elim (fun y => Or.inl (e1.mpr y)) (fun y => Or.inr (e2.mpr y))⟩
  have ha3 : a % 3 < 3 := Nat.mod_lt a (by decide)
  refine ⟨r1, fun j => ⟨b1 j, b2 j, b3 j, b4 j, b5 j, b6 j, b7 j⟩, fun j => ?_, B, fun n hn => ⟨hrd n hn, ?_⟩, fun n hn hr ho => ?_⟩
  · obtain ⟨a1, a2, a3, a4, a5, a6⟩ := r3 j
    exact ⟨a1, a2, a3, a4, ss_u_le (fun j => (r3 j).2.2.2.2.1) (Nat.zero_le 1) j, hst1 j⟩
  · rw [hst n hn]
    by_cases y : n % 3 = a % 3 ∧ ss_yo (ss_u dn a 0) st (a % 3) ∧ ss_u dn a 0 n = 0
    · rw [if_pos y, y.1]
      exact ⟨fun _ => (k1 n hn y.1 ((hop _ ha3).mpr y.2.1) ((hrd n hn).mp y.2.2)).1, fun _ => rfl⟩
    · rw [if_neg y]
      have hor : n % 3 ≠ a % 3 ∨ ¬ ss_op (ss_u run a 1) lp le (a % 3) ∨ ss_u run a 1 n = 0 := by
        by_cases c1 : n % 3 = a % 3
        · by_cases c2 : ss_op (ss_u run a 1) lp le (a % 3)
          · by_cases c3 : ss_u run a 1 n = 0
            · exact Or.inr (Or.inr c3)
            · exact absurd ⟨c1, (hop _ ha3).mp c2, (hrd n hn).mpr c3⟩ y
          · exact Or.inr (Or.inl c2)
        · exact Or.inl c1
      rw [(k2 n hn hor).1]
      exact (r5 n hn).2
  · by_cases c1 : n % 3 = a % 3
    · by_cases c2 : ss_op (ss_u run a 1) lp le (a % 3)
      · have := k1 n hn c1 c2 hr
        rw [c1]
        exact this
      · exfalso
        rw [c1] at ho
        have tr : ∀ m, m < 6 → m % 3 = a % 3 → ss_up (ss_u run a 1) lp' le m → ss_up (ss_u run a 1) lp le m := by
          intro m hm hm3 z
          have z2 := z.2
          rw [(k2 m hm (Or.inr (Or.inl c2))).1] at z2
          exact ⟨z.1, z2⟩
        exact c2 (ho.elim (fun z => Or.inl (tr _ (by omega) (by omega) z)) (fun z => Or.inr (tr _ (by omega) (by omega) z)))
    · have hne : n ≠ a := fun e => c1 (by rw [e])
      rw [ss_un run _ hne] at hr
      have kn := k2 n hn (Or.inl c1)
      rw [kn.1, kn.2]
      refine r6 n hn hr ?_
      have tr : ∀ m, m < 6 → m % 3 = n % 3 → ss_up (ss_u run a 1) lp' le m → ss_up run lp le m := by
        intro m hm hm3 z
        have hma : m % 3 ≠ a % 3 := by omega
        have hne2 : m ≠ a := fun e => hma (by rw [e])
        obtain ⟨z1, z2⟩ := z
        rw [ss_un run _ hne2] at z1
        rw [(k2 m hm (Or.inl hma)).1] at z2
        exact ⟨z1, z2⟩
      exact ho.elim (fun z => Or.inl (tr _ (by omega) (by omega) z)) (fun z => Or.inr (tr _ (by omega) (by omega) z))
end
theorem i_vc_restart {k : Nat} {u : SX} {v : SY} (I : i_Rel k u v) (hk : k + 4 ≤ 2048) (v1 : Int32) : wpX_restart (fun r u' => wpY_restart (fun r' v' => r' = r ∧ i_Rel (k + 4) u' v') v v1) u v1 := by
  refine ss_el (P := fun u v => wpX_restart (fun r u' => wpY_restart (fun r' v' => r' = r ∧ i_Rel (k + 4) u' v') v v1) u v1) ?_ I
  intro fD fT kp run lp rp le re ex ct se po pd pc hv gr to x hd hs ye yc sh sc dn st hR
  have hI := ss_il (fD := fD) (fT := fT) (hv := hv) (gr := gr) (to := to) (x := x) (hd := hd) (hs := hs) (ss_R_up (k' := k + 4) (by omega) hR)
  unfold wpX_restart
  have hc1 := ss_cases v1 6 (by decide)
  rw [← or_assoc] at hc1
  rcases hc1 with c | ⟨a, ha, rfl⟩
  · refine xs_bn_t c (br_f (by decide) ?_)
    unfold wpY_restart
    rcases c with c | ⟨c, c2⟩
    · exact br_t c ⟨rfl, hI⟩
    · exact br_f c (br_f (ss_5 c2) ⟨rfl, hI⟩)
  · have b1 := ss_R_run hR a
    have b2 := ss_R_dn hR a
    have e := (hR.2.2.2.2.1 a ha).1
    have hR4 := ss_R_up (k' := k + 4) (by omega) hR
    have hbd := ss_R_bd hR (b := k + 4) (by omega) (by omega)
    obtain ⟨q1, q2, q3⟩ := hbd
    have main : ∀ z0 : Int32, (∀ p : Int32 → SY → Prop, wY_restart_26 p (nI a) z0 (nI kp) (ss_A ye) (ss_A yc) (ss_A sh) (ss_A sc) (ss_A dn) (ss_A st) (ss_A hd) (ss_A hs) → wpY_restart p ((nI kp), (ss_A ye), (ss_A yc), (ss_A sh), (ss_A sc), (ss_A dn), (ss_A st), (ss_A hd), (ss_A hs)) (nI a)) → wX_restart_24 (fun r u' => wpY_restart (fun r' v' => r' = r ∧ i_Rel (k + 4) u' v') ((nI kp), (ss_A ye), (ss_A yc), (ss_A sh), (ss_A sc), (ss_A dn), (ss_A st), (ss_A hd), (ss_A hs)) (nI a)) (nI a) z0 fD fT (nI kp) (ss_A run) (ss_A lp) (ss_A rp) (ss_A le) (ss_A re) (ss_A ex) (ss_A ct) (ss_A se) (ss_A po) (ss_A pd) (ss_A pc) (ss_A hv) (ss_A gr) (ss_A to) (ss_A x) (ss_A hd) (ss_A hs) := by
      intro z0 hY
      simp (disch := omega) only [wX_restart_24, ss_m3, ss_m6, ss_m36, ss_16m, nI_add, ss_p1, ss_p3, ss_d3, ss_r3', ss_in, ss_30, ss_cl, ss_ap, ss_upd, ss_upd0, ss_nb1, ss_nb0, forall_eq, true_and, not_false_eq_true]
      refine xs_catch (ye := ye) (yc := yc) (sh := sh) (sc := sc) (by omega) ⟨q1, ss_u_le q2 (Nat.le_refl 1), q3⟩ hR.2.2.2.1 (fun lp' rp' ex' ct' se' po' pd' pc' k1 k2 k3 => hY _ ?_)
      exact ys_r26 ha (ss_R_dn hR) (ss_R_st hR) (fun st' h b => ⟨rfl, ss_il (ss_R_restart hR4 ha k1 k2 k3 h b)⟩)
    refine xs_bn_f ha (br_t rfl ?_)
    refine ⟨vp_in_nI ha (by decide), ?_⟩
    rw [ss_cl (by omega), ss_ap, ss_eq0 (by omega)]
    refine br_c (fun z => main 1 (fun p h => ?_)) (fun z => main 0 (fun p h => ?_))
    · unfold wpY_restart
      refine br_f (nI_pos (by omega)) (br_t (nI_le (b := 5) (by omega) (by decide)) ⟨vp_in_nI ha (by decide), ?_⟩)
      rw [ss_cl (by omega), ss_ap, ss_eq0 (by omega)]
      exact br_f (fun y => e.mp y z) h
    · unfold wpY_restart
      refine br_f (nI_pos (by omega)) (br_t (nI_le (b := 5) (by omega) (by decide)) ⟨vp_in_nI ha (by decide), ?_⟩)
      rw [ss_cl (by omega), ss_ap, ss_eq0 (by omega)]
      exact br_t (e.mpr z) h
end
section
/-! owed: refresh -/
/-- what is shown behind a refresh of the open shards below s -/
def ss_sm1 (ye sh dn st : Nat → Nat) (s : Nat) : Nat → Nat := fun d => if d < 16 ∧ d % 3 < s ∧ ss_yo dn st (d % 3) then ye d else sh d
def ss_sm2 (yc sc dn st : Nat → Nat) (s : Nat) : Nat → Nat := fun i => if i < 96 ∧ i / 6 % 3 < s ∧ ss_yo dn st (i / 6 % 3) then yc i else sc i
def ss_cn (dn st : Nat → Nat) (s : Nat) : Nat := ss_sm (fun s' => if ss_yo dn st s' then 1 else 0) s
section
variable {ye yc sh sc dn st : Nat → Nat} {s : Nat}
theorem ss_sm1_0 : ss_sm1 ye sh dn st 0 = sh := by
  funext d
  exact if_neg (by omega)
theorem ss_sm2_0 : ss_sm2 yc sc dn st 0 = sc := by
  funext d
  exact if_neg (by omega)
theorem ss_sm1_no (hno : ¬ ss_yo dn st s) : ss_sm1 ye sh dn st (s + 1) = ss_sm1 ye sh dn st s := by
  funext d
  unfold ss_sm1
  by_cases c : d < 16 ∧ d % 3 < s ∧ ss_yo dn st (d % 3)
  · rw [if_pos c, if_pos ⟨c.1, by omega, c.2.2⟩]
  · refine (if_neg (fun z => ?_)).trans (if_neg c).symm
    by_cases e : d % 3 = s
    · exact hno (by rw [← e]; exact z.2.2)
    · exact c ⟨z.1, by omega, z.2.2⟩
theorem ss_sm2_no (hno : ¬ ss_yo dn st s) : ss_sm2 yc sc dn st (s + 1) = ss_sm2 yc sc dn st s := by
  funext d
  unfold ss_sm2
  by_cases c : d < 96 ∧ d / 6 % 3 < s ∧ ss_yo dn st (d / 6 % 3)
  · rw [if_pos c, if_pos ⟨c.1, by omega, c.2.2⟩]
  · refine (if_neg (fun z => ?_)).trans (if_neg c).symm
    by_cases e : d / 6 % 3 = s
    · exact hno (by rw [← e]; exact z.2.2)
    · exact c ⟨z.1, by omega, z.2.2⟩
theorem ss_sm1_oth {d : Nat} (h : d % 3 ≠ s) : ss_sm1 ye sh dn st (s + 1) d = ss_sm1 ye sh dn st s d := by
  unfold ss_sm1
  by_cases c : d < 16 ∧ d % 3 < s ∧ ss_yo dn st (d % 3)
  · rw [if_pos c, if_pos ⟨c.1, by omega, c.2.2⟩]
  · exact (if_neg (fun z => c ⟨z.1, by omega, z.2.2⟩)).trans (if_neg c).symm
theorem ss_sm2_oth {d t : Nat} (ht : t < 6) (h : d % 3 ≠ s) : ss_sm2 yc sc dn st (s + 1) (d * 6 + t) = ss_sm2 yc sc dn st s (d * 6 + t) := by
  have e : (d * 6 + t) / 6 = d := by omega
  unfold ss_sm2
  rw [e]
  by_cases c : d * 6 + t < 96 ∧ d % 3 < s ∧ ss_yo dn st (d % 3)
  · rw [if_pos c, if_pos ⟨c.1, by omega, c.2.2⟩]
  · exact (if_neg (fun z => c ⟨z.1, by omega, z.2.2⟩)).trans (if_neg c).symm
theorem ss_sm1_own {d : Nat} (hd : d < 16) (h : d % 3 = s) (ho : ss_yo dn st s) : ss_sm1 ye sh dn st (s + 1) d = ye d := if_pos ⟨hd, by omega, by rw [h]; exact ho⟩
theorem ss_sm2_own {d t : Nat} (hd : d < 16) (ht : t < 6) (h : d % 3 = s) (ho : ss_yo dn st s) : ss_sm2 yc sc dn st (s + 1) (d * 6 + t) = yc (d * 6 + t) := by
  have e : (d * 6 + t) / 6 = d := by omega
  unfold ss_sm2
  rw [e]
  exact if_pos ⟨by omega, by omega, by rw [h]; exact ho⟩
theorem ss_sm1_le {m : Nat} (h1 : ∀ j, ye j ≤ m) (h2 : ∀ j, sh j ≤ m) (j : Nat) : ss_sm1 ye sh dn st s j ≤ m := by
  unfold ss_sm1
  by_cases c : j < 16 ∧ j % 3 < s ∧ ss_yo dn st (j % 3)
  · rw [if_pos c]; exact h1 j
  · rw [if_neg c]; exact h2 j
theorem ss_sm2_le {m : Nat} (h1 : ∀ j, yc j ≤ m) (h2 : ∀ j, sc j ≤ m) (j : Nat) : ss_sm2 yc sc dn st s j ≤ m := by
  unfold ss_sm2
  by_cases c : j < 96 ∧ j / 6 % 3 < s ∧ ss_yo dn st (j / 6 % 3)
  · rw [if_pos c]; exact h1 j
  · rw [if_neg c]; exact h2 j
end
/-- Y's arrays behind i steps -/
def ss_f1 (ye sh dn st : Nat → Nat) (i : Nat) : Nat → Nat := fun d => if d * 6 < i ∧ ss_yo dn st (d % 3) then ye d else sh d
def ss_f2 (yc sc dn st : Nat → Nat) (i : Nat) : Nat → Nat := fun j => if j < i ∧ ss_yo dn st (j / 6 % 3) then yc j else sc j
section
variable {vK : Int32} {vEx vCt vSh vSc vDn vSt vHi vHs : Nat → Int32} {ye yc sh sc dn st : Nat → Nat} {post : Int32 → SY → Prop} {y : Int32}
theorem ss_f1_end : ss_f1 ye sh dn st 96 = ss_sm1 ye sh dn st 3 := by
  funext d
  unfold ss_f1 ss_sm1
  by_cases c : d * 6 < 96 ∧ ss_yo dn st (d % 3)
  · rw [if_pos c, if_pos ⟨by omega, by omega, c.2⟩]
  · exact (if_neg c).trans (if_neg (fun z => c ⟨by omega, z.2.2⟩)).symm
theorem ss_f2_end : ss_f2 yc sc dn st 96 = ss_sm2 yc sc dn st 3 := by
  funext d
  unfold ss_f2 ss_sm2
  by_cases c : d < 96 ∧ ss_yo dn st (d / 6 % 3)
  · rw [if_pos c, if_pos ⟨c.1, by omega, c.2⟩]
  · exact (if_neg c).trans (if_neg (fun z => c ⟨z.1, z.2.2⟩)).symm
theorem ss_f1_no {i : Nat} (hno : ¬ ss_yo dn st (i / 6 % 3)) : ss_f1 ye sh dn st (i + 1) = ss_f1 ye sh dn st i := by
  funext d
  unfold ss_f1
  by_cases c : d * 6 < i ∧ ss_yo dn st (d % 3)
  · rw [if_pos c, if_pos ⟨by omega, c.2⟩]
  · refine (if_neg (fun z => ?_)).trans (if_neg c).symm
    by_cases e : d * 6 = i
    · have e2 : i / 6 = d := by omega
      exact hno (by rw [e2]; exact z.2)
    · exact c ⟨by omega, z.2⟩
theorem ss_f2_no {i : Nat} (hno : ¬ ss_yo dn st (i / 6 % 3)) : ss_f2 yc sc dn st (i + 1) = ss_f2 yc sc dn st i := by
  funext d
  unfold ss_f2
  by_cases c : d < i ∧ ss_yo dn st (d / 6 % 3)
  · rw [if_pos c, if_pos ⟨by omega, c.2⟩]
  · refine (if_neg (fun z => ?_)).trans (if_neg c).symm
    by_cases e : d = i
    · exact hno (by rw [← e]; exact z.2)
    · exact c ⟨by omega, z.2⟩
theorem ss_f1_yes {i : Nat} (ho : ss_yo dn st (i / 6 % 3)) : ss_u (ss_f1 ye sh dn st i) (i / 6) (ye (i / 6)) = ss_f1 ye sh dn st (i + 1) := by
  funext d
  by_cases e : d = i / 6
  · rw [e, ss_us]
    exact (if_pos ⟨by omega, ho⟩).symm
  · rw [ss_un _ _ e]
    unfold ss_f1
    by_cases c : d * 6 < i ∧ ss_yo dn st (d % 3)
    · rw [if_pos c, if_pos ⟨by omega, c.2⟩]
    · exact (if_neg c).trans (if_neg (fun z => c ⟨by omega, z.2⟩)).symm
theorem ss_f2_yes {i : Nat} (ho : ss_yo dn st (i / 6 % 3)) : ss_u (ss_f2 yc sc dn st i) i (yc i) = ss_f2 yc sc dn st (i + 1) := by
  funext d
  by_cases e : d = i
  · rw [e, ss_us]
    exact (if_pos ⟨by omega, ho⟩).symm
  · rw [ss_un _ _ e]
    unfold ss_f2
    by_cases c : d < i ∧ ss_yo dn st (d / 6 % 3)
    · rw [if_pos c, if_pos ⟨by omega, c.2⟩]
    · exact (if_neg c).trans (if_neg (fun z => c ⟨by omega, z.2⟩)).symm
theorem ys_rf28 (hye : ∀ j, ye j ≤ 1) (hdn : ∀ j, dn j ≤ 1) (hst : ∀ j, st j ≤ 1) (H : post y (vK, (ss_A ye), (ss_A yc), (ss_A (ss_sm1 ye sh dn st 3)), (ss_A (ss_sm2 yc sc dn st 3)), (ss_A dn), (ss_A st), vHi, vHs)) : ∀ r i, i + r = 96 → wY_refresh_28 post y vK (r + 1) (nI i) (ss_A ye) (ss_A yc) (ss_A (ss_f1 ye sh dn st i)) (ss_A (ss_f2 yc sc dn st i)) (ss_A dn) (ss_A st) vHi vHs := by
  intro r
  induction r with
  | zero =>
    intro i hi
    obtain rfl : i = 96 := by omega
    rw [wY_refresh_28, ss_f1_end, ss_f2_end]
    exact br_t (by decide) H
  | succ r ih =>
    intro i hi
    have e := ih (i + 1) (by omega)
    have b1 := hye (i / 6)
    rw [wY_refresh_28]
    refine br_f (nI_ge (b := 96) (by omega) (by decide)) ?_
    simp (disch := omega) only [ss_d6, ss_60, ss_nb, ss_m3, ss_m6, ss_m36, ss_16m, nI_add, ss_p1, ss_p3, ss_d3, ss_r3', ss_in, ss_30, ss_cl, ss_ap, ss_upd, ss_upd0, ss_nb1, ss_nb0, forall_eq, true_and, not_false_eq_true]
    refine ys_open (by omega) hdn hst (fun o => br_f (by decide) ?_) (fun o => br_t rfl ?_)
    · rw [ss_f1_yes o, ss_f2_yes o]
      exact e
    · rw [ss_f1_no o, ss_f2_no o] at e
      exact e
theorem ss_cn_s (dn st : Nat → Nat) (s : Nat) : ss_cn dn st (s + 1) = ss_cn dn st s + (if ss_yo dn st s then 1 else 0) := rfl
theorem ys_rf4 (hdn : ∀ j, dn j ≤ 1) (hst : ∀ j, st j ≤ 1) (H : ∃ n, wY_refresh_28 post (nI (ss_cn dn st 3)) vK n 0 vEx vCt vSh vSc (ss_A dn) (ss_A st) vHi vHs) : ∀ r s, s + r = 3 → wY_refresh_4 post vK vEx vCt vSh vSc (ss_A dn) (ss_A st) vHi vHs (r + 1) (nI (ss_cn dn st s)) (nI s) := by
  intro r
  induction r with
  | zero =>
    intro s hs
    obtain rfl : s = 3 := by omega
    rw [wY_refresh_4]
    exact br_t (by decide) H
  | succ r ih =>
    intro s hs
    have e := ih (s + 1) (by omega)
    rw [ss_cn_s] at e
    rw [wY_refresh_4]
    refine br_f (nI_ge (b := 3) (by omega) (by decide)) ?_
    simp (disch := omega) only [ss_m3, ss_m6, ss_m36, ss_16m, nI_add, ss_p1, ss_p3, ss_d3, ss_r3', ss_in, ss_30, ss_cl, ss_ap, ss_upd, ss_upd0, ss_nb1, ss_nb0, forall_eq, true_and, not_false_eq_true]
    refine ys_open (by omega) hdn hst (fun o => br_f (by decide) ?_) (fun o => br_t rfl ?_)
    · rw [if_pos o] at e
      exact e
    · rw [if_neg o] at e
      exact e
theorem ys_refresh (hye : ∀ j, ye j ≤ 1) (hdn : ∀ j, dn j ≤ 1) (hst : ∀ j, st j ≤ 1) (H : post (nI (ss_cn dn st 3)) (vK, (ss_A ye), (ss_A yc), (ss_A (ss_sm1 ye sh dn st 3)), (ss_A (ss_sm2 yc sc dn st 3)), (ss_A dn), (ss_A st), vHi, vHs)) : wpY_refresh post (vK, (ss_A ye), (ss_A yc), (ss_A sh), (ss_A sc), (ss_A dn), (ss_A st), vHi, vHs) := by
  have h1 := ys_rf28 (post := post) hye hdn hst H 96 0 rfl
  have e1 : ss_f1 ye sh dn st 0 = sh := by
    funext d
    exact if_neg (by omega)
  have e2 : ss_f2 yc sc dn st 0 = sc := by
    funext d
    exact if_neg (by omega)
  rw [e1, e2] at h1
  unfold wpY_refresh
  exact ⟨4, ys_rf4 hdn hst ⟨97, h1⟩ 3 0 rfl⟩
end
section
variable {k kp s : Nat} {run lp rp le re ex ct se po pd pc hv gr to x hd hs ye yc sh sc dn st lp' rp' ex' ct' se' po' pd' pc' : Nat → Nat}
/-- ahead of catchUp in a refresh -/
theorem ss_R_pre (hR : ss_R k kp run lp rp le re ex ct se po pd pc ye yc (ss_sm1 ye sh dn st s) (ss_sm2 yc sc dn st s) dn st) (hs : s < 3) (ho : ss_yo dn st s) : ∀ n, n < 6 → ss_N lp rp le (ss_u re s (re s + 1)) ex ct se po pd pc ye yc (ss_sm1 ye sh dn st (s + 1)) (ss_sm2 yc sc dn st (s + 1)) n := by
  intro n hn
  have N := hR.2.2.2.1 n hn
  by_cases hm : n % 3 = s
  · unfold ss_N at N ⊢
    rw [hm] at N ⊢
    rw [ss_us]
    refine ⟨N.1, by omega, fun z => ⟨(N.2.2 z).1, fun y => by omega, fun _ d hd hds => ⟨ss_sm1_own hd hds ho, fun t ht => ss_sm2_own hd ht hds ho⟩⟩⟩
  · refine ss_N_congrY (ye := ye) (yc := yc) (fun d hd hdn => ⟨⟨rfl, fun _ _ => rfl⟩, ss_sm1_oth (by omega), fun t ht => ss_sm2_oth ht (by omega)⟩) ?_
    exact ss_N_congr rfl rfl rfl (ss_un re _ hm) (fun _ _ _ => rfl) (fun _ _ _ => rfl) rfl (fun _ _ _ => rfl) (fun _ _ _ => ⟨rfl, rfl⟩) N
theorem ss_R_refresh (hR : ss_R k kp run lp rp le re ex ct se po pd pc ye yc (ss_sm1 ye sh dn st s) (ss_sm2 yc sc dn st s) dn st) (hs : s < 3) (hye : ∀ j, ye j ≤ 1) (hyc : ∀ j, yc j ≤ 9) (hsh : ∀ j, sh j ≤ 1) (hsc : ∀ j, sc j ≤ 9) (ho : ss_op run lp le s) (hb : ss_bd k run lp' rp' le (ss_u re s (re s + 1)) ex' ct') (B : ∀ n, n < 6 → ss_N lp' rp' le (ss_u re s (re s + 1)) ex' ct' se' po' pd' pc' ye yc (ss_sm1 ye sh dn st (s + 1)) (ss_sm2 yc sc dn st (s + 1)) n) (hK : ss_K s run lp rp le (ss_u re s (re s + 1)) lp' rp') : ss_R k kp run lp' rp' le (ss_u re s (re s + 1)) ex' ct' se' po' pd' pc' ye yc (ss_sm1 ye sh dn st (s + 1)) (ss_sm2 yc sc dn st (s + 1)) dn st := by
  obtain ⟨r1, r2, r3, r4, r5, r6⟩ := hR
  obtain ⟨b0, b1, b2, b3, b4, b5, b6, b7⟩ := hb
  obtain ⟨k1, k2⟩ := hK
  have elp : ∀ n, n < 6 → lp' n = lp n := by
    intro n hn
    by_cases c1 : n % 3 = s
    · by_cases c2 : run n = 0
      · exact (k2 n hn (Or.inr (Or.inr c2))).1
      · have t := (r6 n hn c2 (by rw [c1]; exact ho)).1
        rw [c1] at t
        exact (k1 n hn c1 ho c2).1.trans t.symm
    · exact (k2 n hn (Or.inl c1)).1
  refine ⟨r1, fun j => ⟨b1 j, b2 j, b3 j, b4 j, b5 j, b6 j, b7 j⟩, fun j => ?_, B, fun n hn => ⟨(r5 n hn).1, by rw [elp n hn]; exact (r5 n hn).2⟩, fun n hn hr hop => ?_⟩
  · obtain ⟨a1, a2, a3, a4, a5, a6⟩ := r3 j
    exact ⟨a1, a2, ss_sm1_le hye hsh j, ss_sm2_le hyc hsc j, a5, a6⟩
  · by_cases c1 : n % 3 = s
    · rw [c1]
      exact k1 n hn c1 ho hr
    · have tr : ∀ m, m < 6 → ss_up run lp' le m → ss_up run lp le m := fun m hm z => ⟨z.1, by rw [← elp m hm]; exact z.2⟩
      have hn3 : n % 3 < 3 := Nat.mod_lt n (by decide)
      have t := r6 n hn hr (hop.elim (fun z => Or.inl (tr _ (by omega) z)) (fun z => Or.inr (tr _ (by omega) z)))
      rw [elp n hn, (k2 n hn (Or.inl c1)).2, ss_un re _ c1]
      exact t
end
section
variable {fD fT : Int32} {k kp : Nat} {hv gr to x hd hs run le ye yc sh sc dn st : Nat → Nat} {post : Int32 → SX → Prop}
theorem xs_rf4 (hk : k + 4 ≤ 2048) (hye : ∀ j, ye j ≤ 1) (hyc : ∀ j, yc j ≤ 9) (hsh : ∀ j, sh j ≤ 1) (hsc : ∀ j, sc j ≤ 9) (H : ∀ lp rp re ex ct se po pd pc, ss_R (k + 4) kp run lp rp le re ex ct se po pd pc ye yc (ss_sm1 ye sh dn st 3) (ss_sm2 yc sc dn st 3) dn st → post (nI (ss_cn dn st 3)) (fD, fT, (nI kp), (ss_A run), (ss_A lp), (ss_A rp), (ss_A le), (ss_A re), (ss_A ex), (ss_A ct), (ss_A se), (ss_A po), (ss_A pd), (ss_A pc), (ss_A hv), (ss_A gr), (ss_A to), (ss_A x), (ss_A hd), (ss_A hs))) : ∀ r s lp rp re ex ct se po pd pc, s + r = 3 → ss_R (k + 4) kp run lp rp le re ex ct se po pd pc ye yc (ss_sm1 ye sh dn st s) (ss_sm2 yc sc dn st s) dn st → (∀ j, s ≤ j → re j ≤ k) → wX_refresh_4 post (r + 1) (nI (ss_cn dn st s)) (nI s) fD fT (nI kp) (ss_A run) (ss_A lp) (ss_A rp) (ss_A le) (ss_A re) (ss_A ex) (ss_A ct) (ss_A se) (ss_A po) (ss_A pd) (ss_A pc) (ss_A hv) (ss_A gr) (ss_A to) (ss_A x) (ss_A hd) (ss_A hs) := by
  intro r
  induction r with
  | zero =>
    intro s lp rp re ex ct se po pd pc hs3 hR hre
    obtain rfl : s = 3 := by omega
    rw [wX_refresh_4]
    exact br_t (by decide) (H lp rp re ex ct se po pd pc hR)
  | succ r ih =>
    intro s lp rp re ex ct se po pd pc hs3 hR hre
    have hb := ss_R_bd hR (b := k + 4) (by omega) (by omega)
    obtain ⟨q0, q1, q2, q3, q4, q5, q6, q7⟩ := hb
    have hres := hre s (Nat.le_refl s)
    have hop := ss_R_op hR s (by omega)
    rw [wX_refresh_4]
    refine br_f (nI_ge (b := 3) (by omega) (by decide)) ?_
    simp (disch := omega) only [ss_m3, ss_m6, ss_m36, ss_16m, nI_add, ss_p1, ss_p3, ss_d3, ss_r3', ss_in, ss_30, ss_cl, ss_ap, ss_upd, ss_upd0, ss_nb1, ss_nb0, forall_eq, true_and, not_false_eq_true]
    refine xs_srv (by omega) q1 (ss_lt5 q0 q2) (ss_lt5 q0 q4) (fun n hn hm hup => br_f (nI_pos (by omega)) ?_) (fun hno => br_t (by decide) ?_)
    · have ho := ss_up_op hn hm hup
      have hyo := hop.mp ho
      refine xs_catch (ye := ye) (yc := yc) (sh := ss_sm1 ye sh dn st (s + 1)) (sc := ss_sm2 yc sc dn st (s + 1)) (by omega) ⟨q0, q1, q2, q3, q4, ss_u_le q5 (by omega), q6, q7⟩ (ss_R_pre hR (by omega) hyo) (fun lp' rp' ex' ct' se' po' pd' pc' k1 k2 k3 => ?_)
      have e := ih (s + 1) lp' rp' (ss_u re s (re s + 1)) ex' ct' se' po' pd' pc' (by omega) (ss_R_refresh hR (by omega) hye hyc hsh hsc ho k1 k2 k3) (fun j hj => by rw [ss_un re _ (by omega)]; exact hre j (by omega))
      rw [ss_cn_s, if_pos hyo] at e
      exact e
    · have hyo : ¬ ss_yo dn st s := fun z => hno (hop.mpr z)
      have e := ih (s + 1) lp rp re ex ct se po pd pc (by omega) (by rw [ss_sm1_no hyo, ss_sm2_no hyo]; exact hR) (fun j hj => hre j (by omega))
      rw [ss_cn_s, if_neg hyo] at e
      exact e
end
theorem i_vc_refresh {k : Nat} {u : SX} {v : SY} (I : i_Rel k u v) (hk : k + 4 ≤ 2048) : wpX_refresh (fun r u' => wpY_refresh (fun r' v' => r' = r ∧ i_Rel (k + 4) u' v') v) u := by
  refine ss_el (P := fun u v => wpX_refresh (fun r u' => wpY_refresh (fun r' v' => r' = r ∧ i_Rel (k + 4) u' v') v) u) ?_ I
  intro fD fT kp run lp rp le re ex ct se po pd pc hv gr to x hd hs ye yc sh sc dn st hR
  unfold wpX_refresh
  have hR0 : ss_R (k + 4) kp run lp rp le re ex ct se po pd pc ye yc (ss_sm1 ye sh dn st 0) (ss_sm2 yc sc dn st 0) dn st := by
    rw [ss_sm1_0, ss_sm2_0]
    exact ss_R_up (by omega) hR
  refine ⟨4, xs_rf4 hk (ss_R_ye hR) (ss_R_yc hR) (ss_R_sh hR) (ss_R_sc hR) (fun lp' rp' re' ex' ct' se' po' pd' pc' h => ?_) 3 0 lp rp re ex ct se po pd pc rfl hR0 (fun j _ => (hR.2.1 j).2.2.2.2.1)⟩
  exact ys_refresh (ss_R_ye hR) (ss_R_dn hR) (ss_R_st hR) ⟨rfl, ss_il h⟩
end
