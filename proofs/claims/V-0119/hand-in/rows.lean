section
/-! rows of kit/rows/PURE-ROWS (a starting text): stores, numbers, branches by naturals -/
theorem pk_us {f : Nat → Int32} {k : Nat} {x : Int32} : upd f k x k = x := if_pos rfl
theorem pk_un {f : Nat → Int32} {k j : Nat} {x : Int32} (h : j ≠ k) : upd f k x j = f j := if_neg h
theorem pk_sub {a b : Nat} (h : b ≤ a) : nI a - nI b = nI (a - b) := by
  obtain ⟨c, rfl⟩ : ∃ c, a = c + b := ⟨a - b, by omega⟩
  rw [← nI_add, Int32.add_sub_cancel, Nat.add_sub_cancel]
theorem pk_m1 (n : Nat) : nI (n + 1) + (-1) = nI n := by
  rw [← nI_1, Int32.add_assoc, show (1 : Int32) + (-1) = 0 from rfl, Int32.add_zero]
theorem pk_mul (a b : Nat) : nI a * nI b = nI (a * b) := (Int32.ofNat_mul a b).symm
theorem pk_div {a d : Nat} (ha : a < 2 ^ 31) (h0 : 0 < d) (hd : d < 2 ^ 31) : nI a / nI d = nI (a / d) := by
  apply Int32.toInt_inj.mp
  rw [lg_idiv_nonneg (by rw [nI_toInt ha]; omega) (by rw [nI_toInt hd]; omega), nI_toInt ha, nI_toInt hd, nI_toInt (Nat.lt_of_le_of_lt (Nat.div_le_self a d) ha)]
  first | rfl | exact (Int.natCast_ediv _ _).symm
theorem pk_rem {a d : Nat} (ha : a < 2 ^ 31) (h0 : 0 < d) (hd : d < 2 ^ 31) : nI a - nI a / nI d * nI d = nI (a % d) := by
  rw [pk_div ha h0 hd, pk_mul, pk_sub (Nat.div_mul_le_self a d)]
  exact congrArg nI (by have := Nat.div_add_mod' a d; omega)
theorem pk_sub_toInt {a b : Nat} (ha : a < 2 ^ 30) (hb : b < 2 ^ 30) : (nI a - nI b).toInt = (a : Int) - b := by
  rw [Int32.toInt_sub, nI_toInt (by omega), nI_toInt (by omega)]
  exact Int.bmod_eq_of_le (by omega) (by omega)
theorem pk_sneg {a b : Nat} (hb : b < 2 ^ 30) (h : a < b) : nI a - nI b < 0 := by
  rw [Int32.lt_iff_toInt_lt, pk_sub_toInt (by omega) hb, show (0 : Int32).toInt = 0 from by decide]
  omega
theorem pk_ix (x : Int32) {n : Nat} (hn : n < 2 ^ 31) : x < 0 ∨ nI n ≤ x ∨ ∃ j : Nat, j < n ∧ x = nI j := by
  by_cases h : x < 0
  · exact Or.inl h
  · obtain ⟨j, hj, rfl⟩ := nI_of h
    by_cases h2 : j < n
    · exact Or.inr (Or.inr ⟨j, h2, rfl⟩)
    · exact Or.inr (Or.inl (nI_le (by omega) hj))
theorem pk_le {x y : Int32} {A B : Prop} (a b : Nat) (f : a ≤ b → A) (g : b < a → B) (hx : x = nI a := by rfl) (hy : y = nI b := by rfl) (ha : a < 2 ^ 31 := by omega) (hb : b < 2 ^ 31 := by omega) : (x ≤ y → A) ∧ (¬ x ≤ y → B) := by
  subst hx hy
  rw [nI_leI ha hb]
  exact ⟨f, fun z => g (by omega)⟩
theorem pk_lt {x y : Int32} {A B : Prop} (a b : Nat) (f : a < b → A) (g : b ≤ a → B) (hx : x = nI a := by rfl) (hy : y = nI b := by rfl) (ha : a < 2 ^ 31 := by omega) (hb : b < 2 ^ 31 := by omega) : (x < y → A) ∧ (¬ x < y → B) := by
  subst hx hy
  rw [nI_ltI ha hb]
  exact ⟨f, fun z => g (by omega)⟩
theorem pk_eq {x y : Int32} {A B : Prop} (a b : Nat) (f : a = b → A) (g : a ≠ b → B) (hx : x = nI a := by rfl) (hy : y = nI b := by rfl) (ha : a < 2 ^ 31 := by omega) (hb : b < 2 ^ 31 := by omega) : (x = y → A) ∧ (¬ x = y → B) := by
  subst hx hy
  rw [nI_eq ha hb]
  exact ⟨f, g⟩
theorem pk_in {x : Int32} (n N : Nat) (h : n < N) (hx : x = nI n := by rfl) (hN : N < 2 ^ 31 := by omega) : vp_in x N := by
  subst hx
  exact vp_in_nI h hN
theorem pk_cl {x : Int32} (n : Nat) (hx : x = nI n := by rfl) (h : n < 2 ^ 31 := by omega) : x.toNatClampNeg = n := by
  subst hx
  exact nI_clamp h
theorem pk_tn {n : Nat} (h : n < 2 ^ 32) : (nI n).toBitVec.toNat = n := Nat.mod_eq_of_lt h
theorem pk_and (x : Int32) {m : Int32} (k : Nat) (hm : m.toBitVec.toNat = 2 ^ k - 1) : x &&& m = nI (x.toBitVec.toNat % 2 ^ k) := by
  apply Int32.toBitVec_inj.mp
  apply BitVec.eq_of_toNat_eq
  rw [Int32.toBitVec_and, BitVec.toNat_and, hm, Nat.and_two_pow_sub_one_eq_mod]
  show _ = (BitVec.ofNat 32 _).toNat
  rw [BitVec.toNat_ofNat]
  exact (Nat.mod_eq_of_lt (Nat.lt_of_le_of_lt (Nat.mod_le _ _) x.toBitVec.isLt)).symm
theorem pk_andN {n : Nat} (h : n < 2 ^ 32) {m : Int32} (k : Nat) (hm : m.toBitVec.toNat = 2 ^ k - 1) : nI n &&& m = nI (n % 2 ^ k) := by
  rw [pk_and _ k hm, pk_tn h]
theorem pk_andE (x : Int32) {m : Int32} (k : Nat) (hm : m.toBitVec.toNat = 2 ^ k - 1) : ∃ j : Nat, j < 2 ^ k ∧ x &&& m = nI j := ⟨_, Nat.mod_lt _ (Nat.two_pow_pos k), pk_and x k hm⟩
theorem pk_andIn (x : Int32) {m : Int32} (k : Nat) (hm : m.toBitVec.toNat = 2 ^ k - 1) (hk : k ≤ 30) : vp_in (x &&& m) (2 ^ k) := by
  obtain ⟨j, hj, e⟩ := pk_andE x k hm
  rw [e]
  exact vp_in_nI hj (Nat.lt_of_le_of_lt (Nat.pow_le_pow_right (by decide) hk) (by decide))
theorem pk_shl (a s : Int32) (k : Nat) (hs : (s.toBitVec.smod 32).toNat = k) : (a <<< s).toBitVec.toNat = a.toBitVec.toNat * 2 ^ k % 2 ^ 32 := by
  show (a.toBitVec <<< (s.toBitVec.smod 32).toNat).toNat = _
  rw [hs, BitVec.toNat_shiftLeft, Nat.shiftLeft_eq]
theorem pk_shlN {n : Nat} (s : Int32) (k : Nat) (hs : (s.toBitVec.smod 32).toNat = k) (h : n * 2 ^ k < 2 ^ 32) : nI n <<< s = nI (n * 2 ^ k) := by
  apply Int32.toBitVec_inj.mp
  apply BitVec.eq_of_toNat_eq
  have hn : n < 2 ^ 32 := Nat.lt_of_le_of_lt (Nat.le_mul_of_pos_right n (Nat.two_pow_pos k)) h
  rw [pk_shl _ _ k hs, pk_tn hn, pk_tn h, Nat.mod_eq_of_lt h]
theorem pk_shr (a s : Int32) (k : Nat) (hs : (s.toBitVec.smod 32).toNat = k) : (a >>> s).toInt = a.toInt >>> k := by
  show (a.toBitVec.sshiftRight (s.toBitVec.smod 32).toNat).toInt = _
  rw [hs, BitVec.toInt_sshiftRight]
  rfl
theorem pk_shrN {n : Nat} (h : n < 2 ^ 31) (s : Int32) (k : Nat) (hs : (s.toBitVec.smod 32).toNat = k) : nI n >>> s = nI (n / 2 ^ k) := by
  apply Int32.toInt_inj.mp
  have h2 : n / 2 ^ k ≤ n := Nat.div_le_self _ _
  rw [pk_shr _ _ k hs, nI_toInt h, nI_toInt (by omega), Int.shiftRight_eq_div_pow]
  rfl
end
section
/-! booleans as numbers -/
noncomputable def bn (P : Prop) : Nat := @ite Nat P (Classical.propDecidable P) 1 0
theorem bn_t {P : Prop} (h : P) : bn P = 1 := by unfold bn; rw [if_pos h]
theorem bn_f {P : Prop} (h : ¬ P) : bn P = 0 := by unfold bn; rw [if_neg h]
theorem bn_le (P : Prop) : bn P ≤ 1 := by
  rcases Classical.em P with h | h
  · rw [bn_t h]; omega
  · rw [bn_f h]; omega
theorem bn_c {P Q : Prop} (h : P ↔ Q) : bn P = bn Q := by rw [propext h]
noncomputable def bb (P : Prop) : Int32 := @ite Int32 P (Classical.propDecidable P) 1 0
theorem bb_t {P : Prop} (h : P) : bb P = 1 := by unfold bb; rw [if_pos h]
theorem bb_f {P : Prop} (h : ¬ P) : bb P = 0 := by unfold bb; rw [if_neg h]
theorem bb_10 : ¬ (1 : Int32) = 0 := by decide
theorem bb_0 {P : Prop} : bb P = 0 ↔ ¬ P := by
  rcases Classical.em P with h | h
  · rw [bb_t h]; exact ⟨fun z => absurd z bb_10, fun z => absurd h z⟩
  · rw [bb_f h]; exact ⟨fun _ => h, fun _ => rfl⟩
theorem bb_n0 {P : Prop} : ¬ bb P = 0 ↔ P := by
  rcases Classical.em P with h | h
  · rw [bb_t h]; exact ⟨fun _ => h, fun _ => bb_10⟩
  · rw [bb_f h]; exact ⟨fun z => absurd rfl z, fun z => absurd z h⟩
theorem bb_c {P Q : Prop} (h : P ↔ Q) : bb P = bb Q := by rw [propext h]
theorem bb_v0 : vp_nar .boolean 0 = 0 := by decide
theorem bb_v1 : vp_nar .boolean 1 = 1 := by decide
theorem bb_v (P : Prop) : vp_nar .boolean (bb P) = bb P := by
  rcases Classical.em P with h | h
  · rw [bb_t h]; exact bb_v1
  · rw [bb_f h]; exact bb_v0
/-! sums -/
def sm (f : Nat → Nat) : Nat → Nat
  | 0 => 0
  | n + 1 => sm f n + f n
theorem sm_le {f g : Nat → Nat} : ∀ {n : Nat}, (∀ i, i < n → f i ≤ g i) → sm f n ≤ sm g n
  | 0, _ => Nat.le_refl _
  | n + 1, h => by
    have a := sm_le (f := f) (g := g) (n := n) (fun i hi => h i (by omega))
    have b := h n (by omega)
    simp only [sm]; omega
theorem sm_eq {f g : Nat → Nat} {n : Nat} (h : ∀ i, i < n → f i = g i) : sm f n = sm g n :=
  Nat.le_antisymm (sm_le fun i hi => Nat.le_of_eq (h i hi)) (sm_le fun i hi => Nat.le_of_eq (h i hi).symm)
theorem sm_add {f g : Nat → Nat} : ∀ {n : Nat}, sm (fun i => f i + g i) n = sm f n + sm g n
  | 0 => rfl
  | n + 1 => by simp only [sm]; rw [sm_add (n := n)]; omega
theorem sm_c (c : Nat) : ∀ n : Nat, sm (fun _ => c) n = n * c
  | 0 => by simp only [sm]; omega
  | n + 1 => by simp only [sm]; rw [sm_c c n, Nat.add_mul]; omega
theorem sm_z {f : Nat → Nat} {n : Nat} (h : ∀ i, i < n → f i = 0) : sm f n = 0 := by
  rw [sm_eq (g := fun _ => 0) h, sm_c]; omega
theorem sm_swap {f : Nat → Nat → Nat} {m : Nat} : ∀ {n : Nat}, sm (fun i => sm (fun j => f i j) m) n = sm (fun j => sm (fun i => f i j) n) m
  | 0 => by simp only [sm]; exact (sm_z fun _ _ => rfl).symm
  | n + 1 => by simp only [sm]; rw [sm_swap (n := n), ← sm_add]
theorem sm_1 {f : Nat → Nat} {k : Nat} : ∀ {n : Nat}, k < n → (∀ i, i < n → i ≠ k → f i = 0) → sm f n = f k
  | 0, h, _ => by omega
  | n + 1, hk, h => by
    simp only [sm]
    rcases Nat.lt_or_ge k n with z | z
    · rw [sm_1 z (fun i hi => h i (by omega)), h n (by omega) (by omega)]; omega
    · have e : k = n := by omega
      subst e
      rw [sm_z (fun i hi => h i (by omega) (by omega))]; omega
theorem sm_ge {f : Nat → Nat} {k : Nat} : ∀ {n : Nat}, k < n → f k ≤ sm f n
  | 0, h => by omega
  | n + 1, hk => by
    simp only [sm]
    rcases Nat.lt_or_ge k n with z | z
    · have := sm_ge (f := f) z; omega
    · have e : k = n := by omega
      subst e; omega
theorem sm_u {f g : Nat → Nat} {k : Nat} : ∀ {n : Nat}, k < n → (∀ i, i < n → i ≠ k → g i = f i) → sm g n + f k = sm f n + g k
  | 0, h, _ => by omega
  | n + 1, hk, h => by
    simp only [sm]
    rcases Nat.lt_or_ge k n with z | z
    · have a := sm_u (f := f) (g := g) z (fun i hi => h i (by omega))
      rw [h n (by omega) (by omega)]; omega
    · have e : k = n := by omega
      subst e
      rw [sm_eq (f := g) (g := f) (fun i hi => h i (by omega) (by omega))]; omega
theorem sm_it (a b : Nat) : ∀ n : Nat, sm (fun w => bn (a ≤ w ∧ w < b)) n = min b n - a
  | 0 => by simp only [sm]; omega
  | n + 1 => by
    simp only [sm]
    rw [sm_it a b n]
    rcases Classical.em (a ≤ n ∧ n < b) with h | h
    · rw [bn_t h]; omega
    · rw [bn_f h]; omega
theorem sm_mo {f : Nat → Nat} : ∀ {n m : Nat}, n ≤ m → sm f n ≤ sm f m
  | _, 0, h => by have e := Nat.le_zero.mp h; subst e; exact Nat.le_refl _
  | n, m + 1, h => by
    rcases Nat.lt_or_ge n (m + 1) with z | z
    · have := sm_mo (f := f) (n := n) (m := m) (by omega)
      simp only [sm]; omega
    · have e : n = m + 1 := by omega
      subst e; exact Nat.le_refl _
/-- how many of the first n -/
noncomputable def cnt (P : Nat → Prop) (n : Nat) : Nat := sm (fun i => bn (P i)) n
theorem cnt_le (P : Nat → Prop) (n : Nat) : cnt P n ≤ n := by
  have h := sm_le (f := fun i => bn (P i)) (g := fun _ => 1) (n := n) (fun i _ => bn_le _)
  rw [sm_c] at h
  unfold cnt; omega
theorem cnt_c {P Q : Nat → Prop} {n : Nat} (h : ∀ i, i < n → (P i ↔ Q i)) : cnt P n = cnt Q n := sm_eq fun i hi => bn_c (h i hi)
theorem cnt_s {P Q : Nat → Prop} {n k : Nat} (hk : k < n) (hp : ¬ P k) (hq : Q k) (h : ∀ i, i < n → i ≠ k → (Q i ↔ P i)) : cnt Q n = cnt P n + 1 := by
  have a := sm_u (f := fun i => bn (P i)) (g := fun i => bn (Q i)) hk (fun i hi hn => bn_c (h i hi hn))
  simp only [bn_t hq, bn_f hp] at a
  unfold cnt; omega
theorem cnt_mo {P Q : Nat → Prop} {n : Nat} (h : ∀ i, i < n → P i → Q i) : cnt P n ≤ cnt Q n := by
  refine sm_le fun i hi => ?_
  show bn (P i) ≤ bn (Q i)
  rcases Classical.em (P i) with z | z
  · rw [bn_t z, bn_t (h i hi z)]; omega
  · rw [bn_f z]; omega
theorem cnt_lt {P Q : Nat → Prop} {n k : Nat} (hk : k < n) (hp : ¬ P k) (hq : Q k) (h : ∀ i, i < n → P i → Q i) : cnt P n < cnt Q n := by
  have a := cnt_s (P := P) (Q := fun i => P i ∨ i = k) hk hp (Or.inr rfl) (fun i _ hn => ⟨fun z => z.elim id (fun e => absurd e hn), Or.inl⟩)
  have b := cnt_mo (P := fun i => P i ∨ i = k) (Q := Q) (n := n) (fun i hi z => z.elim (h i hi) (fun e => e ▸ hq))
  omega
theorem cnt_n {P : Nat → Prop} {n k : Nat} (hk : k < n) (hp : ¬ P k) : cnt P n < n := by
  have a := cnt_lt (Q := fun _ => True) hk hp trivial (fun _ _ _ => trivial)
  have b := cnt_le (fun _ => True) n
  omega
/-! numbers -/
theorem nu_2 (a : Nat) : 2 + nI a = nI (2 + a) := nI_add 2 a
theorem nu_a2 (a : Nat) : nI a + 2 = nI (a + 2) := nI_add a 2
theorem nu_3 (a : Nat) : nI a + 3 = nI (a + 3) := nI_add a 3
theorem nu_m4 (a : Nat) : nI a * 4 = nI (a * 4) := pk_mul a 4
theorem nu_m8 (a : Nat) : nI a * 8 = nI (a * 8) := pk_mul a 8
theorem nu_m32 (a : Nat) : nI a * 32 = nI (a * 32) := pk_mul a 32
theorem nu_m12 (a : Nat) : nI a * 12 = nI (a * 12) := pk_mul a 12
theorem nu_8m (a : Nat) : 8 * nI a = nI (8 * a) := pk_mul 8 a
theorem nu_12m (a : Nat) : 12 * nI a = nI (12 * a) := pk_mul 12 a
theorem nu_s2 {n : Nat} (h : n < 2 ^ 31) : nI n >>> ((2 : Int32) &&& 31) = nI (n / 4) := pk_shrN h _ 2 (by decide)
theorem nu_s3 {n : Nat} (h : n < 2 ^ 31) : nI n >>> ((3 : Int32) &&& 31) = nI (n / 8) := pk_shrN h _ 3 (by decide)
theorem nu_s5 {n : Nat} (h : n < 2 ^ 31) : nI n >>> ((5 : Int32) &&& 31) = nI (n / 32) := pk_shrN h _ 5 (by decide)
theorem nu_a7 {n : Nat} (h : n < 2 ^ 31) : nI n &&& 7 = nI (n % 8) := pk_andN (by omega) 3 (by decide)
theorem nu_a31 {n : Nat} (h : n < 2 ^ 31) : nI n &&& 31 = nI (n % 32) := pk_andN (by omega) 5 (by decide)
theorem nu_d8 {n : Nat} (h : n < 2 ^ 31) : nI n / 8 = nI (n / 8) := pk_div (d := 8) h (by omega) (by omega)
theorem nu_r8 {n : Nat} (h : n < 2 ^ 31) : nI n - nI n / 8 * 8 = nI (n % 8) := pk_rem (d := 8) h (by omega) (by omega)
theorem nu_80 : ¬ (8 : Int32) = 0 := by decide
theorem nu_n1 : (-1 : Int32) < 0 := by decide
theorem nu_nn1 : ¬ (0 : Int32) ≤ -1 := by decide
theorem nu_le0 {x : Int32} : 0 ≤ x ↔ ¬ x < 0 := Int32.not_lt.symm
theorem nu_inj {a b : Nat} (h : nI a = nI b) (ha : a < 2 ^ 31) (hb : b < 2 ^ 31) : a = b := (nI_eq ha hb).mp h
theorem nu_fn {a : Nat} (h : a < 2 ^ 30) : (-1) - nI a < 0 := by
  rw [Int32.lt_iff_toInt_lt, Int32.toInt_sub, nI_toInt (by omega)]
  have h1 : ((-1 : Int32)).toInt = -1 := by decide
  have h0 : ((0 : Int32)).toInt = 0 := by decide
  rw [h1, h0, Int.bmod_eq_of_le (by omega) (by omega)]
  omega
theorem nu_ff (x : Int32) : (-1) - ((-1) - x) = x := by
  rw [Int32.sub_eq_add_neg, Int32.neg_sub, Int32.sub_eq_add_neg, Int32.add_comm x, ← Int32.add_assoc, Int32.add_right_neg, Int32.zero_add]
theorem nu_u {a : Nat → Int32} {i : Nat} {x y : Int32} (hi : i < 2 ^ 31) (e : x = y) : upd a (nI i).toNatClampNeg x = upd a i y := by rw [nI_clamp hi, e]
theorem nu_g {a : Nat → Int32} {i : Nat} (hi : i < 2 ^ 31) : a (nI i).toNatClampNeg = a i := by rw [nI_clamp hi]
/-! a stretch of an array written -/
def fg (a : Nat → Int32) (i e : Nat) (g : Nat → Int32) : Nat → Int32 := fun j => if i ≤ j ∧ j < e then g j else a j
theorem fg_in {a g : Nat → Int32} {i e j : Nat} (h : i ≤ j ∧ j < e) : fg a i e g j = g j := if_pos h
theorem fg_out {a g : Nat → Int32} {i e j : Nat} (h : ¬ (i ≤ j ∧ j < e)) : fg a i e g j = a j := if_neg h
theorem fg_nil {a g : Nat → Int32} {i e : Nat} (h : e ≤ i) : fg a i e g = a := funext fun j => fg_out (by omega)
theorem fg_s {a g : Nat → Int32} {i e : Nat} (h : i < e) : fg (upd a i (g i)) (i + 1) e g = fg a i e g := by
  funext j
  by_cases h1 : i + 1 ≤ j ∧ j < e
  · rw [fg_in h1, fg_in (by omega)]
  · rw [fg_out h1]
    by_cases h2 : j = i
    · subst h2; rw [pk_us, fg_in (by omega)]
    · rw [pk_un h2, fg_out (by omega)]
theorem fg_e {a g : Nat → Int32} {i e : Nat} (h : i ≤ e) : upd (fg a i e g) e (g e) = fg a i (e + 1) g := by
  funext j
  by_cases h2 : j = e
  · subst h2; rw [pk_us, fg_in (by omega)]
  · rw [pk_un h2]
    by_cases h1 : i ≤ j ∧ j < e
    · rw [fg_in h1, fg_in (by omega)]
    · rw [fg_out h1, fg_out (by omega)]
/-- the law of a loop that writes g at i, i + 1 .. below e -/
theorem fg_loop (W : Nat → Nat → (Nat → Int32) → Prop) (g : Nat → Int32) (e N : Nat) (Q : (Nat → Int32) → Prop)
    (hx : ∀ n i a, e ≤ i → i ≤ N → Q a → W (n + 1) i a)
    (hs : ∀ n i a, i < e → i ≤ N → W n (i + 1) (upd a i (g i)) → W (n + 1) i a) (he : e ≤ N) :
    ∀ n i a, e - i < n → i ≤ N → Q (fg a i e g) → W n i a := by
  intro n
  induction n with
  | zero => intro i a h; omega
  | succ n ih =>
    intro i a h hi hq
    rcases Nat.lt_or_ge i e with z | z
    · refine hs n i a z hi (ih (i + 1) _ (by omega) (by omega) ?_)
      rw [fg_s z]; exact hq
    · rw [fg_nil z] at hq
      exact hx n i a z hi hq
end
section
section
variable {B R S : Nat} {ma ml oa ol md uw mt vc : Int32} {me st lt rs ss ws mk lm pw ca ms fw vn vq : Nat → Int32} {pr : Int32 → Prop} {pu : SX → Prop} {pp : Int32 → SX → Prop}
theorem x_bad {v : Int32} (hR : R < 2 ^ 31) (h : v < 0 ∨ nI R ≤ v) (hp : pr 1) : wpX_badRoot pr (nI B, nI (8 * B), nI (32 * B), nI (12 * B), nI R, nI S, ma, ml, oa, ol, md, uw, mt, vc, me, st, lt, rs, ss, ws, mk, lm, pw, ca, ms, fw, vn, vq) v :=
  br_c (fun _ => hp) (fun hn => br_f (fun z => (h.elim hn (fun q => Int32.not_le.mpr z q))) hp)
theorem x_good {j : Nat} (hR : R < 2 ^ 31) (h : j < R) (hp : pr 0) : wpX_badRoot pr (nI B, nI (8 * B), nI (32 * B), nI (12 * B), nI R, nI S, ma, ml, oa, ol, md, uw, mt, vc, me, st, lt, rs, ss, ws, mk, lm, pw, ca, ms, fw, vn, vq) (nI j) :=
  br_f (nI_pos (by omega)) (br_t (nI_lt h hR) hp)
theorem x_badS {v : Int32} (hS : S < 2 ^ 31) (h : v < 0 ∨ nI S ≤ v) (hp : pr 1) : wpX_badSlot pr (nI B, nI (8 * B), nI (32 * B), nI (12 * B), nI R, nI S, ma, ml, oa, ol, md, uw, mt, vc, me, st, lt, rs, ss, ws, mk, lm, pw, ca, ms, fw, vn, vq) v :=
  br_c (fun _ => hp) (fun hn => br_f (fun z => (h.elim hn (fun q => Int32.not_le.mpr z q))) hp)
theorem x_goodS {j : Nat} (hS : S < 2 ^ 31) (h : j < S) (hp : pr 0) : wpX_badSlot pr (nI B, nI (8 * B), nI (32 * B), nI (12 * B), nI R, nI S, ma, ml, oa, ol, md, uw, mt, vc, me, st, lt, rs, ss, ws, mk, lm, pw, ca, ms, fw, vn, vq) (nI j) :=
  br_f (nI_pos (by omega)) (br_t (nI_lt h hS) hp)
theorem x_badW {v : Int32} (h : v < 0 ∨ nI 4 ≤ v) (hp : pr 1) : wpX_badWeak pr (nI B, nI (8 * B), nI (32 * B), nI (12 * B), nI R, nI S, ma, ml, oa, ol, md, uw, mt, vc, me, st, lt, rs, ss, ws, mk, lm, pw, ca, ms, fw, vn, vq) v :=
  br_c (fun _ => hp) (fun hn => br_f (fun z => (h.elim hn (fun q => absurd (Int32.le_trans q z) (by decide)))) hp)
theorem x_goodW {j : Nat} (h : j < 4) (hp : pr 0) : wpX_badWeak pr (nI B, nI (8 * B), nI (32 * B), nI (12 * B), nI R, nI S, ma, ml, oa, ol, md, uw, mt, vc, me, st, lt, rs, ss, ws, mk, lm, pw, ca, ms, fw, vn, vq) (nI j) :=
  br_f (nI_pos (by omega)) (br_t (nI_le (b := 3) (by omega) (by omega)) hp)
theorem x_linksOf {a l d : Nat} (h : me a = nI (8 * l + d)) (hd : d ≤ 4) (hl : l ≤ 4) (ha : a < 256) (hp : pr (nI l)) : wpX_linksOf pr (nI B, nI (8 * B), nI (32 * B), nI (12 * B), nI R, nI S, ma, ml, oa, ol, md, uw, mt, vc, me, st, lt, rs, ss, ws, mk, lm, pw, ca, ms, fw, vn, vq) (nI a) := by
  refine And.intro (vp_in_nI ha (by omega)) ?_
  rw [nI_clamp (by omega), h, nu_s3 (by omega), show (8 * l + d) / 8 = l by omega]
  exact hp
theorem x_dataOf {a l d : Nat} (h : me a = nI (8 * l + d)) (hd : d ≤ 4) (hl : l ≤ 4) (ha : a < 256) (hp : pr (nI d)) : wpX_dataOf pr (nI B, nI (8 * B), nI (32 * B), nI (12 * B), nI R, nI S, ma, ml, oa, ol, md, uw, mt, vc, me, st, lt, rs, ss, ws, mk, lm, pw, ca, ms, fw, vn, vq) (nI a) := by
  refine And.intro (vp_in_nI ha (by omega)) ?_
  rw [nI_clamp (by omega), h, nu_a7 (by omega), show (8 * l + d) % 8 = d by omega]
  exact hp
theorem x_sizeOf {a l d : Nat} (h : me a = nI (8 * l + d)) (hd : d ≤ 4) (hl : l ≤ 4) (ha : a < 256) (hp : pr (nI (2 + l + d))) : wpX_sizeOf pr (nI B, nI (8 * B), nI (32 * B), nI (12 * B), nI R, nI S, ma, ml, oa, ol, md, uw, mt, vc, me, st, lt, rs, ss, ws, mk, lm, pw, ca, ms, fw, vn, vq) (nI a) := by
  refine And.intro (vp_in_nI ha (by omega)) (And.intro (vp_in_nI ha (by omega)) ?_)
  rw [nI_clamp (by omega), h, nu_s3 (by omega), nu_a7 (by omega), show (8 * l + d) % 8 = d by omega, show (8 * l + d) / 8 = l by omega, nu_2, nI_add]
  exact hp
/-- what sizeOf answers of any word -/
theorem x_sizeAny {a : Nat} (ha : a < 256) (hp : ∀ r, pr r) : wpX_sizeOf pr (nI B, nI (8 * B), nI (32 * B), nI (12 * B), nI R, nI S, ma, ml, oa, ol, md, uw, mt, vc, me, st, lt, rs, ss, ws, mk, lm, pw, ca, ms, fw, vn, vq) (nI a) :=
  And.intro (vp_in_nI ha (by omega)) (And.intro (vp_in_nI ha (by omega)) (hp _))
theorem x_serialAt {a : Nat} (ha : a + 1 < 256) (hp : pr (me (a + 1))) : wpX_serialAt pr (nI B, nI (8 * B), nI (32 * B), nI (12 * B), nI R, nI S, ma, ml, oa, ol, md, uw, mt, vc, me, st, lt, rs, ss, ws, mk, lm, pw, ca, ms, fw, vn, vq) (nI a) := by
  refine br_t (nI_pos' (by omega)) ?_
  rw [nI_1]
  refine And.intro (vp_in_nI ha (by omega)) ?_
  rw [nI_clamp (by omega)]
  exact hp
theorem x_serial0 {x : Int32} (h : x < 0) (hp : pr 0) : wpX_serialAt pr (nI B, nI (8 * B), nI (32 * B), nI (12 * B), nI R, nI S, ma, ml, oa, ol, md, uw, mt, vc, me, st, lt, rs, ss, ws, mk, lm, pw, ca, ms, fw, vn, vq) x :=
  br_f (fun z => nu_le0.mp z h) hp
theorem x_startL {a c : Nat} (hc : c ≤ 7) (hw : a + c < 256) (h0 : ¬ st a = 0) (h1 : ∀ k, 0 < k → k ≤ c → st (a + k) = 0) (hp : pr (nI a)) : ∀ k, k ≤ c → ∀ n, k < n → wX_startOf_4 pr (nI B) (nI (8 * B)) (nI (32 * B)) (nI (12 * B)) (nI R) (nI S) ma ml oa ol md uw mt vc me st lt rs ss ws mk lm pw ca ms fw vn vq n (nI (a + k)) (nI (c - k)) := by
  intro k
  induction k with
  | zero =>
    intro _ n hn
    obtain ⟨n, rfl⟩ : ∃ m, n = m + 1 := ⟨n - 1, by omega⟩
    refine pk_le 7 c (fun _ => hp) (fun _ => pk_le a 0 (fun _ => hp) (fun _ => And.intro (vp_in_nI (by omega) (by omega)) (br_f ?_ hp)))
    rw [nI_clamp (by omega)]; exact h0
  | succ k ih =>
    intro hk n hn
    obtain ⟨n, rfl⟩ : ∃ m, n = m + 1 := ⟨n - 1, by omega⟩
    refine br_f (nI_ge (b := 7) (by omega) (by omega)) (br_f (nI_ge (a := 0) (by omega) (by omega)) (And.intro (vp_in_nI (by omega) (by omega)) (br_t ?_ (nm_r (pk_m1 (a + k)) (nm_r (e' := nI (c - k)) ?_ (ih (by omega) n (by omega)))))))
    · rw [nI_clamp (by omega)]; exact h1 (k + 1) (by omega) hk
    · rw [nI_1]; exact congrArg nI (by omega)
theorem x_startOf {a c : Nat} (hc : c ≤ 7) (hw : a + c < 256) (h0 : ¬ st a = 0) (h1 : ∀ k, 0 < k → k ≤ c → st (a + k) = 0) (hp : pr (nI a)) : wpX_startOf pr (nI B, nI (8 * B), nI (32 * B), nI (12 * B), nI R, nI S, ma, ml, oa, ol, md, uw, mt, vc, me, st, lt, rs, ss, ws, mk, lm, pw, ca, ms, fw, vn, vq) (nI (a + c)) := by
  refine Exists.intro (c + 1) ?_
  have h := x_startL (B := B) (R := R) (S := S) (ma := ma) (ml := ml) (oa := oa) (ol := ol) (md := md) (uw := uw) (mt := mt) (vc := vc) (me := me) (st := st) (lt := lt) (rs := rs) (ss := ss) (ws := ws) (mk := mk) (lm := lm) (pw := pw) (ca := ca) (ms := ms) (fw := fw) (vn := vn) (vq := vq) (pr := pr) hc hw h0 h1 hp c (Nat.le_refl _) (c + 1) (by omega)
  rw [Nat.sub_self] at h
  exact h
/-! loops that write a stretch -/
theorem x_releaseL {e : Nat} (he : e ≤ 64) {i n : Nat} (hn : e - i < n) (hi : i ≤ 70) (hp : pu (nI B, nI (8 * B), nI (32 * B), nI (12 * B), nI R, nI S, ma, ml, oa, ol, md, uw, mt, vc, me, st, fg lt i e (fun _ => 0), rs, ss, ws, mk, lm, pw, ca, ms, fw, vn, vq)) : wX_release_11 pu (nI e) (nI B) (nI (8 * B)) (nI (32 * B)) (nI (12 * B)) (nI R) (nI S) ma ml oa ol md uw mt vc n (nI i) me st lt rs ss ws mk lm pw ca ms fw vn vq :=
  fg_loop (fun n i a => wX_release_11 pu (nI e) (nI B) (nI (8 * B)) (nI (32 * B)) (nI (12 * B)) (nI R) (nI S) ma ml oa ol md uw mt vc n (nI i) me st a rs ss ws mk lm pw ca ms fw vn vq) (fun _ => 0) e 70 (fun a => pu (nI B, nI (8 * B), nI (32 * B), nI (12 * B), nI R, nI S, ma, ml, oa, ol, md, uw, mt, vc, me, st, a, rs, ss, ws, mk, lm, pw, ca, ms, fw, vn, vq))
    (fun _ _ _ h h2 q => br_t (nI_le h (by omega)) q)
    (fun _ i a h h2 w => br_f (nI_ge h (by omega)) (br_f (nI_ge (b := 64) (by omega) (by omega)) (And.intro (vp_in_nI (by omega) (by omega)) (nm_r (nu_u (by omega) bb_v0) (nm_r (nI_1 i) w))))) (by omega) n i lt hn hi hp
theorem x_release {a l : Nat} (hl : l ≤ 256) (ha : a ≤ 256) (hp : pu (nI B, nI (8 * B), nI (32 * B), nI (12 * B), nI R, nI S, ma, ml, oa, ol, md, uw, mt, vc, me, st, fg lt ((a + 3) / 4) (l / 4) (fun _ => 0), rs, ss, ws, mk, lm, pw, ca, ms, fw, vn, vq)) : wpX_release pu (nI B, nI (8 * B), nI (32 * B), nI (12 * B), nI R, nI S, ma, ml, oa, ol, md, uw, mt, vc, me, st, lt, rs, ss, ws, mk, lm, pw, ca, ms, fw, vn, vq) (nI a) (nI l) :=
  nm_r (nu_s2 (by omega)) (nm_r (e' := nI ((a + 3) / 4)) (by rw [nu_3, nu_s2 (by omega)]) (Exists.intro 100 (x_releaseL (by omega) (by omega) (by omega) hp)))
theorem x_claimL {e : Nat} (he : e ≤ 64) {i n : Nat} (hn : e - i < n) (hi : i ≤ 70) (hp : pu (nI B, nI (8 * B), nI (32 * B), nI (12 * B), nI R, nI S, ma, ml, oa, ol, md, uw, mt, vc, me, st, fg lt i e (fun _ => 1), rs, ss, ws, mk, lm, pw, ca, ms, fw, vn, vq)) : wX_claim_2 pu (nI e) (nI B) (nI (8 * B)) (nI (32 * B)) (nI (12 * B)) (nI R) (nI S) ma ml oa ol md uw mt vc n (nI i) me st lt rs ss ws mk lm pw ca ms fw vn vq :=
  fg_loop (fun n i a => wX_claim_2 pu (nI e) (nI B) (nI (8 * B)) (nI (32 * B)) (nI (12 * B)) (nI R) (nI S) ma ml oa ol md uw mt vc n (nI i) me st a rs ss ws mk lm pw ca ms fw vn vq) (fun _ => 1) e 70 (fun a => pu (nI B, nI (8 * B), nI (32 * B), nI (12 * B), nI R, nI S, ma, ml, oa, ol, md, uw, mt, vc, me, st, a, rs, ss, ws, mk, lm, pw, ca, ms, fw, vn, vq))
    (fun _ _ _ h h2 q => br_t (nI_le h (by omega)) q)
    (fun _ i a h h2 w => br_f (nI_ge h (by omega)) (br_f (nI_ge (b := 64) (by omega) (by omega)) (And.intro (vp_in_nI (by omega) (by omega)) (nm_r (nu_u (by omega) bb_v1) (nm_r (nI_1 i) w))))) (by omega) n i lt hn hi hp
theorem x_claim {i e : Nat} (he : e ≤ 64) (hi : i ≤ 70) (hp : pu (nI B, nI (8 * B), nI (32 * B), nI (12 * B), nI R, nI S, ma, ml, oa, ol, md, uw, mt, vc, me, st, fg lt i e (fun _ => 1), rs, ss, ws, mk, lm, pw, ca, ms, fw, vn, vq)) : wpX_claim pu (nI B, nI (8 * B), nI (32 * B), nI (12 * B), nI R, nI S, ma, ml, oa, ol, md, uw, mt, vc, me, st, lt, rs, ss, ws, mk, lm, pw, ca, ms, fw, vn, vq) (nI i) (nI e) :=
  Exists.intro 100 (x_claimL he (by omega) hi hp)
theorem x_clearLM (hp : pu (nI B, nI (8 * B), nI (32 * B), nI (12 * B), nI R, nI S, ma, ml, oa, ol, md, uw, mt, vc, me, st, lt, rs, ss, ws, mk, fg lm 0 64 (fun _ => 0), pw, ca, ms, fw, vn, vq)) : wpX_clearLineMarks pu (nI B, nI (8 * B), nI (32 * B), nI (12 * B), nI R, nI S, ma, ml, oa, ol, md, uw, mt, vc, me, st, lt, rs, ss, ws, mk, lm, pw, ca, ms, fw, vn, vq) :=
  Exists.intro 65 (fg_loop (fun n i a => wX_clearLineMarks_2 pu (nI B) (nI (8 * B)) (nI (32 * B)) (nI (12 * B)) (nI R) (nI S) ma ml oa ol md uw mt vc n (nI i) me st lt rs ss ws mk a pw ca ms fw vn vq) (fun _ => 0) 64 64 (fun a => pu (nI B, nI (8 * B), nI (32 * B), nI (12 * B), nI R, nI S, ma, ml, oa, ol, md, uw, mt, vc, me, st, lt, rs, ss, ws, mk, a, pw, ca, ms, fw, vn, vq))
    (fun _ _ _ h h2 q => br_t (nI_le (a := 64) h (by omega)) q)
    (fun _ i a h h2 w => br_f (nI_ge (b := 64) h (by omega)) (And.intro (vp_in_nI (by omega) (by omega)) (nm_r (nu_u (by omega) bb_v0) (nm_r (nI_1 i) w)))) (by omega) 65 0 lm (by omega) (by omega) hp)
theorem x_adopt (hl : ∀ l, l < 64 → vp_nar .boolean (lm l) = lm l) (hp : pu (nI B, nI (8 * B), nI (32 * B), nI (12 * B), nI R, nI S, ma, ml, oa, ol, md, uw, mt, vc, me, st, fg lt 0 64 lm, rs, ss, ws, mk, lm, pw, ca, ms, fw, vn, vq)) : wpX_adoptLines pu (nI B, nI (8 * B), nI (32 * B), nI (12 * B), nI R, nI S, ma, ml, oa, ol, md, uw, mt, vc, me, st, lt, rs, ss, ws, mk, lm, pw, ca, ms, fw, vn, vq) :=
  Exists.intro 65 (fg_loop (fun n i a => wX_adoptLines_2 pu (nI B) (nI (8 * B)) (nI (32 * B)) (nI (12 * B)) (nI R) (nI S) ma ml oa ol md uw mt vc n (nI i) me st a rs ss ws mk lm pw ca ms fw vn vq) lm 64 64 (fun a => pu (nI B, nI (8 * B), nI (32 * B), nI (12 * B), nI R, nI S, ma, ml, oa, ol, md, uw, mt, vc, me, st, a, rs, ss, ws, mk, lm, pw, ca, ms, fw, vn, vq))
    (fun _ _ _ h h2 q => br_t (nI_le (a := 64) h (by omega)) q)
    (fun _ i a h h2 w => br_f (nI_ge (b := 64) h (by omega)) (And.intro (vp_in_nI (by omega) (by omega)) (And.intro (vp_in_nI (by omega) (by omega)) (nm_r (nu_u (by omega) (by rw [nI_clamp (by omega)]; exact hl i h)) (nm_r (nI_1 i) w))))) (by omega) 65 0 lt (by omega) (by omega) hp)
theorem x_clearMarks (hp : pu (nI B, nI (8 * B), nI (32 * B), nI (12 * B), nI R, nI S, ma, ml, oa, ol, md, uw, 0, vc, me, st, lt, rs, ss, ws, fg mk 0 256 (fun _ => 0), fg lm 0 64 (fun _ => 0), pw, ca, ms, fw, vn, vq)) : wpX_clearMarks pu (nI B, nI (8 * B), nI (32 * B), nI (12 * B), nI R, nI S, ma, ml, oa, ol, md, uw, mt, vc, me, st, lt, rs, ss, ws, mk, lm, pw, ca, ms, fw, vn, vq) :=
  Exists.intro 257 (fg_loop (fun n i a => wX_clearMarks_2 pu (nI B) (nI (8 * B)) (nI (32 * B)) (nI (12 * B)) (nI R) (nI S) ma ml oa ol md uw mt vc n (nI i) me st lt rs ss ws a lm pw ca ms fw vn vq) (fun _ => 0) 256 256 (fun a => pu (nI B, nI (8 * B), nI (32 * B), nI (12 * B), nI R, nI S, ma, ml, oa, ol, md, uw, 0, vc, me, st, lt, rs, ss, ws, a, fg lm 0 64 (fun _ => 0), pw, ca, ms, fw, vn, vq))
    (fun _ _ a h h2 q => br_t (nI_le (a := 256) h (by omega)) (x_clearLM q))
    (fun _ i a h h2 w => br_f (nI_ge (b := 256) h (by omega)) (And.intro (vp_in_nI (by omega) (by omega)) (nm_r (nu_u (by omega) bb_v0) (nm_r (nI_1 i) w)))) (by omega) 257 0 mk (by omega) (by omega) hp)
theorem x_markL {e : Nat} (he : e < 64) {i n : Nat} (hn : e + 1 - i < n) (hi : i ≤ 70) (hp : pu (nI B, nI (8 * B), nI (32 * B), nI (12 * B), nI R, nI S, ma, ml, oa, ol, md, uw, mt, vc, me, st, lt, rs, ss, ws, mk, fg lm i (e + 1) (fun _ => 1), pw, ca, ms, fw, vn, vq)) : wX_markLines_16 pu (nI e) (nI B) (nI (8 * B)) (nI (32 * B)) (nI (12 * B)) (nI R) (nI S) ma ml oa ol md uw mt vc n (nI i) me st lt rs ss ws mk lm pw ca ms fw vn vq :=
  fg_loop (fun n i a => wX_markLines_16 pu (nI e) (nI B) (nI (8 * B)) (nI (32 * B)) (nI (12 * B)) (nI R) (nI S) ma ml oa ol md uw mt vc n (nI i) me st lt rs ss ws mk a pw ca ms fw vn vq) (fun _ => 1) (e + 1) 70 (fun a => pu (nI B, nI (8 * B), nI (32 * B), nI (12 * B), nI R, nI S, ma, ml, oa, ol, md, uw, mt, vc, me, st, lt, rs, ss, ws, mk, a, pw, ca, ms, fw, vn, vq))
    (fun _ _ _ h h2 q => br_t (nI_lt (by omega) (by omega)) q)
    (fun _ i a h h2 w => br_f (nI_nlt (by omega) (by omega)) (br_f (nI_ge (b := 64) (by omega) (by omega)) (And.intro (vp_in_nI (by omega) (by omega)) (nm_r (nu_u (by omega) bb_v1) (nm_r (nI_1 i) w))))) (by omega) n i lm hn hi hp
theorem x_markLines {a l d : Nat} (h : me a = nI (8 * l + d)) (hd : d ≤ 4) (hl : l ≤ 4) (ha : a + (2 + l + d) ≤ 256) (hp : pu (nI B, nI (8 * B), nI (32 * B), nI (12 * B), nI R, nI S, ma, ml, oa, ol, md, uw, mt, vc, me, st, lt, rs, ss, ws, mk, fg lm (a / 4) ((a + (2 + l + d) - 1) / 4 + 1) (fun _ => 1), pw, ca, ms, fw, vn, vq)) : wpX_markLines pu (nI B, nI (8 * B), nI (32 * B), nI (12 * B), nI R, nI S, ma, ml, oa, ol, md, uw, mt, vc, me, st, lt, rs, ss, ws, mk, lm, pw, ca, ms, fw, vn, vq) (nI a) := by
  unfold wpX_markLines
  refine x_sizeOf h hd hl (by omega) ?_
  refine (nm_r (e' := nI ((a + (2 + l + d) - 1) / 4)) ?_ (nm_r (e' := nI (a / 4)) (nu_s2 (by omega)) (Exists.intro 100 (x_markL (by omega) (by omega) (by omega) hp))))
  rw [nI_add, show a + (2 + l + d) = (a + (2 + l + d) - 1) + 1 by omega, nI_pred, nu_s2 (by omega), Nat.add_sub_cancel]
theorem x_pinClear (hp : ∃ n24 : Nat, wX_flagPins_24 pu (nI B) (nI (8 * B)) (nI (32 * B)) (nI (12 * B)) (nI R) (nI S) ma ml oa ol md uw mt vc n24 0 me st lt rs ss ws mk lm (fg pw 0 256 (fun _ => 0)) ca ms fw vn vq) : wpX_flagPins pu (nI B, nI (8 * B), nI (32 * B), nI (12 * B), nI R, nI S, ma, ml, oa, ol, md, uw, mt, vc, me, st, lt, rs, ss, ws, mk, lm, pw, ca, ms, fw, vn, vq) :=
  Exists.intro 257 (fg_loop (fun n i a => wX_flagPins_2 pu (nI B) (nI (8 * B)) (nI (32 * B)) (nI (12 * B)) (nI R) (nI S) ma ml oa ol md uw mt vc n (nI i) me st lt rs ss ws mk lm a ca ms fw vn vq) (fun _ => 0) 256 256 (fun a => ∃ n24 : Nat, wX_flagPins_24 pu (nI B) (nI (8 * B)) (nI (32 * B)) (nI (12 * B)) (nI R) (nI S) ma ml oa ol md uw mt vc n24 0 me st lt rs ss ws mk lm a ca ms fw vn vq)
    (fun _ _ a h h2 q => br_t (nI_le (a := 256) h (by omega)) q)
    (fun _ i a h h2 w => br_f (nI_ge (b := 256) h (by omega)) (And.intro (vp_in_nI (by omega) (by omega)) (nm_r (nu_u (by omega) bb_v0) (nm_r (nI_1 i) w)))) (by omega) 257 0 pw (by omega) (by omega) hp)
theorem x_candClear {r : Int32} (hp : pp r (nI B, nI (8 * B), nI (32 * B), nI (12 * B), nI R, nI S, ma, ml, oa, ol, md, uw, mt, vc, me, st, lt, rs, ss, ws, mk, lm, pw, fg ca 0 8 (fun _ => 0), ms, fw, vn, vq)) : ∃ n43 : Nat, wX_collect_43 pp r (nI B) (nI (8 * B)) (nI (32 * B)) (nI (12 * B)) (nI R) (nI S) ma ml oa ol md uw mt vc n43 0 me st lt rs ss ws mk lm pw ca ms fw vn vq :=
  Exists.intro 9 (fg_loop (fun n i a => wX_collect_43 pp r (nI B) (nI (8 * B)) (nI (32 * B)) (nI (12 * B)) (nI R) (nI S) ma ml oa ol md uw mt vc n (nI i) me st lt rs ss ws mk lm pw a ms fw vn vq) (fun _ => 0) 8 8 (fun a => pp r (nI B, nI (8 * B), nI (32 * B), nI (12 * B), nI R, nI S, ma, ml, oa, ol, md, uw, mt, vc, me, st, lt, rs, ss, ws, mk, lm, pw, a, ms, fw, vn, vq))
    (fun _ _ a h h2 q => br_t (nI_le (a := 8) h (by omega)) q)
    (fun _ i a h h2 w => br_f (nI_ge (b := 8) h (by omega)) (And.intro (vp_in_nI (by omega) (by omega)) (nm_r (nu_u (by omega) bb_v0) (nm_r (nI_1 i) w)))) (by omega) 9 0 ca (by omega) (by omega) hp)
/-- the words of one pinned object -/
theorem x_pinL {J : Int32 → (Nat → Int32) → (Nat → Int32) → (Nat → Int32) → (Nat → Int32) → (Nat → Int32) → (Nat → Int32) → (Nat → Int32) → (Nat → Int32) → (Nat → Int32) → (Nat → Int32) → (Nat → Int32) → (Nat → Int32) → (Nat → Int32) → (Nat → Int32) → Prop} {s a z : Nat} (hs : s < 6) (hz : a + z ≤ 256) (hp : J (nI (s + 1)) me st lt rs ss ws mk lm (fg pw a (a + z) (fun _ => 1)) ca ms fw vn vq) : ∃ n61 : Nat, wX_flagPins_61 pu J (nI s) (nI a) (nI z) (nI B) (nI (8 * B)) (nI (32 * B)) (nI (12 * B)) (nI R) (nI S) ma ml oa ol md uw mt vc n61 0 me st lt rs ss ws mk lm pw ca ms fw vn vq := by
  refine Exists.intro (z + 1) (fg_loop (fun n w b => ∀ c, w = a + c → wX_flagPins_61 pu J (nI s) (nI a) (nI z) (nI B) (nI (8 * B)) (nI (32 * B)) (nI (12 * B)) (nI R) (nI S) ma ml oa ol md uw mt vc n (nI c) me st lt rs ss ws mk lm b ca ms fw vn vq) (fun _ => 1) (a + z) 256 (fun b => J (nI (s + 1)) me st lt rs ss ws mk lm b ca ms fw vn vq) ?_ ?_ hz (z + 1) a pw (by omega) (by omega) hp 0 (by omega))
  · intro n w b h h2 q c hc
    exact br_t (nI_le (by omega) (by omega)) (nm_r (nI_1 s) q)
  · intro n w b h h2 q c hc
    refine br_f (nI_ge (by omega) (by omega)) ?_
    rw [nI_add]
    exact And.intro (vp_in_nI (by omega) (by omega)) (nm_r (e' := upd b w 1) (by rw [hc]; exact nu_u (by omega) bb_v1) (nm_r (nI_1 c) (q (c + 1) (by omega))))
/-- a fresh object's cells -/
theorem x_initL2 {x l d : Nat} (h : x + 2 + l + d ≤ 256) (hp : pu (nI B, nI (8 * B), nI (32 * B), nI (12 * B), nI R, nI S, ma, ml, oa, ol, md, uw, mt, vc, fg me (x + 2 + l) (x + 2 + l + d) (fun _ => 0), st, lt, rs, ss, ws, mk, lm, pw, ca, ms, fw, vn, vq)) : ∃ n61 : Nat, wX_initObject_61 pu (nI x) (nI l) (nI d) (nI B) (nI (8 * B)) (nI (32 * B)) (nI (12 * B)) (nI R) (nI S) ma ml oa ol md uw mt vc n61 0 me st lt rs ss ws mk lm pw ca ms fw vn vq := by
  refine Exists.intro (d + 1) (fg_loop (fun n w b => ∀ c, w = x + 2 + l + c → wX_initObject_61 pu (nI x) (nI l) (nI d) (nI B) (nI (8 * B)) (nI (32 * B)) (nI (12 * B)) (nI R) (nI S) ma ml oa ol md uw mt vc n (nI c) b st lt rs ss ws mk lm pw ca ms fw vn vq) (fun _ => 0) (x + 2 + l + d) 256 (fun b => pu (nI B, nI (8 * B), nI (32 * B), nI (12 * B), nI R, nI S, ma, ml, oa, ol, md, uw, mt, vc, b, st, lt, rs, ss, ws, mk, lm, pw, ca, ms, fw, vn, vq)) ?_ ?_ h (d + 1) (x + 2 + l) me (by omega) (by omega) hp 0 (by omega))
  · intro n w b h h2 q c hc
    exact br_t (nI_le (by omega) (by omega)) q
  · intro n w b h h2 q c hc
    refine br_f (nI_ge (by omega) (by omega)) ?_
    rw [nu_a2, nI_add, nI_add]
    exact And.intro (vp_in_nI (by omega) (by omega)) (nm_r (e' := upd b w 0) (by rw [hc]; exact nu_u (by omega) rfl) (nm_r (nI_1 c) (q (c + 1) (by omega))))
theorem x_initL1 {x l d : Nat} (h : x + 2 + l + d ≤ 256) (hp : pu (nI B, nI (8 * B), nI (32 * B), nI (12 * B), nI R, nI S, ma, ml, oa, ol, md, uw, mt, vc, fg (fg me (x + 2) (x + 2 + l) (fun _ => -1)) (x + 2 + l) (x + 2 + l + d) (fun _ => 0), st, lt, rs, ss, ws, mk, lm, pw, ca, ms, fw, vn, vq)) : ∃ n34 : Nat, wX_initObject_34 pu (nI x) (nI l) (nI d) (nI B) (nI (8 * B)) (nI (32 * B)) (nI (12 * B)) (nI R) (nI S) ma ml oa ol md uw mt vc n34 0 me st lt rs ss ws mk lm pw ca ms fw vn vq := by
  refine Exists.intro (l + 1) (fg_loop (fun n w b => ∀ c, w = x + 2 + c → wX_initObject_34 pu (nI x) (nI l) (nI d) (nI B) (nI (8 * B)) (nI (32 * B)) (nI (12 * B)) (nI R) (nI S) ma ml oa ol md uw mt vc n (nI c) b st lt rs ss ws mk lm pw ca ms fw vn vq) (fun _ => -1) (x + 2 + l) 256 (fun b => pu (nI B, nI (8 * B), nI (32 * B), nI (12 * B), nI R, nI S, ma, ml, oa, ol, md, uw, mt, vc, fg b (x + 2 + l) (x + 2 + l + d) (fun _ => 0), st, lt, rs, ss, ws, mk, lm, pw, ca, ms, fw, vn, vq)) ?_ ?_ (by omega) (l + 1) (x + 2) me (by omega) (by omega) hp 0 (by omega))
  · intro n w b h2 h3 q c hc
    exact br_t (nI_le (by omega) (by omega)) (x_initL2 h q)
  · intro n w b h2 h3 q c hc
    refine br_f (nI_ge (by omega) (by omega)) ?_
    rw [nu_a2, nI_add]
    exact And.intro (vp_in_nI (by omega) (by omega)) (nm_r (e' := upd b w (-1)) (by rw [hc]; exact nu_u (by omega) rfl) (nm_r (nI_1 c) (q (c + 1) (by omega))))
theorem x_initObject {x l d : Nat} (h : x + 2 + l + d ≤ 256) (hp : pu (nI B, nI (8 * B), nI (32 * B), nI (12 * B), nI R, nI S, ma, ml, oa, ol, md, uw, mt, vc, fg (fg (upd (upd me x (nI (l * 8 + d))) (x + 1) md) (x + 2) (x + 2 + l) (fun _ => -1)) (x + 2 + l) (x + 2 + l + d) (fun _ => 0), upd st x 1, lt, rs, ss, ws, mk, lm, pw, ca, ms, fw, vn, vq)) : wpX_initObject pu (nI B, nI (8 * B), nI (32 * B), nI (12 * B), nI R, nI S, ma, ml, oa, ol, md, uw, mt, vc, me, st, lt, rs, ss, ws, mk, lm, pw, ca, ms, fw, vn, vq) (nI x) (nI l) (nI d) := by
  refine And.intro (vp_in_nI (by omega) (by omega)) (nm_r (nu_u (by omega) bb_v1) (And.intro (vp_in_nI (by omega) (by omega)) (nm_r (nu_u (y := nI (l * 8 + d)) (by omega) (by rw [nu_m8, nI_add])) ?_)))
  rw [nI_1]
  exact And.intro (vp_in_nI (by omega) (by omega)) (nm_r (nu_u (by omega) rfl) (x_initL1 h hp))
/-- a copy of z words from a to t -/
def mv (m : Nat → Int32) (a t z : Nat) : Nat → Int32 := fun w => if t ≤ w ∧ w < t + z then m (a + (w - t)) else m w
theorem mv_in {m : Nat → Int32} {a t z w : Nat} (h : t ≤ w ∧ w < t + z) : mv m a t z w = m (a + (w - t)) := if_pos h
theorem mv_out {m : Nat → Int32} {a t z w : Nat} (h : ¬ (t ≤ w ∧ w < t + z)) : mv m a t z w = m w := if_neg h
theorem mv_0 {m : Nat → Int32} {a t : Nat} : mv m a t 0 = m := funext fun _ => mv_out (by omega)
theorem mv_s {m : Nat → Int32} {a t c : Nat} (h : t ≤ a ∨ a + c < t) : upd (mv m a t c) (t + c) (mv m a t c (a + c)) = mv m a t (c + 1) := by
  funext w
  by_cases e : w = t + c
  · subst e
    rw [pk_us, mv_out (by omega), mv_in (by omega)]
    exact congrArg m (by omega)
  · rw [pk_un e]
    by_cases h1 : t ≤ w ∧ w < t + c
    · rw [mv_in h1, mv_in (by omega)]
    · rw [mv_out h1, mv_out (by omega)]
theorem x_moveL {a t z : Nat} (ha : a + z ≤ 256) (ht : t + z ≤ 256) (hz : 0 < z) (h : t ≤ a ∨ a + z ≤ t) (hp : pu (nI B, nI (8 * B), nI (32 * B), nI (12 * B), nI R, nI S, ma, ml, oa, ol, md, uw, mt, vc, mv me a t z, upd (upd st a 0) t 1, lt, rs, ss, ws, mk, lm, pw, ca, ms, fw, vn, vq)) : ∀ n c, c ≤ z → z - c < n → wX_moveObject_3 pu (nI a) (nI t) (nI z) (nI B) (nI (8 * B)) (nI (32 * B)) (nI (12 * B)) (nI R) (nI S) ma ml oa ol md uw mt vc n (nI c) (mv me a t c) st lt rs ss ws mk lm pw ca ms fw vn vq := by
  intro n
  induction n with
  | zero => intro c _ h; omega
  | succ n ih =>
    intro c hc hn
    rcases Nat.lt_or_ge c z with q | q
    · refine br_f (nI_ge q (by omega)) ?_
      rw [nI_add, nI_add]
      refine And.intro (vp_in_nI (by omega) (by omega)) (And.intro (vp_in_nI (by omega) (by omega)) (nm_r (e' := mv me a t (c + 1)) ?_ (nm_r (nI_1 c) (ih (c + 1) (by omega) (by omega)))))
      rw [nI_clamp (by omega), nI_clamp (by omega)]
      exact mv_s (by omega)
    · have e : c = z := by omega
      subst e
      exact br_t (nI_le (Nat.le_refl _) (by omega)) (And.intro (vp_in_nI (by omega) (by omega)) (nm_r (nu_u (by omega) bb_v0) (And.intro (vp_in_nI (by omega) (by omega)) (nm_r (nu_u (by omega) bb_v1) hp))))
theorem x_moveObject {a t z : Nat} (ha : a + z ≤ 256) (ht : t + z ≤ 256) (hz : 0 < z) (h : t ≤ a ∨ a + z ≤ t) (hp : pu (nI B, nI (8 * B), nI (32 * B), nI (12 * B), nI R, nI S, ma, ml, oa, ol, md, uw, mt, vc, mv me a t z, upd (upd st a 0) t 1, lt, rs, ss, ws, mk, lm, pw, ca, ms, fw, vn, vq)) : wpX_moveObject pu (nI B, nI (8 * B), nI (32 * B), nI (12 * B), nI R, nI S, ma, ml, oa, ol, md, uw, mt, vc, me, st, lt, rs, ss, ws, mk, lm, pw, ca, ms, fw, vn, vq) (nI a) (nI t) (nI z) := by
  refine Exists.intro (z + 1) ?_
  have q := x_moveL (B := B) (R := R) (S := S) (ma := ma) (ml := ml) (oa := oa) (ol := ol) (md := md) (uw := uw) (mt := mt) (vc := vc) (me := me) (st := st) (lt := lt) (rs := rs) (ss := ss) (ws := ws) (mk := mk) (lm := lm) (pw := pw) (ca := ca) (ms := ms) (fw := fw) (vn := vn) (vq := vq) (pu := pu) ha ht hz h hp (z + 1) 0 (by omega) (by omega)
  rw [mv_0] at q
  exact q
end
end
section
/-! lines and runs against the set O of occupied words -/
def RN (B : Nat) (O : Nat → Prop) (lt : Nat → Int32) (a l : Nat) : Prop :=
  a ≤ l ∧ l ≤ 32 * B ∧ (a < l → a / 32 = (l - 1) / 32) ∧ ∀ w, a ≤ w → w < l → ¬ O w ∧ ¬ lt (w / 4) = 0
def RI (B : Nat) (O : Nat → Prop) (lt : Nat → Int32) (a l o p : Nat) : Prop :=
  (∀ w, O w → ¬ lt (w / 4) = 0) ∧ RN B O lt a l ∧ RN B O lt o p ∧ ∀ w, a ≤ w → w < l → o ≤ w → w < p → False
theorem RI_sw {B : Nat} {O : Nat → Prop} {lt : Nat → Int32} {a l o p : Nat} (h : RI B O lt a l o p) : RI B O lt o p a l :=
  ⟨h.1, h.2.2.1, h.2.1, fun w h1 h2 h3 h4 => h.2.2.2 w h3 h4 h1 h2⟩
theorem RI_rel {B : Nat} {O : Nat → Prop} {lt : Nat → Int32} {a l o p : Nat} (h : RI B O lt a l o p) : RI B O (fg lt ((a + 3) / 4) (l / 4) (fun _ => 0)) 0 0 o p := by
  obtain ⟨h1, ⟨h2, h3, h4, h5⟩, ⟨h6, h7, h8, h9⟩, h10⟩ := h
  have key : ∀ w, ¬ lt (w / 4) = 0 → ¬ (a ≤ w ∧ w < l) → ¬ fg lt ((a + 3) / 4) (l / 4) (fun _ => 0) (w / 4) = 0 := by
    intro w q1 q2
    rw [fg_out (by omega)]; exact q1
  refine ⟨fun w hw => key w (h1 w hw) (fun z => (h5 w z.1 z.2).1 hw), ⟨by omega, by omega, by omega, fun w _ _ => by omega⟩, ⟨h6, h7, h8, fun w w1 w2 => ⟨(h9 w w1 w2).1, key w (h9 w w1 w2).2 (fun z => h10 w z.1 z.2 w1 w2)⟩⟩, fun w _ _ => by omega⟩
theorem RI_clm {B : Nat} {O : Nat → Prop} {lt : Nat → Int32} {f e o p : Nat} (h : RI B O lt 0 0 o p) (hf : f < e) (he : e ≤ 8 * B) (hb : f / 8 = (e - 1) / 8) (hz : ∀ j, f ≤ j → j < e → lt j = 0) : RI B O (fg lt f e (fun _ => 1)) (f * 4) (e * 4) o p := by
  obtain ⟨h1, -, ⟨h6, h7, h8, h9⟩, -⟩ := h
  have key : ∀ j, ¬ lt j = 0 → ¬ fg lt f e (fun _ => 1) j = 0 := by
    intro j q
    by_cases c : f ≤ j ∧ j < e
    · rw [fg_in c]; exact bb_10
    · rw [fg_out c]; exact q
  refine ⟨fun w hw => key _ (h1 w hw), ⟨by omega, by omega, fun _ => by omega, fun w w1 w2 => ⟨fun z => h1 w z (hz _ (by omega) (by omega)), ?_⟩⟩, ⟨h6, h7, h8, fun w w1 w2 => ⟨(h9 w w1 w2).1, key _ (h9 w w1 w2).2⟩⟩, fun w w1 w2 w3 w4 => (h9 w w3 w4).2 (hz _ (by omega) (by omega))⟩
  rw [fg_in (by omega)]; exact bb_10
theorem RI_bmp {B : Nat} {O : Nat → Prop} {lt : Nat → Int32} {a l o p z : Nat} (h : RI B O lt a l o p) (hz : 0 < z) (hl : a + z ≤ l) :
    a % 32 + z ≤ 32 ∧ a + z ≤ 32 * B ∧ (∀ w, a ≤ w → w < a + z → ¬ O w) ∧ RI B (fun w => O w ∨ (a ≤ w ∧ w < a + z)) lt (a + z) l o p := by
  obtain ⟨h1, ⟨h2, h3, h4, h5⟩, ⟨h6, h7, h8, h9⟩, h10⟩ := h
  have := h4 (by omega)
  refine ⟨by omega, by omega, fun w w1 w2 => (h5 w w1 (by omega)).1, ?_, ⟨hl, h3, fun _ => by omega, fun w w1 w2 => ⟨?_, (h5 w (by omega) w2).2⟩⟩, ⟨h6, h7, h8, fun w w1 w2 => ⟨?_, (h9 w w1 w2).2⟩⟩, fun w w1 w2 w3 w4 => h10 w (by omega) w2 w3 w4⟩
  · intro w hw
    rcases hw with hw | hw
    · exact h1 w hw
    · exact (h5 w hw.1 (by omega)).2
  · intro z
    rcases z with z | z
    · exact (h5 w (by omega) w2).1 z
    · omega
  · intro z
    rcases z with z | z
    · exact (h9 w w1 w2).1 z
    · exact h10 w z.1 (by omega) w1 w2
theorem RI_bmpO {B : Nat} {O : Nat → Prop} {lt : Nat → Int32} {a l o p z : Nat} (h : RI B O lt a l o p) (hz : 0 < z) (hl : o + z ≤ p) :
    o % 32 + z ≤ 32 ∧ o + z ≤ 32 * B ∧ (∀ w, o ≤ w → w < o + z → ¬ O w) ∧ RI B (fun w => O w ∨ (o ≤ w ∧ w < o + z)) lt a l (o + z) p := by
  obtain ⟨a1, a2, a3, a4⟩ := RI_bmp (RI_sw h) hz hl
  exact ⟨a1, a2, a3, RI_sw a4⟩
theorem RI_c {B : Nat} {O O' : Nat → Prop} {lt : Nat → Int32} {a l o p : Nat} (h : RI B O lt a l o p) (e : ∀ w, O' w ↔ O w) : RI B O' lt a l o p := by
  have : O' = O := funext fun w => propext (e w)
  rw [this]; exact h
/-- a free line of a block that isn't given up -/
def gd (lt ca : Nat → Int32) (j : Nat) : Prop := lt j = 0 ∧ ca (j / 8) = 0
def FT (B : Nat) (lt ca : Nat → Int32) (z f k : Nat) : Prop :=
  1 ≤ k ∧ z ≤ 4 * k ∧ f + k ≤ 8 * B ∧ f / 8 = (f + k - 1) / 8 ∧ ∀ j, f ≤ j → j < f + k → gd lt ca j
def FI (lt ca : Nat → Int32) (z x len : Nat) : Prop :=
  len ≤ x ∧ 4 * len < z ∧ (∀ j, x - len ≤ j → j < x → gd lt ca j) ∧ (0 < len → (x - len) / 8 = (x - 1) / 8) ∧
  (∀ f, f < x → f / 8 = (x - 1) / 8 → (∀ j, f ≤ j → j < x → gd lt ca j) → x - f ≤ len) ∧
  (∀ f y, f < y → y ≤ x → f / 8 = (y - 1) / 8 → (∀ j, f ≤ j → j < y → gd lt ca j) → 4 * (y - f) < z)
/-- the state at line x once the block's border is heeded -/
def FJ (lt ca : Nat → Int32) (z x len : Nat) : Prop :=
  len ≤ x ∧ 4 * len < z ∧ (∀ j, x - len ≤ j → j < x → gd lt ca j) ∧ (x - len) / 8 = x / 8 ∧
  (∀ f, f ≤ x → f / 8 = x / 8 → (∀ j, f ≤ j → j < x → gd lt ca j) → x - f ≤ len) ∧
  (∀ f y, f < y → y ≤ x → f / 8 = (y - 1) / 8 → (∀ j, f ≤ j → j < y → gd lt ca j) → 4 * (y - f) < z)
theorem FJ_0 {lt ca : Nat → Int32} {z x len : Nat} (h : FI lt ca z x len) (hx : x % 8 = 0) : FJ lt ca z x 0 := by
  obtain ⟨h1, h2, h3, h4, h5, h6⟩ := h
  exact ⟨by omega, by omega, fun j _ _ => by omega, rfl, fun f a b _ => by omega, h6⟩
theorem FJ_1 {lt ca : Nat → Int32} {z x len : Nat} (h : FI lt ca z x len) (hx : ¬ x % 8 = 0) : FJ lt ca z x len := by
  obtain ⟨h1, h2, h3, h4, h5, h6⟩ := h
  refine ⟨h1, h2, h3, ?_, ?_, h6⟩
  · rcases Nat.eq_zero_or_pos len with q | q
    · subst q; rfl
    · have := h4 q; omega
  · intro f a b c
    rcases Nat.lt_or_ge f x with q | q
    · exact h5 f q (by omega) c
    · omega
theorem FI_b {lt ca : Nat → Int32} {z x len : Nat} (h : FJ lt ca z x len) (hx : ¬ gd lt ca x) : FI lt ca z (x + 1) 0 := by
  obtain ⟨h1, h2, h3, h4, h5, h6⟩ := h
  refine ⟨by omega, by omega, fun j _ _ => by omega, fun q => by omega, fun f a b c => absurd (c x (by omega) (by omega)) hx, fun f y a b c d => ?_⟩
  rcases Nat.lt_or_ge y (x + 1) with q | q
  · exact h6 f y a (by omega) c d
  · exact absurd (d x (by omega) (by omega)) hx
theorem FI_g {lt ca : Nat → Int32} {z x len : Nat} (h : FJ lt ca z x len) (hx : gd lt ca x) (hz : 4 * (len + 1) < z) : FI lt ca z (x + 1) (len + 1) := by
  obtain ⟨h1, h2, h3, h4, h5, h6⟩ := h
  have h5' : ∀ f, f < x + 1 → f / 8 = (x + 1 - 1) / 8 → (∀ j, f ≤ j → j < x + 1 → gd lt ca j) → x + 1 - f ≤ len + 1 := by
    intro f a b c
    have := h5 f (by omega) (by rw [b, Nat.add_sub_cancel]) (fun j q1 q2 => c j q1 (by omega))
    omega
  refine ⟨by omega, hz, ?_, ?_, h5', ?_⟩
  · intro j a b
    rcases Nat.lt_or_ge j x with q | q
    · exact h3 j (by omega) q
    · have : j = x := by omega
      subst this; exact hx
  · intro _; omega
  · intro f y a b c d
    rcases Nat.lt_or_ge y (x + 1) with q | q
    · exact h6 f y a (by omega) c d
    · have e : y = x + 1 := by omega
      subst e
      have := h5' f a c d
      omega
theorem FT_of {B : Nat} {lt ca : Nat → Int32} {z x len : Nat} (h : FJ lt ca z x len) (hx : gd lt ca x) (hz : z ≤ 4 * (len + 1)) (hB : x < 8 * B) : FT B lt ca z (x - len) (len + 1) := by
  obtain ⟨h1, h2, h3, h4, h5, h6⟩ := h
  refine ⟨by omega, hz, by omega, ?_, ?_⟩
  · rw [h4]; exact congrArg (· / 8) (by omega)
  · intro j a b
    rcases Nat.lt_or_ge j x with q | q
    · exact h3 j (by omega) q
    · have : j = x := by omega
      subst this; exact hx
section
variable {B R S : Nat} {ma ml oa ol md uw mt vc : Int32} {me st lt rs ss ws mk lm pw ca ms fw vn vq : Nat → Int32} {pr : Int32 → Prop} {pu : SX → Prop} {pp : Int32 → SX → Prop}
theorem x_fr21 {J : Int32 → Int32 → Prop} {x len z : Nat} (hx : x < 64) (hl : len ≤ x) (hz : z ≤ 32)
    (hg : gd lt ca x → 4 * (len + 1) < z → J (nI (len + 1)) (nI (x + 1))) (hp : gd lt ca x → z ≤ 4 * (len + 1) → pr (nI (x - len))) (hb : ¬ gd lt ca x → J 0 (nI (x + 1))) : wX_findRun_21 pr J (nI z) (nI len) (nI x) (nI B) (nI (8 * B)) (nI (32 * B)) (nI (12 * B)) (nI R) (nI S) ma ml oa ol md uw mt vc me st lt rs ss ws mk lm pw ca ms fw vn vq := by
  refine And.intro (vp_in_nI hx (by omega)) ?_
  rw [nI_clamp (by omega), nu_s3 (by omega), nI_clamp (by omega)]
  refine br_c (fun h1 => And.intro (vp_in_nI (by omega) (by omega)) (br_c (fun h2 => nm_r (nI_1 len) ?_) (fun h2 => nm_r (nI_1 x) (hb (fun q => h2 q.2))))) (fun h1 => nm_r (nI_1 x) (hb (fun q => h1 q.1)))
  refine pk_lt (4 * (len + 1)) z (fun q => nm_r (nI_1 x) (hg ⟨h1, h2⟩ q)) (fun q => ?_) (by rw [nu_m4, Nat.mul_comm]) rfl
  rw [← nI_1 len, show nI x - (nI len + 1) + 1 = nI x - nI len by grind, pk_sub hl]
  exact hp ⟨h1, h2⟩ q
theorem x_findRunL {z : Nat} (hz : z ≤ 32) (hB : B ≤ 8) (hf : ∀ f k, FT B lt ca z f k → pr (nI f)) (hn : (∀ f k, ¬ FT B lt ca z f k) → pr (-1)) : ∀ n x len, 8 * B - x < n → x ≤ 8 * B → FI lt ca z x len → wX_findRun_4 pr (nI z) (nI B) (nI (8 * B)) (nI (32 * B)) (nI (12 * B)) (nI R) (nI S) ma ml oa ol md uw mt vc me st lt rs ss ws mk lm pw ca ms fw vn vq n (nI len) (nI x) := by
  intro n
  induction n with
  | zero => intro x len h; omega
  | succ n ih =>
    intro x len hn' hx hI
    refine pk_le (8 * B) x (fun h => ?_) (fun h => ?_)
    · refine hn (fun f k hF => ?_)
      obtain ⟨a1, a2, a3, a4, a5⟩ := hF
      have := hI.2.2.2.2.2 f (f + k) (by omega) (by omega) a4 a5
      omega
    · have key : ∀ len', FJ lt ca z x len' → wX_findRun_21 pr (wX_findRun_4 pr (nI z) (nI B) (nI (8 * B)) (nI (32 * B)) (nI (12 * B)) (nI R) (nI S) ma ml oa ol md uw mt vc me st lt rs ss ws mk lm pw ca ms fw vn vq n) (nI z) (nI len') (nI x) (nI B) (nI (8 * B)) (nI (32 * B)) (nI (12 * B)) (nI R) (nI S) ma ml oa ol md uw mt vc me st lt rs ss ws mk lm pw ca ms fw vn vq := by
        intro len' hJ
        exact x_fr21 (by omega) hJ.1 hz (fun g q => ih (x + 1) (len' + 1) (by omega) (by omega) (FI_g hJ g q)) (fun g q => hf _ _ (FT_of hJ g q h)) (fun g => ih (x + 1) 0 (by omega) (by omega) (FI_b hJ g))
      rw [nu_a7 (by omega)]
      exact pk_eq (x % 8) 0 (fun q => key 0 (FJ_0 hI q)) (fun q => key len (FJ_1 hI q))
theorem x_findRun {z : Nat} (h0 : 0 < z) (hz : z ≤ 32) (hB : B ≤ 8) (hf : ∀ f k, FT B lt ca z f k → pr (nI f)) (hn : (∀ f k, ¬ FT B lt ca z f k) → pr (-1)) : wpX_findRun pr (nI B, nI (8 * B), nI (32 * B), nI (12 * B), nI R, nI S, ma, ml, oa, ol, md, uw, mt, vc, me, st, lt, rs, ss, ws, mk, lm, pw, ca, ms, fw, vn, vq) (nI z) :=
  Exists.intro 100 (x_findRunL hz hB hf hn 100 0 0 (by omega) (by omega) ⟨by omega, by omega, fun j _ _ => by omega, fun _ => by omega, fun f _ => by omega, fun f y _ _ => by omega⟩)
theorem x_runEndL {be f : Nat} (hbe : be ≤ 64) (hp : ∀ e, f ≤ e → e ≤ be → (∀ j, f ≤ j → j < e → lt j = 0) → (e < be → ¬ lt e = 0) → pr (nI e)) : ∀ n x, be - x < n → f ≤ x → x ≤ be → (∀ j, f ≤ j → j < x → lt j = 0) → wX_runEnd_14 pr (nI be) (nI B) (nI (8 * B)) (nI (32 * B)) (nI (12 * B)) (nI R) (nI S) ma ml oa ol md uw mt vc me st lt rs ss ws mk lm pw ca ms fw vn vq n (nI x) (nI x) := by
  intro n
  induction n with
  | zero => intro x h; omega
  | succ n ih =>
    intro x h1 h2 h3 h4
    refine pk_le be x (fun h => hp x h2 h3 h4 (fun q => by omega)) (fun h => And.intro (vp_in_nI (by omega) (by omega)) ?_)
    rw [nI_clamp (by omega)]
    refine br_c (fun q => nm_r (nI_1 x) (nm_r (nI_1 x) (ih (x + 1) (by omega) (by omega) (by omega) (fun j a b => ?_)))) (fun q => hp x h2 h3 h4 (fun _ => q))
    rcases Nat.lt_or_ge j x with c | c
    · exact h4 j a c
    · have : j = x := by omega
      subst this; exact q
theorem x_runEnd {f k : Nat} (hf : f + k ≤ 64) (hk : f / 8 = (f + k - 1) / 8) (h1 : 1 ≤ k) (hz : ∀ j, f ≤ j → j < f + k → lt j = 0) (hp : ∀ e, f + k ≤ e → e ≤ (f / 8 + 1) * 8 → (∀ j, f ≤ j → j < e → lt j = 0) → pr (nI e)) : wpX_runEnd pr (nI B, nI (8 * B), nI (32 * B), nI (12 * B), nI R, nI S, ma, ml, oa, ol, md, uw, mt, vc, me, st, lt, rs, ss, ws, mk, lm, pw, ca, ms, fw, vn, vq) (nI f) := by
  refine nm_r (e' := nI ((f / 8 + 1) * 8)) (by rw [nu_s3 (by omega), nI_1, nu_m8]) (Exists.intro 100 (x_runEndL (f := f) (by omega) ?_ 100 f (by omega) (Nat.le_refl _) (by omega) (fun j _ _ => by omega)))
  intro e e1 e2 e3 e4
  refine hp e ?_ e2 e3
  rcases Nat.lt_or_ge e (f + k) with c | c
  · exact absurd (hz e e1 c) (e4 (by omega))
  · exact c
theorem FT_rel {lt ca : Nat → Int32} {B z f k i e : Nat} (h : FT B lt ca z f k) : FT B (fg lt i e (fun _ => 0)) ca z f k := by
  obtain ⟨h1, h2, h3, h4, h5⟩ := h
  refine ⟨h1, h2, h3, h4, fun j a b => ⟨?_, (h5 j a b).2⟩⟩
  by_cases c : i ≤ j ∧ j < e
  · rw [fg_in c]
  · rw [fg_out c]; exact (h5 j a b).1
theorem x_refillMain {O : Nat → Prop} {a l o p z : Nat} (hB : B ≤ 8) (h0 : 0 < z) (hz : z ≤ 32) (hI : RI B O lt a l o p)
    (h1 : ∀ lt', RI B O lt' 0 0 o p → (∀ f k, ¬ FT B lt ca z f k) → pu (nI B, nI (8 * B), nI (32 * B), nI (12 * B), nI R, nI S, 0, 0, nI o, nI p, md, uw, mt, vc, me, st, lt', rs, ss, ws, mk, lm, pw, ca, ms, fw, vn, vq))
    (h2 : ∀ lt' a' l', RI B O lt' a' l' o p → a' + z ≤ l' → pu (nI B, nI (8 * B), nI (32 * B), nI (12 * B), nI R, nI S, nI a', nI l', nI o, nI p, md, uw, mt, vc, me, st, lt', rs, ss, ws, mk, lm, pw, ca, ms, fw, vn, vq)) : wpX_refillMain pu (nI B, nI (8 * B), nI (32 * B), nI (12 * B), nI R, nI S, nI a, nI l, nI o, nI p, md, uw, mt, vc, me, st, lt, rs, ss, ws, mk, lm, pw, ca, ms, fw, vn, vq) (nI z) := by
  have b1 := hI.2.1.2.1
  have b2 := hI.2.1.1
  have hI' := RI_rel hI
  refine x_release (by omega) (by omega) ?_
  refine x_findRun h0 hz hB (fun f k hF => ?_) (fun hn => br_t nu_n1 (h1 _ hI' (fun f k q => hn f k (FT_rel q))))
  obtain ⟨a1, a2, a3, a4, a5⟩ := hF
  refine br_f (nI_pos (by omega)) (x_runEnd (k := k) (by omega) a4 a1 (fun j q1 q2 => (a5 j q1 q2).1) (fun e e1 e2 e3 => x_claim (by omega) (by omega) ?_))
  exact nm_r (nu_m4 f) (nm_r (nu_m4 e) (h2 _ _ _ (RI_clm hI' (by omega) (by omega) (by omega) e3) (by omega)))
theorem x_refillOver {O : Nat → Prop} {a l o p z : Nat} (hB : B ≤ 8) (h0 : 0 < z) (hz : z ≤ 32) (hI : RI B O lt a l o p)
    (h1 : ∀ lt', RI B O lt' a l 0 0 → (∀ f k, ¬ FT B lt ca z f k) → pu (nI B, nI (8 * B), nI (32 * B), nI (12 * B), nI R, nI S, nI a, nI l, 0, 0, md, uw, mt, vc, me, st, lt', rs, ss, ws, mk, lm, pw, ca, ms, fw, vn, vq))
    (h2 : ∀ lt' o' p', RI B O lt' a l o' p' → o' + z ≤ p' → pu (nI B, nI (8 * B), nI (32 * B), nI (12 * B), nI R, nI S, nI a, nI l, nI o', nI p', md, uw, mt, vc, me, st, lt', rs, ss, ws, mk, lm, pw, ca, ms, fw, vn, vq)) : wpX_refillOver pu (nI B, nI (8 * B), nI (32 * B), nI (12 * B), nI R, nI S, nI a, nI l, nI o, nI p, md, uw, mt, vc, me, st, lt, rs, ss, ws, mk, lm, pw, ca, ms, fw, vn, vq) (nI z) := by
  have b1 := hI.2.2.1.2.1
  have b2 := hI.2.2.1.1
  have hI' := RI_rel (RI_sw hI)
  refine x_release (by omega) (by omega) ?_
  have key : ∀ f k y, 0 < k → z ≤ 4 * k → FT B (fg lt ((o + 3) / 4) (p / 4) (fun _ => 0)) ca y f k → wX_refillOver_21 pu (nI f) (nI B) (nI (8 * B)) (nI (32 * B)) (nI (12 * B)) (nI R) (nI S) (nI a) (nI l) 0 0 md uw mt vc me st (fg lt ((o + 3) / 4) (p / 4) (fun _ => 0)) rs ss ws mk lm pw ca ms fw vn vq := by
    intro f k y hk hy hF
    obtain ⟨a1, a2, a3, a4, a5⟩ := hF
    refine br_f (nI_pos (by omega)) (x_runEnd (k := k) (by omega) a4 a1 (fun j q1 q2 => (a5 j q1 q2).1) (fun e e1 e2 e3 => x_claim (by omega) (by omega) ?_))
    exact nm_r (nu_m4 f) (nm_r (nu_m4 e) (h2 _ _ _ (RI_sw (RI_clm hI' (by omega) (by omega) (by omega) e3)) (by omega)))
  refine x_findRun (z := 32) (by omega) (by omega) hB (fun f k hF => br_t (nI_pos' (by have := hF.2.2.1; omega)) (key f k 32 hF.1 (by have := hF.2.1; omega) hF)) (fun _ => br_f nu_nn1 ?_)
  exact x_findRun h0 hz hB (fun f k hF => key f k z hF.1 hF.2.1 hF) (fun hn => br_t nu_n1 (h1 _ (RI_sw hI') (fun f k q => hn f k (FT_rel q))))
theorem x_bumpMain {a z : Nat} (hp : pp (nI a) (nI B, nI (8 * B), nI (32 * B), nI (12 * B), nI R, nI S, nI (a + z), ml, oa, ol, md, uw, mt, vc, me, st, lt, rs, ss, ws, mk, lm, pw, ca, ms, fw, vn, vq)) : wpX_bumpMain pp (nI B, nI (8 * B), nI (32 * B), nI (12 * B), nI R, nI S, nI a, ml, oa, ol, md, uw, mt, vc, me, st, lt, rs, ss, ws, mk, lm, pw, ca, ms, fw, vn, vq) (nI z) := nm_r (nI_add a z) hp
theorem x_bumpOver {a z : Nat} (hp : pp (nI a) (nI B, nI (8 * B), nI (32 * B), nI (12 * B), nI R, nI S, ma, ml, nI (a + z), ol, md, uw, mt, vc, me, st, lt, rs, ss, ws, mk, lm, pw, ca, ms, fw, vn, vq)) : wpX_bumpOver pp (nI B, nI (8 * B), nI (32 * B), nI (12 * B), nI R, nI S, ma, ml, nI a, ol, md, uw, mt, vc, me, st, lt, rs, ss, ws, mk, lm, pw, ca, ms, fw, vn, vq) (nI z) := nm_r (nI_add a z) hp
theorem x_place69 {O : Nat → Prop} {a l o p z : Nat} (hB : B ≤ 8) (h0 : 0 < z) (hz : z ≤ 8) (hI : RI B O lt a l o p)
    (h1 : p < o + z → pp (-1) (nI B, nI (8 * B), nI (32 * B), nI (12 * B), nI R, nI S, nI a, nI l, nI o, nI p, md, uw, mt, vc, me, st, lt, rs, ss, ws, mk, lm, pw, ca, ms, fw, vn, vq))
    (h2 : ∀ x a' l' o' p', x % 32 + z ≤ 32 → x + z ≤ 32 * B → (∀ w, x ≤ w → w < x + z → ¬ O w) → RI B (fun w => O w ∨ (x ≤ w ∧ w < x + z)) lt a' l' o' p' → pp (nI x) (nI B, nI (8 * B), nI (32 * B), nI (12 * B), nI R, nI S, nI a', nI l', nI o', nI p', md, uw, mt, vc, me, st, lt, rs, ss, ws, mk, lm, pw, ca, ms, fw, vn, vq)) : wX_place_69 pp (nI z) (nI B) (nI (8 * B)) (nI (32 * B)) (nI (12 * B)) (nI R) (nI S) (nI a) (nI l) (nI o) (nI p) md uw mt vc me st lt rs ss ws mk lm pw ca ms fw vn vq := by
  have b1 := hI.2.2.1.2.1
  have b2 := hI.2.2.1.1
  refine pk_lt (p - o) z (fun q => h1 (by omega)) (fun q => x_bumpOver ?_) (pk_sub b2) rfl
  obtain ⟨a1, a2, a3, a4⟩ := RI_bmpO hI h0 (z := z) (by omega)
  exact h2 _ _ _ _ _ a1 a2 a3 a4
theorem x_place {O : Nat → Prop} {a l o p z : Nat} (hB : B ≤ 8) (h0 : 0 < z) (hz : z ≤ 8) (hI : RI B O lt a l o p)
    (h1 : ∀ lt' a' l' o' p', RI B O lt' a' l' o' p' → l < a + z → (∀ f k, ¬ FT B lt ca z f k) → pp (-1) (nI B, nI (8 * B), nI (32 * B), nI (12 * B), nI R, nI S, nI a', nI l', nI o', nI p', md, uw, mt, vc, me, st, lt', rs, ss, ws, mk, lm, pw, ca, ms, fw, vn, vq))
    (h2 : ∀ x lt' a' l' o' p', x % 32 + z ≤ 32 → x + z ≤ 32 * B → (∀ w, x ≤ w → w < x + z → ¬ O w) → RI B (fun w => O w ∨ (x ≤ w ∧ w < x + z)) lt' a' l' o' p' → pp (nI x) (nI B, nI (8 * B), nI (32 * B), nI (12 * B), nI R, nI S, nI a', nI l', nI o', nI p', md, uw, mt, vc, me, st, lt', rs, ss, ws, mk, lm, pw, ca, ms, fw, vn, vq)) : wpX_place pp (nI B, nI (8 * B), nI (32 * B), nI (12 * B), nI R, nI S, nI a, nI l, nI o, nI p, md, uw, mt, vc, me, st, lt, rs, ss, ws, mk, lm, pw, ca, ms, fw, vn, vq) (nI z) := by
  have b1 := hI.2.1.2.1
  have b2 := hI.2.1.1
  have b3 := hI.2.2.1.2.1
  have b4 := hI.2.2.1.1
  refine pk_lt (l - a) z (fun q => ?_) (fun q => x_bumpMain ?_) (pk_sub b2) rfl
  · refine pk_le z 4 (fun q4 => ?_) (fun q4 => ?_)
    · refine x_refillMain hB h0 (by omega) hI (fun lt' hI' hn => ?_) (fun lt' a' l' hI' hl => ?_)
      · refine pk_lt 0 z (fun _ => ?_) (fun q => by omega) (by decide) rfl
        exact x_place69 hB h0 hz hI' (fun _ => h1 _ _ _ _ _ hI' (by omega) hn) (fun x a' l' o' p' c1 c2 c3 c4 => h2 _ _ _ _ _ _ c1 c2 c3 c4)
      · have b5 := hI'.2.1.2.1
        refine pk_lt (l' - a') z (fun _ => by omega) (fun q => x_bumpMain ?_) (pk_sub (by omega)) rfl
        obtain ⟨a1, a2, a3, a4⟩ := RI_bmp hI' h0 (z := z) (by omega)
        exact h2 _ _ _ _ _ _ a1 a2 a3 a4
    · refine pk_le z (p - o) (fun q5 => ?_) (fun q5 => ?_) rfl (pk_sub b4)
      · exact x_place69 hB h0 hz hI (fun _ => by omega) (fun x a' l' o' p' c1 c2 c3 c4 => h2 _ _ _ _ _ _ c1 c2 c3 c4)
      · refine x_refillOver hB h0 (by omega) hI (fun lt' hI' hn => ?_) (fun lt' o' p' hI' hl => ?_)
        · exact x_place69 hB h0 hz hI' (fun _ => h1 _ _ _ _ _ hI' (by omega) hn) (fun x a' l' o' p' c1 c2 c3 c4 => h2 _ _ _ _ _ _ c1 c2 c3 c4)
        · exact x_place69 hB h0 hz hI' (fun _ => by omega) (fun x a' l' o' p' c1 c2 c3 c4 => h2 _ _ _ _ _ _ c1 c2 c3 c4)
  · obtain ⟨a1, a2, a3, a4⟩ := RI_bmp hI h0 (z := z) (by omega)
    exact h2 _ _ _ _ _ _ a1 a2 a3 a4
end
end
section
/-! the ghost state: entries e < 48 -/
def un {α : Type} (f : Nat → α) (k : Nat) (x : α) : Nat → α := fun j => if j = k then x else f j
theorem un_s {α : Type} {f : Nat → α} {k : Nat} {x : α} : un f k x k = x := if_pos rfl
theorem un_n {α : Type} {f : Nat → α} {k j : Nat} {x : α} (h : j ≠ k) : un f k x j = f j := if_neg h
/-- a reference (0: none; t + 1: entry t) as X holds it, as Y holds it; a stack word of X -/
def rf (ad : Nat → Nat) : Nat → Int32
  | 0 => -1
  | t + 1 => nI (ad t)
def sf (sr : Nat → Nat) : Nat → Int32
  | 0 => 0
  | t + 1 => nI (sr t)
def sw (ad : Nat → Nat) (v : Int32) : Nat → Int32
  | 0 => v
  | t + 1 => nI (ad t) + v
/-- the content of cell c of an object; rr: how references are held -/
def oc (rr : Nat → Int32) (l d s : Nat) (lk : Nat → Nat) (dt : Nat → Int32) (c : Nat) : Int32 :=
  if c = 0 then nI (8 * l + d) else if c = 1 then nI s else if c < 2 + l then rr (lk c) else dt c
theorem oc_0 {rr : Nat → Int32} {l d s : Nat} {lk : Nat → Nat} {dt : Nat → Int32} : oc rr l d s lk dt 0 = nI (8 * l + d) := rfl
theorem oc_1 {rr : Nat → Int32} {l d s : Nat} {lk : Nat → Nat} {dt : Nat → Int32} : oc rr l d s lk dt 1 = nI s := rfl
theorem oc_l {rr : Nat → Int32} {l d s c : Nat} {lk : Nat → Nat} {dt : Nat → Int32} (h : 2 ≤ c) (h2 : c < 2 + l) : oc rr l d s lk dt c = rr (lk c) := by
  unfold oc; rw [if_neg (by omega), if_neg (by omega), if_pos h2]
theorem oc_d {rr : Nat → Int32} {l d s c : Nat} {lk : Nat → Nat} {dt : Nat → Int32} (h2 : 2 + l ≤ c) : oc rr l d s lk dt c = dt c := by
  unfold oc; rw [if_neg (by omega), if_neg (by omega), if_neg (by omega)]
theorem oc_c {rr rr' : Nat → Int32} {l d s c : Nat} {lk lk' : Nat → Nat} {dt dt' : Nat → Int32} (h : 2 ≤ c → c < 2 + l → rr (lk c) = rr' (lk' c)) (h2 : 2 + l ≤ c → dt c = dt' c) : oc rr l d s lk dt c = oc rr' l d s lk' dt' c := by
  unfold oc
  by_cases h0 : c = 0
  · rw [if_pos h0, if_pos h0]
  · rw [if_neg h0, if_neg h0]
    by_cases h1 : c = 1
    · rw [if_pos h1, if_pos h1]
    · rw [if_neg h1, if_neg h1]
      by_cases h3 : c < 2 + l
      · rw [if_pos h3, if_pos h3]; exact h (by omega) h3
      · rw [if_neg h3, if_neg h3]; exact h2 (by omega)
def LV (sr : Nat → Nat) (e : Nat) : Prop := e < 48 ∧ ¬ sr e = 0
def OKr (sr : Nat → Nat) (r : Nat) : Prop := ∀ t, r = t + 1 → LV sr t
theorem OKr_0 {sr : Nat → Nat} : OKr sr 0 := fun t h => by omega
theorem OKr_s {sr : Nat → Nat} {t : Nat} (h : LV sr t) : OKr sr (t + 1) := fun u e => by
  have : u = t := by omega
  rw [this]; exact h
def zs (ln dn : Nat → Nat) (e : Nat) : Nat := 2 + ln e + dn e
def tot (sr ln dn : Nat → Nat) : Nat := sm (fun e => if sr e = 0 then 0 else zs ln dn e) 48
def GO (md : Nat) (sr ln dn : Nat → Nat) (lk : Nat → Nat → Nat) : Prop :=
  (∀ e, LV sr e → ln e ≤ 4 ∧ dn e ≤ 4 ∧ ln e + dn e ≤ 6 ∧ sr e ≤ md) ∧ (∀ e f, LV sr e → LV sr f → sr e = sr f → e = f) ∧
  (∀ e, LV sr e → ∀ c, 2 ≤ c → c < 2 + ln e → OKr sr (lk e c))
def GR (R S : Nat) (sr ln dn : Nat → Nat) (rt wk se : Nat → Nat) (sv : Nat → Int32) : Prop :=
  (∀ i, i < 12 → OKr sr (rt i)) ∧ (∀ i, R ≤ i → rt i = 0) ∧ (∀ i, i < 4 → OKr sr (wk i)) ∧ (∀ i, i < 6 → OKr sr (se i)) ∧ (∀ i, S ≤ i → se i = 0) ∧
  (∀ i, i < 6 → se i = 0 → sv i < 0) ∧ (∀ i t, i < 6 → se i = t + 1 → ∃ c, sv i = nI c ∧ c < zs ln dn t)
def GB (B R S md : Nat) : Prop := 6 ≤ B ∧ B ≤ 8 ∧ 2 ≤ R ∧ R ≤ 12 ∧ 1 ≤ S ∧ S ≤ 6 ∧ md ≤ 30000
def GW (B R S md : Nat) (sr ln dn : Nat → Nat) (lk : Nat → Nat → Nat) (rt wk se : Nat → Nat) (sv : Nat → Int32) : Prop :=
  GB B R S md ∧ GO md sr ln dn lk ∧ GR R S sr ln dn rt wk se sv ∧ tot sr ln dn ≤ 12 * B
/-- the layout: objects within blocks, apart from one another -/
def LY (B : Nat) (L : Nat → Prop) (z ad : Nat → Nat) : Prop :=
  (∀ e, L e → 2 ≤ z e ∧ z e ≤ 8 ∧ ad e % 32 + z e ≤ 32 ∧ ad e < 32 * B) ∧ ∀ e f, L e → L f → e ≠ f → ad e + z e ≤ ad f ∨ ad f + z f ≤ ad e
def OC (L : Nat → Prop) (z ad : Nat → Nat) (w : Nat) : Prop := ∃ e, L e ∧ ad e ≤ w ∧ w < ad e + z e
def XM (L : Nat → Prop) (sr ln dn : Nat → Nat) (lk : Nat → Nat → Nat) (dt : Nat → Nat → Int32) (ad : Nat → Nat) (me : Nat → Int32) : Prop :=
  ∀ e, L e → ∀ c, c < zs ln dn e → me (ad e + c) = oc (rf ad) (ln e) (dn e) (sr e) (lk e) (dt e) c
def XT (L : Nat → Prop) (ad : Nat → Nat) (st : Nat → Int32) : Prop := ∀ w, w < 256 → st w = bb (∃ e, L e ∧ ad e = w)
def HP (B : Nat) (sr ln dn : Nat → Nat) (lk : Nat → Nat → Nat) (dt : Nat → Nat → Int32) (ad : Nat → Nat) (me st : Nat → Int32) : Prop :=
  LY B (LV sr) (zs ln dn) ad ∧ XM (LV sr) sr ln dn lk dt ad me ∧ XT (LV sr) ad st
def SL (rt wk se : Nat → Nat) (sv : Nat → Int32) (ad : Nat → Nat) (rs ws ss : Nat → Int32) : Prop :=
  (∀ i, i < 12 → rs i = rf ad (rt i)) ∧ (∀ i, i < 4 → ws i = rf ad (wk i)) ∧ (∀ i, i < 6 → ss i = sw ad (sv i) (se i))
def CZ (ca : Nat → Int32) : Prop := ∀ b, b < 8 → ca b = 0
def YM (sr ln dn : Nat → Nat) (lk : Nat → Nat → Nat) (dt : Nat → Nat → Int32) (ce : Nat → Int32) : Prop :=
  (∀ e, e < 48 → ce (8 * e + 1) = nI (sr e)) ∧ ∀ e, LV sr e → ∀ c, c < zs ln dn e → ce (8 * e + c) = oc (sf sr) (ln e) (dn e) (sr e) (lk e) (dt e) c
def YL (sr : Nat → Nat) (rt wk se : Nat → Nat) (sv : Nat → Int32) (ro wS sS sV : Nat → Int32) : Prop :=
  (∀ i, i < 12 → ro i = sf sr (rt i)) ∧ (∀ i, i < 4 → wS i = sf sr (wk i)) ∧ (∀ i, i < 6 → sS i = sf sr (se i)) ∧ (∀ i, i < 6 → sV i = sv i)
/-- the relation: whatever holds of all states that a ghost describes -/
def i_Rel (_ : Nat) (u : SX) (v : SY) : Prop := ∀ P : SX → SY → Prop,
  (∀ (B R S nd : Nat) (sr ln dn : Nat → Nat) (lk : Nat → Nat → Nat) (dt : Nat → Nat → Int32) (rt wk se : Nat → Nat) (sv : Nat → Int32) (ad : Nat → Nat) (a l o p : Nat) (mt vc : Int32) (me st lt rs ss ws mk lm pw ca ms fw vn vq ce ro sS sV wS re vi : Nat → Int32),
    GW B R S nd sr ln dn lk rt wk se sv → HP B sr ln dn lk dt ad me st → RI B (OC (LV sr) (zs ln dn) ad) lt a l o p → SL rt wk se sv ad rs ws ss → CZ ca → YM sr ln dn lk dt ce → YL sr rt wk se sv ro wS sS sV →
    P (nI B, nI (8 * B), nI (32 * B), nI (12 * B), nI R, nI S, nI a, nI l, nI o, nI p, nI nd, nI (tot sr ln dn), mt, vc, me, st, lt, rs, ss, ws, mk, lm, pw, ca, ms, fw, vn, vq) (nI (12 * B), nI R, nI S, nI nd, ce, ro, sS, sV, wS, re, vi)) → P u v
theorem i_up {k : Nat} {u : SX} {v : SY} (h : i_Rel k u v) : i_Rel (k + 4) u v := h
theorem rl_mk {k B R S nd : Nat} {sr ln dn : Nat → Nat} {lk : Nat → Nat → Nat} {dt : Nat → Nat → Int32} {rt wk se : Nat → Nat} {sv : Nat → Int32} {ad : Nat → Nat} {a l o p : Nat} {mt vc : Int32} {me st lt rs ss ws mk lm pw ca ms fw vn vq ce ro sS sV wS re vi : Nat → Int32}
    (h1 : GW B R S nd sr ln dn lk rt wk se sv) (h2 : HP B sr ln dn lk dt ad me st) (h3 : RI B (OC (LV sr) (zs ln dn) ad) lt a l o p) (h4 : SL rt wk se sv ad rs ws ss) (h5 : CZ ca) (h6 : YM sr ln dn lk dt ce) (h7 : YL sr rt wk se sv ro wS sS sV) :
    i_Rel k (nI B, nI (8 * B), nI (32 * B), nI (12 * B), nI R, nI S, nI a, nI l, nI o, nI p, nI nd, nI (tot sr ln dn), mt, vc, me, st, lt, rs, ss, ws, mk, lm, pw, ca, ms, fw, vn, vq) (nI (12 * B), nI R, nI S, nI nd, ce, ro, sS, sV, wS, re, vi) :=
  fun _ h => h B R S nd sr ln dn lk dt rt wk se sv ad a l o p mt vc me st lt rs ss ws mk lm pw ca ms fw vn vq ce ro sS sV wS re vi h1 h2 h3 h4 h5 h6 h7
/-! small facts -/
theorem gh_u {n : Nat} {f : Nat → Int32} {F : Nat → Int32} {g : Nat → Nat} {k y : Nat} {x : Int32} (h : ∀ i, i < n → f i = F (g i)) (e : x = F y) : ∀ i, i < n → upd f k x i = F (un g k y i) := by
  intro i hi
  by_cases q : i = k
  · subst q; rw [pk_us, un_s, e]
  · rw [pk_un q, un_n q]; exact h i hi
theorem GR_rt {R S : Nat} {sr ln dn rt wk se : Nat → Nat} {sv : Nat → Int32} {j y : Nat} (h : GR R S sr ln dn rt wk se sv) (hj : j < R) (hy : OKr sr y) : GR R S sr ln dn (un rt j y) wk se sv := by
  obtain ⟨h1, h2, h3⟩ := h
  refine ⟨fun i hi => ?_, fun i hi => ?_, h3⟩
  · by_cases q : i = j
    · subst q; rw [un_s]; exact hy
    · rw [un_n q]; exact h1 i hi
  · rw [un_n (by omega)]; exact h2 i hi
theorem GR_wk {R S : Nat} {sr ln dn rt wk se : Nat → Nat} {sv : Nat → Int32} {j y : Nat} (h : GR R S sr ln dn rt wk se sv) (hy : OKr sr y) : GR R S sr ln dn rt (un wk j y) se sv := by
  obtain ⟨h1, h2, h3, h4⟩ := h
  refine ⟨h1, h2, fun i hi => ?_, h4⟩
  by_cases q : i = j
  · subst q; rw [un_s]; exact hy
  · rw [un_n q]; exact h3 i hi
theorem GR_se {R S : Nat} {sr ln dn rt wk se : Nat → Nat} {sv : Nat → Int32} {j y : Nat} {x : Int32} (h : GR R S sr ln dn rt wk se sv) (hj : j < S) (hy : OKr sr y) (h0 : y = 0 → x < 0) (h1 : ∀ t, y = t + 1 → ∃ c, x = nI c ∧ c < zs ln dn t) : GR R S sr ln dn rt wk (un se j y) (un sv j x) := by
  obtain ⟨a1, a2, a3, a4, a5, a6, a7⟩ := h
  refine ⟨a1, a2, a3, fun i hi => ?_, fun i hi => ?_, fun i hi => ?_, fun i t hi => ?_⟩
  · by_cases q : i = j
    · subst q; rw [un_s]; exact hy
    · rw [un_n q]; exact a4 i hi
  · rw [un_n (by omega)]; exact a5 i hi
  · by_cases q : i = j
    · subst q; rw [un_s, un_s]; exact h0
    · rw [un_n q, un_n q]; exact a6 i hi
  · by_cases q : i = j
    · subst q; rw [un_s, un_s]; exact h1 t
    · rw [un_n q, un_n q]; exact a7 i t hi
theorem LY_lt {B : Nat} {L : Nat → Prop} {z ad : Nat → Nat} {e : Nat} (h : LY B L z ad) (hB : B ≤ 8) (he : L e) : ad e + z e ≤ 32 * B ∧ ad e + z e ≤ 256 ∧ 2 ≤ z e ∧ z e ≤ 8 := by
  obtain ⟨h1, h2, h3, h4⟩ := h.1 e he
  omega
theorem LY_in {B : Nat} {L : Nat → Prop} {z ad : Nat → Nat} {e f c d : Nat} (h : LY B L z ad) (he : L e) (hf : L f) (hc : c < z e) (hd : d < z f) (q : ad e + c = ad f + d) : e = f ∧ c = d := by
  by_cases n : e = f
  · subst n; exact ⟨rfl, by omega⟩
  · have := h.2 e f he hf n
    omega
/-- one cell written, on both sides -/
theorem XM_put {B : Nat} {sr ln dn : Nat → Nat} {lk lk' : Nat → Nat → Nat} {dt dt' : Nat → Nat → Int32} {ad : Nat → Nat} {me : Nat → Int32} {t c : Nat} {x : Int32} (hL : LY B (LV sr) (zs ln dn) ad) (hM : XM (LV sr) sr ln dn lk dt ad me) (ht : LV sr t) (hc : c < zs ln dn t)
    (hx : x = oc (rf ad) (ln t) (dn t) (sr t) (lk' t) (dt' t) c) (hs : ∀ rr : Nat → Int32, ∀ e c', ¬ (e = t ∧ c' = c) → oc rr (ln e) (dn e) (sr e) (lk' e) (dt' e) c' = oc rr (ln e) (dn e) (sr e) (lk e) (dt e) c') : XM (LV sr) sr ln dn lk' dt' ad (upd me (ad t + c) x) := by
  intro e he c' hc'
  by_cases q : e = t ∧ c' = c
  · obtain ⟨rfl, rfl⟩ := q; rw [pk_us, hx]
  · rw [hs _ e c' q]
    rw [pk_un (fun z => q (LY_in hL he ht hc' hc z))]
    exact hM e he c' hc'
theorem YM_put {sr ln dn : Nat → Nat} {lk lk' : Nat → Nat → Nat} {dt dt' : Nat → Nat → Int32} {ce : Nat → Int32} {t c : Nat} {x : Int32} (hZ : ∀ e, LV sr e → zs ln dn e ≤ 8) (hM : YM sr ln dn lk dt ce) (ht : LV sr t) (hc : c < zs ln dn t) (h2 : 2 ≤ c)
    (hx : x = oc (sf sr) (ln t) (dn t) (sr t) (lk' t) (dt' t) c) (hs : ∀ rr : Nat → Int32, ∀ e c', ¬ (e = t ∧ c' = c) → oc rr (ln e) (dn e) (sr e) (lk' e) (dt' e) c' = oc rr (ln e) (dn e) (sr e) (lk e) (dt e) c') : YM sr ln dn lk' dt' (upd ce (8 * t + c) x) := by
  have z1 := hZ t ht
  refine ⟨fun e he => ?_, fun e he c' hc' => ?_⟩
  · rw [pk_un (by omega)]; exact hM.1 e he
  · have z2 := hZ e he
    by_cases q : e = t ∧ c' = c
    · obtain ⟨rfl, rfl⟩ := q; rw [pk_us, hx]
    · rw [hs _ e c' q]
      rw [pk_un (by omega)]
      exact hM.2 e he c' hc'
theorem oc_lk {ln dn sr : Nat → Nat} {lk : Nat → Nat → Nat} {dt : Nat → Nat → Int32} {t c r : Nat} : ∀ rr : Nat → Int32, ∀ e c', ¬ (e = t ∧ c' = c) → oc rr (ln e) (dn e) (sr e) (un lk t (un (lk t) c r) e) (dt e) c' = oc rr (ln e) (dn e) (sr e) (lk e) (dt e) c' := by
  intro rr e c' q
  refine oc_c (fun _ _ => ?_) (fun _ => rfl)
  by_cases h : e = t
  · subst h; rw [un_s, un_n (fun z => q ⟨rfl, z⟩)]
  · rw [un_n h]
theorem oc_dt {ln dn sr : Nat → Nat} {lk : Nat → Nat → Nat} {dt : Nat → Nat → Int32} {t c : Nat} {x : Int32} : ∀ rr : Nat → Int32, ∀ e c', ¬ (e = t ∧ c' = c) → oc rr (ln e) (dn e) (sr e) (lk e) (un dt t (un (dt t) c x) e) c' = oc rr (ln e) (dn e) (sr e) (lk e) (dt e) c' := by
  intro rr e c' q
  refine oc_c (fun _ _ => rfl) (fun _ => ?_)
  by_cases h : e = t
  · subst h; rw [un_s, un_n (fun z => q ⟨rfl, z⟩)]
  · rw [un_n h]
theorem GO_lk {md : Nat} {sr ln dn : Nat → Nat} {lk : Nat → Nat → Nat} {t c r : Nat} (h : GO md sr ln dn lk) (hr : OKr sr r) : GO md sr ln dn (un lk t (un (lk t) c r)) := by
  obtain ⟨h1, h2, h3⟩ := h
  refine ⟨h1, h2, fun e he d d1 d2 => ?_⟩
  by_cases q : e = t
  · subst q; rw [un_s]
    by_cases q2 : d = c
    · subst q2; rw [un_s]; exact hr
    · rw [un_n q2]; exact h3 e he d d1 d2
  · rw [un_n q]; exact h3 e he d d1 d2
theorem GO_z {md : Nat} {sr ln dn : Nat → Nat} {lk : Nat → Nat → Nat} (h : GO md sr ln dn lk) : ∀ e, LV sr e → zs ln dn e ≤ 8 := fun e he => by
  have := h.1 e he
  unfold zs; omega
theorem gh_ix {v : Int32} {n : Nat} (hn : n < 2 ^ 31) : (v < 0 ∨ nI n ≤ v) ∨ ∃ j, j < n ∧ v = nI j := by
  rcases pk_ix v hn with h | h | h
  · exact Or.inl (Or.inl h)
  · exact Or.inl (Or.inr h)
  · exact Or.inr h
/-! X's reads in terms of the ghost -/
section
variable {B R S : Nat} {ma ml oa ol md uw mt vc : Int32} {me st lt rs ss ws mk lm pw ca ms fw vn vq : Nat → Int32} {pr : Int32 → Prop} {sr ln dn : Nat → Nat} {lk : Nat → Nat → Nat} {dt : Nat → Nat → Int32} {ad : Nat → Nat} {nd : Nat}
theorem g_linksOf {t : Nat} (hB : B ≤ 8) (G : GO nd sr ln dn lk) (H : HP B sr ln dn lk dt ad me st) (ht : LV sr t) (hp : pr (nI (ln t))) : wpX_linksOf pr (nI B, nI (8 * B), nI (32 * B), nI (12 * B), nI R, nI S, ma, ml, oa, ol, md, uw, mt, vc, me, st, lt, rs, ss, ws, mk, lm, pw, ca, ms, fw, vn, vq) (nI (ad t)) := by
  have a := LY_lt H.1 hB ht
  have b := G.1 t ht
  exact x_linksOf (d := dn t) (by rw [← oc_0 (rr := rf ad) (s := sr t) (lk := lk t) (dt := dt t)]; exact H.2.1 t ht 0 (by omega)) (by omega) (by omega) (by omega) hp
theorem g_dataOf {t : Nat} (hB : B ≤ 8) (G : GO nd sr ln dn lk) (H : HP B sr ln dn lk dt ad me st) (ht : LV sr t) (hp : pr (nI (dn t))) : wpX_dataOf pr (nI B, nI (8 * B), nI (32 * B), nI (12 * B), nI R, nI S, ma, ml, oa, ol, md, uw, mt, vc, me, st, lt, rs, ss, ws, mk, lm, pw, ca, ms, fw, vn, vq) (nI (ad t)) := by
  have a := LY_lt H.1 hB ht
  have b := G.1 t ht
  exact x_dataOf (l := ln t) (by rw [← oc_0 (rr := rf ad) (s := sr t) (lk := lk t) (dt := dt t)]; exact H.2.1 t ht 0 (by omega)) (by omega) (by omega) (by omega) hp
theorem g_sizeOf {t : Nat} (hB : B ≤ 8) (G : GO nd sr ln dn lk) (H : HP B sr ln dn lk dt ad me st) (ht : LV sr t) (hp : pr (nI (zs ln dn t))) : wpX_sizeOf pr (nI B, nI (8 * B), nI (32 * B), nI (12 * B), nI R, nI S, ma, ml, oa, ol, md, uw, mt, vc, me, st, lt, rs, ss, ws, mk, lm, pw, ca, ms, fw, vn, vq) (nI (ad t)) := by
  have a := LY_lt H.1 hB ht
  have b := G.1 t ht
  exact x_sizeOf (l := ln t) (d := dn t) (by rw [← oc_0 (rr := rf ad) (s := sr t) (lk := lk t) (dt := dt t)]; exact H.2.1 t ht 0 (by omega)) (by omega) (by omega) (by omega) hp
theorem g_serial {r : Nat} (hB : B ≤ 8) (H : HP B sr ln dn lk dt ad me st) (hr : OKr sr r) (hp : pr (sf sr r)) : wpX_serialAt pr (nI B, nI (8 * B), nI (32 * B), nI (12 * B), nI R, nI S, ma, ml, oa, ol, md, uw, mt, vc, me, st, lt, rs, ss, ws, mk, lm, pw, ca, ms, fw, vn, vq) (rf ad r) := by
  cases r with
  | zero => exact x_serial0 nu_n1 hp
  | succ t =>
    have ht := hr t rfl
    have a := LY_lt H.1 hB ht
    refine x_serialAt (by omega) ?_
    rw [H.2.1 t ht 1 (by omega), oc_1]
    exact hp
theorem g_serialE {r : Nat} {x : Int32} (hB : B ≤ 8) (H : HP B sr ln dn lk dt ad me st) (hr : OKr sr r) (hx : x = rf ad r) (hp : pr (sf sr r)) : wpX_serialAt pr (nI B, nI (8 * B), nI (32 * B), nI (12 * B), nI R, nI S, ma, ml, oa, ol, md, uw, mt, vc, me, st, lt, rs, ss, ws, mk, lm, pw, ca, ms, fw, vn, vq) x := by
  rw [hx]; exact g_serial hB H hr hp
theorem g_startOf {t c : Nat} (hB : B ≤ 8) (hL : LY B (LV sr) (zs ln dn) ad) (hT : XT (LV sr) ad st) (ht : LV sr t) (hc : c < zs ln dn t) (hp : pr (nI (ad t))) : wpX_startOf pr (nI B, nI (8 * B), nI (32 * B), nI (12 * B), nI R, nI S, ma, ml, oa, ol, md, uw, mt, vc, me, st, lt, rs, ss, ws, mk, lm, pw, ca, ms, fw, vn, vq) (nI (ad t + c)) := by
  have a := LY_lt hL hB ht
  refine x_startOf (by omega) (by omega) ?_ (fun k k1 k2 => ?_) hp
  · rw [hT _ (by omega)]; exact bb_n0.mpr ⟨t, ht, rfl⟩
  · rw [hT _ (by omega)]
    refine bb_0.mpr (fun ⟨e, he, q⟩ => ?_)
    have b := LY_lt hL hB he
    have := LY_in (c := 0) (d := k) hL he ht (by omega) (by omega) (by omega)
    omega
end
end
section
section
variable {B R S : Nat} {yd : Int32} {ce ro sS sV wS re vi : Nat → Int32} {pr : Int32 → Prop} {qu : SY → Prop} {qp : Int32 → SY → Prop} {sr ln dn : Nat → Nat} {lk : Nat → Nat → Nat} {dt : Nat → Nat → Int32} {nd : Nat}
theorem y_bad {v : Int32} (h0 : 0 < R) (hR : R < 2 ^ 31) (h : v < 0 ∨ nI R ≤ v) (hp : pr 1) : wpY_badRoot pr (nI (12 * B), nI R, nI S, yd, ce, ro, sS, sV, wS, re, vi) v := by
  refine br_c (fun _ => hp) (fun hn => br_f (fun z => ?_) hp)
  obtain ⟨m, rfl⟩ : ∃ m, R = m + 1 := ⟨R - 1, by omega⟩
  rw [nI_pred] at z
  exact h.elim hn (fun q => nI_ge (Nat.lt_succ_self m) hR (Int32.le_trans q z))
theorem y_good {j : Nat} (hR : R < 2 ^ 31) (h : j < R) (hp : pr 0) : wpY_badRoot pr (nI (12 * B), nI R, nI S, yd, ce, ro, sS, sV, wS, re, vi) (nI j) := by
  refine br_f (nI_pos (by omega)) (br_t ?_ hp)
  obtain ⟨m, rfl⟩ : ∃ m, R = m + 1 := ⟨R - 1, by omega⟩
  rw [nI_pred]
  exact nI_le (by omega) (by omega)
theorem y_badS {v : Int32} (h0 : 0 < S) (hR : S < 2 ^ 31) (h : v < 0 ∨ nI S ≤ v) (hp : pr 1) : wpY_badSlot pr (nI (12 * B), nI R, nI S, yd, ce, ro, sS, sV, wS, re, vi) v := by
  refine br_c (fun _ => hp) (fun hn => br_f (fun z => ?_) hp)
  obtain ⟨m, rfl⟩ : ∃ m, S = m + 1 := ⟨S - 1, by omega⟩
  rw [nI_pred] at z
  exact h.elim hn (fun q => nI_ge (Nat.lt_succ_self m) hR (Int32.le_trans q z))
theorem y_goodS {j : Nat} (hR : S < 2 ^ 31) (h : j < S) (hp : pr 0) : wpY_badSlot pr (nI (12 * B), nI R, nI S, yd, ce, ro, sS, sV, wS, re, vi) (nI j) := by
  refine br_f (nI_pos (by omega)) (br_t ?_ hp)
  obtain ⟨m, rfl⟩ : ∃ m, S = m + 1 := ⟨S - 1, by omega⟩
  rw [nI_pred]
  exact nI_le (by omega) (by omega)
theorem y_entryL {v : Int32} (hf : ∀ e, e < 48 → ce (8 * e + 1) = v → pr (nI e)) (hn : (∀ e, e < 48 → ¬ ce (8 * e + 1) = v) → pr (-1)) : ∀ n x, 48 - x < n → x ≤ 48 → (∀ e, e < x → ¬ ce (8 * e + 1) = v) → wY_entryOf_8 pr v (nI (12 * B)) (nI R) (nI S) yd ce ro sS sV wS re vi n (nI x) := by
  intro n
  induction n with
  | zero => intro x h; omega
  | succ n ih =>
    intro x h1 h2 h3
    refine pk_le 48 x (fun q => hn (fun e he => h3 e (by omega))) (fun q => ?_)
    rw [nu_8m, nI_1]
    refine And.intro (vp_in_nI (by omega) (by omega)) ?_
    rw [nI_clamp (by omega)]
    refine br_c (fun z => hf x q z) (fun z => nm_r (nI_1 x) (ih (x + 1) (by omega) (by omega) (fun e he => ?_)))
    rcases Nat.lt_or_ge e x with c | c
    · exact h3 e c
    · have : e = x := by omega
      subst this; exact z
theorem y_entryOf {v : Int32} (h0 : 0 < v) (hf : ∀ e, e < 48 → ce (8 * e + 1) = v → pr (nI e)) (hn : (∀ e, e < 48 → ¬ ce (8 * e + 1) = v) → pr (-1)) : wpY_entryOf pr (nI (12 * B), nI R, nI S, yd, ce, ro, sS, sV, wS, re, vi) v :=
  br_t h0 (Exists.intro 49 (y_entryL hf hn 49 0 (by omega) (by omega) (fun e he => by omega)))
theorem y_entry0 {v : Int32} (h0 : ¬ 0 < v) (hp : pr (-1)) : wpY_entryOf pr (nI (12 * B), nI R, nI S, yd, ce, ro, sS, sV, wS, re, vi) v := br_f h0 hp
theorem gh_uq {md t e : Nat} (hd : md ≤ 30000) (G : GO md sr ln dn lk) (M : ∀ e, e < 48 → ce (8 * e + 1) = nI (sr e)) (ht : LV sr t) (he : e < 48) (q : ce (8 * e + 1) = nI (sr t)) : e = t := by
  have a := (G.1 t ht).2.2.2
  have h0 := ht.2
  rw [M e he] at q
  by_cases z : sr e = 0
  · rw [z] at q
    exact absurd (nu_inj q (by omega) (by omega)) (fun c => h0 c.symm)
  · have b := (G.1 e ⟨he, z⟩).2.2.2
    exact G.2.1 e t ⟨he, z⟩ ht (nu_inj q (by omega) (by omega))
theorem y_ent {t : Nat} (hd : nd ≤ 30000) (G : GO nd sr ln dn lk) (M : YM sr ln dn lk dt ce) (ht : LV sr t) (hp : pr (nI t)) : wpY_entryOf pr (nI (12 * B), nI R, nI S, yd, ce, ro, sS, sV, wS, re, vi) (nI (sr t)) := by
  have a := (G.1 t ht).2.2.2
  have h0 := ht.2
  refine y_entryOf (nI_lt (a := 0) (by omega) (by omega)) (fun e he q => ?_) (fun hn => absurd (M.1 t ht.1) (hn t ht.1))
  rw [gh_uq hd G M.1 ht he q]; exact hp
theorem y_at {t c : Nat} (hd : nd ≤ 30000) (G : GO nd sr ln dn lk) (M : YM sr ln dn lk dt ce) (ht : LV sr t) (hc : c < 8) (hp : pr (ce (8 * t + c))) : wpY_at pr (nI (12 * B), nI R, nI S, yd, ce, ro, sS, sV, wS, re, vi) (nI (sr t)) (nI c) := by
  have h4 := ht.1
  refine y_ent hd G M ht (br_f (nI_pos (by omega)) (br_f (nI_pos (by omega)) (br_t (nI_le (b := 7) (by omega) (by omega)) ?_)))
  rw [nu_8m, nI_add]
  refine And.intro (vp_in_nI (by omega) (by omega)) ?_
  rw [nI_clamp (by omega)]
  exact hp
theorem y_put {t c : Nat} {x : Int32} (hd : nd ≤ 30000) (G : GO nd sr ln dn lk) (M : YM sr ln dn lk dt ce) (ht : LV sr t) (hc : c < 8) (hp : qu (nI (12 * B), nI R, nI S, yd, upd ce (8 * t + c) x, ro, sS, sV, wS, re, vi)) : wpY_put qu (nI (12 * B), nI R, nI S, yd, ce, ro, sS, sV, wS, re, vi) (nI (sr t)) (nI c) x := by
  have h4 := ht.1
  refine y_ent hd G M ht (br_f (nI_pos (by omega)) (br_f (nI_pos (by omega)) (br_f (nI_nlt (a := 7) (by omega) (by omega)) ?_)))
  rw [nu_8m, nI_add]
  exact And.intro (vp_in_nI (by omega) (by omega)) (nm_r (nu_u (by omega) rfl) hp)
theorem y_hd {t : Nat} (M : YM sr ln dn lk dt ce) (ht : LV sr t) : ce (8 * t + 0) = nI (8 * ln t + dn t) := by
  rw [M.2 t ht 0 (by unfold zs; omega), oc_0]
theorem y_linksOf {t : Nat} (hd : nd ≤ 30000) (G : GO nd sr ln dn lk) (M : YM sr ln dn lk dt ce) (ht : LV sr t) (hp : pr (nI (ln t))) : wpY_linksOf pr (nI (12 * B), nI R, nI S, yd, ce, ro, sS, sV, wS, re, vi) (nI (sr t)) := by
  have b := G.1 t ht
  unfold wpY_linksOf
  refine y_at (c := 0) hd G M ht (by omega) ?_
  refine And.intro nu_80 ?_
  rw [y_hd M ht, nu_d8 (by omega), show (8 * ln t + dn t) / 8 = ln t by omega]
  exact hp
theorem y_dataOf {t : Nat} (hd : nd ≤ 30000) (G : GO nd sr ln dn lk) (M : YM sr ln dn lk dt ce) (ht : LV sr t) (hp : pr (nI (dn t))) : wpY_dataOf pr (nI (12 * B), nI R, nI S, yd, ce, ro, sS, sV, wS, re, vi) (nI (sr t)) := by
  have b := G.1 t ht
  unfold wpY_dataOf
  refine y_at (c := 0) hd G M ht (by omega) ?_
  refine And.intro nu_80 ?_
  rw [y_hd M ht, nu_r8 (by omega), show (8 * ln t + dn t) % 8 = dn t by omega]
  exact hp
theorem y_sizeOf {t : Nat} (hd : nd ≤ 30000) (G : GO nd sr ln dn lk) (M : YM sr ln dn lk dt ce) (ht : LV sr t) (hp : pr (nI (zs ln dn t))) : wpY_sizeOf pr (nI (12 * B), nI R, nI S, yd, ce, ro, sS, sV, wS, re, vi) (nI (sr t)) := by
  unfold wpY_sizeOf
  refine y_linksOf hd G M ht ?_
  refine y_dataOf hd G M ht ?_
  show pr (2 + nI (ln t) + nI (dn t))
  rw [nu_2, nI_add]
  exact hp
theorem y_usedL (hd : nd ≤ 30000) (G : GO nd sr ln dn lk) (M : YM sr ln dn lk dt ce) (hp : pr (nI (tot sr ln dn))) : ∀ n e, 48 - e < n → e ≤ 48 → wY_used_4 pr (nI (12 * B)) (nI R) (nI S) yd ce ro sS sV wS re vi n (nI (sm (fun e => if sr e = 0 then 0 else zs ln dn e) e)) (nI e) := by
  intro n
  induction n with
  | zero => intro e h; omega
  | succ n ih =>
    intro e h1 h2
    refine pk_le 48 e (fun q => ?_) (fun q => ?_)
    · have : e = 48 := by omega
      subst this; exact hp
    · rw [nu_8m, nI_1]
      refine And.intro (vp_in_nI (by omega) (by omega)) ?_
      have ih' := ih (e + 1) (by omega) (by omega)
      rw [nI_clamp (by omega), M.1 e q]
      by_cases z : sr e = 0
      · refine br_t (by rw [z]; rfl) (nm_r (nI_1 e) ?_)
        simp only [sm, if_pos z, Nat.add_zero] at ih'
        exact ih'
      · have b := G.1 e ⟨q, z⟩
        have hh := y_hd M ⟨q, z⟩
        rw [Nat.add_zero] at hh
        refine br_f (fun c => z (nu_inj (b := 0) c (by omega) (by omega))) (And.intro (vp_in_nI (by omega) (by omega)) (And.intro nu_80 (And.intro (vp_in_nI (by omega) (by omega)) (And.intro nu_80 (nm_r (e' := nI (sm (fun e => if sr e = 0 then 0 else zs ln dn e) e + zs ln dn e)) ?_ (nm_r (nI_1 e) ?_))))))
        · rw [nI_clamp (by omega), hh, nu_r8 (by omega), nu_d8 (by omega), show (8 * ln e + dn e) / 8 = ln e by omega, show (8 * ln e + dn e) % 8 = dn e by omega, nu_2, nI_add, nI_add]
          rfl
        · simp only [sm, if_neg z] at ih'
          exact ih'
theorem y_used (hd : nd ≤ 30000) (G : GO nd sr ln dn lk) (M : YM sr ln dn lk dt ce) (hp : pr (nI (tot sr ln dn))) : wpY_used pr (nI (12 * B), nI R, nI S, yd, ce, ro, sS, sV, wS, re, vi) :=
  Exists.intro 49 (y_usedL hd G M hp 49 0 (by omega) (by omega))
end
end
section
/-! the calls that neither place nor collect -/
theorem sr_pos {nd : Nat} {sr ln dn : Nat → Nat} {lk : Nat → Nat → Nat} {t : Nat} (hd : nd ≤ 30000) (G : GO nd sr ln dn lk) (ht : LV sr t) : ¬ nI (sr t) = 0 := by
  have a := (G.1 t ht).2.2.2
  exact fun c => ht.2 (nu_inj (b := 0) c (by omega) (by omega))
theorem gt_c {v : Int32} {m : Nat} (hm : m < 2 ^ 31) (h : nI m ≤ v) : ¬ v < 0 ∧ ¬ v < nI m :=
  ⟨fun q => nI_pos hm (Int32.lt_of_le_of_lt h q), fun q => Int32.not_le.mpr q h⟩
theorem rt_c {nd R S : Nat} {sr ln dn : Nat → Nat} {lk : Nat → Nat → Nat} {rt wk se : Nat → Nat} {sv : Nat → Int32} {ad : Nat → Nat} {rs ws ss ro wS sS sV : Nat → Int32} {j : Nat} (hd : nd ≤ 30000) (G : GO nd sr ln dn lk) (hG : GR R S sr ln dn rt wk se sv) (hS : SL rt wk se sv ad rs ws ss) (hY : YL sr rt wk se sv ro wS sS sV) (hj : j < 12) :
    (rt j = 0 ∧ rs (nI j).toNatClampNeg = -1 ∧ ro (nI j).toNatClampNeg = 0) ∨ ∃ t, rt j = t + 1 ∧ LV sr t ∧ rs (nI j).toNatClampNeg = nI (ad t) ∧ ro (nI j).toNatClampNeg = nI (sr t) ∧ ¬ nI (sr t) = 0 := by
  rw [nI_clamp (by omega), hS.1 j hj, hY.1 j hj]
  have ok := hG.1 j hj
  cases e : rt j with
  | zero => exact Or.inl ⟨rfl, rfl, rfl⟩
  | succ t => exact Or.inr ⟨t, rfl, ok t e, rfl, rfl, sr_pos hd G (ok t e)⟩
theorem se_c {nd R S : Nat} {sr ln dn : Nat → Nat} {lk : Nat → Nat → Nat} {rt wk se : Nat → Nat} {sv : Nat → Int32} {ad : Nat → Nat} {rs ws ss ro wS sS sV : Nat → Int32} {j : Nat} (hd : nd ≤ 30000) (G : GO nd sr ln dn lk) (hG : GR R S sr ln dn rt wk se sv) (hS : SL rt wk se sv ad rs ws ss) (hY : YL sr rt wk se sv ro wS sS sV) (hj : j < 6) :
    (se j = 0 ∧ ss (nI j).toNatClampNeg < 0 ∧ sS (nI j).toNatClampNeg = 0 ∧ sV (nI j).toNatClampNeg = ss (nI j).toNatClampNeg) ∨ ∃ t c, se j = t + 1 ∧ LV sr t ∧ c < zs ln dn t ∧ ss (nI j).toNatClampNeg = nI (ad t + c) ∧ sS (nI j).toNatClampNeg = nI (sr t) ∧ sV (nI j).toNatClampNeg = nI c ∧ ¬ nI (sr t) = 0 := by
  rw [nI_clamp (by omega), hS.2.2 j hj, hY.2.2.1 j hj, hY.2.2.2 j hj]
  have ok := hG.2.2.2.1 j hj
  cases e : se j with
  | zero => exact Or.inl ⟨rfl, hG.2.2.2.2.2.1 j hj e, rfl, rfl⟩
  | succ t =>
    obtain ⟨c, c1, c2⟩ := hG.2.2.2.2.2.2 j t hj e
    refine Or.inr ⟨t, c, rfl, ok t e, c2, ?_, rfl, c1, sr_pos hd G (ok t e)⟩
    rw [c1]; exact nI_add _ _
theorem i_vc_copyRoot {k : Nat} {u : SX} {v : SY} (I : i_Rel k u v) (hk : k + 4 ≤ 2051) (v1 : Int32) (v2 : Int32) : wpX_copyRoot (fun r u' => wpY_copyRoot (fun r' v' => r' = r ∧ i_Rel (k + 4) u' v') v v1 v2) u v1 v2 := by
  refine I (fun u v => wpX_copyRoot (fun r u' => wpY_copyRoot (fun r' v' => r' = r ∧ i_Rel (k + 4) u' v') v v1 v2) u v1 v2) ?_
  intro B R S nd sr ln dn lk dt rt wk se sv ad a l o p mt vc me st lt rs ss ws mk lm pw ca ms fw vn vq ce ro sS sV wS re vi G H HR HS HC HM HY
  unfold wpX_copyRoot wpY_copyRoot
  obtain ⟨b1, b2, b3, b4, b5, b6, b7⟩ := G.1
  rcases gh_ix (v := v1) (n := R) (by omega) with h1 | ⟨j1, h1, rfl⟩
  · exact x_bad (by omega) h1 (br_f bb_10 (y_bad (by omega) (by omega) h1 (br_f bb_10 ⟨rfl, rl_mk G H HR HS HC HM HY⟩)))
  refine x_good (by omega) h1 (br_t rfl ?_)
  rcases gh_ix (v := v2) (n := R) (by omega) with h2 | ⟨j2, h2, rfl⟩
  · exact x_bad (by omega) h2 (br_f bb_10 (y_good (by omega) h1 (br_t rfl (y_bad (by omega) (by omega) h2 (br_f bb_10 ⟨rfl, rl_mk G H HR HS HC HM HY⟩)))))
  have ok := G.2.2.1.1 j1 (by omega)
  refine x_good (by omega) h2 (br_t rfl (And.intro (vp_in_nI (by omega) (by omega)) (And.intro (vp_in_nI (by omega) (by omega)) (nm_r (e' := upd rs j2 (rf ad (rt j1))) ?_ (And.intro (vp_in_nI (by omega) (by omega)) ?_)))))
  · rw [nI_clamp (n := j1) (by omega), HS.1 j1 (by omega)]; exact nu_u (by omega) rfl
  refine g_serialE b2 H ok (by rw [nI_clamp (n := j2) (by omega), pk_us]) ?_
  refine y_good (by omega) h1 (br_t rfl (y_good (by omega) h2 (br_t rfl (And.intro (vp_in_nI (by omega) (by omega)) (And.intro (vp_in_nI (by omega) (by omega)) (nm_r (e' := upd ro j2 (sf sr (rt j1))) ?_ (And.intro (vp_in_nI (by omega) (by omega)) ?_)))))))
  · rw [nI_clamp (n := j1) (by omega), HY.1 j1 (by omega)]; exact nu_u (by omega) rfl
  exact ⟨by rw [nI_clamp (n := j2) (by omega), pk_us], rl_mk ⟨G.1, G.2.1, GR_rt G.2.2.1 h2 ok, G.2.2.2⟩ H HR ⟨gh_u HS.1 rfl, HS.2⟩ HC HM ⟨gh_u HY.1 rfl, HY.2⟩⟩
theorem i_vc_clearRoot {k : Nat} {u : SX} {v : SY} (I : i_Rel k u v) (hk : k + 4 ≤ 2051) (v1 : Int32) : wpX_clearRoot (fun r u' => wpY_clearRoot (fun r' v' => r' = r ∧ i_Rel (k + 4) u' v') v v1) u v1 := by
  refine I (fun u v => wpX_clearRoot (fun r u' => wpY_clearRoot (fun r' v' => r' = r ∧ i_Rel (k + 4) u' v') v v1) u v1) ?_
  intro B R S nd sr ln dn lk dt rt wk se sv ad a l o p mt vc me st lt rs ss ws mk lm pw ca ms fw vn vq ce ro sS sV wS re vi G H HR HS HC HM HY
  unfold wpX_clearRoot wpY_clearRoot
  obtain ⟨b1, b2, b3, b4, b5, b6, b7⟩ := G.1
  rcases gh_ix (v := v1) (n := R) (by omega) with h1 | ⟨j1, h1, rfl⟩
  · exact x_bad (by omega) h1 (br_f bb_10 (y_bad (by omega) (by omega) h1 (br_f bb_10 ⟨rfl, rl_mk G H HR HS HC HM HY⟩)))
  refine x_good (by omega) h1 (br_t rfl (And.intro (vp_in_nI (by omega) (by omega)) (nm_r (nu_u (by omega) rfl) ?_)))
  refine y_good (by omega) h1 (br_t rfl (And.intro (vp_in_nI (by omega) (by omega)) (nm_r (nu_u (by omega) rfl) ?_)))
  exact ⟨rfl, rl_mk ⟨G.1, G.2.1, GR_rt (y := 0) G.2.2.1 h1 OKr_0, G.2.2.2⟩ H HR ⟨gh_u HS.1 rfl, HS.2⟩ HC HM ⟨gh_u HY.1 rfl, HY.2⟩⟩
theorem i_vc_serialOf {k : Nat} {u : SX} {v : SY} (I : i_Rel k u v) (hk : k + 4 ≤ 2051) (v1 : Int32) : wpX_serialOf (fun r => wpY_serialOf (fun r' => r' = r ∧ i_Rel (k + 4) u v) v v1) u v1 := by
  refine I (fun u v => wpX_serialOf (fun r => wpY_serialOf (fun r' => r' = r ∧ i_Rel (k + 4) u v) v v1) u v1) ?_
  intro B R S nd sr ln dn lk dt rt wk se sv ad a l o p mt vc me st lt rs ss ws mk lm pw ca ms fw vn vq ce ro sS sV wS re vi G H HR HS HC HM HY
  unfold wpX_serialOf wpY_serialOf
  obtain ⟨b1, b2, b3, b4, b5, b6, b7⟩ := G.1
  rcases gh_ix (v := v1) (n := R) (by omega) with h1 | ⟨j1, h1, rfl⟩
  · exact x_bad (by omega) h1 (br_f bb_10 (y_bad (by omega) (by omega) h1 (br_f bb_10 ⟨rfl, rl_mk G H HR HS HC HM HY⟩)))
  have ok := G.2.2.1.1 j1 (by omega)
  refine x_good (by omega) h1 (br_t rfl (And.intro (vp_in_nI (by omega) (by omega)) ?_))
  refine g_serialE b2 H ok (by rw [nI_clamp (by omega), HS.1 j1 (by omega)]) (y_good (by omega) h1 (br_t rfl (And.intro (vp_in_nI (by omega) (by omega)) ?_)))
  exact ⟨by rw [nI_clamp (by omega), HY.1 j1 (by omega)], rl_mk G H HR HS HC HM HY⟩
theorem i_vc_getLink {k : Nat} {u : SX} {v : SY} (I : i_Rel k u v) (hk : k + 4 ≤ 2051) (v1 : Int32) (v2 : Int32) (v3 : Int32) : wpX_getLink (fun r u' => wpY_getLink (fun r' v' => r' = r ∧ i_Rel (k + 4) u' v') v v1 v2 v3) u v1 v2 v3 := by
  refine I (fun u v => wpX_getLink (fun r u' => wpY_getLink (fun r' v' => r' = r ∧ i_Rel (k + 4) u' v') v v1 v2 v3) u v1 v2 v3) ?_
  intro B R S nd sr ln dn lk dt rt wk se sv ad a l o p mt vc me st lt rs ss ws mk lm pw ca ms fw vn vq ce ro sS sV wS re vi G H HR HS HC HM HY
  unfold wpX_getLink wpY_getLink
  obtain ⟨b1, b2, b3, b4, b5, b6, b7⟩ := G.1
  rcases gh_ix (v := v1) (n := R) (by omega) with h1 | ⟨j1, h1, rfl⟩
  · exact x_bad (by omega) h1 (br_f bb_10 (y_bad (by omega) (by omega) h1 (br_f bb_10 ⟨rfl, rl_mk G H HR HS HC HM HY⟩)))
  refine x_good (by omega) h1 (br_t rfl ?_)
  rcases gh_ix (v := v3) (n := R) (by omega) with h3 | ⟨j3, h3, rfl⟩
  · exact x_bad (by omega) h3 (br_f bb_10 (y_good (by omega) h1 (br_t rfl (y_bad (by omega) (by omega) h3 (br_f bb_10 ⟨rfl, rl_mk G H HR HS HC HM HY⟩)))))
  refine x_good (by omega) h3 (br_t rfl (And.intro (vp_in_nI (by omega) (by omega)) ?_))
  rcases rt_c (j := j1) b7 G.2.1 G.2.2.1 HS HY (by omega) with ⟨e1, e2, e3⟩ | ⟨t, e1, ht, e2, e3, e4⟩
  · exact nm_r e2 (br_f nu_nn1 (y_good (by omega) h1 (br_t rfl (y_good (by omega) h3 (br_t rfl (And.intro (vp_in_nI (by omega) (by omega)) (nm_r e3 (br_t rfl ⟨rfl, rl_mk G H HR HS HC HM HY⟩))))))))
  have q1 := LY_lt H.1 b2 ht
  have q2 := G.2.1.1 t ht
  have q3 : zs ln dn t = 2 + ln t + dn t := rfl
  refine nm_r e2 (br_t (nI_pos' (by omega)) ?_)
  rcases gh_ix (v := v2) (n := ln t) (by omega) with (h2 | h2) | ⟨c, h2, rfl⟩
  · exact br_t h2 (y_good (by omega) h1 (br_t rfl (y_good (by omega) h3 (br_t rfl (And.intro (vp_in_nI (by omega) (by omega)) (nm_r e3 (br_f e4 (br_t h2 ⟨rfl, rl_mk G H HR HS HC HM HY⟩))))))))
  · obtain ⟨n0, n1⟩ := gt_c (by omega) h2
    exact br_f n0 (g_linksOf b2 G.2.1 H ht (br_f n1 (y_good (by omega) h1 (br_t rfl (y_good (by omega) h3 (br_t rfl (And.intro (vp_in_nI (by omega) (by omega)) (nm_r e3 (br_f e4 (br_f n0 (y_linksOf b7 G.2.1 HM ht (br_f n1 ⟨rfl, rl_mk G H HR HS HC HM HY⟩))))))))))))
  have n0 : ¬ nI c < 0 := nI_pos (by omega)
  have n1 : nI c < nI (ln t) := nI_lt h2 (by omega)
  have i1 : nI (ad t) + 2 + nI c = nI (ad t + (2 + c)) := by rw [nu_a2, nI_add]; exact congrArg nI (by omega)
  have ok2 := G.2.1.2.2 t ht (2 + c) (by omega) (by omega)
  refine br_f n0 (g_linksOf b2 G.2.1 H ht (br_t n1 ?_))
  rw [i1]
  refine And.intro (vp_in_nI (by omega) (by omega)) (nm_r (e' := rf ad (lk t (2 + c))) ?_ (And.intro (vp_in_nI (by omega) (by omega)) (nm_r (nu_u (by omega) rfl) (g_serial b2 H ok2 ?_))))
  · rw [nI_clamp (by omega), H.2.1 t ht (2 + c) (by omega), oc_l (by omega) (by omega)]
  refine y_good (by omega) h1 (br_t rfl (y_good (by omega) h3 (br_t rfl (And.intro (vp_in_nI (by omega) (by omega)) (nm_r e3 (br_f e4 (br_f n0 (y_linksOf b7 G.2.1 HM ht (br_t n1 ?_)))))))))
  rw [nu_2]
  refine y_at b7 G.2.1 HM ht (by omega) (And.intro (vp_in_nI (by omega) (by omega)) (nm_r (nu_u (by omega) rfl) ?_))
  rw [HM.2 t ht (2 + c) (by omega), oc_l (by omega) (by omega)]
  exact ⟨rfl, rl_mk ⟨G.1, G.2.1, GR_rt G.2.2.1 h3 ok2, G.2.2.2⟩ H HR ⟨gh_u HS.1 rfl, HS.2⟩ HC HM ⟨gh_u HY.1 rfl, HY.2⟩⟩
theorem i_vc_setLink {k : Nat} {u : SX} {v : SY} (I : i_Rel k u v) (hk : k + 4 ≤ 2051) (v1 : Int32) (v2 : Int32) (v3 : Int32) : wpX_setLink (fun r u' => wpY_setLink (fun r' v' => r' = r ∧ i_Rel (k + 4) u' v') v v1 v2 v3) u v1 v2 v3 := by
  refine I (fun u v => wpX_setLink (fun r u' => wpY_setLink (fun r' v' => r' = r ∧ i_Rel (k + 4) u' v') v v1 v2 v3) u v1 v2 v3) ?_
  intro B R S nd sr ln dn lk dt rt wk se sv ad a l o p mt vc me st lt rs ss ws mk lm pw ca ms fw vn vq ce ro sS sV wS re vi G H HR HS HC HM HY
  unfold wpX_setLink wpY_setLink
  obtain ⟨b1, b2, b3, b4, b5, b6, b7⟩ := G.1
  rcases gh_ix (v := v1) (n := R) (by omega) with h1 | ⟨j1, h1, rfl⟩
  · exact x_bad (by omega) h1 (br_f bb_10 (y_bad (by omega) (by omega) h1 (br_f bb_10 ⟨rfl, rl_mk G H HR HS HC HM HY⟩)))
  refine x_good (by omega) h1 (br_t rfl ?_)
  rcases gh_ix (v := v3) (n := R) (by omega) with h3 | ⟨j3, h3, rfl⟩
  · exact x_bad (by omega) h3 (br_f bb_10 (y_good (by omega) h1 (br_t rfl (y_bad (by omega) (by omega) h3 (br_f bb_10 ⟨rfl, rl_mk G H HR HS HC HM HY⟩)))))
  refine x_good (by omega) h3 (br_t rfl (And.intro (vp_in_nI (by omega) (by omega)) ?_))
  rcases rt_c (j := j1) b7 G.2.1 G.2.2.1 HS HY (by omega) with ⟨e1, e2, e3⟩ | ⟨t, e1, ht, e2, e3, e4⟩
  · exact nm_r e2 (br_f nu_nn1 (y_good (by omega) h1 (br_t rfl (y_good (by omega) h3 (br_t rfl (And.intro (vp_in_nI (by omega) (by omega)) (nm_r e3 (br_t rfl ⟨rfl, rl_mk G H HR HS HC HM HY⟩))))))))
  have q1 := LY_lt H.1 b2 ht
  have q2 := G.2.1.1 t ht
  have q3 : zs ln dn t = 2 + ln t + dn t := rfl
  refine nm_r e2 (br_t (nI_pos' (by omega)) ?_)
  rcases gh_ix (v := v2) (n := ln t) (by omega) with (h2 | h2) | ⟨c, h2, rfl⟩
  · exact br_t h2 (y_good (by omega) h1 (br_t rfl (y_good (by omega) h3 (br_t rfl (And.intro (vp_in_nI (by omega) (by omega)) (nm_r e3 (br_f e4 (br_t h2 ⟨rfl, rl_mk G H HR HS HC HM HY⟩))))))))
  · obtain ⟨n0, n1⟩ := gt_c (by omega) h2
    exact br_f n0 (g_linksOf b2 G.2.1 H ht (br_f n1 (y_good (by omega) h1 (br_t rfl (y_good (by omega) h3 (br_t rfl (And.intro (vp_in_nI (by omega) (by omega)) (nm_r e3 (br_f e4 (br_f n0 (y_linksOf b7 G.2.1 HM ht (br_f n1 ⟨rfl, rl_mk G H HR HS HC HM HY⟩))))))))))))
  have n0 : ¬ nI c < 0 := nI_pos (by omega)
  have n1 : nI c < nI (ln t) := nI_lt h2 (by omega)
  have i1 : nI (ad t) + 2 + nI c = nI (ad t + (2 + c)) := by rw [nu_a2, nI_add]; exact congrArg nI (by omega)
  have ok2 := G.2.2.1.1 j3 (by omega)
  have f1 : rs (nI j3).toNatClampNeg = rf ad (rt j3) := by rw [nI_clamp (by omega)]; exact HS.1 j3 (by omega)
  have f2 : ro (nI j3).toNatClampNeg = sf sr (rt j3) := by rw [nI_clamp (by omega)]; exact HY.1 j3 (by omega)
  have hl : un lk t (un (lk t) (2 + c) (rt j3)) t (2 + c) = rt j3 := by rw [un_s, un_s]
  have HP' : HP B sr ln dn (un lk t (un (lk t) (2 + c) (rt j3))) dt ad (upd me (ad t + (2 + c)) (rf ad (rt j3))) st :=
    ⟨H.1, XM_put H.1 H.2.1 ht (by omega) (by rw [oc_l (by omega) (by omega), hl]) oc_lk, H.2.2⟩
  have HM' : YM sr ln dn (un lk t (un (lk t) (2 + c) (rt j3))) dt (upd ce (8 * t + (2 + c)) (sf sr (rt j3))) :=
    YM_put (GO_z G.2.1) HM ht (by omega) (by omega) (by rw [oc_l (by omega) (by omega), hl]) oc_lk
  refine br_f n0 (g_linksOf b2 G.2.1 H ht (br_t n1 (And.intro (vp_in_nI (by omega) (by omega)) (nm_r f1 ?_))))
  rw [i1]
  refine And.intro (vp_in_nI (by omega) (by omega)) (nm_r (nu_u (by omega) rfl) (g_serial b2 HP' ok2 ?_))
  refine y_good (by omega) h1 (br_t rfl (y_good (by omega) h3 (br_t rfl (And.intro (vp_in_nI (by omega) (by omega)) (nm_r e3 (br_f e4 (br_f n0 (y_linksOf b7 G.2.1 HM ht (br_t n1 (And.intro (vp_in_nI (by omega) (by omega)) (nm_r f2 ?_)))))))))))
  rw [nu_2]
  refine y_put b7 G.2.1 HM ht (by omega) ?_
  exact ⟨rfl, rl_mk ⟨G.1, GO_lk G.2.1 ok2, G.2.2.1, G.2.2.2⟩ HP' HR HS HC HM' HY⟩
theorem i_vc_getData {k : Nat} {u : SX} {v : SY} (I : i_Rel k u v) (hk : k + 4 ≤ 2051) (v1 : Int32) (v2 : Int32) : wpX_getData (fun r => wpY_getData (fun r' => r' = r ∧ i_Rel (k + 4) u v) v v1 v2) u v1 v2 := by
  refine I (fun u v => wpX_getData (fun r => wpY_getData (fun r' => r' = r ∧ i_Rel (k + 4) u v) v v1 v2) u v1 v2) ?_
  intro B R S nd sr ln dn lk dt rt wk se sv ad a l o p mt vc me st lt rs ss ws mk lm pw ca ms fw vn vq ce ro sS sV wS re vi G H HR HS HC HM HY
  unfold wpX_getData wpY_getData
  obtain ⟨b1, b2, b3, b4, b5, b6, b7⟩ := G.1
  rcases gh_ix (v := v1) (n := R) (by omega) with h1 | ⟨j1, h1, rfl⟩
  · exact x_bad (by omega) h1 (br_f bb_10 (y_bad (by omega) (by omega) h1 (br_f bb_10 ⟨rfl, rl_mk G H HR HS HC HM HY⟩)))
  refine x_good (by omega) h1 (br_t rfl (And.intro (vp_in_nI (by omega) (by omega)) ?_))
  rcases rt_c (j := j1) b7 G.2.1 G.2.2.1 HS HY (by omega) with ⟨e1, e2, e3⟩ | ⟨t, e1, ht, e2, e3, e4⟩
  · exact nm_r e2 (br_f nu_nn1 (y_good (by omega) h1 (br_t rfl (And.intro (vp_in_nI (by omega) (by omega)) (nm_r e3 (br_t rfl ⟨rfl, rl_mk G H HR HS HC HM HY⟩))))))
  have q1 := LY_lt H.1 b2 ht
  have q2 := G.2.1.1 t ht
  have q3 : zs ln dn t = 2 + ln t + dn t := rfl
  refine nm_r e2 (br_t (nI_pos' (by omega)) ?_)
  rcases gh_ix (v := v2) (n := dn t) (by omega) with (h2 | h2) | ⟨c, h2, rfl⟩
  · exact br_t h2 (y_good (by omega) h1 (br_t rfl (And.intro (vp_in_nI (by omega) (by omega)) (nm_r e3 (br_f e4 (br_t h2 ⟨rfl, rl_mk G H HR HS HC HM HY⟩))))))
  · obtain ⟨n0, n1⟩ := gt_c (by omega) h2
    exact br_f n0 (g_dataOf b2 G.2.1 H ht (br_f n1 (y_good (by omega) h1 (br_t rfl (And.intro (vp_in_nI (by omega) (by omega)) (nm_r e3 (br_f e4 (br_f n0 (y_dataOf b7 G.2.1 HM ht (br_f n1 ⟨rfl, rl_mk G H HR HS HC HM HY⟩))))))))))
  have n0 : ¬ nI c < 0 := nI_pos (by omega)
  have n1 : nI c < nI (dn t) := nI_lt h2 (by omega)
  have i1 : nI (ad t) + 2 + nI (ln t) = nI (ad t + (2 + ln t)) := by rw [nu_a2, nI_add]; exact congrArg nI (by omega)
  have i2 : nI (ad t + (2 + ln t)) + nI c = nI (ad t + (2 + ln t + c)) := by rw [nI_add]; exact congrArg nI (by omega)
  have i3 : 2 + nI (ln t) + nI c = nI (2 + ln t + c) := by rw [nu_2, nI_add]
  refine br_f n0 (g_dataOf b2 G.2.1 H ht (br_t n1 (g_linksOf b2 G.2.1 H ht (nm_r i1 ?_))))
  rw [i2]
  refine And.intro (vp_in_nI (by omega) (by omega)) ?_
  rw [nI_clamp (n := ad t + (2 + ln t + c)) (by omega), H.2.1 t ht (2 + ln t + c) (by omega), oc_d (by omega)]
  refine y_good (by omega) h1 (br_t rfl (And.intro (vp_in_nI (by omega) (by omega)) (nm_r e3 (br_f e4 (br_f n0 (y_dataOf b7 G.2.1 HM ht (br_t n1 (y_linksOf b7 G.2.1 HM ht ?_))))))))
  rw [i3]
  refine y_at b7 G.2.1 HM ht (by omega) ?_
  rw [HM.2 t ht (2 + ln t + c) (by omega), oc_d (by omega)]
  exact ⟨rfl, rl_mk G H HR HS HC HM HY⟩
theorem i_vc_setData {k : Nat} {u : SX} {v : SY} (I : i_Rel k u v) (hk : k + 4 ≤ 2051) (v1 : Int32) (v2 : Int32) (v3 : Int32) : wpX_setData (fun r u' => wpY_setData (fun r' v' => r' = r ∧ i_Rel (k + 4) u' v') v v1 v2 v3) u v1 v2 v3 := by
  refine I (fun u v => wpX_setData (fun r u' => wpY_setData (fun r' v' => r' = r ∧ i_Rel (k + 4) u' v') v v1 v2 v3) u v1 v2 v3) ?_
  intro B R S nd sr ln dn lk dt rt wk se sv ad a l o p mt vc me st lt rs ss ws mk lm pw ca ms fw vn vq ce ro sS sV wS re vi G H HR HS HC HM HY
  unfold wpX_setData wpY_setData
  obtain ⟨b1, b2, b3, b4, b5, b6, b7⟩ := G.1
  rcases gh_ix (v := v1) (n := R) (by omega) with h1 | ⟨j1, h1, rfl⟩
  · exact x_bad (by omega) h1 (br_f bb_10 (y_bad (by omega) (by omega) h1 (br_f bb_10 ⟨rfl, rl_mk G H HR HS HC HM HY⟩)))
  refine x_good (by omega) h1 (br_t rfl (And.intro (vp_in_nI (by omega) (by omega)) ?_))
  rcases rt_c (j := j1) b7 G.2.1 G.2.2.1 HS HY (by omega) with ⟨e1, e2, e3⟩ | ⟨t, e1, ht, e2, e3, e4⟩
  · exact nm_r e2 (br_f nu_nn1 (y_good (by omega) h1 (br_t rfl (And.intro (vp_in_nI (by omega) (by omega)) (nm_r e3 (br_t rfl ⟨rfl, rl_mk G H HR HS HC HM HY⟩))))))
  have q1 := LY_lt H.1 b2 ht
  have q2 := G.2.1.1 t ht
  have q3 : zs ln dn t = 2 + ln t + dn t := rfl
  refine nm_r e2 (br_t (nI_pos' (by omega)) ?_)
  rcases gh_ix (v := v2) (n := dn t) (by omega) with (h2 | h2) | ⟨c, h2, rfl⟩
  · exact br_t h2 (y_good (by omega) h1 (br_t rfl (And.intro (vp_in_nI (by omega) (by omega)) (nm_r e3 (br_f e4 (br_t h2 ⟨rfl, rl_mk G H HR HS HC HM HY⟩))))))
  · obtain ⟨n0, n1⟩ := gt_c (by omega) h2
    exact br_f n0 (g_dataOf b2 G.2.1 H ht (br_f n1 (y_good (by omega) h1 (br_t rfl (And.intro (vp_in_nI (by omega) (by omega)) (nm_r e3 (br_f e4 (br_f n0 (y_dataOf b7 G.2.1 HM ht (br_f n1 ⟨rfl, rl_mk G H HR HS HC HM HY⟩))))))))))
  have n0 : ¬ nI c < 0 := nI_pos (by omega)
  have n1 : nI c < nI (dn t) := nI_lt h2 (by omega)
  have i1 : nI (ad t) + 2 + nI (ln t) = nI (ad t + (2 + ln t)) := by rw [nu_a2, nI_add]; exact congrArg nI (by omega)
  have i2 : nI (ad t + (2 + ln t)) + nI c = nI (ad t + (2 + ln t + c)) := by rw [nI_add]; exact congrArg nI (by omega)
  have i3 : 2 + nI (ln t) + nI c = nI (2 + ln t + c) := by rw [nu_2, nI_add]
  have hl : un dt t (un (dt t) (2 + ln t + c) (v3 &&& 65535)) t (2 + ln t + c) = v3 &&& 65535 := by rw [un_s, un_s]
  have HP' : HP B sr ln dn lk (un dt t (un (dt t) (2 + ln t + c) (v3 &&& 65535))) ad (upd me (ad t + (2 + ln t + c)) (v3 &&& 65535)) st :=
    ⟨H.1, XM_put H.1 H.2.1 ht (by omega) (by rw [oc_d (by omega), hl]) oc_dt, H.2.2⟩
  have HM' : YM sr ln dn lk (un dt t (un (dt t) (2 + ln t + c) (v3 &&& 65535))) (upd ce (8 * t + (2 + ln t + c)) (v3 &&& 65535)) :=
    YM_put (GO_z G.2.1) HM ht (by omega) (by omega) (by rw [oc_d (by omega), hl]) oc_dt
  refine br_f n0 (g_dataOf b2 G.2.1 H ht (br_t n1 (g_linksOf b2 G.2.1 H ht (nm_r i1 ?_))))
  rw [i2]
  refine And.intro (vp_in_nI (by omega) (by omega)) (nm_r (nu_u (by omega) rfl) ?_)
  refine y_good (by omega) h1 (br_t rfl (And.intro (vp_in_nI (by omega) (by omega)) (nm_r e3 (br_f e4 (br_f n0 (y_dataOf b7 G.2.1 HM ht (br_t n1 (y_linksOf b7 G.2.1 HM ht ?_))))))))
  rw [i3]
  exact y_put b7 G.2.1 HM ht (by omega) ⟨rfl, rl_mk G HP' HR HS HC HM' HY⟩
end
section
theorem gr_e {ln dn : Nat → Nat} {t c : Nat} {x : Int32} (hx : x = nI c) (h : c < zs ln dn t) : ∀ t', t + 1 = t' + 1 → ∃ c, x = nI c ∧ c < zs ln dn t' := by
  intro t' e
  have : t' = t := by omega
  subst this
  exact ⟨c, hx, h⟩
theorem sw_u {ss : Nat → Int32} {ad se : Nat → Nat} {sv : Nat → Int32} {k y : Nat} {x v : Int32} (h : ∀ i, i < 6 → ss i = sw ad (sv i) (se i)) (e : x = sw ad v y) : ∀ i, i < 6 → upd ss k x i = sw ad (un sv k v i) (un se k y i) := by
  intro i hi
  by_cases q : i = k
  · subst q; rw [pk_us, un_s, un_s, e]
  · rw [pk_un q, un_n q, un_n q]; exact h i hi
theorem uv_u {sV sv : Nat → Int32} {k : Nat} {x : Int32} (h : ∀ i, i < 6 → sV i = sv i) : ∀ i, i < 6 → upd sV k x i = un sv k x i := by
  intro i hi
  by_cases q : i = k
  · subst q; rw [pk_us, un_s]
  · rw [pk_un q, un_n q]; exact h i hi
/-! the calls on the stack and the weak slots -/
theorem i_vc_stackNumber {k : Nat} {u : SX} {v : SY} (I : i_Rel k u v) (hk : k + 4 ≤ 2051) (v1 : Int32) (v2 : Int32) : wpX_stackNumber (fun r u' => wpY_stackNumber (fun r' v' => r' = r ∧ i_Rel (k + 4) u' v') v v1 v2) u v1 v2 := by
  refine I (fun u v => wpX_stackNumber (fun r u' => wpY_stackNumber (fun r' v' => r' = r ∧ i_Rel (k + 4) u' v') v v1 v2) u v1 v2) ?_
  intro B R S nd sr ln dn lk dt rt wk se sv ad a l o p mt vc me st lt rs ss ws mk lm pw ca ms fw vn vq ce ro sS sV wS re vi G H HR HS HC HM HY
  unfold wpX_stackNumber wpY_stackNumber
  obtain ⟨b1, b2, b3, b4, b5, b6, b7⟩ := G.1
  rcases gh_ix (v := v1) (n := S) (by omega) with h1 | ⟨j1, h1, rfl⟩
  · exact x_badS (by omega) h1 (br_f bb_10 (y_badS (by omega) (by omega) h1 (br_f bb_10 ⟨rfl, rl_mk G H HR HS HC HM HY⟩)))
  refine x_goodS (by omega) h1 (br_t rfl ?_)
  by_cases h2 : v2 < -30000
  · exact br_t h2 (y_goodS (by omega) h1 (br_t rfl (br_t h2 ⟨rfl, rl_mk G H HR HS HC HM HY⟩)))
  by_cases h3 : v2 ≤ -100
  · have h4 : v2 < 0 := Int32.lt_of_le_of_lt h3 (by decide)
    refine br_f h2 (br_t h3 (And.intro (vp_in_nI (by omega) (by omega)) (nm_r (nu_u (by omega) rfl) ?_)))
    refine y_goodS (by omega) h1 (br_t rfl (br_f h2 (br_t h3 (And.intro (vp_in_nI (by omega) (by omega)) (nm_r (nu_u (by omega) rfl) (And.intro (vp_in_nI (by omega) (by omega)) (nm_r (nu_u (by omega) rfl) ?_)))))))
    exact ⟨rfl, rl_mk ⟨G.1, G.2.1, GR_se (y := 0) G.2.2.1 h1 OKr_0 (fun _ => h4) (fun t e => by omega), G.2.2.2⟩ H HR ⟨HS.1, HS.2.1, sw_u HS.2.2 rfl⟩ HC HM ⟨HY.1, HY.2.1, gh_u HY.2.2.1 rfl, uv_u HY.2.2.2⟩⟩
  · exact br_f h2 (br_f h3 (y_goodS (by omega) h1 (br_t rfl (br_f h2 (br_f h3 ⟨rfl, rl_mk G H HR HS HC HM HY⟩)))))
theorem i_vc_stackAddress {k : Nat} {u : SX} {v : SY} (I : i_Rel k u v) (hk : k + 4 ≤ 2051) (v1 : Int32) (v2 : Int32) (v3 : Int32) : wpX_stackAddress (fun r u' => wpY_stackAddress (fun r' v' => r' = r ∧ i_Rel (k + 4) u' v') v v1 v2 v3) u v1 v2 v3 := by
  refine I (fun u v => wpX_stackAddress (fun r u' => wpY_stackAddress (fun r' v' => r' = r ∧ i_Rel (k + 4) u' v') v v1 v2 v3) u v1 v2 v3) ?_
  intro B R S nd sr ln dn lk dt rt wk se sv ad a l o p mt vc me st lt rs ss ws mk lm pw ca ms fw vn vq ce ro sS sV wS re vi G H HR HS HC HM HY
  unfold wpX_stackAddress wpY_stackAddress
  obtain ⟨b1, b2, b3, b4, b5, b6, b7⟩ := G.1
  rcases gh_ix (v := v1) (n := S) (by omega) with h1 | ⟨j1, h1, rfl⟩
  · exact x_badS (by omega) h1 (br_f bb_10 (y_badS (by omega) (by omega) h1 (br_f bb_10 ⟨rfl, rl_mk G H HR HS HC HM HY⟩)))
  refine x_goodS (by omega) h1 (br_t rfl ?_)
  rcases gh_ix (v := v2) (n := R) (by omega) with h2 | ⟨j2, h2, rfl⟩
  · exact x_bad (by omega) h2 (br_f bb_10 (y_goodS (by omega) h1 (br_t rfl (y_bad (by omega) (by omega) h2 (br_f bb_10 ⟨rfl, rl_mk G H HR HS HC HM HY⟩)))))
  refine x_good (by omega) h2 (br_t rfl (And.intro (vp_in_nI (by omega) (by omega)) ?_))
  rcases rt_c (j := j2) b7 G.2.1 G.2.2.1 HS HY (by omega) with ⟨e1, e2, e3⟩ | ⟨t, e1, ht, e2, e3, e4⟩
  · exact nm_r e2 (br_f nu_nn1 (y_goodS (by omega) h1 (br_t rfl (y_good (by omega) h2 (br_t rfl (And.intro (vp_in_nI (by omega) (by omega)) (nm_r e3 (br_t rfl ⟨rfl, rl_mk G H HR HS HC HM HY⟩))))))))
  have q1 := LY_lt H.1 b2 ht
  refine nm_r e2 (br_t (nI_pos' (by omega)) ?_)
  rcases gh_ix (v := v3) (n := zs ln dn t) (by omega) with (h3 | h3) | ⟨c, h3, rfl⟩
  · exact br_t h3 (y_goodS (by omega) h1 (br_t rfl (y_good (by omega) h2 (br_t rfl (And.intro (vp_in_nI (by omega) (by omega)) (nm_r e3 (br_f e4 (br_t h3 ⟨rfl, rl_mk G H HR HS HC HM HY⟩))))))))
  · obtain ⟨n0, n1⟩ := gt_c (by omega) h3
    exact br_f n0 (g_sizeOf b2 G.2.1 H ht (br_f n1 (y_goodS (by omega) h1 (br_t rfl (y_good (by omega) h2 (br_t rfl (And.intro (vp_in_nI (by omega) (by omega)) (nm_r e3 (br_f e4 (br_f n0 (y_sizeOf b7 G.2.1 HM ht (br_f n1 ⟨rfl, rl_mk G H HR HS HC HM HY⟩))))))))))))
  have n0 : ¬ nI c < 0 := nI_pos (by omega)
  have n1 : nI c < nI (zs ln dn t) := nI_lt h3 (by omega)
  refine br_f n0 (g_sizeOf b2 G.2.1 H ht (br_t n1 (And.intro (vp_in_nI (by omega) (by omega)) (nm_r (nu_u (by omega) rfl) (g_serial (r := t + 1) b2 H (OKr_s ht) ?_)))))
  refine y_goodS (by omega) h1 (br_t rfl (y_good (by omega) h2 (br_t rfl (And.intro (vp_in_nI (by omega) (by omega)) (nm_r e3 (br_f e4 (br_f n0 (y_sizeOf b7 G.2.1 HM ht (br_t n1 (And.intro (vp_in_nI (by omega) (by omega)) (nm_r (nu_u (by omega) rfl) (And.intro (vp_in_nI (by omega) (by omega)) (nm_r (nu_u (by omega) rfl) ?_)))))))))))))
  exact ⟨rfl, rl_mk ⟨G.1, G.2.1, GR_se (y := t + 1) G.2.2.1 h1 (OKr_s ht) (fun e => by omega) (gr_e rfl h3), G.2.2.2⟩ H HR ⟨HS.1, HS.2.1, sw_u HS.2.2 rfl⟩ HC HM ⟨HY.1, HY.2.1, gh_u HY.2.2.1 rfl, uv_u HY.2.2.2⟩⟩
theorem i_vc_stackShift {k : Nat} {u : SX} {v : SY} (I : i_Rel k u v) (hk : k + 4 ≤ 2051) (v1 : Int32) (v2 : Int32) : wpX_stackShift (fun r u' => wpY_stackShift (fun r' v' => r' = r ∧ i_Rel (k + 4) u' v') v v1 v2) u v1 v2 := by
  refine I (fun u v => wpX_stackShift (fun r u' => wpY_stackShift (fun r' v' => r' = r ∧ i_Rel (k + 4) u' v') v v1 v2) u v1 v2) ?_
  intro B R S nd sr ln dn lk dt rt wk se sv ad a l o p mt vc me st lt rs ss ws mk lm pw ca ms fw vn vq ce ro sS sV wS re vi G H HR HS HC HM HY
  unfold wpX_stackShift wpY_stackShift
  obtain ⟨b1, b2, b3, b4, b5, b6, b7⟩ := G.1
  rcases gh_ix (v := v1) (n := S) (by omega) with h1 | ⟨j1, h1, rfl⟩
  · exact x_badS (by omega) h1 (br_f bb_10 (y_badS (by omega) (by omega) h1 (br_f bb_10 ⟨rfl, rl_mk G H HR HS HC HM HY⟩)))
  refine x_goodS (by omega) h1 (br_t rfl ?_)
  refine And.intro (vp_in_nI (by omega) (by omega)) ?_
  rcases se_c (j := j1) b7 G.2.1 G.2.2.1 HS HY (by omega) with ⟨e1, e2, e3, e5⟩ | ⟨t, c, e1, ht, hc, e2, e3, e5, e4⟩
  · exact nm_e (br_f (fun z => nu_le0.mp z e2) (y_goodS (by omega) h1 (br_t rfl (And.intro (vp_in_nI (by omega) (by omega)) (nm_r e3 (br_t rfl ⟨rfl, rl_mk G H HR HS HC HM HY⟩))))))
  have q1 := LY_lt H.1 b2 ht
  refine nm_r e2 (br_t (nI_pos' (by omega)) ?_)
  by_cases h2 : v2 < -7
  · exact br_t h2 (y_goodS (by omega) h1 (br_t rfl (And.intro (vp_in_nI (by omega) (by omega)) (nm_r e3 (br_f e4 (br_t h2 ⟨rfl, rl_mk G H HR HS HC HM HY⟩))))))
  refine br_f h2 ?_
  by_cases h3 : v2 ≤ 7
  rotate_left
  · exact br_f h3 (y_goodS (by omega) h1 (br_t rfl (And.intro (vp_in_nI (by omega) (by omega)) (nm_r e3 (br_f e4 (br_f h2 (br_f h3 ⟨rfl, rl_mk G H HR HS HC HM HY⟩)))))))
  refine br_t h3 (g_startOf b2 H.1 H.2.2 ht hc (nm_r (e' := nI c + v2) (by rw [pk_sub (by omega), Nat.add_sub_cancel_left]) ?_))
  have yv : sV (nI j1).toNatClampNeg + v2 = nI c + v2 := by rw [e5]
  rcases gh_ix (v := nI c + v2) (n := zs ln dn t) (by omega) with (h4 | h4) | ⟨d, h4, h5⟩
  · exact br_t h4 (y_goodS (by omega) h1 (br_t rfl (And.intro (vp_in_nI (by omega) (by omega)) (nm_r e3 (br_f e4 (br_f h2 (br_t h3 (And.intro (vp_in_nI (by omega) (by omega)) (nm_r yv (br_t h4 ⟨rfl, rl_mk G H HR HS HC HM HY⟩))))))))))
  · obtain ⟨n0, n1⟩ := gt_c (by omega) h4
    exact br_f n0 (g_sizeOf b2 G.2.1 H ht (br_f n1 (y_goodS (by omega) h1 (br_t rfl (And.intro (vp_in_nI (by omega) (by omega)) (nm_r e3 (br_f e4 (br_f h2 (br_t h3 (And.intro (vp_in_nI (by omega) (by omega)) (nm_r yv (br_f n0 (y_sizeOf b7 G.2.1 HM ht (br_f n1 ⟨rfl, rl_mk G H HR HS HC HM HY⟩))))))))))))))
  rw [h5]
  rw [h5] at yv
  have n0 : ¬ nI d < 0 := nI_pos (by omega)
  have n1 : nI d < nI (zs ln dn t) := nI_lt h4 (by omega)
  refine br_f n0 (g_sizeOf b2 G.2.1 H ht (br_t n1 (And.intro (vp_in_nI (by omega) (by omega)) (nm_r (nu_u (by omega) rfl) ?_))))
  refine y_goodS (by omega) h1 (br_t rfl (And.intro (vp_in_nI (by omega) (by omega)) (nm_r e3 (br_f e4 (br_f h2 (br_t h3 (And.intro (vp_in_nI (by omega) (by omega)) (nm_r yv (br_f n0 (y_sizeOf b7 G.2.1 HM ht (br_t n1 (And.intro (vp_in_nI (by omega) (by omega)) (nm_r (nu_u (by omega) rfl) ?_)))))))))))))
  have hse : un se j1 (t + 1) = se := funext fun i => by
    by_cases q : i = j1
    · subst q; rw [un_s, e1]
    · rw [un_n q]
  have G2 := GR_se (y := t + 1) (x := nI d) G.2.2.1 h1 (OKr_s ht) (fun e => by omega) (gr_e rfl h4)
  have S2 := sw_u (k := j1) (y := t + 1) (v := nI d) HS.2.2 rfl
  rw [hse] at G2 S2
  exact ⟨rfl, rl_mk ⟨G.1, G.2.1, G2, G.2.2.2⟩ H HR ⟨HS.1, HS.2.1, S2⟩ HC HM ⟨HY.1, HY.2.1, HY.2.2.1, uv_u HY.2.2.2⟩⟩
theorem i_vc_stackWord {k : Nat} {u : SX} {v : SY} (I : i_Rel k u v) (hk : k + 4 ≤ 2051) (v1 : Int32) : wpX_stackWord (fun r => wpY_stackWord (fun r' => r' = r ∧ i_Rel (k + 4) u v) v v1) u v1 := by
  refine I (fun u v => wpX_stackWord (fun r => wpY_stackWord (fun r' => r' = r ∧ i_Rel (k + 4) u v) v v1) u v1) ?_
  intro B R S nd sr ln dn lk dt rt wk se sv ad a l o p mt vc me st lt rs ss ws mk lm pw ca ms fw vn vq ce ro sS sV wS re vi G H HR HS HC HM HY
  unfold wpX_stackWord wpY_stackWord
  obtain ⟨b1, b2, b3, b4, b5, b6, b7⟩ := G.1
  rcases gh_ix (v := v1) (n := S) (by omega) with h1 | ⟨j1, h1, rfl⟩
  · exact x_badS (by omega) h1 (br_f bb_10 (y_badS (by omega) (by omega) h1 (br_f bb_10 ⟨rfl, rl_mk G H HR HS HC HM HY⟩)))
  refine x_goodS (by omega) h1 (br_t rfl ?_)
  refine And.intro (vp_in_nI (by omega) (by omega)) ?_
  rcases se_c (j := j1) b7 G.2.1 G.2.2.1 HS HY (by omega) with ⟨e1, e2, e3, e5⟩ | ⟨t, c, e1, ht, hc, e2, e3, e5, e4⟩
  · refine nm_e (br_f (fun z => nu_le0.mp z e2) (y_goodS (by omega) h1 (br_t rfl (And.intro (vp_in_nI (by omega) (by omega)) ?_))))
    exact ⟨e5, rl_mk G H HR HS HC HM HY⟩
  have q1 := LY_lt H.1 b2 ht
  refine nm_r e2 (br_t (nI_pos' (by omega)) (g_startOf b2 H.1 H.2.2 ht hc ?_))
  rw [pk_sub (by omega), Nat.add_sub_cancel_left]
  refine y_goodS (by omega) h1 (br_t rfl (And.intro (vp_in_nI (by omega) (by omega)) ?_))
  exact ⟨e5, rl_mk G H HR HS HC HM HY⟩
theorem i_vc_stackPeek {k : Nat} {u : SX} {v : SY} (I : i_Rel k u v) (hk : k + 4 ≤ 2051) (v1 : Int32) : wpX_stackPeek (fun r => wpY_stackPeek (fun r' => r' = r ∧ i_Rel (k + 4) u v) v v1) u v1 := by
  refine I (fun u v => wpX_stackPeek (fun r => wpY_stackPeek (fun r' => r' = r ∧ i_Rel (k + 4) u v) v v1) u v1) ?_
  intro B R S nd sr ln dn lk dt rt wk se sv ad a l o p mt vc me st lt rs ss ws mk lm pw ca ms fw vn vq ce ro sS sV wS re vi G H HR HS HC HM HY
  unfold wpX_stackPeek wpY_stackPeek
  obtain ⟨b1, b2, b3, b4, b5, b6, b7⟩ := G.1
  rcases gh_ix (v := v1) (n := S) (by omega) with h1 | ⟨j1, h1, rfl⟩
  · exact x_badS (by omega) h1 (br_f bb_10 (y_badS (by omega) (by omega) h1 (br_f bb_10 ⟨rfl, rl_mk G H HR HS HC HM HY⟩)))
  refine x_goodS (by omega) h1 (br_t rfl ?_)
  refine And.intro (vp_in_nI (by omega) (by omega)) ?_
  rcases se_c (j := j1) b7 G.2.1 G.2.2.1 HS HY (by omega) with ⟨e1, e2, e3, e5⟩ | ⟨t, c, e1, ht, hc, e2, e3, e5, e4⟩
  · exact nm_e (br_f (fun z => nu_le0.mp z e2) (y_goodS (by omega) h1 (br_t rfl (And.intro (vp_in_nI (by omega) (by omega)) (br_t e3 ⟨rfl, rl_mk G H HR HS HC HM HY⟩)))))
  have q1 := LY_lt H.1 b2 ht
  have q2 := G.2.1.1 t ht
  have q3 : zs ln dn t = 2 + ln t + dn t := rfl
  have yy : ∀ x, oc (sf sr) (ln t) (dn t) (sr t) (lk t) (dt t) c = x → wpY_stackPeek (fun r' => r' = x ∧ i_Rel (k + 4) (nI B, nI (8 * B), nI (32 * B), nI (12 * B), nI R, nI S, nI a, nI l, nI o, nI p, nI nd, nI (tot sr ln dn), mt, vc, me, st, lt, rs, ss, ws, mk, lm, pw, ca, ms, fw, vn, vq) (nI (12 * B), nI R, nI S, nI nd, ce, ro, sS, sV, wS, re, vi)) (nI (12 * B), nI R, nI S, nI nd, ce, ro, sS, sV, wS, re, vi) (nI j1) := by
    intro x hx
    unfold wpY_stackPeek
    refine y_goodS (by omega) h1 (br_t rfl (And.intro (vp_in_nI (by omega) (by omega)) (br_f (by rw [e3]; exact e4) (And.intro (vp_in_nI (by omega) (by omega)) (And.intro (vp_in_nI (by omega) (by omega)) ?_)))))
    rw [e3, e5]
    refine y_at b7 G.2.1 HM ht (by omega) ?_
    rw [HM.2 t ht c (by omega)]
    exact ⟨hx, rl_mk G H HR HS HC HM HY⟩
  have mm : me (nI (ad t + c)).toNatClampNeg = oc (rf ad) (ln t) (dn t) (sr t) (lk t) (dt t) c := by rw [nI_clamp (by omega)]; exact H.2.1 t ht c hc
  refine nm_r e2 (br_t (nI_pos' (by omega)) (g_startOf b2 H.1 H.2.2 ht hc (nm_r (e' := nI c) (by rw [pk_sub (by omega), Nat.add_sub_cancel_left]) ?_)))
  refine pk_lt c 2 (fun w => And.intro (vp_in_nI (by omega) (by omega)) ?_) (fun w => g_linksOf b2 G.2.1 H ht (pk_le (2 + ln t) c (fun w2 => And.intro (vp_in_nI (by omega) (by omega)) ?_) (fun w2 => And.intro (vp_in_nI (by omega) (by omega)) ?_) (nu_2 _) rfl))
  · rw [mm]
    refine yy _ ?_
    have : c = 0 ∨ c = 1 := by omega
    rcases this with rfl | rfl
    · rfl
    · rfl
  · rw [mm]
    exact yy _ (by rw [oc_d (by omega), oc_d (by omega)])
  · rw [mm, oc_l (by omega) (by omega)]
    exact g_serial b2 H (G.2.1.2.2 t ht c (by omega) (by omega)) (yy _ (oc_l (by omega) (by omega)))
theorem i_vc_stackPoke {k : Nat} {u : SX} {v : SY} (I : i_Rel k u v) (hk : k + 4 ≤ 2051) (v1 : Int32) (v2 : Int32) : wpX_stackPoke (fun r u' => wpY_stackPoke (fun r' v' => r' = r ∧ i_Rel (k + 4) u' v') v v1 v2) u v1 v2 := by
  refine I (fun u v => wpX_stackPoke (fun r u' => wpY_stackPoke (fun r' v' => r' = r ∧ i_Rel (k + 4) u' v') v v1 v2) u v1 v2) ?_
  intro B R S nd sr ln dn lk dt rt wk se sv ad a l o p mt vc me st lt rs ss ws mk lm pw ca ms fw vn vq ce ro sS sV wS re vi G H HR HS HC HM HY
  unfold wpX_stackPoke wpY_stackPoke
  obtain ⟨b1, b2, b3, b4, b5, b6, b7⟩ := G.1
  rcases gh_ix (v := v1) (n := S) (by omega) with h1 | ⟨j1, h1, rfl⟩
  · exact x_badS (by omega) h1 (br_f bb_10 (y_badS (by omega) (by omega) h1 (br_f bb_10 ⟨rfl, rl_mk G H HR HS HC HM HY⟩)))
  refine x_goodS (by omega) h1 (br_t rfl ?_)
  refine And.intro (vp_in_nI (by omega) (by omega)) ?_
  rcases se_c (j := j1) b7 G.2.1 G.2.2.1 HS HY (by omega) with ⟨e1, e2, e3, e5⟩ | ⟨t, c, e1, ht, hc, e2, e3, e5, e4⟩
  · exact nm_e (br_f (fun z => nu_le0.mp z e2) (y_goodS (by omega) h1 (br_t rfl (And.intro (vp_in_nI (by omega) (by omega)) (nm_r e3 (br_t rfl ⟨rfl, rl_mk G H HR HS HC HM HY⟩))))))
  have q1 := LY_lt H.1 b2 ht
  have q2 := G.2.1.1 t ht
  have q3 : zs ln dn t = 2 + ln t + dn t := rfl
  refine nm_r e2 (br_t (nI_pos' (by omega)) (g_startOf b2 H.1 H.2.2 ht hc (g_linksOf b2 G.2.1 H ht ?_)))
  have i1 : nI (ad t + c) - nI (ad t) = nI c := by rw [pk_sub (by omega), Nat.add_sub_cancel_left]
  refine pk_le (2 + ln t) c (fun w => ?_) (fun w => ?_) (nu_2 _) i1
  · have hl : un dt t (un (dt t) c (v2 &&& 65535)) t c = v2 &&& 65535 := by rw [un_s, un_s]
    have HP' : HP B sr ln dn lk (un dt t (un (dt t) c (v2 &&& 65535))) ad (upd me (ad t + c) (v2 &&& 65535)) st :=
      ⟨H.1, XM_put H.1 H.2.1 ht (by omega) (by rw [oc_d (by omega), hl]) oc_dt, H.2.2⟩
    have HM' : YM sr ln dn lk (un dt t (un (dt t) c (v2 &&& 65535))) (upd ce (8 * t + c) (v2 &&& 65535)) :=
      YM_put (GO_z G.2.1) HM ht (by omega) (by omega) (by rw [oc_d (by omega), hl]) oc_dt
    refine And.intro (vp_in_nI (by omega) (by omega)) (nm_r (nu_u (by omega) rfl) ?_)
    refine y_goodS (by omega) h1 (br_t rfl (And.intro (vp_in_nI (by omega) (by omega)) (nm_r e3 (br_f e4 (And.intro (vp_in_nI (by omega) (by omega)) (y_linksOf b7 G.2.1 HM ht (pk_le (2 + ln t) c (fun _ => And.intro (vp_in_nI (by omega) (by omega)) ?_) (fun _ => by omega) (nu_2 _) e5)))))))
    rw [e5]
    exact y_put b7 G.2.1 HM ht (by omega) ⟨rfl, rl_mk G HP' HR HS HC HM' HY⟩
  · exact y_goodS (by omega) h1 (br_t rfl (And.intro (vp_in_nI (by omega) (by omega)) (nm_r e3 (br_f e4 (And.intro (vp_in_nI (by omega) (by omega)) (y_linksOf b7 G.2.1 HM ht (pk_le (2 + ln t) c (fun _ => by omega) (fun _ => ⟨rfl, rl_mk G H HR HS HC HM HY⟩) (nu_2 _) e5)))))))
theorem i_vc_stackToRoot {k : Nat} {u : SX} {v : SY} (I : i_Rel k u v) (hk : k + 4 ≤ 2051) (v1 : Int32) (v2 : Int32) : wpX_stackToRoot (fun r u' => wpY_stackToRoot (fun r' v' => r' = r ∧ i_Rel (k + 4) u' v') v v1 v2) u v1 v2 := by
  refine I (fun u v => wpX_stackToRoot (fun r u' => wpY_stackToRoot (fun r' v' => r' = r ∧ i_Rel (k + 4) u' v') v v1 v2) u v1 v2) ?_
  intro B R S nd sr ln dn lk dt rt wk se sv ad a l o p mt vc me st lt rs ss ws mk lm pw ca ms fw vn vq ce ro sS sV wS re vi G H HR HS HC HM HY
  unfold wpX_stackToRoot wpY_stackToRoot
  obtain ⟨b1, b2, b3, b4, b5, b6, b7⟩ := G.1
  rcases gh_ix (v := v1) (n := S) (by omega) with h1 | ⟨j1, h1, rfl⟩
  · exact x_badS (by omega) h1 (br_f bb_10 (y_badS (by omega) (by omega) h1 (br_f bb_10 ⟨rfl, rl_mk G H HR HS HC HM HY⟩)))
  refine x_goodS (by omega) h1 (br_t rfl ?_)
  rcases gh_ix (v := v2) (n := R) (by omega) with h2 | ⟨j2, h2, rfl⟩
  · exact x_bad (by omega) h2 (br_f bb_10 (y_goodS (by omega) h1 (br_t rfl (y_bad (by omega) (by omega) h2 (br_f bb_10 ⟨rfl, rl_mk G H HR HS HC HM HY⟩)))))
  refine x_good (by omega) h2 (br_t rfl ?_)
  refine And.intro (vp_in_nI (by omega) (by omega)) ?_
  rcases se_c (j := j1) b7 G.2.1 G.2.2.1 HS HY (by omega) with ⟨e1, e2, e3, e5⟩ | ⟨t, c, e1, ht, hc, e2, e3, e5, e4⟩
  · exact nm_e (br_f (fun z => nu_le0.mp z e2) (y_goodS (by omega) h1 (br_t rfl (y_good (by omega) h2 (br_t rfl (And.intro (vp_in_nI (by omega) (by omega)) (br_t e3 ⟨rfl, rl_mk G H HR HS HC HM HY⟩)))))))
  have q1 := LY_lt H.1 b2 ht
  refine nm_r e2 (br_t (nI_pos' (by omega)) (g_startOf b2 H.1 H.2.2 ht hc (And.intro (vp_in_nI (by omega) (by omega)) (nm_r (nu_u (by omega) rfl) (g_serial (r := t + 1) b2 H (OKr_s ht) ?_)))))
  refine y_goodS (by omega) h1 (br_t rfl (y_good (by omega) h2 (br_t rfl (And.intro (vp_in_nI (by omega) (by omega)) (br_f (by rw [e3]; exact e4) (And.intro (vp_in_nI (by omega) (by omega)) (And.intro (vp_in_nI (by omega) (by omega)) (nm_r (e' := upd ro j2 (nI (sr t))) (nu_u (by omega) e3) (And.intro (vp_in_nI (by omega) (by omega)) ?_)))))))))
  rw [e3]
  exact ⟨rfl, rl_mk ⟨G.1, G.2.1, GR_rt G.2.2.1 h2 (OKr_s ht), G.2.2.2⟩ H HR ⟨gh_u HS.1 rfl, HS.2⟩ HC HM ⟨gh_u HY.1 rfl, HY.2⟩⟩
theorem i_vc_weakPut {k : Nat} {u : SX} {v : SY} (I : i_Rel k u v) (hk : k + 4 ≤ 2051) (v1 : Int32) (v2 : Int32) : wpX_weakPut (fun r u' => wpY_weakPut (fun r' v' => r' = r ∧ i_Rel (k + 4) u' v') v v1 v2) u v1 v2 := by
  refine I (fun u v => wpX_weakPut (fun r u' => wpY_weakPut (fun r' v' => r' = r ∧ i_Rel (k + 4) u' v') v v1 v2) u v1 v2) ?_
  intro B R S nd sr ln dn lk dt rt wk se sv ad a l o p mt vc me st lt rs ss ws mk lm pw ca ms fw vn vq ce ro sS sV wS re vi G H HR HS HC HM HY
  unfold wpX_weakPut wpY_weakPut
  obtain ⟨b1, b2, b3, b4, b5, b6, b7⟩ := G.1
  rcases gh_ix (v := v1) (n := 4) (by omega) with h1 | ⟨j1, h1, rfl⟩
  · refine x_badW h1 (br_f bb_10 ?_)
    by_cases n0 : v1 < 0
    · exact br_t n0 ⟨rfl, rl_mk G H HR HS HC HM HY⟩
    · exact br_f n0 (br_f (fun z => absurd (Int32.le_trans (h1.resolve_left n0) z) (by decide)) ⟨rfl, rl_mk G H HR HS HC HM HY⟩)
  have y0 : ¬ nI j1 < 0 := nI_pos (by omega)
  have y3 : nI j1 ≤ 3 := nI_le (b := 3) (by omega) (by omega)
  refine x_goodW h1 (br_t rfl ?_)
  rcases gh_ix (v := v2) (n := R) (by omega) with h2 | ⟨j2, h2, rfl⟩
  · exact x_bad (by omega) h2 (br_f bb_10 (br_f y0 (br_t y3 (y_bad (by omega) (by omega) h2 (br_f bb_10 ⟨rfl, rl_mk G H HR HS HC HM HY⟩)))))
  have ok := G.2.2.1.1 j2 (by omega)
  refine x_good (by omega) h2 (br_t rfl (And.intro (vp_in_nI (by omega) (by omega)) (And.intro (vp_in_nI (by omega) (by omega)) (nm_r (e' := upd ws j1 (rf ad (rt j2))) ?_ (And.intro (vp_in_nI (by omega) (by omega)) ?_)))))
  · rw [nI_clamp (n := j2) (by omega), HS.1 j2 (by omega)]; exact nu_u (by omega) rfl
  refine g_serialE b2 H ok (by rw [nI_clamp (n := j1) (by omega), pk_us]) (br_f y0 (br_t y3 (y_good (by omega) h2 (br_t rfl (And.intro (vp_in_nI (by omega) (by omega)) (And.intro (vp_in_nI (by omega) (by omega)) (nm_r (e' := upd wS j1 (sf sr (rt j2))) ?_ (And.intro (vp_in_nI (by omega) (by omega)) ?_))))))))
  · rw [nI_clamp (n := j2) (by omega), HY.1 j2 (by omega)]; exact nu_u (by omega) rfl
  exact ⟨by rw [nI_clamp (n := j1) (by omega), pk_us], rl_mk ⟨G.1, G.2.1, GR_wk G.2.2.1 ok, G.2.2.2⟩ H HR ⟨HS.1, gh_u HS.2.1 rfl, HS.2.2⟩ HC HM ⟨HY.1, gh_u HY.2.1 rfl, HY.2.2⟩⟩
theorem i_vc_weakGet {k : Nat} {u : SX} {v : SY} (I : i_Rel k u v) (hk : k + 4 ≤ 2051) (v1 : Int32) (v2 : Int32) : wpX_weakGet (fun r u' => wpY_weakGet (fun r' v' => r' = r ∧ i_Rel (k + 4) u' v') v v1 v2) u v1 v2 := by
  refine I (fun u v => wpX_weakGet (fun r u' => wpY_weakGet (fun r' v' => r' = r ∧ i_Rel (k + 4) u' v') v v1 v2) u v1 v2) ?_
  intro B R S nd sr ln dn lk dt rt wk se sv ad a l o p mt vc me st lt rs ss ws mk lm pw ca ms fw vn vq ce ro sS sV wS re vi G H HR HS HC HM HY
  unfold wpX_weakGet wpY_weakGet
  obtain ⟨b1, b2, b3, b4, b5, b6, b7⟩ := G.1
  rcases gh_ix (v := v1) (n := 4) (by omega) with h1 | ⟨j1, h1, rfl⟩
  · refine x_badW h1 (br_f bb_10 ?_)
    by_cases n0 : v1 < 0
    · exact br_t n0 ⟨rfl, rl_mk G H HR HS HC HM HY⟩
    · exact br_f n0 (br_f (fun z => absurd (Int32.le_trans (h1.resolve_left n0) z) (by decide)) ⟨rfl, rl_mk G H HR HS HC HM HY⟩)
  have y0 : ¬ nI j1 < 0 := nI_pos (by omega)
  have y3 : nI j1 ≤ 3 := nI_le (b := 3) (by omega) (by omega)
  refine x_goodW h1 (br_t rfl ?_)
  rcases gh_ix (v := v2) (n := R) (by omega) with h2 | ⟨j2, h2, rfl⟩
  · exact x_bad (by omega) h2 (br_f bb_10 (br_f y0 (br_t y3 (y_bad (by omega) (by omega) h2 (br_f bb_10 ⟨rfl, rl_mk G H HR HS HC HM HY⟩)))))
  have ok := G.2.2.1.2.2.1 j1 (by omega)
  refine x_good (by omega) h2 (br_t rfl (And.intro (vp_in_nI (by omega) (by omega)) (And.intro (vp_in_nI (by omega) (by omega)) (nm_r (e' := upd rs j2 (rf ad (wk j1))) ?_ (And.intro (vp_in_nI (by omega) (by omega)) ?_)))))
  · rw [nI_clamp (n := j1) (by omega), HS.2.1 j1 (by omega)]; exact nu_u (by omega) rfl
  refine g_serialE b2 H ok (by rw [nI_clamp (n := j2) (by omega), pk_us]) (br_f y0 (br_t y3 (y_good (by omega) h2 (br_t rfl (And.intro (vp_in_nI (by omega) (by omega)) (And.intro (vp_in_nI (by omega) (by omega)) (nm_r (e' := upd ro j2 (sf sr (wk j1))) ?_ (And.intro (vp_in_nI (by omega) (by omega)) ?_))))))))
  · rw [nI_clamp (n := j1) (by omega), HY.2.1 j1 (by omega)]; exact nu_u (by omega) rfl
  exact ⟨by rw [nI_clamp (n := j1) (by omega), HY.2.1 j1 (by omega)], rl_mk ⟨G.1, G.2.1, GR_rt G.2.2.1 h2 ok, G.2.2.2⟩ H HR ⟨gh_u HS.1 rfl, HS.2⟩ HC HM ⟨gh_u HY.1 rfl, HY.2⟩⟩
end
section
/-! the pinned words -/
def PN (se : Nat → Nat) (z ad : Nat → Nat) (s w : Nat) : Prop := ∃ i t, i < s ∧ se i = t + 1 ∧ ad t ≤ w ∧ w < ad t + z t
section
variable {B R S : Nat} {ma ml oa ol md uw mt vc : Int32} {me st lt rs ss ws mk lm pw ca ms fw vn vq : Nat → Int32} {pr : Int32 → Prop} {pu : SX → Prop} {sr ln dn : Nat → Nat} {lk : Nat → Nat → Nat} {dt : Nat → Nat → Int32} {ad : Nat → Nat} {nd : Nat} {rt wk se : Nat → Nat} {sv : Nat → Int32}
/-- stack word s: a number, or the address of a cell -/
theorem g_word {s : Nat} (hs : s < 6) (hG : GR R S sr ln dn rt wk se sv) (hS : ∀ i, i < 6 → ss i = sw ad (sv i) (se i)) : (se s = 0 ∧ ss s = sv s ∧ ss s < 0) ∨ ∃ t c, se s = t + 1 ∧ LV sr t ∧ c < zs ln dn t ∧ sv s = nI c ∧ ss s = nI (ad t + c) := by
  have h := hS s hs
  cases e : se s with
  | zero =>
    rw [e] at h
    have h' : ss s = sv s := h
    exact Or.inl ⟨rfl, h', by rw [h']; exact hG.2.2.2.2.2.1 s hs e⟩
  | succ t =>
    rw [e] at h
    obtain ⟨c, c1, c2⟩ := hG.2.2.2.2.2.2 s t hs e
    refine Or.inr ⟨t, c, rfl, hG.2.2.2.1 s hs t e, c2, c1, ?_⟩
    rw [h, c1]
    exact nI_add _ _
theorem g_pinL (hB : B ≤ 8) (hS6 : S ≤ 6) (G : GO nd sr ln dn lk) (H : HP B sr ln dn lk dt ad me st) (hG : GR R S sr ln dn rt wk se sv) (hS : ∀ i, i < 6 → ss i = sw ad (sv i) (se i))
    (hp : ∀ pw', (∀ w, w < 256 → pw' w = bb (PN se (zs ln dn) ad S w)) → pu (nI B, nI (8 * B), nI (32 * B), nI (12 * B), nI R, nI S, ma, ml, oa, ol, md, uw, mt, vc, me, st, lt, rs, ss, ws, mk, lm, pw', ca, ms, fw, vn, vq)) : ∀ n s pw, S - s < n → s ≤ S → (∀ w, w < 256 → pw w = bb (PN se (zs ln dn) ad s w)) → wX_flagPins_24 pu (nI B) (nI (8 * B)) (nI (32 * B)) (nI (12 * B)) (nI R) (nI S) ma ml oa ol md uw mt vc n (nI s) me st lt rs ss ws mk lm pw ca ms fw vn vq := by
  intro n
  induction n with
  | zero => intro s pw h; omega
  | succ n ih =>
    intro s pw h1 h2 h3
    refine pk_le S s (fun q => ?_) (fun q => And.intro (vp_in_nI (by omega) (by omega)) ?_)
    · have : s = S := by omega
      subst this; exact hp pw h3
    rw [nI_clamp (by omega)]
    rcases g_word (s := s) (by omega) hG hS with ⟨e1, e2, e3⟩ | ⟨t, c, e1, e2, e3, e4, e5⟩
    · refine br_t e3 (nm_r (nI_1 s) (ih (s + 1) pw (by omega) (by omega) (fun w hw => ?_)))
      rw [h3 w hw]
      refine bb_c ⟨fun ⟨i, t, a1, a2⟩ => ⟨i, t, by omega, a2⟩, fun ⟨i, t, a1, a2, a3⟩ => ⟨i, t, ?_, a2, a3⟩⟩
      rcases Nat.lt_or_ge i s with z | z
      · exact z
      · have : i = s := by omega
        subst this; omega
    · have b := LY_lt H.1 hB e2
      rw [e5]
      refine br_f (nI_pos (by omega)) (And.intro (vp_in_nI (by omega) (by omega)) (g_startOf hB H.1 H.2.2 e2 e3 (g_sizeOf hB G H e2 (x_pinL (by omega) (by omega) (ih (s + 1) _ (by omega) (by omega) (fun w hw => ?_))))))
      by_cases z : ad t ≤ w ∧ w < ad t + zs ln dn t
      · rw [fg_in z]
        exact (bb_t ⟨s, t, by omega, e1, z⟩).symm
      · rw [fg_out z, h3 w hw]
        refine bb_c ⟨fun ⟨i, t', a1, a2⟩ => ⟨i, t', by omega, a2⟩, fun ⟨i, t', a1, a2, a3⟩ => ⟨i, t', ?_, a2, a3⟩⟩
        rcases Nat.lt_or_ge i s with y | y
        · exact y
        · have : i = s := by omega
          subst this
          have : t' = t := by omega
          subst this
          exact absurd a3 z
theorem g_flagPins (hB : B ≤ 8) (hS6 : S ≤ 6) (G : GO nd sr ln dn lk) (H : HP B sr ln dn lk dt ad me st) (hG : GR R S sr ln dn rt wk se sv) (hS : ∀ i, i < 6 → ss i = sw ad (sv i) (se i))
    (hp : ∀ pw', (∀ w, w < 256 → pw' w = bb (PN se (zs ln dn) ad S w)) → pu (nI B, nI (8 * B), nI (32 * B), nI (12 * B), nI R, nI S, ma, ml, oa, ol, md, uw, mt, vc, me, st, lt, rs, ss, ws, mk, lm, pw', ca, ms, fw, vn, vq)) : wpX_flagPins pu (nI B, nI (8 * B), nI (32 * B), nI (12 * B), nI R, nI S, ma, ml, oa, ol, md, uw, mt, vc, me, st, lt, rs, ss, ws, mk, lm, pw, ca, ms, fw, vn, vq) :=
  x_pinClear (Exists.intro 10 (g_pinL hB hS6 G H hG hS hp 10 0 _ (by omega) (by omega) (fun w hw => by
    rw [fg_in (by omega)]
    exact (bb_f (fun ⟨i, t, a1, _⟩ => by omega)).symm)))
/-! the choice of the blocks to give up: any -/
theorem x_freeLinesL {b : Nat} (hb : b < 8) (hp : ∀ r, pr r) : ∀ n i x, 8 - i < n → i ≤ 8 → wX_freeLinesIn_4 pr (nI b) (nI B) (nI (8 * B)) (nI (32 * B)) (nI (12 * B)) (nI R) (nI S) ma ml oa ol md uw mt vc me st lt rs ss ws mk lm pw ca ms fw vn vq n x (nI i) := by
  intro n
  induction n with
  | zero => intro i x h; omega
  | succ n ih =>
    intro i x h1 h2
    refine pk_le 8 i (fun q => hp _) (fun q => ?_)
    rw [nu_m8, nI_add]
    exact And.intro (vp_in_nI (by omega) (by omega)) (br_c (fun _ => nm_e (nm_r (nI_1 i) (ih (i + 1) _ (by omega) (by omega)))) (fun _ => nm_r (nI_1 i) (ih (i + 1) _ (by omega) (by omega))))
theorem x_freeLines {b : Nat} (hb : b < 8) (hp : ∀ r, pr r) : wpX_freeLinesIn pr (nI B, nI (8 * B), nI (32 * B), nI (12 * B), nI R, nI S, ma, ml, oa, ol, md, uw, mt, vc, me, st, lt, rs, ss, ws, mk, lm, pw, ca, ms, fw, vn, vq) (nI b) := Exists.intro 9 (x_freeLinesL hb hp 9 0 0 (by omega) (by omega))
theorem x_wordsInL {b : Nat} (hb : b < 8) (hp : ∀ r, pr r) : ∀ n i x, 32 - i < n → i ≤ 32 → wX_wordsIn_4 pr (nI b) (nI B) (nI (8 * B)) (nI (32 * B)) (nI (12 * B)) (nI R) (nI S) ma ml oa ol md uw mt vc me st lt rs ss ws mk lm pw ca ms fw vn vq n x (nI i) := by
  intro n
  induction n with
  | zero => intro i x h; omega
  | succ n ih =>
    intro i x h1 h2
    refine pk_le 32 i (fun q => hp _) (fun q => nm_r (e' := nI (b * 32 + i)) (by rw [nu_m32, nI_add]) (And.intro (vp_in_nI (by omega) (by omega)) (br_c (fun _ => nm_r (nI_1 i) (ih (i + 1) _ (by omega) (by omega))) (fun _ => x_sizeAny (by omega) (fun r => nm_e (nm_r (nI_1 i) (ih (i + 1) _ (by omega) (by omega))))))))
theorem x_wordsIn {b : Nat} (hb : b < 8) (hp : ∀ r, pr r) : wpX_wordsIn pr (nI B, nI (8 * B), nI (32 * B), nI (12 * B), nI R, nI S, ma, ml, oa, ol, md, uw, mt, vc, me, st, lt, rs, ss, ws, mk, lm, pw, ca, ms, fw, vn, vq) (nI b) := Exists.intro 33 (x_wordsInL hb hp 33 0 0 (by omega) (by omega))
theorem x_holesL {b : Nat} (hb : b < 8) (hp : ∀ r, pr r) : ∀ n i x y, 8 - i < n → i ≤ 8 → wX_holesIn_7 pr (nI b) (nI B) (nI (8 * B)) (nI (32 * B)) (nI (12 * B)) (nI R) (nI S) ma ml oa ol md uw mt vc me st lt rs ss ws mk lm pw ca ms fw vn vq n x y (nI i) := by
  intro n
  induction n with
  | zero => intro i x y h; omega
  | succ n ih =>
    intro i x y h1 h2
    refine pk_le 8 i (fun q => hp _) (fun q => ?_)
    rw [nu_m8, nI_add]
    exact And.intro (vp_in_nI (by omega) (by omega)) (nm_e (br_c (fun _ => nm_r (nI_1 i) (ih (i + 1) _ _ (by omega) (by omega))) (fun _ => br_c (fun _ => nm_e (nm_r (nI_1 i) (ih (i + 1) _ _ (by omega) (by omega)))) (fun _ => nm_r (nI_1 i) (ih (i + 1) _ _ (by omega) (by omega))))))
theorem x_holes {b : Nat} (hb : b < 8) (hp : ∀ r, pr r) : wpX_holesIn pr (nI B, nI (8 * B), nI (32 * B), nI (12 * B), nI R, nI S, ma, ml, oa, ol, md, uw, mt, vc, me, st, lt, rs, ss, ws, mk, lm, pw, ca, ms, fw, vn, vq) (nI b) := Exists.intro 9 (x_holesL hb hp 9 0 0 1 (by omega) (by omega))
theorem x_score {b : Nat} (hb : b < 8) (hp : ∀ r, pr r) : wpX_scoreOf pr (nI B, nI (8 * B), nI (32 * B), nI (12 * B), nI R, nI S, ma, ml, oa, ol, md, uw, mt, vc, me, st, lt, rs, ss, ws, mk, lm, pw, ca, ms, fw, vn, vq) (nI b) :=
  x_freeLines hb (fun _ => nm_e (x_wordsIn hb (fun _ => nm_e (x_holes hb (fun _ => hp _)))))
theorem x_cand48 {J : Int32 → Int32 → Int32 → (Nat → Int32) → (Nat → Int32) → (Nat → Int32) → (Nat → Int32) → (Nat → Int32) → (Nat → Int32) → (Nat → Int32) → (Nat → Int32) → (Nat → Int32) → (Nat → Int32) → (Nat → Int32) → (Nat → Int32) → (Nat → Int32) → (Nat → Int32) → Prop} (hB : B ≤ 8) {s : Nat} (hJ : ∀ x y ca, J x y (nI s) me st lt rs ss ws mk lm pw ca ms fw vn vq) : ∀ n b x y ca, B - b < n → b ≤ B → wX_chooseCandidates_48 pu J (nI (s + 1)) (nI B) (nI (8 * B)) (nI (32 * B)) (nI (12 * B)) (nI R) (nI S) ma ml oa ol md uw mt vc n x y (nI b) me st lt rs ss ws mk lm pw ca ms fw vn vq := by
  intro n
  induction n with
  | zero => intro b x y ca h; omega
  | succ n ih =>
    intro b x y ca h1 h2
    refine pk_le B b (fun q => nm_r (pk_m1 s) (hJ _ _ _)) (fun q => x_score (by omega) (fun r => br_c (fun _ => x_wordsIn (by omega) (fun r2 => x_freeLines (by omega) (fun r3 => nm_e (br_c (fun _ => nm_r (nI_1 b) (ih (b + 1) _ _ _ (by omega) (by omega))) (fun _ => And.intro (vp_in_nI (by omega) (by omega)) (nm_e (nm_e (nm_e (nm_r (nI_1 b) (ih (b + 1) _ _ _ (by omega) (by omega))))))))))) (fun _ => nm_r (nI_1 b) (ih (b + 1) _ _ _ (by omega) (by omega)))))
theorem x_cand40 (hB : B ≤ 8) (hp : ∀ ca, pu (nI B, nI (8 * B), nI (32 * B), nI (12 * B), nI R, nI S, ma, ml, oa, ol, md, uw, mt, vc, me, st, lt, rs, ss, ws, mk, lm, pw, ca, ms, fw, vn, vq)) : ∀ n s x y ca, s < n → s < 100 → wX_chooseCandidates_40 pu (nI B) (nI (8 * B)) (nI (32 * B)) (nI (12 * B)) (nI R) (nI S) ma ml oa ol md uw mt vc n x y (nI s) me st lt rs ss ws mk lm pw ca ms fw vn vq := by
  intro n
  induction n with
  | zero => intro s x y ca h; omega
  | succ n ih =>
    intro s x y ca h1 h2
    refine pk_lt s 2 (fun _ => hp _) (fun q => ?_)
    obtain ⟨m, rfl⟩ : ∃ m, s = m + 1 := ⟨s - 1, by omega⟩
    exact Exists.intro 9 (x_cand48 hB (fun x y ca => ih m x y ca (by omega) (by omega)) 9 0 x y ca (by omega) (by omega))
theorem x_cand4 (hB : B ≤ 8) (hp : ∀ ca, pu (nI B, nI (8 * B), nI (32 * B), nI (12 * B), nI R, nI S, ma, ml, oa, ol, md, uw, mt, vc, me, st, lt, rs, ss, ws, mk, lm, pw, ca, ms, fw, vn, vq)) : ∀ n b x ca, B - b < n → b ≤ B → wX_chooseCandidates_4 pu (nI B) (nI (8 * B)) (nI (32 * B)) (nI (12 * B)) (nI R) (nI S) ma ml oa ol md uw mt vc n x (nI b) me st lt rs ss ws mk lm pw ca ms fw vn vq := by
  intro n
  induction n with
  | zero => intro b x ca h; omega
  | succ n ih =>
    intro b x ca h1 h2
    refine pk_le B b (fun q => Exists.intro 13 (x_cand40 hB hp 13 12 x 0 ca (by omega) (by omega))) (fun q => And.intro (vp_in_nI (by omega) (by omega)) (nm_e (x_freeLines (by omega) (fun r => nm_e (nm_r (nI_1 b) (ih (b + 1) _ _ (by omega) (by omega)))))))
theorem x_choose (hB : B ≤ 8) (hp : ∀ ca, pu (nI B, nI (8 * B), nI (32 * B), nI (12 * B), nI R, nI S, ma, ml, oa, ol, md, uw, mt, vc, me, st, lt, rs, ss, ws, mk, lm, pw, ca, ms, fw, vn, vq)) : wpX_chooseCandidates pu (nI B, nI (8 * B), nI (32 * B), nI (12 * B), nI R, nI S, ma, ml, oa, ol, md, uw, mt, vc, me, st, lt, rs, ss, ws, mk, lm, pw, ca, ms, fw, vn, vq) := Exists.intro 9 (x_cand4 hB hp 9 0 0 ca (by omega) (by omega))
end
end
section
/-! the state of a collection: ad0 the addresses at its begin, ad now; M marked; sc: cells below it are mended -/
def CA (B : Nat) (L M : Nat → Prop) (z ad0 ad : Nat → Nat) : Prop :=
  LY B L z ad0 ∧ LY B L z ad ∧ (∀ e, L e → ¬ M e → ad e = ad0 e) ∧ ∀ e f, L e → L f → (e = f ∧ ad e = ad0 e) ∨ ad e + z e ≤ ad0 f ∨ ad0 f + z f ≤ ad e
def CM (L M : Nat → Prop) (sr ln dn : Nat → Nat) (lk : Nat → Nat → Nat) (dt : Nat → Nat → Int32) (ad0 ad sc : Nat → Nat) (me : Nat → Int32) : Prop :=
  (∀ e, L e → ∀ c, c < zs ln dn e → me (ad e + c) = if c < sc e then oc (rf ad) (ln e) (dn e) (sr e) (lk e) (dt e) c else oc (rf ad0) (ln e) (dn e) (sr e) (lk e) (dt e) c) ∧
  (∀ e, L e → ad e ≠ ad0 e → me (ad0 e) = (-1) - nI (ad e)) ∧ (∀ e, L e → 2 ≤ sc e ∧ sc e ≤ 2 + ln e ∧ (¬ M e → sc e = 2)) ∧
  (∀ e, L e → ∀ c, 2 ≤ c → c < sc e → ∀ t, lk e c = t + 1 → M t)
def CK (L M : Nat → Prop) (z ad : Nat → Nat) (mk lm : Nat → Int32) : Prop :=
  (∀ w, w < 256 → mk w = bb (∃ e, L e ∧ M e ∧ ad e = w)) ∧ (∀ l, l < 64 → lm l = bb (∃ e, L e ∧ M e ∧ ad e / 4 ≤ l ∧ l ≤ (ad e + z e - 1) / 4))
def CS (L M Q cur : Nat → Prop) (ln ad sc : Nat → Nat) (tp : Nat) (sk : Nat → Nat) (ms : Nat → Int32) (np : Nat) : Prop :=
  (∀ i, i < tp → L (sk i) ∧ M (sk i) ∧ sc (sk i) = 2 ∧ ms i = nI (ad (sk i)) ∧ ¬ cur (sk i)) ∧ (∀ i j, i < tp → j < tp → sk i = sk j → i = j) ∧
  (∀ e, L e → M e → sc e = 2 + ln e ∨ (∃ i, i < tp ∧ sk i = e) ∨ cur e) ∧ (∀ e, M e → L e ∧ Q e) ∧ (∀ e, cur e → M e) ∧ np + tp = cnt M 48
def ad1 (M : Nat → Prop) (t : Nat) : Nat → Prop := fun e => M e ∨ e = t
theorem CA_mono {B : Nat} {L M M' : Nat → Prop} {z ad0 ad : Nat → Nat} (h : CA B L M z ad0 ad) (hM : ∀ e, M e → M' e) : CA B L M' z ad0 ad :=
  ⟨h.1, h.2.1, fun e he hn => h.2.2.1 e he (fun q => hn (hM e q)), h.2.2.2⟩
theorem iv_dj {a z b y : Nat} (hz : 0 < z) (hy : 0 < y) (h : ∀ w, a ≤ w → w < a + z → ¬ (b ≤ w ∧ w < b + y)) : a + z ≤ b ∨ b + y ≤ a := by
  rcases Nat.lt_or_ge a b with q | q
  · rcases Nat.lt_or_ge b (a + z) with q2 | q2
    · exact absurd ⟨Nat.le_refl b, by omega⟩ (h b (by omega) q2)
    · exact Or.inl q2
  · rcases Nat.lt_or_ge a (b + y) with q2 | q2
    · exact absurd ⟨q, q2⟩ (h a (Nat.le_refl _) (by omega))
    · exact Or.inr q2
theorem CA_move {B : Nat} {L M : Nat → Prop} {z ad0 ad : Nat → Nat} {t x : Nat} (h : CA B L M z ad0 ad) (ht : L t) (hx : x % 32 + z t ≤ 32) (hx2 : x + z t ≤ 32 * B) (hf : ∀ w, x ≤ w → w < x + z t → ¬ (OC L z ad0 w ∨ OC L z ad w)) : CA B L (ad1 M t) z ad0 (un ad t x) := by
  obtain ⟨h1, h2, h3, h4⟩ := h
  have zt := (h1.1 t ht).1
  have d0 : ∀ f, L f → x + z t ≤ ad0 f ∨ ad0 f + z f ≤ x := fun f hL => iv_dj (by omega) (by have := (h1.1 f hL).1; omega) (fun w w1 w2 q => hf w w1 w2 (Or.inl ⟨f, hL, q⟩))
  have d1 : ∀ f, L f → x + z t ≤ ad f ∨ ad f + z f ≤ x := fun f hL => iv_dj (by omega) (by have := (h1.1 f hL).1; omega) (fun w w1 w2 q => hf w w1 w2 (Or.inr ⟨f, hL, q⟩))
  refine ⟨h1, ⟨fun e he => ?_, fun e f he hL hn => ?_⟩, fun e he hn => ?_, fun e f he hL => ?_⟩
  · by_cases q : e = t
    · subst q; rw [un_s]; have := h1.1 e ht; omega
    · rw [un_n q]; exact h2.1 e he
  · by_cases q : e = t
    · subst q; rw [un_s, un_n (fun c => hn c.symm)]; exact d1 f hL
    · rw [un_n q]
      by_cases q2 : f = t
      · subst q2; rw [un_s]; exact (d1 e he).symm
      · rw [un_n q2]; exact h2.2 e f he hL hn
  · by_cases q : e = t
    · exact absurd (Or.inr q) hn
    · rw [un_n q]; exact h3 e he (fun c => hn (Or.inl c))
  · by_cases q : e = t
    · subst q; rw [un_s]; exact Or.inr (d0 f hL)
    · rw [un_n q]; exact h4 e f he hL
theorem CM_mono {L M M' : Nat → Prop} {sr ln dn : Nat → Nat} {lk : Nat → Nat → Nat} {dt : Nat → Nat → Int32} {ad0 ad sc : Nat → Nat} {me : Nat → Int32} (h : CM L M sr ln dn lk dt ad0 ad sc me) (hM : ∀ e, M e → M' e) : CM L M' sr ln dn lk dt ad0 ad sc me :=
  ⟨h.1, h.2.1, fun e he => ⟨(h.2.2.1 e he).1, (h.2.2.1 e he).2.1, fun q => (h.2.2.1 e he).2.2 (fun c => q (hM e c))⟩, fun e he c c1 c2 t q => hM t (h.2.2.2 e he c c1 c2 t q)⟩
theorem rf_un {ad : Nat → Nat} {t x r : Nat} (h : ∀ u, r = u + 1 → u ≠ t) : rf (un ad t x) r = rf ad r := by
  cases r with
  | zero => rfl
  | succ u => exact congrArg nI (un_n (h u rfl))
theorem CM_move {B : Nat} {L M : Nat → Prop} {sr ln dn : Nat → Nat} {lk : Nat → Nat → Nat} {dt : Nat → Nat → Int32} {ad0 ad sc : Nat → Nat} {me : Nat → Int32} {t x : Nat} (hA : CA B L M (zs ln dn) ad0 ad) (h : CM L M sr ln dn lk dt ad0 ad sc me) (ht : L t) (hm : ¬ M t) (hf : ∀ w, x ≤ w → w < x + zs ln dn t → ¬ (OC L (zs ln dn) ad0 w ∨ OC L (zs ln dn) ad w)) :
    CM L (ad1 M t) sr ln dn lk dt ad0 (un ad t x) sc (upd (mv me (ad t) x (zs ln dn t)) (ad t) ((-1) - nI x)) := by
  obtain ⟨h1, h2, h3, h4⟩ := h
  have et := hA.2.2.1 t ht hm
  have st2 := (h3 t ht).2.2 hm
  have zt := (hA.1.1 t ht).1
  have no : ∀ e c, L e → c < zs ln dn e → ¬ (x ≤ ad e + c ∧ ad e + c < x + zs ln dn t) := fun e c he hc q => hf _ q.1 q.2 (Or.inr ⟨e, he, by omega, by omega⟩)
  have no0 : ∀ e c, L e → c < zs ln dn e → ¬ (x ≤ ad0 e + c ∧ ad0 e + c < x + zs ln dn t) := fun e c he hc q => hf _ q.1 q.2 (Or.inl ⟨e, he, by omega, by omega⟩)
  refine ⟨fun e he c hc => ?_, fun e he hn => ?_, fun e he => ⟨(h3 e he).1, (h3 e he).2.1, fun q => (h3 e he).2.2 (fun c => q (Or.inl c))⟩, fun e he c c1 c2 u q => Or.inl (h4 e he c c1 c2 u q)⟩
  · have ocx : c < sc e → oc (rf (un ad t x)) (ln e) (dn e) (sr e) (lk e) (dt e) c = oc (rf ad) (ln e) (dn e) (sr e) (lk e) (dt e) c := fun hs =>
      oc_c (fun c1 c2 => rf_un (fun u q r => hm (r ▸ h4 e he c c1 hs u q))) (fun _ => rfl)
    have goal : upd (mv me (ad t) x (zs ln dn t)) (ad t) ((-1) - nI x) (un ad t x e + c) = me (ad e + c) := by
      by_cases q : e = t
      · subst q
        have := no e 0 he (by omega)
        rw [un_s, pk_un (by omega), mv_in (by omega)]
        exact congrArg me (by omega)
      · have n1 : ad e + c ≠ ad t := fun z => q (LY_in (d := 0) hA.2.1 he ht hc (by omega) z).1
        rw [un_n q, pk_un n1, mv_out (no e c he hc)]
    rw [goal, h1 e he c hc]
    by_cases hs : c < sc e
    · rw [if_pos hs, if_pos hs, ocx hs]
    · rw [if_neg hs, if_neg hs]
  · by_cases q : e = t
    · subst q; rw [un_s, ← et, pk_us]
    · rw [un_n q] at hn ⊢
      have ne : ad0 e ≠ ad t := by
        rw [et]
        exact fun z => q (LY_in (c := 0) (d := 0) hA.1 he ht (by have := (hA.1.1 e he).1; omega) (by omega) z).1
      have n2 : ¬ (x ≤ ad0 e ∧ ad0 e < x + zs ln dn t) := no0 e 0 he (by have := (hA.1.1 e he).1; omega)
      rw [pk_un ne, mv_out n2]
      exact h2 e he hn
theorem XT_move {B : Nat} {L : Nat → Prop} {z ad : Nat → Nat} {st : Nat → Int32} {t x : Nat} (hL : LY B L z ad) (h : XT L ad st) (ht : L t) (hf : ∀ e, L e → ad e ≠ x) : XT L (un ad t x) (upd (upd st (ad t) 0) x 1) := by
  intro w hw
  by_cases q : w = x
  · subst q; rw [pk_us]; exact (bb_t ⟨t, ht, un_s⟩).symm
  · rw [pk_un q]
    by_cases q2 : w = ad t
    · subst q2; rw [pk_us]
      refine (bb_f (fun ⟨e, he, q3⟩ => ?_)).symm
      by_cases q4 : e = t
      · subst q4; rw [un_s] at q3; exact q q3.symm
      · rw [un_n q4] at q3
        exact q4 (LY_in (c := 0) (d := 0) hL he ht (by have := (hL.1 e he).1; omega) (by have := (hL.1 t ht).1; omega) q3).1
    · rw [pk_un q2, h w hw]
      refine bb_c ⟨fun ⟨e, he, q3⟩ => ⟨e, he, ?_⟩, fun ⟨e, he, q3⟩ => ⟨e, he, ?_⟩⟩
      · rw [un_n (fun c => q2 (by rw [← q3, c]))]; exact q3
      · by_cases q4 : e = t
        · subst q4; rw [un_s] at q3; exact absurd q3.symm q
        · rw [un_n q4] at q3; exact q3
theorem CK_mark {L M : Nat → Prop} {z ad ad' : Nat → Nat} {mk lm : Nat → Int32} {t : Nat} (h : CK L M z ad mk lm) (ha : ∀ e, M e → ad' e = ad e) (ht : L t) (hz : 0 < z t) : CK L (ad1 M t) z ad' (upd mk (ad' t) 1) (fg lm (ad' t / 4) ((ad' t + z t - 1) / 4 + 1) (fun _ => 1)) := by
  refine ⟨fun w hw => ?_, fun l hl => ?_⟩
  · by_cases q : w = ad' t
    · subst q; rw [pk_us]; exact (bb_t ⟨t, ht, Or.inr rfl, rfl⟩).symm
    · rw [pk_un q, h.1 w hw]
      refine bb_c ⟨fun ⟨e, e1, e2, e3⟩ => ⟨e, e1, Or.inl e2, by rw [ha e e2]; exact e3⟩, fun ⟨e, e1, e2, e3⟩ => ?_⟩
      rcases e2 with e2 | e2
      · exact ⟨e, e1, e2, by rw [← ha e e2]; exact e3⟩
      · subst e2; exact absurd e3.symm q
  · by_cases q : ad' t / 4 ≤ l ∧ l < (ad' t + z t - 1) / 4 + 1
    · rw [fg_in q]; exact (bb_t ⟨t, ht, Or.inr rfl, q.1, by omega⟩).symm
    · rw [fg_out q, h.2 l hl]
      refine bb_c ⟨fun ⟨e, e1, e2, e3⟩ => ⟨e, e1, Or.inl e2, by rw [ha e e2]; exact e3⟩, fun ⟨e, e1, e2, e3⟩ => ?_⟩
      rcases e2 with e2 | e2
      · exact ⟨e, e1, e2, by rw [← ha e e2]; exact e3⟩
      · subst e2; exact absurd ⟨e3.1, by omega⟩ q
theorem CS_lt {L M Q cur : Nat → Prop} {ln ad sc sk : Nat → Nat} {tp np t : Nat} {ms : Nat → Int32} (h : CS L M Q cur ln ad sc tp sk ms np) (ht : t < 48) (hm : ¬ M t) : np + tp < 48 := by
  have := cnt_n (P := M) ht hm
  have := h.2.2.2.2.2
  omega
theorem CS_push {L M Q cur : Nat → Prop} {ln ad ad' sc sk : Nat → Nat} {tp np t : Nat} {ms : Nat → Int32} (h : CS L M Q cur ln ad sc tp sk ms np) (ha : ∀ e, M e → ad' e = ad e) (ht : t < 48) (hL : L t) (hQ : Q t) (hm : ¬ M t) (hs : sc t = 2) :
    CS L (ad1 M t) Q cur ln ad' sc (tp + 1) (un sk tp t) (upd ms tp (nI (ad' t))) np := by
  obtain ⟨h1, h2, h3, h4, h5, h6⟩ := h
  refine ⟨fun i hi => ?_, fun i j hi hj q => ?_, fun e e1 e2 => ?_, fun e e1 => ?_, fun e e1 => Or.inl (h5 e e1), ?_⟩
  · by_cases q : i = tp
    · subst q; rw [un_s, pk_us]; exact ⟨hL, Or.inr rfl, hs, rfl, fun c => hm (h5 t c)⟩
    · rw [un_n q, pk_un q]
      obtain ⟨a1, a2, a3, a4, a5⟩ := h1 i (by omega)
      exact ⟨a1, Or.inl a2, a3, by rw [a4, ha _ a2], a5⟩
  · by_cases q1 : i = tp
    · by_cases q2 : j = tp
      · omega
      · rw [q1, un_s, un_n q2] at q
        exact absurd (h1 j (by omega)).2.1 (q ▸ hm)
    · by_cases q2 : j = tp
      · rw [q2, un_s, un_n q1] at q
        exact absurd (h1 i (by omega)).2.1 (q ▸ hm)
      · rw [un_n q1, un_n q2] at q
        exact h2 i j (by omega) (by omega) q
  · rcases e2 with e2 | e2
    · rcases h3 e e1 e2 with a | ⟨i, i1, i2⟩ | a
      · exact Or.inl a
      · exact Or.inr (Or.inl ⟨i, by omega, by rw [un_n (by omega)]; exact i2⟩)
      · exact Or.inr (Or.inr a)
    · subst e2; exact Or.inr (Or.inl ⟨tp, by omega, un_s⟩)
  · rcases e1 with e1 | e1
    · exact h4 e e1
    · subst e1; exact ⟨hL, hQ⟩
  · rw [cnt_s (P := M) (Q := ad1 M t) ht hm (Or.inr rfl) (fun i _ hn => ⟨fun c => c.elim id (fun q => absurd q hn), Or.inl⟩)]
    omega
end
section
/-! where an object may go -/
def FF (B : Nat) (pw : Nat → Int32) (s y : Nat) : Prop := y % 32 + s ≤ 32 ∧ y + s ≤ 32 * B ∧ ∀ w, y ≤ w → w < y + s → pw w = 0
def VI (B : Nat) (pw : Nat → Int32) (c s w len : Nat) : Prop :=
  c + len ≤ w ∧ len < s ∧ (∀ y, w - len ≤ y → y < w → pw y = 0) ∧ (0 < len → (w - len) / 32 = (w - 1) / 32) ∧ (∀ y, c ≤ y → y < w - len → ¬ FF B pw s y)
def VJ (B : Nat) (pw : Nat → Int32) (c s w len : Nat) : Prop :=
  c + len ≤ w ∧ len < s ∧ (∀ y, w - len ≤ y → y < w → pw y = 0) ∧ (w - len) / 32 = w / 32 ∧ (∀ y, c ≤ y → y < w - len → ¬ FF B pw s y)
theorem VJ_0 {B : Nat} {pw : Nat → Int32} {c s w len : Nat} (h : VI B pw c s w len) (hw : w % 32 = 0) : VJ B pw c s w 0 := by
  obtain ⟨h1, h2, h3, h4, h5⟩ := h
  refine ⟨by omega, by omega, fun y _ _ => by omega, rfl, fun y y1 y2 hF => ?_⟩
  rcases Nat.lt_or_ge y (w - len) with q | q
  · exact h5 y y1 q hF
  · have := h4 (by omega)
    have := hF.1
    omega
theorem VJ_1 {B : Nat} {pw : Nat → Int32} {c s w len : Nat} (h : VI B pw c s w len) (hw : ¬ w % 32 = 0) : VJ B pw c s w len := by
  obtain ⟨h1, h2, h3, h4, h5⟩ := h
  refine ⟨h1, h2, h3, ?_, h5⟩
  rcases Nat.eq_zero_or_pos len with q | q
  · subst q; rfl
  · have := h4 q; omega
theorem VI_b {B : Nat} {pw : Nat → Int32} {c s w len : Nat} (h : VJ B pw c s w len) (hw : ¬ pw w = 0) : VI B pw c s (w + 1) 0 := by
  obtain ⟨h1, h2, h3, h4, h5⟩ := h
  refine ⟨by omega, by omega, fun y _ _ => by omega, fun q => by omega, fun y y1 y2 hF => ?_⟩
  rcases Nat.lt_or_ge y (w - len) with q | q
  · exact h5 y y1 q hF
  · exact hw (hF.2.2 w (by omega) (by omega))
theorem VI_g {B : Nat} {pw : Nat → Int32} {c s w len : Nat} (h : VJ B pw c s w len) (hw : pw w = 0) (hl : len + 1 < s) : VI B pw c s (w + 1) (len + 1) := by
  obtain ⟨h1, h2, h3, h4, h5⟩ := h
  refine ⟨by omega, hl, fun y y1 y2 => ?_, fun _ => by omega, fun y y1 y2 => h5 y y1 (by omega)⟩
  rcases Nat.lt_or_ge y w with q | q
  · exact h3 y (by omega) q
  · have : y = w := by omega
    subst this; exact hw
theorem FF_of {B : Nat} {pw : Nat → Int32} {c s w len : Nat} (h : VJ B pw c s w len) (hw : pw w = 0) (hl : s ≤ len + 1) (hB : w < 32 * B) : FF B pw s (w - len) := by
  obtain ⟨h1, h2, h3, h4, h5⟩ := h
  refine ⟨by omega, by omega, fun y y1 y2 => ?_⟩
  rcases Nat.lt_or_ge y w with q | q
  · exact h3 y (by omega) q
  · have : y = w := by omega
    subst this; exact hw
section
variable {B R S : Nat} {ma ml oa ol md uw mt vc : Int32} {me st lt rs ss ws mk lm pw ca ms fw vn vq : Nat → Int32} {pr : Int32 → Prop} {pu : SX → Prop} {pp : Int32 → SX → Prop}
theorem x_ff24 {J : Int32 → Int32 → Prop} {w len s : Nat} (hw : w < 256) (hl : len ≤ w) (hs : len < s) (h8 : s ≤ 8)
    (hg : pw w = 0 → len + 1 < s → J (nI (len + 1)) (nI (w + 1))) (hp : pw w = 0 → s ≤ len + 1 → pr (nI (w - len))) (hb : ¬ pw w = 0 → J 0 (nI (w + 1))) : wX_firstFit_24 pr J (nI s) (nI len) (nI w) (nI B) (nI (8 * B)) (nI (32 * B)) (nI (12 * B)) (nI R) (nI S) ma ml oa ol md uw mt vc me st lt rs ss ws mk lm pw ca ms fw vn vq := by
  refine And.intro (vp_in_nI hw (by omega)) ?_
  rw [nI_clamp (by omega)]
  refine br_c (fun h1 => nm_r (nI_1 len) ?_) (fun h1 => nm_r (nI_1 w) (hb h1))
  refine pk_lt (len + 1) s (fun q => nm_r (nI_1 w) (hg h1 q)) (fun q => ?_)
  have e : s = len + 1 := by omega
  subst e
  rw [← nI_1 len, show nI w - (nI len + 1) + 1 = nI w - nI len by grind, pk_sub hl]
  exact hp h1 q
theorem x_ffL {c s x : Nat} (hB : B ≤ 8) (h8 : s ≤ 8) (hx : FF B pw s x) (hc : c ≤ x) (hp : ∀ y, c ≤ y → y ≤ x → FF B pw s y → (∀ w, c ≤ w → w < y → ¬ FF B pw s w) → pr (nI y)) : ∀ n w len, 32 * B - w < n → w ≤ 32 * B → VI B pw c s w len → wX_firstFit_5 pr (nI s) (nI B) (nI (8 * B)) (nI (32 * B)) (nI (12 * B)) (nI R) (nI S) ma ml oa ol md uw mt vc me st lt rs ss ws mk lm pw ca ms fw vn vq n (nI len) (nI w) := by
  intro n
  induction n with
  | zero => intro w len h; omega
  | succ n ih =>
    intro w len hn hw hI
    have px : w - len ≤ x := by
      rcases Nat.lt_or_ge x (w - len) with q | q
      · exact absurd hx (hI.2.2.2.2 x hc q)
      · exact q
    have b1 := hI.1
    have b2 := hI.2.1
    have b3 := hx.2.1
    refine pk_le (32 * B) w (fun h => by omega) (fun h => ?_)
    have key : ∀ len', VJ B pw c s w len' → wX_firstFit_24 pr (wX_firstFit_5 pr (nI s) (nI B) (nI (8 * B)) (nI (32 * B)) (nI (12 * B)) (nI R) (nI S) ma ml oa ol md uw mt vc me st lt rs ss ws mk lm pw ca ms fw vn vq n) (nI s) (nI len') (nI w) (nI B) (nI (8 * B)) (nI (32 * B)) (nI (12 * B)) (nI R) (nI S) ma ml oa ol md uw mt vc me st lt rs ss ws mk lm pw ca ms fw vn vq := by
      intro len' hJ
      have py : w - len' ≤ x := by
        rcases Nat.lt_or_ge x (w - len') with q | q
        · exact absurd hx (hJ.2.2.2.2 x hc q)
        · exact q
      exact x_ff24 (by omega) (by have := hJ.1; omega) hJ.2.1 h8 (fun g q => ih (w + 1) (len' + 1) (by omega) (by omega) (VI_g hJ g q)) (fun g q => hp _ (by have := hJ.1; omega) py (FF_of hJ g q h) hJ.2.2.2.2) (fun g => ih (w + 1) 0 (by omega) (by omega) (VI_b hJ g))
    rw [nu_a31 (by omega)]
    exact pk_eq (w % 32) 0 (fun q => key 0 (VJ_0 hI q)) (fun q => key len (VJ_1 hI q))
theorem x_firstFit {c s x : Nat} (hB : B ≤ 8) (h0 : 0 < s) (h8 : s ≤ 8) (hx : FF B pw s x) (hc : c ≤ x) (hp : ∀ y, c ≤ y → y ≤ x → FF B pw s y → (∀ w, c ≤ w → w < y → ¬ FF B pw s w) → pr (nI y)) : wpX_firstFit pr (nI B, nI (8 * B), nI (32 * B), nI (12 * B), nI R, nI S, ma, ml, oa, ol, md, uw, mt, vc, me, st, lt, rs, ss, ws, mk, lm, pw, ca, ms, fw, vn, vq) (nI c) (nI s) :=
  Exists.intro 300 (x_ffL hB h8 hx hc hp 300 c 0 (by omega) (by have := hx.2.1; omega) ⟨by omega, h0, fun y _ _ => by omega, fun q => by omega, fun y _ _ => by omega⟩)
end
/-! the plan: nd e the new address; P the pinned entries, pw the pinned words -/
def PI (B : Nat) (L P : Nat → Prop) (z ad nd : Nat → Nat) (pw fw : Nat → Int32) (x cu : Nat) : Prop :=
  (∀ e, L e → ad e < x → fw (ad e) = nI (nd e) ∧ nd e ≤ ad e ∧ nd e % 32 + z e ≤ 32) ∧
  (∀ e, L e → ad e < x → P e → nd e = ad e) ∧
  (∀ e, L e → ad e < x → ¬ P e → nd e + z e ≤ cu ∧ ∀ w, nd e ≤ w → w < nd e + z e → pw w = 0) ∧
  (∀ e f, L e → L f → ¬ P e → ¬ P f → ad e < ad f → ad f < x → nd e + z e ≤ nd f) ∧
  (∀ f, L f → x ≤ ad f → cu ≤ ad f) ∧ cu ≤ 32 * B ∧
  (∀ w, w < cu → (∃ e, L e ∧ nd e ≤ w ∧ w < nd e + z e ∧ ad e < x) ∨ ¬ pw w = 0 ∨ ∃ q, w < q ∧ q ≤ w + 7 ∧ (¬ pw q = 0 ∨ q % 32 = 0))
theorem PI_skip {B : Nat} {L P : Nat → Prop} {z ad nd : Nat → Nat} {pw fw : Nat → Int32} {x cu : Nat} (h : PI B L P z ad nd pw fw x cu) (hn : ∀ e, L e → ad e ≠ x) : PI B L P z ad nd pw fw (x + 1) cu := by
  obtain ⟨h1, h2, h3, h4, h5, h6, h7⟩ := h
  have k : ∀ e, L e → ad e < x + 1 → ad e < x := fun e he q => by have := hn e he; omega
  refine ⟨fun e he q => h1 e he (k e he q), fun e he q => h2 e he (k e he q), fun e he q => h3 e he (k e he q), fun e f he hf p1 p2 q1 q2 => h4 e f he hf p1 p2 q1 (k f hf q2), fun f hf q => h5 f hf (by omega), h6, fun w hw => ?_⟩
  rcases h7 w hw with ⟨e, a1, a2, a3, a4⟩ | a
  · exact Or.inl ⟨e, a1, a2, a3, by omega⟩
  · exact Or.inr a
theorem PI_pin {B : Nat} {L P : Nat → Prop} {z ad nd : Nat → Nat} {pw fw : Nat → Int32} {x cu e : Nat} (hL : LY B L z ad) (h : PI B L P z ad nd pw fw x cu) (he : L e) (hx : ad e = x) (hp : P e) : PI B L P z ad (un nd e x) pw (upd fw x (nI x)) (x + 1) cu := by
  obtain ⟨h1, h2, h3, h4, h5, h6, h7⟩ := h
  have uq : ∀ f, L f → ad f = x → f = e := fun f hf q => (LY_in (c := 0) (d := 0) hL hf he (by have := (hL.1 f hf).1; omega) (by have := (hL.1 e he).1; omega) (by omega)).1
  have ze := hL.1 e he
  have k : ∀ f, L f → ad f < x + 1 → f ≠ e → ad f < x := fun f hf q n => by
    rcases Nat.lt_or_ge (ad f) x with c | c
    · exact c
    · exact absurd (uq f hf (by omega)) n
  refine ⟨fun f hf q => ?_, fun f hf q p => ?_, fun f hf q p => ?_, fun f g hf hg p1 p2 q1 q2 => ?_, fun f hf q => h5 f hf (by omega), h6, fun w hw => ?_⟩
  · by_cases c : f = e
    · subst c; rw [un_s, hx, pk_us]; exact ⟨rfl, by omega, by rw [← hx]; exact ze.2.2.1⟩
    · have := k f hf q c
      rw [un_n c, pk_un (by omega)]; exact h1 f hf this
  · by_cases c : f = e
    · subst c; rw [un_s, hx]
    · rw [un_n c]; exact h2 f hf (k f hf q c) p
  · have c : f ≠ e := fun c => p (c ▸ hp)
    rw [un_n c]; exact h3 f hf (k f hf q c) p
  · have c : f ≠ e := fun c => p1 (c ▸ hp)
    have d : g ≠ e := fun c => p2 (c ▸ hp)
    rw [un_n c, un_n d]; exact h4 f g hf hg p1 p2 q1 (k g hg q2 d)
  · rcases h7 w hw with ⟨f, a1, a2, a3, a4⟩ | a
    · have c : f ≠ e := fun c => by subst c; omega
      exact Or.inl ⟨f, a1, by rw [un_n c]; exact a2, by rw [un_n c]; exact a3, by omega⟩
    · exact Or.inr a
theorem PI_put {B : Nat} {L P : Nat → Prop} {z ad nd : Nat → Nat} {pw fw fw' : Nat → Int32} {x cu e y : Nat} (hL : LY B L z ad) (h : PI B L P z ad nd pw fw x cu) (he : L e) (hx : ad e = x) (hp : ¬ P e) (h1y : cu ≤ y) (h2y : y ≤ x) (hF : FF B pw (z e) y) (hN : ∀ w, cu ≤ w → w < y → ¬ FF B pw (z e) w)
    (hf1 : fw' x = nI y) (hf2 : ∀ j, j ≠ x → fw' j = fw j) : PI B L P z ad (un nd e y) pw fw' (x + 1) (y + z e) := by
  obtain ⟨h1, h2, h3, h4, h5, h6, h7⟩ := h
  have uq : ∀ f, L f → ad f = x → f = e := fun f hf q => (LY_in (c := 0) (d := 0) hL hf he (by have := (hL.1 f hf).1; omega) (by have := (hL.1 e he).1; omega) (by omega)).1
  have ze := hL.1 e he
  have k : ∀ f, L f → ad f < x + 1 → f ≠ e → ad f < x := fun f hf q n => by
    rcases Nat.lt_or_ge (ad f) x with c | c
    · exact c
    · exact absurd (uq f hf (by omega)) n
  refine ⟨fun f hf q => ?_, fun f hf q p => ?_, fun f hf q p => ?_, fun f g hf hg p1 p2 q1 q2 => ?_, fun f hf q => ?_, hF.2.1, fun w hw => ?_⟩
  · by_cases c : f = e
    · subst c; rw [un_s, hx, hf1]; exact ⟨rfl, h2y, hF.1⟩
    · have := k f hf q c
      rw [un_n c, hf2 _ (by omega)]; exact h1 f hf this
  · have c : f ≠ e := fun c => hp (c ▸ p)
    rw [un_n c]; exact h2 f hf (k f hf q c) p
  · by_cases c : f = e
    · subst c; rw [un_s]; exact ⟨Nat.le_refl _, hF.2.2⟩
    · rw [un_n c]
      have := h3 f hf (k f hf q c) p
      exact ⟨by omega, this.2⟩
  · have c : f ≠ e := fun c => by subst c; omega
    rw [un_n c]
    by_cases d : g = e
    · subst d; rw [un_s]
      have := h3 f hf (by omega) p1
      omega
    · rw [un_n d]; exact h4 f g hf hg p1 p2 q1 (k g hg q2 d)
  · have n : e ≠ f := fun c => by subst c; omega
    have := hL.2 e f he hf n
    omega
  · rcases Nat.lt_or_ge w cu with c | c
    · rcases h7 w c with ⟨f, a1, a2, a3, a4⟩ | a
      · have c : f ≠ e := fun c => by subst c; omega
        exact Or.inl ⟨f, a1, by rw [un_n c]; exact a2, by rw [un_n c]; exact a3, by omega⟩
      · exact Or.inr a
    · rcases Nat.lt_or_ge w y with d | d
      · refine Or.inr ?_
        have hn := hN w c d
        rcases Classical.em (¬ pw w = 0 ∨ ∃ q, w < q ∧ q ≤ w + 7 ∧ (¬ pw q = 0 ∨ q % 32 = 0)) with g | g
        · exact g
        · refine absurd ⟨?_, ?_, fun v v1 v2 => ?_⟩ hn
          · rcases Nat.lt_or_ge 32 (w % 32 + z e) with b | b
            · exact absurd (Or.inr ⟨(w / 32 + 1) * 32, by omega, by omega, Or.inr (by omega)⟩) g
            · exact b
          · have := hF.2.1; omega
          · rcases Classical.em (pw v = 0) with b | b
            · exact b
            · refine absurd ?_ g
              rcases Nat.lt_or_ge w v with i | i
              · exact Or.inr ⟨v, i, by omega, Or.inl b⟩
              · have : v = w := by omega
                subst this; exact Or.inl b
      · exact Or.inl ⟨e, he, by rw [un_s]; exact d, by rw [un_s]; exact hw, by omega⟩
/-- the finished plan -/
def PL (B : Nat) (L P : Nat → Prop) (z ad nd : Nat → Nat) (pw fw : Nat → Int32) (cu : Nat) : Prop :=
  (∀ e, L e → fw (ad e) = nI (nd e) ∧ nd e ≤ ad e) ∧ LY B L z nd ∧ (∀ e, L e → P e → nd e = ad e) ∧ (∀ e, L e → ¬ P e → nd e + z e ≤ cu) ∧ cu ≤ 32 * B ∧
  (∀ w, w < cu → (∃ e, L e ∧ nd e ≤ w ∧ w < nd e + z e) ∨ ¬ pw w = 0 ∨ ∃ q, w < q ∧ q ≤ w + 7 ∧ (¬ pw q = 0 ∨ q % 32 = 0))
theorem PL_of {B : Nat} {L P : Nat → Prop} {z ad nd : Nat → Nat} {pw fw : Nat → Int32} {cu : Nat} (hL : LY B L z ad) (hP : ∀ e, L e → P e → ∀ w, ad e ≤ w → w < ad e + z e → ¬ pw w = 0) (h : PI B L P z ad nd pw fw (32 * B) cu) : PL B L P z ad nd pw fw cu := by
  obtain ⟨h1, h2, h3, h4, h5, h6, h7⟩ := h
  have k : ∀ e, L e → ad e < 32 * B := fun e he => (hL.1 e he).2.2.2
  refine ⟨fun e he => ⟨(h1 e he (k e he)).1, (h1 e he (k e he)).2.1⟩, ⟨fun e he => ?_, fun e f he hf n => ?_⟩, fun e he => h2 e he (k e he), fun e he p => (h3 e he (k e he) p).1, h6, fun w hw => ?_⟩
  · have a := hL.1 e he
    have b := h1 e he (k e he)
    exact ⟨a.1, a.2.1, b.2.2, by omega⟩
  · have a := hL.1 e he
    have b := hL.1 f hf
    have mix : ∀ e f, L e → L f → P e → ¬ P f → nd e + z e ≤ nd f ∨ nd f + z f ≤ nd e := by
      intro e f he hf pe pf
      have a := hL.1 e he
      have b := hL.1 f hf
      rw [h2 e he (k e he) pe]
      exact iv_dj (by omega) (by omega) (fun w w1 w2 q => hP e he pe w w1 w2 ((h3 f hf (k f hf) pf).2 w q.1 q.2))
    rcases Classical.em (P e) with pe | pe
    · rcases Classical.em (P f) with pf | pf
      · rw [h2 e he (k e he) pe, h2 f hf (k f hf) pf]; exact hL.2 e f he hf n
      · exact mix e f he hf pe pf
    · rcases Classical.em (P f) with pf | pf
      · exact (mix f e hf he pf pe).symm
      · have := hL.2 e f he hf n
        rcases Nat.lt_or_ge (ad e) (ad f) with c | c
        · exact Or.inl (h4 e f he hf pe pf c (k f hf))
        · exact Or.inr (h4 f e hf he pf pe (by omega) (k e he))
  · rcases h7 w hw with ⟨e, a1, a2, a3, a4⟩ | a
    · exact Or.inl ⟨e, a1, a2, a3⟩
    · exact Or.inr a
end
section
/-! the walks of planMoves, forwardAll, slideAll -/
def PE (se : Nat → Nat) (S e : Nat) : Prop := ∃ i, i < S ∧ se i = e + 1
theorem pn_obj {B S : Nat} {sr z ad se : Nat → Nat} {e w : Nat} (hL : LY B (LV sr) z ad) (hs : ∀ i, i < S → OKr sr (se i)) (he : LV sr e) (h1 : ad e ≤ w) (h2 : w < ad e + z e) : PN se z ad S w ↔ PE se S e := by
  refine ⟨fun ⟨i, t, a1, a2, a3, a4⟩ => ?_, fun ⟨i, a1, a2⟩ => ⟨i, e, a1, a2, h1, h2⟩⟩
  have ht := hs i a1 t a2
  have := (LY_in (c := w - ad e) (d := w - ad t) hL he ht (by omega) (by omega) (by omega)).1
  subst this
  exact ⟨i, a1, a2⟩
def FM (L : Nat → Prop) (sr ln dn : Nat → Nat) (lk : Nat → Nat → Nat) (dt : Nat → Nat → Int32) (ad nd sc : Nat → Nat) (me : Nat → Int32) : Prop :=
  ∀ e, L e → ∀ c, c < zs ln dn e → me (ad e + c) = if c < sc e then oc (rf nd) (ln e) (dn e) (sr e) (lk e) (dt e) c else oc (rf ad) (ln e) (dn e) (sr e) (lk e) (dt e) c
theorem FM_hd {L : Nat → Prop} {sr ln dn : Nat → Nat} {lk : Nat → Nat → Nat} {dt : Nat → Nat → Int32} {ad nd sc : Nat → Nat} {me : Nat → Int32} {e : Nat} (h : FM L sr ln dn lk dt ad nd sc me) (he : L e) : me (ad e) = nI (8 * ln e + dn e) := by
  have a := h e he 0 (by unfold zs; omega)
  rw [oc_0, oc_0] at a
  by_cases q : 0 < sc e
  · rw [if_pos q] at a; exact a
  · rw [if_neg q] at a; exact a
theorem FM_st {B : Nat} {L : Nat → Prop} {sr ln dn : Nat → Nat} {lk : Nat → Nat → Nat} {dt : Nat → Nat → Int32} {ad nd sc : Nat → Nat} {me : Nat → Int32} {e c : Nat} (hL : LY B L (zs ln dn) ad) (h : FM L sr ln dn lk dt ad nd sc me) (he : L e) (hc : sc e = c) (h2 : 2 ≤ c) (hc2 : c < 2 + ln e) : FM L sr ln dn lk dt ad nd (un sc e (c + 1)) (upd me (ad e + c) (rf nd (lk e c))) := by
  intro f hf d hd
  have cz : c < zs ln dn e := by unfold zs; omega
  by_cases q : f = e
  · subst q; rw [un_s]
    by_cases q2 : d = c
    · subst q2; rw [pk_us, if_pos (by omega), oc_l h2 hc2]
    · rw [pk_un (by omega), h f hf d hd]
      by_cases q3 : d < c
      · rw [if_pos (by omega), if_pos (by omega)]
      · rw [if_neg (by omega), if_neg (by omega)]
  · rw [un_n q, pk_un (fun z => q (LY_in hL hf he hd cz z).1)]
    exact h f hf d hd
section
variable {B R S : Nat} {ma ml oa ol md uw mt vc : Int32} {me st lt rs ss ws mk lm pw ca ms fw vn vq : Nat → Int32} {pr : Int32 → Prop} {pu : SX → Prop} {pp : Int32 → SX → Prop} {sr ln dn : Nat → Nat} {lk : Nat → Nat → Nat} {dt : Nat → Nat → Int32} {ad nd : Nat → Nat} {md' : Nat} {rt wk se : Nat → Nat} {sv : Nat → Int32}
theorem x_planL (hB : B ≤ 8) (G : GO md' sr ln dn lk) (H : HP B sr ln dn lk dt ad me st) (hs : ∀ i, i < S → OKr sr (se i)) (hw : ∀ w, w < 256 → pw w = bb (PN se (zs ln dn) ad S w))
    (hp : ∀ cu nd fw, PL B (LV sr) (PE se S) (zs ln dn) ad nd pw fw cu → pp (nI cu) (nI B, nI (8 * B), nI (32 * B), nI (12 * B), nI R, nI S, ma, ml, oa, ol, md, uw, mt, vc, me, st, lt, rs, ss, ws, mk, lm, pw, ca, ms, fw, vn, vq)) : ∀ n x cu nd fw, 32 * B - x < n → x ≤ 32 * B → PI B (LV sr) (PE se S) (zs ln dn) ad nd pw fw x cu → wX_planMoves_4 pp (nI B) (nI (8 * B)) (nI (32 * B)) (nI (12 * B)) (nI R) (nI S) ma ml oa ol md uw mt vc n (nI cu) (nI x) me st lt rs ss ws mk lm pw ca ms fw vn vq := by
  have hpn : ∀ e, LV sr e → ∀ w, ad e ≤ w → w < ad e + zs ln dn e → (pw w = 0 ↔ ¬ PE se S e) := by
    intro e he w w1 w2
    have := LY_lt H.1 hB he
    rw [hw w (by omega), bb_0, pn_obj H.1 hs he w1 w2]
  intro n
  induction n with
  | zero => intro x cu nd fw h; omega
  | succ n ih =>
    intro x cu nd fw hn hx hI
    refine pk_le (32 * B) x (fun q => ?_) (fun q => And.intro (vp_in_nI (by omega) (by omega)) ?_)
    · have : x = 32 * B := by omega
      subst this
      exact hp cu nd fw (PL_of H.1 (fun e he pe w w1 w2 c => (hpn e he w w1 w2).mp c pe) hI)
    rw [nI_clamp (by omega), H.2.2 x (by omega)]
    by_cases he : ∃ e, LV sr e ∧ ad e = x
    · obtain ⟨e, he, rfl⟩ := he
      have q1 := LY_lt H.1 hB he
      have hpe := hpn e he (ad e) (Nat.le_refl _) (by omega)
      refine br_f (bb_n0.mpr ⟨e, he, rfl⟩) (And.intro (vp_in_nI (by omega) (by omega)) (nm_r (e' := upd fw (ad e) (nI (ad e))) rfl (And.intro (vp_in_nI (by omega) (by omega)) ?_)))
      by_cases pe : PE se S e
      · exact br_f (fun c => hpe.mp c pe) (nm_r (nI_1 _) (ih (ad e + 1) cu (un nd e (ad e)) _ (by omega) (by omega) (PI_pin H.1 hI he rfl pe)))
      · refine br_t (hpe.mpr pe) (g_sizeOf hB G H he (x_firstFit (x := ad e) hB (by omega) (by omega) ⟨(H.1.1 e he).2.2.1, by omega, fun w w1 w2 => (hpn e he w w1 w2).mpr pe⟩ (hI.2.2.2.2.1 e he (Nat.le_refl _)) (fun y y1 y2 yF yN => br_f (nI_pos (by omega)) (pk_le (ad e) y (fun c => ?_) (fun c => And.intro (vp_in_nI (by omega) (by omega)) (nm_r (e' := upd (upd fw (ad e) (nI (ad e))) (ad e) (nI y)) rfl ?_))))))
        · have e1 : y = ad e := by omega
          subst e1
          refine And.intro (vp_in_nI (by omega) (by omega)) (nm_r (e' := nI (ad e + zs ln dn e)) (by rw [nI_clamp (by omega), pk_us, nI_add]) (nm_r (nI_1 _) (ih (ad e + 1) _ (un nd e (ad e)) _ (by omega) (by omega) (PI_put H.1 hI he rfl pe y1 y2 yF yN pk_us (fun j hj => pk_un hj)))))
        · refine And.intro (vp_in_nI (by omega) (by omega)) (nm_r (e' := nI (y + zs ln dn e)) (by rw [nI_clamp (by omega), pk_us, nI_add]) (nm_r (nI_1 _) (ih (ad e + 1) _ (un nd e y) _ (by omega) (by omega) (PI_put H.1 hI he rfl pe y1 y2 yF yN pk_us (fun j hj => by rw [pk_un hj, pk_un hj])))))
    · exact br_t (bb_0.mpr he) (nm_r (nI_1 x) (ih (x + 1) cu nd fw (by omega) (by omega) (PI_skip hI (fun e h1 h2 => he ⟨e, h1, h2⟩))))
theorem x_planMoves (hB : B ≤ 8) (G : GO md' sr ln dn lk) (H : HP B sr ln dn lk dt ad me st) (hs : ∀ i, i < S → OKr sr (se i)) (hw : ∀ w, w < 256 → pw w = bb (PN se (zs ln dn) ad S w))
    (hp : ∀ cu nd fw, PL B (LV sr) (PE se S) (zs ln dn) ad nd pw fw cu → pp (nI cu) (nI B, nI (8 * B), nI (32 * B), nI (12 * B), nI R, nI S, ma, ml, oa, ol, md, uw, mt, vc, me, st, lt, rs, ss, ws, mk, lm, pw, ca, ms, fw, vn, vq)) : wpX_planMoves pp (nI B, nI (8 * B), nI (32 * B), nI (12 * B), nI R, nI S, ma, ml, oa, ol, md, uw, mt, vc, me, st, lt, rs, ss, ws, mk, lm, pw, ca, ms, fw, vn, vq) :=
  Exists.intro 300 (x_planL hB G H hs hw hp 300 0 0 ad fw (by omega) (by omega) ⟨fun e _ q => by omega, fun e _ q => by omega, fun e _ q => by omega, fun e f _ _ _ _ _ q => by omega, fun f _ _ => by omega, by omega, fun w q => by omega⟩)
theorem x_fwd {r : Nat} (hr : OKr sr r) (hL : ∀ e, LV sr e → ad e < 256 ∧ fw (ad e) = nI (nd e)) (hp : pr (rf nd r)) : wpX_forwarded pr (nI B, nI (8 * B), nI (32 * B), nI (12 * B), nI R, nI S, ma, ml, oa, ol, md, uw, mt, vc, me, st, lt, rs, ss, ws, mk, lm, pw, ca, ms, fw, vn, vq) (rf ad r) := by
  cases r with
  | zero => exact br_f nu_nn1 hp
  | succ t =>
    obtain ⟨a1, a2⟩ := hL t (hr t rfl)
    refine br_t (nI_pos' (by omega)) (And.intro (vp_in_nI a1 (by omega)) ?_)
    show pr (fw (nI (ad t)).toNatClampNeg)
    rw [nI_clamp (by omega), a2]; exact hp
theorem x_fwd88 {J : Int32 → (Nat → Int32) → (Nat → Int32) → (Nat → Int32) → (Nat → Int32) → (Nat → Int32) → (Nat → Int32) → (Nat → Int32) → (Nat → Int32) → (Nat → Int32) → (Nat → Int32) → (Nat → Int32) → (Nat → Int32) → (Nat → Int32) → (Nat → Int32) → Prop} {e : Nat} (hB : B ≤ 8) (G : GO md' sr ln dn lk) (hY : LY B (LV sr) (zs ln dn) ad) (hL : ∀ e, LV sr e → ad e < 256 ∧ fw (ad e) = nI (nd e)) (he : LV sr e)
    (sc0 : Nat → Nat) (hJ2 : ∀ me' sc', FM (LV sr) sr ln dn lk dt ad nd sc' me' → sc' e = 2 + ln e → (∀ f, f ≠ e → sc' f = sc0 f) → J (nI (ad e + 1)) me' st lt rs ss ws mk lm pw ca ms fw vn vq) : ∀ n i me sc, ln e - i < n → i ≤ ln e → FM (LV sr) sr ln dn lk dt ad nd sc me → sc e = 2 + i → (∀ f, f ≠ e → sc f = sc0 f) → wX_forwardAll_88 pu J (nI (ad e)) (nI (ln e)) (nI B) (nI (8 * B)) (nI (32 * B)) (nI (12 * B)) (nI R) (nI S) ma ml oa ol md uw mt vc n (nI i) me st lt rs ss ws mk lm pw ca ms fw vn vq := by
  have q1 := LY_lt hY hB he
  have q2 := G.1 e he
  have q3 : zs ln dn e = 2 + ln e + dn e := rfl
  intro n
  induction n with
  | zero => intro i me sc h; omega
  | succ n ih =>
    intro i me sc h1 h2 h3 h4 h5
    refine pk_le (ln e) i (fun q => nm_r (nI_1 _) (hJ2 me sc h3 (by omega) h5)) (fun q => ?_)
    have i1 : nI (ad e) + 2 + nI i = nI (ad e + (2 + i)) := by rw [nu_a2, nI_add]; exact congrArg nI (by omega)
    rw [i1]
    refine And.intro (vp_in_nI (by omega) (by omega)) (nm_r (e' := rf ad (lk e (2 + i))) ?_ (x_fwd (G.2.2 e he (2 + i) (by omega) (by omega)) hL (And.intro (vp_in_nI (by omega) (by omega)) (nm_r (nu_u (by omega) rfl) (nm_r (nI_1 i) (ih (i + 1) _ (un sc e (2 + i + 1)) (by omega) (by omega) (FM_st hY h3 he h4 (by omega) (by omega)) (by rw [un_s]; omega) (fun f hf => by rw [un_n hf]; exact h5 f hf)))))))
    rw [nI_clamp (by omega), h3 e he (2 + i) (by omega), if_neg (by omega), oc_l (by omega) (by omega)]
theorem x_fwd63 (hB : B ≤ 8) (G : GO md' sr ln dn lk) (hY : LY B (LV sr) (zs ln dn) ad) (hT : XT (LV sr) ad st) (hL : ∀ e, LV sr e → ad e < 256 ∧ fw (ad e) = nI (nd e))
    (hp : ∀ me', (∀ e, LV sr e → ∀ c, c < zs ln dn e → me' (ad e + c) = oc (rf nd) (ln e) (dn e) (sr e) (lk e) (dt e) c) → pu (nI B, nI (8 * B), nI (32 * B), nI (12 * B), nI R, nI S, ma, ml, oa, ol, md, uw, mt, vc, me', st, lt, rs, ss, ws, mk, lm, pw, ca, ms, fw, vn, vq)) : ∀ n x me sc, 32 * B - x < n → x ≤ 32 * B → FM (LV sr) sr ln dn lk dt ad nd sc me → (∀ e, LV sr e → (ad e < x → sc e = 2 + ln e) ∧ (x ≤ ad e → sc e = 2)) → wX_forwardAll_63 pu (nI B) (nI (8 * B)) (nI (32 * B)) (nI (12 * B)) (nI R) (nI S) ma ml oa ol md uw mt vc n (nI x) me st lt rs ss ws mk lm pw ca ms fw vn vq := by
  intro n
  induction n with
  | zero => intro x me sc h; omega
  | succ n ih =>
    intro x me sc h1 h2 h3 h4
    refine pk_le (32 * B) x (fun q => hp me (fun e he c hc => ?_)) (fun q => And.intro (vp_in_nI (by omega) (by omega)) ?_)
    · have a := (h4 e he).1 (by have := (hY.1 e he).2.2.2; omega)
      rw [h3 e he c hc, a]
      by_cases g : c < 2 + ln e
      · rw [if_pos g]
      · rw [if_neg g, oc_d (by omega), oc_d (by omega)]
    rw [nI_clamp (by omega), hT x (by omega)]
    by_cases he : ∃ e, LV sr e ∧ ad e = x
    · obtain ⟨e, he, rfl⟩ := he
      have q2 := G.1 e he
      have q5 := LY_lt hY hB he
      have key : ∀ me' sc', FM (LV sr) sr ln dn lk dt ad nd sc' me' → sc' e = 2 + ln e → (∀ f, f ≠ e → sc' f = sc f) → wX_forwardAll_63 pu (nI B) (nI (8 * B)) (nI (32 * B)) (nI (12 * B)) (nI R) (nI S) ma ml oa ol md uw mt vc n (nI (ad e + 1)) me' st lt rs ss ws mk lm pw ca ms fw vn vq := by
        intro me' sc' g1 g2 g3
        refine ih (ad e + 1) me' sc' (by omega) (by omega) g1 (fun f hf => ?_)
        by_cases g : f = e
        · subst g; exact ⟨fun _ => g2, fun _ => by omega⟩
        · rw [g3 f g]
          have n1 : ad f ≠ ad e := fun c => g (LY_in (c := 0) (d := 0) hY hf he (by have := (hY.1 f hf).1; omega) (by omega) c).1
          exact ⟨fun c => (h4 f hf).1 (by omega), fun c => (h4 f hf).2 (by omega)⟩
      refine br_f (bb_n0.mpr ⟨e, he, rfl⟩) (x_linksOf (FM_hd h3 he) (by omega) (by omega) (by omega) (Exists.intro 9 ?_))
      exact x_fwd88 (sc0 := sc) hB G hY hL he key 9 0 me sc (by omega) (by omega) h3 (by rw [(h4 e he).2 (Nat.le_refl _)]) (fun _ _ => rfl)
    · refine br_t (bb_0.mpr he) (nm_r (nI_1 x) (ih (x + 1) me sc (by omega) (by omega) h3 (fun e h => ?_)))
      have n1 : ad e ≠ x := fun c => he ⟨e, h, c⟩
      exact ⟨fun c => (h4 e h).1 (by omega), fun c => (h4 e h).2 (by omega)⟩
theorem x_fwd34 (hB : B ≤ 8) (hL : ∀ e, LV sr e → ad e < 256 ∧ fw (ad e) = nI (nd e)) (ho : ∀ i, i < 4 → OKr sr (wk i)) (hp : ∀ ws', (∀ i, i < 4 → ws' i = rf nd (wk i)) → ∃ n63 : Nat, wX_forwardAll_63 pu (nI B) (nI (8 * B)) (nI (32 * B)) (nI (12 * B)) (nI R) (nI S) ma ml oa ol md uw mt vc n63 0 me st lt rs ss ws' mk lm pw ca ms fw vn vq) : ∀ n x ws, 4 - x < n → x ≤ 4 → (∀ i, i < 4 → (i < x → ws i = rf nd (wk i)) ∧ (x ≤ i → ws i = rf ad (wk i))) → wX_forwardAll_34 pu (nI B) (nI (8 * B)) (nI (32 * B)) (nI (12 * B)) (nI R) (nI S) ma ml oa ol md uw mt vc n (nI x) me st lt rs ss ws mk lm pw ca ms fw vn vq := by
  intro n
  induction n with
  | zero => intro x ws h; omega
  | succ n ih =>
    intro x ws h1 h2 h3
    refine pk_le 4 x (fun q => hp ws (fun i hi => (h3 i hi).1 (by omega))) (fun q => And.intro (vp_in_nI (by omega) (by omega)) ?_)
    rw [nI_clamp (by omega), (h3 x q).2 (Nat.le_refl _)]
    refine x_fwd (ho x q) hL (And.intro (vp_in_nI (by omega) (by omega)) (nm_e (nm_r (nI_1 x) (ih (x + 1) _ (by omega) (by omega) (fun i hi => ?_)))))
    by_cases g : i = x
    · subst g; rw [pk_us]; exact ⟨fun _ => rfl, fun _ => by omega⟩
    · rw [pk_un g]; exact ⟨fun c => (h3 i hi).1 (by omega), fun c => (h3 i hi).2 (by omega)⟩
theorem x_fwd2 (hB : B ≤ 8) (hR : R ≤ 12) (hL : ∀ e, LV sr e → ad e < 256 ∧ fw (ad e) = nI (nd e)) (ho : ∀ i, i < 12 → OKr sr (rt i)) (hz : ∀ i, R ≤ i → rt i = 0) (hp : ∀ rs', (∀ i, i < 12 → rs' i = rf nd (rt i)) → ∃ n34 : Nat, wX_forwardAll_34 pu (nI B) (nI (8 * B)) (nI (32 * B)) (nI (12 * B)) (nI R) (nI S) ma ml oa ol md uw mt vc n34 0 me st lt rs' ss ws mk lm pw ca ms fw vn vq) : ∀ n x rs, R - x < n → x ≤ R → (∀ i, i < 12 → (i < x → rs i = rf nd (rt i)) ∧ (x ≤ i → rs i = rf ad (rt i))) → wX_forwardAll_2 pu (nI B) (nI (8 * B)) (nI (32 * B)) (nI (12 * B)) (nI R) (nI S) ma ml oa ol md uw mt vc n (nI x) me st lt rs ss ws mk lm pw ca ms fw vn vq := by
  intro n
  induction n with
  | zero => intro x rs h; omega
  | succ n ih =>
    intro x rs h1 h2 h3
    refine pk_le R x (fun q => hp rs (fun i hi => ?_)) (fun q => And.intro (vp_in_nI (by omega) (by omega)) ?_)
    · rcases Nat.lt_or_ge i x with c | c
      · exact (h3 i hi).1 c
      · rw [(h3 i hi).2 c, hz i (by omega)]; rfl
    rw [nI_clamp (by omega), (h3 x (by omega)).2 (Nat.le_refl _)]
    refine x_fwd (ho x (by omega)) hL (And.intro (vp_in_nI (by omega) (by omega)) (nm_e (nm_r (nI_1 x) (ih (x + 1) _ (by omega) (by omega) (fun i hi => ?_)))))
    by_cases g : i = x
    · subst g; rw [pk_us]; exact ⟨fun _ => rfl, fun _ => by omega⟩
    · rw [pk_un g]; exact ⟨fun c => (h3 i hi).1 (by omega), fun c => (h3 i hi).2 (by omega)⟩
theorem x_forwardAll (hB : B ≤ 8) (hR : R ≤ 12) (G : GO md' sr ln dn lk) (H : HP B sr ln dn lk dt ad me st) (hf : ∀ e, LV sr e → fw (ad e) = nI (nd e)) (hG : GR R S sr ln dn rt wk se sv) (hS : SL rt wk se sv ad rs ws ss)
    (hp : ∀ rs' ws' me', (∀ i, i < 12 → rs' i = rf nd (rt i)) → (∀ i, i < 4 → ws' i = rf nd (wk i)) → (∀ e, LV sr e → ∀ c, c < zs ln dn e → me' (ad e + c) = oc (rf nd) (ln e) (dn e) (sr e) (lk e) (dt e) c) → pu (nI B, nI (8 * B), nI (32 * B), nI (12 * B), nI R, nI S, ma, ml, oa, ol, md, uw, mt, vc, me', st, lt, rs', ss, ws', mk, lm, pw, ca, ms, fw, vn, vq)) : wpX_forwardAll pu (nI B, nI (8 * B), nI (32 * B), nI (12 * B), nI R, nI S, ma, ml, oa, ol, md, uw, mt, vc, me, st, lt, rs, ss, ws, mk, lm, pw, ca, ms, fw, vn, vq) := by
  have hL : ∀ e, LV sr e → ad e < 256 ∧ fw (ad e) = nI (nd e) := fun e he => ⟨by have := LY_lt H.1 hB he; omega, hf e he⟩
  refine Exists.intro 13 (x_fwd2 hB hR hL hG.1 hG.2.1 (fun rs' h1 => Exists.intro 5 (x_fwd34 hB hL hG.2.2.1 (fun ws' h2 => Exists.intro 300 (x_fwd63 hB G H.1 H.2.2 hL (fun me' h3 => hp rs' ws' me' h1 h2 h3) 300 0 me (fun _ => 2) (by omega) (by omega) (fun e he c hc => ?_) (fun e he => ⟨fun c => by omega, fun _ => rfl⟩))) 5 0 ws (by omega) (by omega) (fun i hi => ⟨fun c => by omega, fun _ => hS.2.1 i hi⟩))) 13 0 rs (by omega) (by omega) (fun i hi => ⟨fun c => by omega, fun _ => hS.1 i hi⟩))
  rw [H.2.1 e he c hc]
  by_cases q : c < 2
  · rw [if_pos q]
    exact oc_c (fun _ _ => by omega) (fun _ => rfl)
  · rw [if_neg q]
end
end
section
/-! sliding; cur: where an object is while the slide has reached x -/
def cur (ad nd : Nat → Nat) (x e : Nat) : Nat := if ad e < x then nd e else ad e
theorem cur_l {ad nd : Nat → Nat} {x e : Nat} (h : ad e < x) : cur ad nd x e = nd e := if_pos h
theorem cur_r {ad nd : Nat → Nat} {x e : Nat} (h : x ≤ ad e) : cur ad nd x e = ad e := if_neg (by omega)
theorem cur_LY {B : Nat} {L : Nat → Prop} {z ad nd : Nat → Nat} (hL : LY B L z ad) (hN : LY B L z nd) (hle : ∀ e, L e → nd e ≤ ad e) (x : Nat) : LY B L z (cur ad nd x) := by
  refine ⟨fun e he => ?_, fun e f he hf n => ?_⟩
  · rcases Nat.lt_or_ge (ad e) x with c | c
    · rw [cur_l c]; exact hN.1 e he
    · rw [cur_r c]; exact hL.1 e he
  · have a1 := hL.2 e f he hf n
    have a2 := hN.2 e f he hf n
    have a3 := hle e he
    have a4 := hle f hf
    rcases Nat.lt_or_ge (ad e) x with c | c
    · rw [cur_l c]
      rcases Nat.lt_or_ge (ad f) x with d | d
      · rw [cur_l d]; exact a2
      · rw [cur_r d]; omega
    · rw [cur_r c]
      rcases Nat.lt_or_ge (ad f) x with d | d
      · rw [cur_l d]; omega
      · rw [cur_r d]; exact a1
theorem XT_c {L : Nat → Prop} {ad ad' : Nat → Nat} {st : Nat → Int32} (h : XT L ad st) (e : ∀ e, L e → ad' e = ad e) : XT L ad' st := by
  intro w hw
  rw [h w hw]
  exact bb_c ⟨fun ⟨f, a1, a2⟩ => ⟨f, a1, by rw [e f a1]; exact a2⟩, fun ⟨f, a1, a2⟩ => ⟨f, a1, by rw [← e f a1]; exact a2⟩⟩
/-- contents at the places ad, references held as rr says -/
def XC (L : Nat → Prop) (sr ln dn : Nat → Nat) (lk : Nat → Nat → Nat) (dt : Nat → Nat → Int32) (rr : Nat → Int32) (ad : Nat → Nat) (me : Nat → Int32) : Prop :=
  ∀ e, L e → ∀ c, c < zs ln dn e → me (ad e + c) = oc rr (ln e) (dn e) (sr e) (lk e) (dt e) c
theorem XC_c {L : Nat → Prop} {sr ln dn : Nat → Nat} {lk : Nat → Nat → Nat} {dt : Nat → Nat → Int32} {rr : Nat → Int32} {ad ad' : Nat → Nat} {me : Nat → Int32} (h : XC L sr ln dn lk dt rr ad me) (e : ∀ e, L e → ad' e = ad e) : XC L sr ln dn lk dt rr ad' me := fun f hf c hc => by rw [e f hf]; exact h f hf c hc
theorem XC_mv {B : Nat} {L : Nat → Prop} {sr ln dn : Nat → Nat} {lk : Nat → Nat → Nat} {dt : Nat → Nat → Int32} {rr : Nat → Int32} {ad nd : Nat → Nat} {me : Nat → Int32} {e : Nat} (hL : LY B L (zs ln dn) ad) (hN : LY B L (zs ln dn) nd) (hle : ∀ e, L e → nd e ≤ ad e) (he : L e) (h : XC L sr ln dn lk dt rr (cur ad nd (ad e)) me) : XC L sr ln dn lk dt rr (cur ad nd (ad e + 1)) (mv me (ad e) (nd e) (zs ln dn e)) := by
  intro f hf c hc
  have g1 := h f hf c hc
  by_cases q : f = e
  · subst q
    rw [cur_r (Nat.le_refl _)] at g1
    rw [cur_l (by omega), mv_in (by omega), ← g1]
    exact congrArg me (by omega)
  · have a1 := hL.2 f e hf he q
    have a2 := hN.2 f e hf he q
    have a3 := hle e he
    have a5 := (hL.1 f hf).1
    have a6 := (hL.1 e he).1
    rcases Nat.lt_or_ge (ad f) (ad e) with d | d
    · rw [cur_l d] at g1
      rw [cur_l (by omega), mv_out (by omega)]; exact g1
    · rw [cur_r d] at g1
      rw [cur_r (by omega), mv_out (by omega)]; exact g1
section
variable {B R S : Nat} {ma ml oa ol md uw mt vc : Int32} {me st lt rs ss ws mk lm pw ca ms fw vn vq : Nat → Int32} {pr : Int32 → Prop} {pu : SX → Prop} {pp : Int32 → SX → Prop} {sr ln dn : Nat → Nat} {lk : Nat → Nat → Nat} {dt : Nat → Nat → Int32} {ad nd : Nat → Nat} {md' : Nat} {rt wk se : Nat → Nat} {sv : Nat → Int32}
theorem x_slideL (hB : B ≤ 8) (G : GO md' sr ln dn lk) (hL : LY B (LV sr) (zs ln dn) ad) (hN : LY B (LV sr) (zs ln dn) nd) (hle : ∀ e, LV sr e → nd e ≤ ad e) (hf : ∀ e, LV sr e → fw (ad e) = nI (nd e))
    (hp : ∀ me' st', XC (LV sr) sr ln dn lk dt (rf nd) nd me' → XT (LV sr) nd st' → pu (nI B, nI (8 * B), nI (32 * B), nI (12 * B), nI R, nI S, ma, ml, oa, ol, md, uw, mt, vc, me', st', lt, rs, ss, ws, mk, lm, pw, ca, ms, fw, vn, vq)) : ∀ n x me st, 32 * B - x < n → x ≤ 32 * B → XC (LV sr) sr ln dn lk dt (rf nd) (cur ad nd x) me → XT (LV sr) (cur ad nd x) st → wX_slideAll_2 pu n (nI x) (nI B) (nI (8 * B)) (nI (32 * B)) (nI (12 * B)) (nI R) (nI S) ma ml oa ol md uw mt vc me st lt rs ss ws mk lm pw ca ms fw vn vq := by
  intro n
  induction n with
  | zero => intro x me st h; omega
  | succ n ih =>
    intro x me st h1 h2 h3 h4
    refine pk_le (32 * B) x (fun q => ?_) (fun q => And.intro (vp_in_nI (by omega) (by omega)) ?_)
    · have k : ∀ e, LV sr e → nd e = cur ad nd x e := fun e he => (cur_l (by have := (hL.1 e he).2.2.2; omega)).symm
      exact hp me st (XC_c h3 k) (XT_c h4 k)
    rw [nI_clamp (by omega), h4 x (by omega)]
    by_cases he : ∃ e, LV sr e ∧ cur ad nd x e = x
    · obtain ⟨e, he, hx⟩ := he
      have q1 := hle e he
      have q2 := LY_lt hL hB he
      have q3 := LY_lt hN hB he
      have q4 := G.1 e he
      have ex : ad e = x := by
        rcases Nat.lt_or_ge (ad e) x with c | c
        · rw [cur_l c] at hx; omega
        · rw [cur_r c] at hx; exact hx
      subst ex
      have uq : ∀ f, LV sr f → f ≠ e → ad f ≠ ad e := fun f hf' g c => g (LY_in (c := 0) (d := 0) hL hf' he (by have := (hL.1 f hf').1; omega) (by omega) c).1
      have nx : ∀ f, LV sr f → f ≠ e → cur ad nd (ad e + 1) f = cur ad nd (ad e) f := by
        intro f hf' g
        have := uq f hf' g
        rcases Nat.lt_or_ge (ad f) (ad e) with c | c
        · rw [cur_l c, cur_l (by omega)]
        · rw [cur_r c, cur_r (by omega)]
      refine br_f (bb_n0.mpr ⟨e, he, hx⟩) (And.intro (vp_in_nI (by omega) (by omega)) ?_)
      rw [hf e he]
      refine pk_eq (nd e) (ad e) (fun c => ?_) (fun c => ?_)
      · have k : ∀ f, LV sr f → cur ad nd (ad e + 1) f = cur ad nd (ad e) f := by
          intro f hf'
          by_cases g : f = e
          · subst g; rw [cur_l (by omega), cur_r (Nat.le_refl _), c]
          · exact nx f hf' g
        exact nm_r (nI_1 _) (ih (ad e + 1) me st (by omega) (by omega) (XC_c h3 k) (XT_c h4 k))
      · have hd : me (ad e) = nI (8 * ln e + dn e) := by
          have := h3 e he 0 (by omega)
          rw [cur_r (Nat.le_refl _), oc_0] at this
          exact this
        refine x_sizeOf hd (by omega) (by omega) (by omega) (And.intro (vp_in_nI (by omega) (by omega)) (x_moveObject (z := zs ln dn e) (by omega) (by omega) (by omega) (Or.inl q1) (nm_r (nI_1 _) (ih (ad e + 1) _ _ (by omega) (by omega) (XC_mv hL hN hle he h3) ?_))))
        have m := XT_move (x := nd e) (cur_LY hL hN hle (ad e)) h4 he (fun f hf' => ?_)
        · rw [cur_r (Nat.le_refl _)] at m
          refine XT_c m (fun f hf' => ?_)
          by_cases g : f = e
          · subst g; rw [un_s, cur_l (by omega)]
          · rw [un_n g]; exact nx f hf' g
        · by_cases g : f = e
          · subst g; rw [cur_r (Nat.le_refl _)]; exact fun z => c z.symm
          · have a2 := hN.2 f e hf' he g
            have a5 := (hL.1 f hf').1
            have a1 := hL.2 f e hf' he g
            rcases Nat.lt_or_ge (ad f) (ad e) with d | d
            · rw [cur_l d]; omega
            · rw [cur_r d]; omega
    · refine br_t (bb_0.mpr he) (nm_r (nI_1 x) (ih (x + 1) me st (by omega) (by omega) (XC_c h3 ?_) (XT_c h4 ?_)))
      all_goals
        intro f hf'
        have : ad f ≠ x := fun c => he ⟨f, hf', by rw [cur_r (by omega)]; exact c⟩
        rcases Nat.lt_or_ge (ad f) x with c | c
        · rw [cur_l c, cur_l (by omega)]
        · rw [cur_r c, cur_r (by omega)]
theorem x_slideAll (hB : B ≤ 8) (G : GO md' sr ln dn lk) (hL : LY B (LV sr) (zs ln dn) ad) (hN : LY B (LV sr) (zs ln dn) nd) (hle : ∀ e, LV sr e → nd e ≤ ad e) (hf : ∀ e, LV sr e → fw (ad e) = nI (nd e)) (hM : XC (LV sr) sr ln dn lk dt (rf nd) ad me) (hT : XT (LV sr) ad st)
    (hp : ∀ me' st', XC (LV sr) sr ln dn lk dt (rf nd) nd me' → XT (LV sr) nd st' → pu (nI B, nI (8 * B), nI (32 * B), nI (12 * B), nI R, nI S, ma, ml, oa, ol, md, uw, mt, vc, me', st', lt, rs, ss, ws, mk, lm, pw, ca, ms, fw, vn, vq)) : wpX_slideAll pu (nI B, nI (8 * B), nI (32 * B), nI (12 * B), nI R, nI S, ma, ml, oa, ol, md, uw, mt, vc, me, st, lt, rs, ss, ws, mk, lm, pw, ca, ms, fw, vn, vq) := by
  have k : ∀ e, LV sr e → cur ad nd 0 e = ad e := fun e _ => cur_r (by omega)
  exact Exists.intro 300 (x_slideL hB G hL hN hle hf hp 300 0 me st (by omega) (by omega) (XC_c hM k) (XT_c hT k))
/-! the rest of the gap at the cursor -/
theorem x_open43 {cu li : Nat} (h1 : cu ≤ li) (h2 : li ≤ 256) (hp : li = cu → pu (nI B, nI (8 * B), nI (32 * B), nI (12 * B), nI R, nI S, ma, ml, oa, ol, md, uw, mt, vc, me, st, lt, rs, ss, ws, mk, lm, pw, ca, ms, fw, vn, vq)) (hq : cu < li → pu (nI B, nI (8 * B), nI (32 * B), nI (12 * B), nI R, nI S, nI cu, nI li, oa, ol, md, uw, mt, vc, me, st, fg lt (cu / 4) ((li + 3) / 4) (fun _ => 1), rs, ss, ws, mk, lm, pw, ca, ms, fw, vn, vq)) : wX_openMainAt_43 pu (nI cu) (nI li) (nI B) (nI (8 * B)) (nI (32 * B)) (nI (12 * B)) (nI R) (nI S) ma ml oa ol md uw mt vc me st lt rs ss ws mk lm pw ca ms fw vn vq := by
  refine pk_le li cu (fun q => hp (by omega)) (fun q => nm_r (nu_s2 (by omega)) (nm_r (e' := nI ((li + 3) / 4)) (by rw [nu_3, nu_s2 (by omega)]) (x_claim (by omega) (by omega) (hq q))))
def OM (B : Nat) (pw : Nat → Int32) (cu li : Nat) : Prop :=
  cu ≤ li ∧ li ≤ 32 * B ∧ (∀ w, cu ≤ w → w < li → pw w = 0) ∧ (∀ w, cu < w → w < li → ¬ w % 32 = 0) ∧ (li = 32 * B ∨ ¬ pw li = 0 ∨ (cu < li ∧ li % 32 = 0))
theorem x_openL {cu : Nat} (hB : B ≤ 8) (hc : cu ≤ 32 * B) (hp : ∀ li, OM B pw cu li → li = cu → pu (nI B, nI (8 * B), nI (32 * B), nI (12 * B), nI R, nI S, ma, ml, oa, ol, md, uw, mt, vc, me, st, lt, rs, ss, ws, mk, lm, pw, ca, ms, fw, vn, vq)) (hq : ∀ li, OM B pw cu li → cu < li → pu (nI B, nI (8 * B), nI (32 * B), nI (12 * B), nI R, nI S, nI cu, nI li, oa, ol, md, uw, mt, vc, me, st, fg lt (cu / 4) ((li + 3) / 4) (fun _ => 1), rs, ss, ws, mk, lm, pw, ca, ms, fw, vn, vq)) : ∀ n w, 32 * B - w < n → cu ≤ w → w ≤ 32 * B → (∀ v, cu ≤ v → v < w → pw v = 0) → (∀ v, cu < v → v < w → ¬ v % 32 = 0) → wX_openMainAt_4 pu (nI cu) (nI B) (nI (8 * B)) (nI (32 * B)) (nI (12 * B)) (nI R) (nI S) ma ml oa ol md uw mt vc me st lt rs ss ws mk lm pw ca ms fw vn vq n (nI w) (nI w) := by
  intro n
  induction n with
  | zero => intro w h; omega
  | succ n ih =>
    intro w h1 h2 h3 h4 h5
    have ex : (w = 32 * B ∨ ¬ pw w = 0 ∨ (cu < w ∧ w % 32 = 0)) → wX_openMainAt_43 pu (nI cu) (nI w) (nI B) (nI (8 * B)) (nI (32 * B)) (nI (12 * B)) (nI R) (nI S) ma ml oa ol md uw mt vc me st lt rs ss ws mk lm pw ca ms fw vn vq := fun g =>
      x_open43 h2 (by omega) (hp w ⟨h2, h3, h4, h5, g⟩) (hq w ⟨h2, h3, h4, h5, g⟩)
    have up : pw w = 0 → ∀ v, cu ≤ v → v < w + 1 → pw v = 0 := fun g v v1 v2 => by
      rcases Nat.lt_or_ge v w with c | c
      · exact h4 v v1 c
      · have : v = w := by omega
        subst this; exact g
    refine pk_le (32 * B) w (fun q => ex (Or.inl (by omega))) (fun q => And.intro (vp_in_nI (by omega) (by omega)) ?_)
    rw [nI_clamp (by omega)]
    refine br_c (fun g => pk_eq w cu (fun c => nm_r (nI_1 w) (nm_r (nI_1 w) (ih (w + 1) (by omega) (by omega) (by omega) (up g) (fun v v1 v2 => by omega)))) (fun c => ?_)) (fun g => ex (Or.inr (Or.inl g)))
    rw [nu_a31 (by omega)]
    refine pk_eq (w % 32) 0 (fun d => ex (Or.inr (Or.inr ⟨by omega, d⟩))) (fun d => nm_r (nI_1 w) (nm_r (nI_1 w) (ih (w + 1) (by omega) (by omega) (by omega) (up g) (fun v v1 v2 => ?_))))
    rcases Nat.lt_or_ge v w with y | y
    · exact h5 v v1 y
    · have : v = w := by omega
      subst this; exact d
theorem x_openMain {cu : Nat} (hB : B ≤ 8) (hc : cu ≤ 32 * B) (hp : ∀ li, OM B pw cu li → li = cu → pu (nI B, nI (8 * B), nI (32 * B), nI (12 * B), nI R, nI S, ma, ml, oa, ol, md, uw, mt, vc, me, st, lt, rs, ss, ws, mk, lm, pw, ca, ms, fw, vn, vq)) (hq : ∀ li, OM B pw cu li → cu < li → pu (nI B, nI (8 * B), nI (32 * B), nI (12 * B), nI R, nI S, nI cu, nI li, oa, ol, md, uw, mt, vc, me, st, fg lt (cu / 4) ((li + 3) / 4) (fun _ => 1), rs, ss, ws, mk, lm, pw, ca, ms, fw, vn, vq)) : wpX_openMainAt pu (nI B, nI (8 * B), nI (32 * B), nI (12 * B), nI R, nI S, ma, ml, oa, ol, md, uw, mt, vc, me, st, lt, rs, ss, ws, mk, lm, pw, ca, ms, fw, vn, vq) (nI cu) :=
  Exists.intro 300 (x_openL hB hc hp hq 300 cu (by omega) (by omega) hc (fun v _ _ => by omega) (fun v _ _ => by omega))
/-- the lines that objects touch -/
def TL (L : Nat → Prop) (z nd : Nat → Nat) (x l : Nat) : Prop := ∃ e, L e ∧ nd e < x ∧ nd e / 4 ≤ l ∧ l ≤ (nd e + z e - 1) / 4
theorem x_comp27 {cu : Nat} (hB : B ≤ 8) (hc : cu ≤ 32 * B) (G : GO md' sr ln dn lk) (hN : LY B (LV sr) (zs ln dn) nd) (hM : XC (LV sr) sr ln dn lk dt (rf nd) nd me) (hT : XT (LV sr) nd st)
    (hp : ∀ lm' li, (∀ l, l < 64 → lm' l = bb (TL (LV sr) (zs ln dn) nd (32 * B) l)) → OM B pw cu li → li = cu → pu (nI B, nI (8 * B), nI (32 * B), nI (12 * B), nI R, nI S, ma, ml, oa, ol, md, uw, mt, vc, me, st, fg lt 0 64 lm', rs, ss, ws, mk, lm', pw, ca, ms, fw, vn, vq))
    (hq : ∀ lm' li, (∀ l, l < 64 → lm' l = bb (TL (LV sr) (zs ln dn) nd (32 * B) l)) → OM B pw cu li → cu < li → pu (nI B, nI (8 * B), nI (32 * B), nI (12 * B), nI R, nI S, nI cu, nI li, oa, ol, md, uw, mt, vc, me, st, fg (fg lt 0 64 lm') (cu / 4) ((li + 3) / 4) (fun _ => 1), rs, ss, ws, mk, lm', pw, ca, ms, fw, vn, vq)) : ∀ n x lm, 32 * B - x < n → x ≤ 32 * B → (∀ l, l < 64 → lm l = bb (TL (LV sr) (zs ln dn) nd x l)) → wX_compact_27 pu (nI cu) n (nI x) (nI B) (nI (8 * B)) (nI (32 * B)) (nI (12 * B)) (nI R) (nI S) ma ml oa ol md uw mt vc me st lt rs ss ws mk lm pw ca ms fw vn vq := by
  intro n
  induction n with
  | zero => intro x lm h; omega
  | succ n ih =>
    intro x lm h1 h2 h3
    refine pk_le (32 * B) x (fun q => ?_) (fun q => And.intro (vp_in_nI (by omega) (by omega)) ?_)
    · have : x = 32 * B := by omega
      subst this
      exact x_adopt (fun l hl => by rw [h3 l hl]; exact bb_v _) (x_openMain hB hc (fun li o1 o2 => hp lm li h3 o1 o2) (fun li o1 o2 => hq lm li h3 o1 o2))
    rw [nI_clamp (by omega), hT x (by omega)]
    by_cases he : ∃ e, LV sr e ∧ nd e = x
    · obtain ⟨e, he, rfl⟩ := he
      have q3 := LY_lt hN hB he
      have q4 := G.1 e he
      have q5 : zs ln dn e = 2 + ln e + dn e := rfl
      have hd : me (nd e) = nI (8 * ln e + dn e) := by
        have := hM e he 0 (by omega)
        rw [oc_0] at this
        exact this
      refine br_f (bb_n0.mpr ⟨e, he, rfl⟩) (x_markLines hd (by omega) (by omega) (by omega) (nm_r (nI_1 _) (ih (nd e + 1) _ (by omega) (by omega) (fun l hl => ?_))))
      by_cases g : nd e / 4 ≤ l ∧ l < (nd e + (2 + ln e + dn e) - 1) / 4 + 1
      · rw [fg_in g]
        exact (bb_t ⟨e, he, by omega, g.1, by show l ≤ (nd e + (2 + ln e + dn e) - 1) / 4; omega⟩).symm
      · rw [fg_out g, h3 l hl]
        refine bb_c ⟨fun ⟨f, a1, a2, a3⟩ => ⟨f, a1, by omega, a3⟩, fun ⟨f, a1, a2, a3, a4⟩ => ⟨f, a1, ?_, a3, a4⟩⟩
        rcases Nat.lt_or_ge (nd f) (nd e) with c | c
        · exact c
        · have c2 : f = e := (LY_in (c := 0) (d := 0) hN a1 he (by have := (hN.1 f a1).1; omega) (by omega) (by omega)).1
          subst c2
          have a5 : l ≤ (nd f + (2 + ln f + dn f) - 1) / 4 := a4
          exact absurd ⟨a3, by omega⟩ g
    · refine br_t (bb_0.mpr he) (nm_r (nI_1 x) (ih (x + 1) lm (by omega) (by omega) (fun l hl => ?_)))
      rw [h3 l hl]
      refine bb_c ⟨fun ⟨f, a1, a2, a3⟩ => ⟨f, a1, by omega, a3⟩, fun ⟨f, a1, a2, a3⟩ => ⟨f, a1, ?_, a3⟩⟩
      have : nd f ≠ x := fun c => he ⟨f, a1, c⟩
      omega
end
end
section
/-! the counting: a compacted heap within its capacity has room -/
theorem rm_near {B S : Nat} {sr z ad nd se : Nat → Nat} {pw fw lt lm ca : Nat → Int32} {cu li s : Nat} (hB : B ≤ 8) (hN : LY B (LV sr) z nd) (hP : PL B (LV sr) (PE se S) z ad nd pw fw cu) (hpw : ∀ w, w < 256 → pw w = bb (PN se z ad S w)) (hs : ∀ i, i < S → OKr sr (se i))
    (hO : OM B pw cu li) (hlm : ∀ l, l < 64 → lm l = bb (TL (LV sr) z nd (32 * B) l)) (hlt : ∀ j, j < 64 → ¬ (cu / 4 ≤ j ∧ j < (li + 3) / 4) → lt j = lm j) (hca : CZ ca) (h8 : s ≤ 8) (hli : li < cu + s) (hF : ∀ f k, ¬ FT B lt ca s f k) {w : Nat} (hw : w < 32 * B) (hf : ¬ ∃ e, LV sr e ∧ nd e ≤ w ∧ w < nd e + z e) :
    ∃ q, w < q ∧ q ≤ w + 10 ∧ ((q < 32 * B ∧ ¬ pw q = 0) ∨ q % 32 = 0) := by
  obtain ⟨p1, p2, p3, p4, p5, p6⟩ := hP
  obtain ⟨o1, o2, o3, o4, o5⟩ := hO
  have pin : ∀ v, v < 32 * B → ¬ pw v = 0 → ∃ e, LV sr e ∧ nd e ≤ v ∧ v < nd e + z e := by
    intro v hv h
    rw [hpw v (by omega), bb_n0] at h
    obtain ⟨i, t, a1, a2, a3, a4⟩ := h
    have ht := hs i a1 t a2
    exact ⟨t, ht, by rw [p3 t ht ⟨i, a1, a2⟩]; exact ⟨a3, a4⟩⟩
  have blk : ∀ q, w < q → q ≤ w + 10 → ¬ pw q = 0 → ∃ q, w < q ∧ q ≤ w + 10 ∧ ((q < 32 * B ∧ ¬ pw q = 0) ∨ q % 32 = 0) := by
    intro q g1 g2 g3
    rcases Nat.lt_or_ge q (32 * B) with c | c
    · exact ⟨q, g1, g2, Or.inl ⟨c, g3⟩⟩
    · exact ⟨32 * B, by omega, by omega, Or.inr (by omega)⟩
  rcases Nat.lt_or_ge w cu with c | c
  · rcases p6 w c with g | g | ⟨q, g1, g2, g3⟩
    · exact absurd g hf
    · exact absurd (pin w hw g) hf
    · rcases g3 with g3 | g3
      · exact blk q g1 (by omega) g3
      · exact ⟨q, g1, by omega, Or.inr g3⟩
  rcases Nat.lt_or_ge w li with d | d
  · rcases o5 with g | g | g
    · exact ⟨li, d, by omega, Or.inr (by omega)⟩
    · exact blk li d (by omega) g
    · exact ⟨li, d, by omega, Or.inr g.2⟩
  rcases Classical.em (∃ q, w < q ∧ q ≤ w + 10 ∧ ((q < 32 * B ∧ ¬ pw q = 0) ∨ q % 32 = 0)) with g | g
  · exact g
  · exfalso
    have nb : w + 10 < (w / 32 + 1) * 32 := by
      rcases Nat.lt_or_ge (w + 10) ((w / 32 + 1) * 32) with y | y
      · exact y
      · exact absurd ⟨(w / 32 + 1) * 32, by omega, y, Or.inr (by omega)⟩ g
    have gdj : ∀ j, (w + 3) / 4 ≤ j → j < (w + 3) / 4 + 2 → gd lt ca j := by
      intro j j1 j2
      refine ⟨?_, hca _ (by omega)⟩
      rw [hlt j (by omega) (by omega), hlm j (by omega), bb_0]
      rintro ⟨e, e1, e2, e3, e4⟩
      have ze := hN.1 e e1
      have hv : ∃ v, nd e ≤ v ∧ v < nd e + z e ∧ w ≤ v ∧ v ≤ w + 10 := by
        rcases Nat.lt_or_ge (nd e) (4 * j) with y | y
        · exact ⟨4 * j, by omega, by omega, by omega, by omega⟩
        · exact ⟨nd e, by omega, by omega, by omega, by omega⟩
      obtain ⟨v, v1, v2, v3, v4⟩ := hv
      rcases Classical.em (PE se S e) with pe | pe
      · have : w < v := by
          rcases Nat.lt_or_ge w v with y | y
          · exact y
          · exact absurd ⟨e, e1, by omega, by omega⟩ hf
        refine g ⟨v, this, v4, Or.inl ⟨by omega, ?_⟩⟩
        rw [hpw v (by omega), bb_n0]
        obtain ⟨i, i1, i2⟩ := pe
        have := p3 e e1 ⟨i, i1, i2⟩
        exact ⟨i, e, i1, i2, by omega, by omega⟩
      · have := p4 e e1 pe
        omega
    exact hF ((w + 3) / 4) 2 ⟨by omega, by omega, by omega, by omega, fun j j1 j2 => gdj j j1 (by omega)⟩
/-- the start of the object that slot i addresses -/
def tS (se nd : Nat → Nat) (i : Nat) : Nat := if se i = 0 then 0 else nd (se i - 1)
theorem rm_sum {B S : Nat} {sr ln dn ad nd se : Nat → Nat} {pw : Nat → Int32} (hS : S ≤ 6) (hB : B ≤ 8) (hN : LY B (LV sr) (zs ln dn) nd) (hpin : ∀ e, LV sr e → PE se S e → nd e = ad e) (hpw : ∀ w, w < 256 → pw w = bb (PN se (zs ln dn) ad S w)) (hs : ∀ i, i < S → OKr sr (se i))
    (hn : ∀ w, w < 32 * B → (¬ ∃ e, LV sr e ∧ nd e ≤ w ∧ w < nd e + zs ln dn e) → ∃ q, w < q ∧ q ≤ w + 10 ∧ ((q < 32 * B ∧ ¬ pw q = 0) ∨ q % 32 = 0)) : 32 * B ≤ tot sr ln dn + (B * 10 + 60) := by
  have one : ∀ w, w < 32 * B → 1 ≤ sm (fun e => bn (LV sr e ∧ nd e ≤ w ∧ w < nd e + zs ln dn e)) 48 + (sm (fun j => bn (32 * (j + 1) - 10 ≤ w ∧ w < 32 * (j + 1))) B + sm (fun i => bn (tS se nd i - 10 ≤ w ∧ w < tS se nd i)) 6) := by
    intro w hw
    rcases Classical.em (∃ e, LV sr e ∧ nd e ≤ w ∧ w < nd e + zs ln dn e) with g | g
    · obtain ⟨e, e1, e2⟩ := g
      have a := sm_ge (f := fun e => bn (LV sr e ∧ nd e ≤ w ∧ w < nd e + zs ln dn e)) (k := e) e1.1
      have b : bn (LV sr e ∧ nd e ≤ w ∧ w < nd e + zs ln dn e) = 1 := bn_t ⟨e1, e2⟩
      simp only [b] at a
      omega
    · obtain ⟨q, q1, q2, q3⟩ := hn w hw g
      rcases q3 with ⟨q3, q4⟩ | q3
      · rw [hpw q (by omega), bb_n0] at q4
        obtain ⟨i, t, a1, a2, a3, a4⟩ := q4
        have ht := hs i a1 t a2
        have et := hpin t ht ⟨i, a1, a2⟩
        have ts : tS se nd i = nd t := by unfold tS; rw [if_neg (by omega), a2]; rfl
        have a := sm_ge (f := fun i => bn (tS se nd i - 10 ≤ w ∧ w < tS se nd i)) (k := i) (n := 6) (by omega)
        have lt1 : w < nd t := by
          rcases Nat.lt_or_ge w (nd t) with y | y
          · exact y
          · exact absurd ⟨t, ht, y, by omega⟩ g
        have b : bn (tS se nd i - 10 ≤ w ∧ w < tS se nd i) = 1 := bn_t (by rw [ts]; omega)
        simp only [b] at a
        omega
      · have a := sm_ge (f := fun j => bn (32 * (j + 1) - 10 ≤ w ∧ w < 32 * (j + 1))) (k := w / 32) (n := B) (by omega)
        have b : bn (32 * (w / 32 + 1) - 10 ≤ w ∧ w < 32 * (w / 32 + 1)) = 1 := bn_t (by omega)
        simp only [b] at a
        omega
  have s1 := sm_le (f := fun _ => 1) one
  rw [sm_c, sm_add, sm_add] at s1
  have t1 : sm (fun e => sm (fun w => bn (LV sr e ∧ nd e ≤ w ∧ w < nd e + zs ln dn e)) (32 * B)) 48 = tot sr ln dn := by
    refine sm_eq (fun e he => ?_)
    by_cases z : sr e = 0
    · rw [if_pos z]
      exact sm_z (fun w _ => bn_f (fun q => q.1.2 z))
    · rw [if_neg z]
      have a := LY_lt hN hB ⟨he, z⟩
      rw [sm_eq (g := fun w => bn (nd e ≤ w ∧ w < nd e + zs ln dn e)) (fun w _ => bn_c ⟨fun q => q.2, fun q => ⟨⟨he, z⟩, q⟩⟩), sm_it]
      omega
  have t2 : sm (fun j => sm (fun w => bn (32 * (j + 1) - 10 ≤ w ∧ w < 32 * (j + 1))) (32 * B)) B ≤ B * 10 := by
    rw [← sm_c 10 B]
    refine sm_le (fun j _ => ?_)
    rw [sm_it]; omega
  have t3 : sm (fun i => sm (fun w => bn (tS se nd i - 10 ≤ w ∧ w < tS se nd i)) (32 * B)) 6 ≤ 60 := by
    have : sm (fun i => sm (fun w => bn (tS se nd i - 10 ≤ w ∧ w < tS se nd i)) (32 * B)) 6 ≤ 6 * 10 := by
      rw [← sm_c 10 6]
      refine sm_le (fun i _ => ?_)
      rw [sm_it]; omega
    omega
  rw [sm_swap] at t1 t2 t3
  omega
section
variable {B R S : Nat} {ma ml oa ol md uw mt vc : Int32} {me st lt rs ss ws mk lm pw ca ms fw vn vq : Nat → Int32} {pu : SX → Prop} {sr ln dn : Nat → Nat} {lk : Nat → Nat → Nat} {dt : Nat → Nat → Int32} {ad : Nat → Nat} {nn : Nat} {rt wk se : Nat → Nat} {sv : Nat → Int32}
theorem SL_nd {B : Nat} {P : Nat → Prop} {nd : Nat → Nat} (hG : GR R S sr ln dn rt wk se sv) (hS : SL rt wk se sv ad rs ws ss) (hp : ∀ e, LV sr e → PE se S e → nd e = ad e) : ∀ i, i < 6 → ss i = sw nd (sv i) (se i) := by
  intro i hi
  rw [hS.2.2 i hi]
  cases e : se i with
  | zero => rfl
  | succ t =>
    have hi2 : i < S := by
      rcases Nat.lt_or_ge i S with c | c
      · exact c
      · have := hG.2.2.2.2.1 i c; omega
    show nI (ad t) + sv i = nI (nd t) + sv i
    rw [hp t (hG.2.2.2.1 i hi t e) ⟨i, hi2, e⟩]
/-- what a compaction leaves -/
theorem x_compact (W : GW B R S nn sr ln dn lk rt wk se sv) (H : HP B sr ln dn lk dt ad me st) (HS : SL rt wk se sv ad rs ws ss) (HC : CZ ca)
    (hp : ∀ nd rs' ws' me' st' lt' pw' lm' fw' a' l', HP B sr ln dn lk dt nd me' st' → RI B (OC (LV sr) (zs ln dn) nd) lt' a' l' 0 0 → SL rt wk se sv nd rs' ws' ss →
      (∀ s, s ≤ 8 → 0 < s → l' < a' + s → (∀ f k, ¬ FT B lt' ca s f k) → 12 * B < tot sr ln dn + s) → pu (nI B, nI (8 * B), nI (32 * B), nI (12 * B), nI R, nI S, nI a', nI l', 0, 0, md, uw, mt, vc, me', st', lt', rs', ss, ws', mk, lm', pw', ca, ms, fw', vn, vq)) : wpX_compact pu (nI B, nI (8 * B), nI (32 * B), nI (12 * B), nI R, nI S, ma, ml, oa, ol, md, uw, mt, vc, me, st, lt, rs, ss, ws, mk, lm, pw, ca, ms, fw, vn, vq) := by
  obtain ⟨⟨b1, b2, b3, b4, b5, b6, b7⟩, G, hG, hT⟩ := W
  have hs : ∀ i, i < S → OKr sr (se i) := fun i hi => hG.2.2.2.1 i (by omega)
  refine g_flagPins b2 b6 G H hG HS.2.2 (fun pw' hpw => ?_)
  refine x_planMoves b2 G H hs hpw (fun cu nd fw' hP => ?_)
  have hPL := hP
  obtain ⟨p1, p2, p3, p4, p5, p6⟩ := hP
  refine x_forwardAll b2 b4 G H (fun e he => (p1 e he).1) hG HS (fun rs' ws' me1 f1 f2 f3 => ?_)
  refine x_slideAll b2 G H.1 p2 (fun e he => (p1 e he).2) (fun e he => (p1 e he).1) f3 H.2.2 (fun me' st' g1 g2 => ?_)
  refine x_clearLM ?_
  have hSL : SL rt wk se sv nd rs' ws' ss := ⟨f1, f2, SL_nd (B := B) (P := fun _ => True) hG HS p3⟩
  have hHP : HP B sr ln dn lk dt nd me' st' := ⟨p2, g1, g2⟩
  have occ : ∀ lm' : Nat → Int32, (∀ l, l < 64 → lm' l = bb (TL (LV sr) (zs ln dn) nd (32 * B) l)) → ∀ w, OC (LV sr) (zs ln dn) nd w → w < 32 * B ∧ ¬ lm' (w / 4) = 0 := by
    intro lm' hl w hw
    obtain ⟨e, e1, e2, e3⟩ := hw
    have := LY_lt p2 b2 e1
    have := (p2.1 e e1).2.2.2
    refine ⟨by omega, ?_⟩
    rw [hl _ (by omega), bb_n0]
    exact ⟨e, e1, this, by omega, by omega⟩
  have room : ∀ (lt' lm' : Nat → Int32) li, (∀ l, l < 64 → lm' l = bb (TL (LV sr) (zs ln dn) nd (32 * B) l)) → OM B pw' cu li → (∀ j, j < 64 → ¬ (cu / 4 ≤ j ∧ j < (li + 3) / 4) → lt' j = lm' j) → ∀ s, s ≤ 8 → 0 < s → li < cu + s → (∀ f k, ¬ FT B lt' ca s f k) → 12 * B < tot sr ln dn + s := by
    intro lt' lm' li hl hO hlt s s1 s2 s3 s4
    have := rm_sum b6 b2 p2 p3 hpw hs (fun w hw hf => rm_near b2 p2 hPL hpw hs hO hl hlt HC s1 s3 s4 hw hf)
    omega
  refine Exists.intro 300 (x_comp27 b2 p5 G p2 g1 g2 (fun lm' li hl hO hc => ?_) (fun lm' li hl hO hc => ?_) 300 0 _ (by omega) (by omega) (fun l hl => ?_))
  · refine hp nd rs' ws' me' st' _ pw' lm' fw' 0 0 hHP ⟨fun w hw => ?_, ⟨by omega, by omega, fun q => by omega, fun w _ q => by omega⟩, ⟨by omega, by omega, fun q => by omega, fun w _ q => by omega⟩, fun w _ q => by omega⟩ hSL (fun s s1 s2 s3 s4 => room _ lm' li hl hO (fun j hj _ => fg_in (by omega)) s s1 s2 (by omega) s4)
    have a := occ lm' hl w hw
    rw [fg_in (by omega)]; exact a.2
  · obtain ⟨o1, o2, o3, o4, o5⟩ := hO
    refine hp nd rs' ws' me' st' _ pw' lm' fw' cu li hHP ⟨fun w hw => ?_, ⟨by omega, o2, fun q => ?_, fun w w1 w2 => ⟨fun ⟨e, e1, e2, e3⟩ => ?_, ?_⟩⟩, ⟨by omega, by omega, fun q => by omega, fun w _ q => by omega⟩, fun w _ _ _ q => by omega⟩ hSL (fun s s1 s2 s3 s4 => room _ lm' li hl ⟨o1, o2, o3, o4, o5⟩ (fun j hj hn => by rw [fg_out hn, fg_in (by omega)]) s s1 s2 s3 s4)
    · have a := occ lm' hl w hw
      by_cases g : cu / 4 ≤ w / 4 ∧ w / 4 < (li + 3) / 4
      · rw [fg_in g]; exact bb_10
      · rw [fg_out g, fg_in (by omega)]; exact a.2
    · rcases Nat.lt_or_ge (cu / 32) ((li - 1) / 32) with y | y
      · exact absurd (by omega) (o4 ((cu / 32 + 1) * 32) (by omega) (by omega))
      · omega
    · have z1 := o3 w w1 w2
      rcases Classical.em (PE se S e) with pe | pe
      · have := p3 e e1 pe
        rw [hpw w (by omega), bb_0] at z1
        obtain ⟨i, i1, i2⟩ := pe
        exact z1 ⟨i, e, i1, i2, by omega, by omega⟩
      · have := p4 e e1 pe
        omega
    · rw [fg_in (by omega)]; exact bb_10
  · rw [fg_in (by omega)]
    exact (bb_f (fun ⟨e, _, e2, _⟩ => by omega)).symm
end
end
section
/-! a new object in the free entry f, at the address x -/
theorem nw_lv {sr : Nat → Nat} {f s e : Nat} (hf : f < 48) (h0 : sr f = 0) (hs : ¬ s = 0) : LV (un sr f s) e ↔ e = f ∨ LV sr e := by
  unfold LV
  by_cases q : e = f
  · subst q; rw [un_s]; exact ⟨fun _ => Or.inl rfl, fun _ => ⟨hf, hs⟩⟩
  · rw [un_n q]; exact ⟨Or.inr, fun z => z.resolve_left q⟩
theorem nw_ne {sr : Nat → Nat} {f e : Nat} (h0 : sr f = 0) (he : LV sr e) : e ≠ f := fun q => he.2 (q ▸ h0)
theorem nw_ok {sr : Nat → Nat} {f s r : Nat} (hf : f < 48) (h0 : sr f = 0) (hs : ¬ s = 0) (h : OKr sr r) : OKr (un sr f s) r := fun t e => (nw_lv hf h0 hs).mpr (Or.inr (h t e))
theorem nw_rf {sr ad : Nat → Nat} {f x r : Nat} (h0 : sr f = 0) (h : OKr sr r) : rf (un ad f x) r = rf ad r := rf_un (fun u q => nw_ne h0 (h u q))
theorem nw_sf {sr : Nat → Nat} {f s r : Nat} (h0 : sr f = 0) (h : OKr sr r) : sf (un sr f s) r = sf sr r := by
  cases r with
  | zero => rfl
  | succ u => exact congrArg nI (un_n (nw_ne h0 (h u rfl)))
theorem nw_zs {ln dn : Nat → Nat} {f l d : Nat} : zs (un ln f l) (un dn f d) f = 2 + l + d := by unfold zs; rw [un_s, un_s]
theorem nw_zn {ln dn : Nat → Nat} {f l d e : Nat} (h : e ≠ f) : zs (un ln f l) (un dn f d) e = zs ln dn e := by unfold zs; rw [un_n h, un_n h]
theorem nw_tot {sr ln dn : Nat → Nat} {f s l d : Nat} (hf : f < 48) (h0 : sr f = 0) (hs : ¬ s = 0) : tot (un sr f s) (un ln f l) (un dn f d) = tot sr ln dn + (2 + l + d) := by
  have a := sm_u (f := fun e => if sr e = 0 then 0 else zs ln dn e) (g := fun e => if un sr f s e = 0 then 0 else zs (un ln f l) (un dn f d) e) hf (fun i _ hn => by
    show (if un sr f s i = 0 then 0 else zs (un ln f l) (un dn f d) i) = if sr i = 0 then 0 else zs ln dn i
    rw [un_n hn, nw_zn hn])
  have b : (if sr f = 0 then 0 else zs ln dn f) = 0 := if_pos h0
  have c : (if un sr f s f = 0 then 0 else zs (un ln f l) (un dn f d) f) = 2 + l + d := by rw [un_s, if_neg hs, nw_zs]
  simp only [b, c] at a
  unfold tot
  omega
theorem nw_GO {nd f l d : Nat} {sr ln dn : Nat → Nat} {lk : Nat → Nat → Nat} (hf : f < 48) (h0 : sr f = 0) (hl : l ≤ 4) (hd : d ≤ 4) (h6 : l + d ≤ 6) (G : GO nd sr ln dn lk) : GO (nd + 1) (un sr f (nd + 1)) (un ln f l) (un dn f d) (un lk f (fun _ => 0)) := by
  have hs : ¬ nd + 1 = 0 := by omega
  obtain ⟨h1, h2, h3⟩ := G
  refine ⟨fun e he => ?_, fun e g he hg q => ?_, fun e he c c1 c2 => ?_⟩
  · by_cases q : e = f
    · subst q; rw [un_s, un_s, un_s]; exact ⟨hl, hd, h6, Nat.le_refl _⟩
    · rw [un_n q, un_n q, un_n q]
      have := h1 e (((nw_lv hf h0 hs).mp he).resolve_left q)
      omega
  · by_cases q1 : e = f
    · by_cases q2 : g = f
      · rw [q1, q2]
      · have := h1 g (((nw_lv hf h0 hs).mp hg).resolve_left q2)
        rw [q1, un_s, un_n q2] at q
        omega
    · by_cases q2 : g = f
      · have := h1 e (((nw_lv hf h0 hs).mp he).resolve_left q1)
        rw [q2, un_s, un_n q1] at q
        omega
      · rw [un_n q1, un_n q2] at q
        exact h2 e g (((nw_lv hf h0 hs).mp he).resolve_left q1) (((nw_lv hf h0 hs).mp hg).resolve_left q2) q
  · by_cases q : e = f
    · subst q; rw [un_s]; exact OKr_0
    · rw [un_n q] at c2 ⊢
      exact nw_ok hf h0 hs (h3 e (((nw_lv hf h0 hs).mp he).resolve_left q) c c1 c2)
theorem nw_GR {R S f s l d j : Nat} {sr ln dn rt wk se : Nat → Nat} {sv : Nat → Int32} (hf : f < 48) (h0 : sr f = 0) (hs : ¬ s = 0) (hj : j < R) (G : GR R S sr ln dn rt wk se sv) : GR R S (un sr f s) (un ln f l) (un dn f d) (un rt j (f + 1)) wk se sv := by
  obtain ⟨a1, a2, a3, a4, a5, a6, a7⟩ := G
  refine GR_rt (y := f + 1) ⟨fun i hi => nw_ok hf h0 hs (a1 i hi), a2, fun i hi => nw_ok hf h0 hs (a3 i hi), fun i hi => nw_ok hf h0 hs (a4 i hi), a5, a6, fun i t hi e => ?_⟩ hj (OKr_s ((nw_lv hf h0 hs).mpr (Or.inl rfl)))
  rw [nw_zn (nw_ne h0 (a4 i hi t e))]
  exact a7 i t hi e
theorem nw_LY {B f s l d x : Nat} {sr ln dn ad : Nat → Nat} (hf : f < 48) (h0 : sr f = 0) (hs : ¬ s = 0) (h6 : l + d ≤ 6) (hL : LY B (LV sr) (zs ln dn) ad) (hx : x % 32 + (2 + l + d) ≤ 32) (hx2 : x + (2 + l + d) ≤ 32 * B) (ho : ∀ w, x ≤ w → w < x + (2 + l + d) → ¬ OC (LV sr) (zs ln dn) ad w) :
    LY B (LV (un sr f s)) (zs (un ln f l) (un dn f d)) (un ad f x) ∧ ∀ e, LV sr e → x + (2 + l + d) ≤ ad e ∨ ad e + zs ln dn e ≤ x := by
  have dj : ∀ e, LV sr e → x + (2 + l + d) ≤ ad e ∨ ad e + zs ln dn e ≤ x := fun e he => iv_dj (by omega) (by have := (hL.1 e he).1; omega) (fun w w1 w2 q => ho w w1 w2 ⟨e, he, q⟩)
  refine ⟨⟨fun e he => ?_, fun e g he hg n => ?_⟩, dj⟩
  · by_cases q : e = f
    · subst q; rw [un_s, nw_zs]; omega
    · rw [un_n q, nw_zn q]; exact hL.1 e (((nw_lv hf h0 hs).mp he).resolve_left q)
  · by_cases q1 : e = f
    · have q2 : g ≠ f := fun c => n (q1.trans c.symm)
      have := dj g (((nw_lv hf h0 hs).mp hg).resolve_left q2)
      rw [q1, un_s, nw_zs, un_n q2, nw_zn q2]; exact this
    · have he' := ((nw_lv hf h0 hs).mp he).resolve_left q1
      rw [un_n q1, nw_zn q1]
      by_cases q2 : g = f
      · rw [q2, un_s, nw_zs]; exact (dj e he').symm
      · rw [un_n q2, nw_zn q2]; exact hL.2 e g he' (((nw_lv hf h0 hs).mp hg).resolve_left q2) n
theorem nw_HP {B nd f l d x : Nat} {sr ln dn ad : Nat → Nat} {lk : Nat → Nat → Nat} {dt : Nat → Nat → Int32} {me st : Nat → Int32} (hf : f < 48) (h0 : sr f = 0) (h6 : l + d ≤ 6) (G : GO nd sr ln dn lk) (H : HP B sr ln dn lk dt ad me st) (hx : x % 32 + (2 + l + d) ≤ 32) (hx2 : x + (2 + l + d) ≤ 32 * B) (ho : ∀ w, x ≤ w → w < x + (2 + l + d) → ¬ OC (LV sr) (zs ln dn) ad w) :
    HP B (un sr f (nd + 1)) (un ln f l) (un dn f d) (un lk f (fun _ => 0)) (un dt f (fun _ => 0)) (un ad f x) (fg (fg (upd (upd me x (nI (l * 8 + d))) (x + 1) (nI (nd + 1))) (x + 2) (x + 2 + l) (fun _ => -1)) (x + 2 + l) (x + 2 + l + d) (fun _ => 0)) (upd st x 1) := by
  have hs : ¬ nd + 1 = 0 := by omega
  obtain ⟨hL, dj⟩ := nw_LY hf h0 hs h6 H.1 hx hx2 ho
  refine ⟨hL, fun e he c hc => ?_, fun w hw => ?_⟩
  · by_cases q : e = f
    · subst q
      rw [nw_zs] at hc
      rw [un_s, un_s, un_s, un_s, un_s, un_s]
      by_cases c4 : 2 + l ≤ c
      · rw [fg_in (by omega), oc_d c4]
      · rw [fg_out (by omega)]
        by_cases c2 : 2 ≤ c
        · rw [fg_in (by omega), oc_l c2 (by omega)]; rfl
        · rw [fg_out (by omega)]
          by_cases c1 : c = 0
          · subst c1
            rw [pk_un (by omega), Nat.add_zero, pk_us, oc_0, Nat.mul_comm]
          · have : c = 1 := by omega
            subst this
            rw [pk_us, oc_1]
    · have he' := ((nw_lv hf h0 hs).mp he).resolve_left q
      have := dj e he'
      rw [nw_zn q] at hc
      rw [un_n q, un_n q, un_n q, un_n q, un_n q, un_n q, fg_out (by omega), fg_out (by omega), pk_un (by omega), pk_un (by omega), H.2.1 e he' c hc]
      exact oc_c (fun c1 c2 => (nw_rf h0 (G.2.2 e he' c c1 c2)).symm) (fun _ => rfl)
  · by_cases q : w = x
    · subst q; rw [pk_us]
      exact (bb_t ⟨f, (nw_lv hf h0 hs).mpr (Or.inl rfl), un_s⟩).symm
    · rw [pk_un q, H.2.2 w hw]
      refine bb_c ⟨fun ⟨e, a1, a2⟩ => ⟨e, (nw_lv hf h0 hs).mpr (Or.inr a1), by rw [un_n (nw_ne h0 a1)]; exact a2⟩, fun ⟨e, a1, a2⟩ => ?_⟩
      by_cases q2 : e = f
      · subst q2; rw [un_s] at a2; exact absurd a2.symm q
      · rw [un_n q2] at a2
        exact ⟨e, ((nw_lv hf h0 hs).mp a1).resolve_left q2, a2⟩
theorem nw_OC {f s l d x w : Nat} {sr ln dn ad : Nat → Nat} (hf : f < 48) (h0 : sr f = 0) (hs : ¬ s = 0) : OC (LV (un sr f s)) (zs (un ln f l) (un dn f d)) (un ad f x) w ↔ OC (LV sr) (zs ln dn) ad w ∨ (x ≤ w ∧ w < x + (2 + l + d)) := by
  refine ⟨fun ⟨e, a1, a2⟩ => ?_, fun q => ?_⟩
  · by_cases q : e = f
    · subst q; rw [un_s, nw_zs] at a2; exact Or.inr a2
    · rw [un_n q, nw_zn q] at a2
      exact Or.inl ⟨e, ((nw_lv hf h0 hs).mp a1).resolve_left q, a2⟩
  · rcases q with ⟨e, a1, a2⟩ | q
    · exact ⟨e, (nw_lv hf h0 hs).mpr (Or.inr a1), by rw [un_n (nw_ne h0 a1), nw_zn (nw_ne h0 a1)]; exact a2⟩
    · exact ⟨f, (nw_lv hf h0 hs).mpr (Or.inl rfl), by rw [un_s, nw_zs]; exact q⟩
theorem nw_SL {R S f s x j : Nat} {sr ln dn rt wk se ad : Nat → Nat} {sv : Nat → Int32} {rs ws ss : Nat → Int32} (h0 : sr f = 0) (G : GR R S sr ln dn rt wk se sv) (h : SL rt wk se sv ad rs ws ss) : SL (un rt j (f + 1)) wk se sv (un ad f x) (upd rs j (nI x)) ws ss := by
  refine ⟨gh_u (fun i hi => ?_) (by show nI x = nI (un ad f x f); rw [un_s]), fun i hi => ?_, fun i hi => ?_⟩
  · rw [nw_rf h0 (G.1 i hi)]; exact h.1 i hi
  · rw [nw_rf h0 (G.2.2.1 i hi)]; exact h.2.1 i hi
  · rw [h.2.2 i hi]
    have ok := G.2.2.2.1 i hi
    cases e : se i with
    | zero => rfl
    | succ t =>
      show nI (ad t) + sv i = nI (un ad f x t) + sv i
      rw [un_n (nw_ne h0 (ok t e))]
theorem nw_YM {nd f l d : Nat} {sr ln dn : Nat → Nat} {lk : Nat → Nat → Nat} {dt : Nat → Nat → Int32} {ce : Nat → Int32} (hf : f < 48) (h0 : sr f = 0) (h6 : l + d ≤ 6) (G : GO nd sr ln dn lk) (h : YM sr ln dn lk dt ce) :
    YM (un sr f (nd + 1)) (un ln f l) (un dn f d) (un lk f (fun _ => 0)) (un dt f (fun _ => 0)) (upd (upd (fg ce (8 * f) (8 * f + 8) (fun _ => 0)) (8 * f) (nI (l * 8 + d))) (8 * f + 1) (nI (nd + 1))) := by
  have hs : ¬ nd + 1 = 0 := by omega
  refine ⟨fun e he => ?_, fun e he c hc => ?_⟩
  · by_cases q : e = f
    · subst q; rw [pk_us, un_s]
    · rw [un_n q, pk_un (by omega), pk_un (by omega), fg_out (by omega)]; exact h.1 e he
  · by_cases q : e = f
    · subst q
      rw [nw_zs] at hc
      rw [un_s, un_s, un_s, un_s, un_s]
      by_cases c1 : c = 0
      · subst c1
        have e0 : 8 * e + 0 = 8 * e := rfl
        rw [e0, pk_un (by omega), pk_us, oc_0, Nat.mul_comm]
      · by_cases c2 : c = 1
        · subst c2; rw [pk_us, oc_1]
        · rw [pk_un (by omega), pk_un (by omega), fg_in (by omega)]
          by_cases c3 : c < 2 + l
          · rw [oc_l (by omega) c3]; rfl
          · rw [oc_d (by omega)]
    · have he' := ((nw_lv hf h0 hs).mp he).resolve_left q
      rw [nw_zn q] at hc
      have := GO_z G e he'
      rw [un_n q, un_n q, un_n q, un_n q, un_n q, pk_un (by omega), pk_un (by omega), fg_out (by omega), h.2 e he' c hc]
      exact oc_c (fun c1 c2 => (nw_sf h0 (G.2.2 e he' c c1 c2)).symm) (fun _ => rfl)
theorem nw_YL {R S f s j : Nat} {sr ln dn rt wk se : Nat → Nat} {sv : Nat → Int32} {ro wS sS sV : Nat → Int32} (h0 : sr f = 0) (G : GR R S sr ln dn rt wk se sv) (h : YL sr rt wk se sv ro wS sS sV) : YL (un sr f s) (un rt j (f + 1)) wk se sv (upd ro j (nI s)) wS sS sV := by
  refine ⟨gh_u (fun i hi => ?_) (by show nI s = nI (un sr f s f); rw [un_s]), fun i hi => ?_, fun i hi => ?_, h.2.2.2⟩
  · rw [nw_sf h0 (G.1 i hi)]; exact h.1 i hi
  · rw [nw_sf h0 (G.2.2.1 i hi)]; exact h.2.1 i hi
  · rw [nw_sf h0 (G.2.2.2.1 i hi)]; exact h.2.2.1 i hi
/-- there is a free entry -/
theorem nw_free {nd B z : Nat} {sr ln dn : Nat → Nat} (hB : B ≤ 8) (hz : 2 ≤ z) (ht : tot sr ln dn + z ≤ 12 * B) : ∃ f, f < 48 ∧ sr f = 0 := by
  rcases Classical.em (∃ f, f < 48 ∧ sr f = 0) with h | h
  · exact h
  · have a := sm_le (f := fun _ => 2) (g := fun e => if sr e = 0 then 0 else zs ln dn e) (n := 48) (fun i hi => by
      show 2 ≤ if sr i = 0 then 0 else zs ln dn i
      rw [if_neg (fun q => h ⟨i, hi, q⟩)]
      unfold zs; omega)
    rw [sm_c] at a
    unfold tot at ht
    omega
section
variable {B R S : Nat} {yd : Int32} {ce ro sS sV wS re vi : Nat → Int32} {pr : Int32 → Prop} {qp : Int32 → SY → Prop} {sr ln dn : Nat → Nat} {lk : Nat → Nat → Nat} {dt : Nat → Nat → Int32} {nd : Nat}
theorem y_a131 {f j l d : Nat} {s : Int32} (hf : f < 48) (hj : j < 12) (hp : qp s (nI (12 * B), nI R, nI S, s, upd (upd (fg ce (8 * f) (8 * f + 8) (fun _ => 0)) (8 * f) (nI (l * 8 + d))) (8 * f + 1) s, upd ro j s, sS, sV, wS, re, vi)) : ∃ n131 : Nat, wY_alloc_131 qp (nI j) (nI l) (nI d) (nI f) (nI (12 * B)) (nI R) (nI S) s n131 0 ce ro sS sV wS re vi := by
  refine Exists.intro 9 (fg_loop (fun n w b => ∀ c, w = 8 * f + c → wY_alloc_131 qp (nI j) (nI l) (nI d) (nI f) (nI (12 * B)) (nI R) (nI S) s n (nI c) b ro sS sV wS re vi) (fun _ => 0) (8 * f + 8) 384 (fun b => qp s (nI (12 * B), nI R, nI S, s, upd (upd b (8 * f) (nI (l * 8 + d))) (8 * f + 1) s, upd ro j s, sS, sV, wS, re, vi)) ?_ ?_ (by omega) 9 (8 * f) ce (by omega) (by omega) hp 0 (by omega))
  · intro n w b h h2 q c hc
    refine br_t (nI_le (a := 8) (by omega) (by omega)) ?_
    rw [nu_8m, nI_1, nu_m8, nI_add]
    exact And.intro (vp_in_nI (by omega) (by omega)) (nm_r (nu_u (by omega) rfl) (And.intro (vp_in_nI (by omega) (by omega)) (nm_r (nu_u (by omega) rfl) (And.intro (vp_in_nI hj (by omega)) (nm_r (nu_u (by omega) rfl) q)))))
  · intro n w b h h2 q c hc
    refine br_f (nI_ge (b := 8) (by omega) (by omega)) ?_
    rw [nu_8m, nI_add]
    exact And.intro (vp_in_nI (by omega) (by omega)) (nm_r (e' := upd b w 0) (by rw [hc]; exact nu_u (by omega) rfl) (nm_r (nI_1 c) (q (c + 1) (by omega))))
theorem y_a78 {j l d : Nat} (hd : nd ≤ 30000) (hj : j < 12) (hs : ∀ e, e < 48 → sr e ≤ 30000) (M : ∀ e, e < 48 → ce (8 * e + 1) = nI (sr e)) (hfr : ∃ f, f < 48 ∧ sr f = 0)
    (hp : ∀ f, f < 48 → sr f = 0 → qp (nI (nd + 1)) (nI (12 * B), nI R, nI S, nI (nd + 1), upd (upd (fg ce (8 * f) (8 * f + 8) (fun _ => 0)) (8 * f) (nI (l * 8 + d))) (8 * f + 1) (nI (nd + 1)), upd ro j (nI (nd + 1)), sS, sV, wS, re, vi)) :
    ∀ n x y, 48 - x < n → x ≤ 48 → ((y = -1 ∧ ∀ e, e < x → ¬ sr e = 0) ∨ ∃ f, f < x ∧ y = nI f ∧ sr f = 0) → wY_alloc_78 qp (nI j) (nI l) (nI d) (nI (12 * B)) (nI R) (nI S) (nI nd) ce ro sS sV wS re vi n y (nI x) := by
  intro n
  induction n with
  | zero => intro x y h; omega
  | succ n ih =>
    intro x y h1 h2 h3
    refine pk_le 48 x (fun q => ?_) (fun q => ?_)
    · rcases h3 with ⟨a1, a2⟩ | ⟨f, f1, f2, f3⟩
      · obtain ⟨f, g1, g2⟩ := hfr
        exact absurd g2 (a2 f (by omega))
      · rw [f2]
        exact br_t (nI_pos' (by omega)) (nm_r (nI_1 nd) (y_a131 (by omega) hj (hp f (by omega) f3)))
    · rw [nu_8m, nI_1]
      refine And.intro (vp_in_nI (by omega) (by omega)) ?_
      rw [nI_clamp (by omega), M x q]
      refine pk_eq (sr x) 0 (fun c => nm_r (nI_1 x) (ih (x + 1) _ (by omega) (by omega) (Or.inr ⟨x, by omega, rfl, c⟩))) (fun c => nm_r (nI_1 x) (ih (x + 1) _ (by omega) (by omega) ?_)) rfl rfl (by have := hs x q; omega)
      rcases h3 with ⟨a1, a2⟩ | ⟨f, f1, f2, f3⟩
      · refine Or.inl ⟨a1, fun e he => ?_⟩
        rcases Nat.lt_or_ge e x with g | g
        · exact a2 e g
        · have : e = x := by omega
          subst this; exact c
      · exact Or.inr ⟨f, by omega, f2, f3⟩
end
section
variable {B R S : Nat} {ma ml oa ol md uw mt vc : Int32} {me st lt rs ss ws mk lm pw ca ms fw vn vq : Nat → Int32} {pp : Int32 → SX → Prop} {nd : Nat}
theorem x_a101 {x l d j u z : Nat} (hx : x + (2 + l + d) ≤ 256) (hj : j < 12) (hp : pp (nI (nd + 1)) (nI B, nI (8 * B), nI (32 * B), nI (12 * B), nI R, nI S, ma, ml, oa, ol, nI (nd + 1), nI (u + z), mt, vc, fg (fg (upd (upd me x (nI (l * 8 + d))) (x + 1) (nI (nd + 1))) (x + 2) (x + 2 + l) (fun _ => -1)) (x + 2 + l) (x + 2 + l + d) (fun _ => 0), upd st x 1, lt, upd rs j (nI x), ss, ws, mk, lm, pw, ca, ms, fw, vn, vq)) : wX_alloc_101 pp (nI j) (nI l) (nI d) (nI z) (nI x) (nI B) (nI (8 * B)) (nI (32 * B)) (nI (12 * B)) (nI R) (nI S) ma ml oa ol (nI nd) (nI u) mt vc me st lt rs ss ws mk lm pw ca ms fw vn vq := by
  refine br_t (nI_pos' (by omega)) (nm_r (nI_1 nd) (nm_r (nI_add u z) ?_))
  refine x_initObject (by omega) ?_
  exact And.intro (vp_in_nI hj (by omega)) (nm_r (nu_u (by omega) rfl) hp)
end
theorem al_bd {nd : Nat} {sr ln dn : Nat → Nat} {lk : Nat → Nat → Nat} (hd : nd ≤ 30000) (G : GO nd sr ln dn lk) : ∀ e, e < 48 → sr e ≤ 30000 := fun e he => by
  by_cases q : sr e = 0
  · omega
  · have := (G.1 e ⟨he, q⟩).2.2.2; omega
theorem i_vc_alloc {k : Nat} {u : SX} {v : SY} (I : i_Rel k u v) (hk : k + 4 ≤ 2051) (v1 : Int32) (v2 : Int32) (v3 : Int32) : wpX_alloc (fun r u' => wpY_alloc (fun r' v' => r' = r ∧ i_Rel (k + 4) u' v') v v1 v2 v3) u v1 v2 v3 := by
  refine I (fun u v => wpX_alloc (fun r u' => wpY_alloc (fun r' v' => r' = r ∧ i_Rel (k + 4) u' v') v v1 v2 v3) u v1 v2 v3) ?_
  intro B R S nd sr ln dn lk dt rt wk se sv ad a l o p mt vc me st lt rs ss ws mk lm pw ca ms fw vn vq ce ro sS sV wS re vi G H HR HS HC HM HY
  unfold wpX_alloc wpY_alloc
  obtain ⟨b1, b2, b3, b4, b5, b6, b7⟩ := G.1
  rcases gh_ix (v := v1) (n := R) (by omega) with h1 | ⟨j1, h1, rfl⟩
  · exact x_bad (by omega) h1 (br_f bb_10 (y_bad (by omega) (by omega) h1 (br_f bb_10 ⟨rfl, rl_mk G H HR HS HC HM HY⟩)))
  refine x_good (by omega) h1 (br_t rfl ?_)
  by_cases c1 : v2 < 0
  · exact br_t c1 (y_good (by omega) h1 (br_t rfl (br_t c1 ⟨rfl, rl_mk G H HR HS HC HM HY⟩)))
  refine br_f c1 ?_
  by_cases c2 : 4 < v2
  · exact br_t c2 (y_good (by omega) h1 (br_t rfl (br_f c1 (br_t c2 ⟨rfl, rl_mk G H HR HS HC HM HY⟩))))
  refine br_f c2 ?_
  by_cases c3 : v3 < 0
  · exact br_t c3 (y_good (by omega) h1 (br_t rfl (br_f c1 (br_f c2 (br_t c3 ⟨rfl, rl_mk G H HR HS HC HM HY⟩)))))
  refine br_f c3 ?_
  by_cases c4 : 4 < v3
  · exact br_t c4 (y_good (by omega) h1 (br_t rfl (br_f c1 (br_f c2 (br_f c3 (br_t c4 ⟨rfl, rl_mk G H HR HS HC HM HY⟩))))))
  refine br_f c4 ?_
  by_cases c5 : v2 + v3 ≤ 6
  rotate_left
  · exact br_f c5 (y_good (by omega) h1 (br_t rfl (br_f c1 (br_f c2 (br_f c3 (br_f c4 (br_f c5 ⟨rfl, rl_mk G H HR HS HC HM HY⟩)))))))
  refine br_t c5 ?_
  by_cases c6 : nI nd < 30000
  rotate_left
  · exact br_f c6 (y_good (by omega) h1 (br_t rfl (br_f c1 (br_f c2 (br_f c3 (br_f c4 (br_t c5 (br_f c6 ⟨rfl, rl_mk G H HR HS HC HM HY⟩))))))))
  refine br_t c6 ?_
  obtain ⟨nl, l1, rfl⟩ := nI_of2 (M := 4) (n := 4) (by decide) c1 (Int32.not_lt.mp c2)
  obtain ⟨ndt, d1, rfl⟩ := nI_of2 (M := 4) (n := 4) (by decide) c3 (Int32.not_lt.mp c4)
  have h6 : nl + ndt ≤ 6 := by
    rw [nI_add] at c5
    exact (nI_leI (b := 6) (by omega) (by omega)).mp c5
  have hnd : nd < 30000 := (nI_ltI (b := 30000) (by omega) (by omega)).mp c6
  have tb := G.2.2.2
  have yq : nI (tot sr ln dn) + 2 + nI nl + nI ndt = nI (tot sr ln dn + 2 + nl + ndt) := by rw [nu_a2, nI_add, nI_add]
  have fin : ∀ (ad : Nat → Nat) (me st lt rs ws pw lm fw : Nat → Int32) (x a l o p : Nat), HP B sr ln dn lk dt ad me st → SL rt wk se sv ad rs ws ss → x % 32 + (2 + nl + ndt) ≤ 32 → x + (2 + nl + ndt) ≤ 32 * B → (∀ w, x ≤ w → w < x + (2 + nl + ndt) → ¬ OC (LV sr) (zs ln dn) ad w) → RI B (fun w => OC (LV sr) (zs ln dn) ad w ∨ (x ≤ w ∧ w < x + (2 + nl + ndt))) lt a l o p → tot sr ln dn + (2 + nl + ndt) ≤ 12 * B →
      wpY_alloc (fun r' v' => r' = nI (nd + 1) ∧ i_Rel (k + 4) (nI B, nI (8 * B), nI (32 * B), nI (12 * B), nI R, nI S, nI a, nI l, nI o, nI p, nI (nd + 1), nI (tot sr ln dn + (2 + nl + ndt)), mt, vc, fg (fg (upd (upd me x (nI (nl * 8 + ndt))) (x + 1) (nI (nd + 1))) (x + 2) (x + 2 + nl) (fun _ => -1)) (x + 2 + nl) (x + 2 + nl + ndt) (fun _ => 0), upd st x 1, lt, upd rs j1 (nI x), ss, ws, mk, lm, pw, ca, ms, fw, vn, vq) v') (nI (12 * B), nI R, nI S, nI nd, ce, ro, sS, sV, wS, re, vi) (nI j1) (nI nl) (nI ndt) := by
    intro ad me st lt rs ws pw lm fw x a l o p H HS x1 x2 x3 hR q
    unfold wpY_alloc
    refine y_good (by omega) h1 (br_t rfl (br_f c1 (br_f c2 (br_f c3 (br_f c4 (br_t c5 (br_t c6 (y_used b7 G.2.1 HM (br_t (by rw [yq]; exact nI_le (by omega) (by omega)) (Exists.intro 49 ?_))))))))))
    refine y_a78 b7 (by omega) (al_bd b7 G.2.1) HM.1 (nw_free (nd := nd) b2 (by omega) q) (fun f f1 f2 => ?_) 49 0 (-1) (by omega) (by omega) (Or.inl ⟨rfl, fun e he => by omega⟩)
    have hs : ¬ nd + 1 = 0 := by omega
    refine ⟨rfl, ?_⟩
    rw [← nw_tot (ln := ln) (dn := dn) (l := nl) (d := ndt) f1 f2 hs]
    refine rl_mk ⟨⟨b1, b2, b3, b4, b5, b6, by omega⟩, nw_GO f1 f2 l1 d1 h6 G.2.1, nw_GR f1 f2 hs h1 G.2.2.1, by rw [nw_tot f1 f2 hs]; exact q⟩ (nw_HP f1 f2 h6 G.2.1 H x1 x2 x3) (RI_c hR (fun w => nw_OC f1 f2 hs)) (nw_SL (s := nd + 1) f2 G.2.2.1 HS) HC (nw_YM f1 f2 h6 G.2.1 HM) (nw_YL f2 G.2.2.1 HY)
  refine nm_r (e' := nI (2 + nl + ndt)) (by rw [nu_2, nI_add]) ?_
  refine pk_le (tot sr ln dn + (2 + nl + ndt)) (12 * B) (fun q => ?_) (fun q => ?_) (nI_add _ _) rfl
  rotate_left
  · exact y_good (by omega) h1 (br_t rfl (br_f c1 (br_f c2 (br_f c3 (br_f c4 (br_t c5 (br_t c6 (y_used b7 G.2.1 HM (br_f (by rw [yq]; exact nI_ge (by omega) (by omega)) ⟨rfl, rl_mk G H HR HS HC HM HY⟩)))))))))
  refine x_place b2 (by omega) (by omega) HR (fun lt' a' l' o' p' hR' hl hn => ?_) (fun x lt' a' l' o' p' x1 x2 x3 hR' => ?_)
  · refine br_f nu_nn1 (x_compact G H HS HC (fun nd' rs' ws' me' st' lt2 pw' lm' fw' a2 l2 H2 hR2 HS2 room => ?_))
    refine x_place (o := 0) (p := 0) b2 (by omega) (by omega) hR2 (fun lt3 a3 l3 o3 p3 hR3 hl3 hn3 => ?_) (fun x lt3 a3 l3 o3 p3 x1 x2 x3 hR3 => ?_)
    · have := room _ (by omega) (by omega) hl3 hn3
      omega
    · exact x_a101 (by omega) (by omega) (fin nd' me' st' lt3 rs' ws' pw' lm' fw' x a3 l3 o3 p3 H2 HS2 x1 x2 x3 hR3 q)
  · exact br_t (nI_pos' (by omega)) (x_a101 (by omega) (by omega) (fin ad me st lt' rs ws pw lm fw x a' l' o' p' H HS x1 x2 x3 hR' q))
end
section
/-! the constructors -/
def Cl (p : Int32) (lo hi b : Nat) : Prop := (p = nI b ∧ nI lo ≤ p ∧ p ≤ nI hi) ∨ (b = hi ∧ nI lo ≤ p ∧ ¬ p ≤ nI hi) ∨ (b = lo ∧ ¬ nI lo ≤ p)
theorem cl_x {W : Int32 → Prop} {p : Int32} {lo hi : Nat} (hl : lo ≤ hi) (hh : hi < 2 ^ 31) (h : ∀ b, lo ≤ b → b ≤ hi → Cl p lo hi b → W (nI b)) : (nI lo ≤ p → ((p ≤ nI hi → W p) ∧ (¬ p ≤ nI hi → W (nI hi)))) ∧ (¬ nI lo ≤ p → W (nI lo)) := by
  refine ⟨fun a => ⟨fun c => ?_, fun c => h hi hl (Nat.le_refl _) (Or.inr (Or.inl ⟨rfl, a, c⟩))⟩, fun a => h lo (Nat.le_refl _) hl (Or.inr (Or.inr ⟨rfl, a⟩))⟩
  have n0 : ¬ p < 0 := fun q => nI_pos (n := lo) (by omega) (Int32.lt_of_le_of_lt a q)
  obtain ⟨j, j1, rfl⟩ := nI_of n0
  exact h j ((nI_leI (by omega) j1).mp a) ((nI_leI j1 hh).mp c) (Or.inl ⟨rfl, a, c⟩)
theorem cl_y {W : Int32 → Prop} {p : Int32} {lo hi b : Nat} (hc : Cl p lo hi b) (h : W (nI b)) : (nI lo ≤ p → ((p ≤ nI hi → W p) ∧ (¬ p ≤ nI hi → W (nI hi)))) ∧ (¬ nI lo ≤ p → W (nI lo)) := by
  rcases hc with ⟨a1, a2, a3⟩ | ⟨a1, a2, a3⟩ | ⟨a1, a2⟩
  · subst a1; exact br_t a2 (br_t a3 h)
  · subst a1; exact br_t a2 (br_f a3 h)
  · subst a1; exact br_f a2 h
theorem x_clamp {pr : Int32 → Prop} {u : SX} {p lo' hi' : Int32} {lo hi : Nat} (e1 : lo' = nI lo) (e2 : hi' = nI hi) (hl : lo ≤ hi) (hh : hi < 2 ^ 31) (h : ∀ b, lo ≤ b → b ≤ hi → Cl p lo hi b → pr (nI b)) : wpX_clamp pr u p lo' hi' := by
  subst e1 e2
  obtain ⟨a0, a1, a2, a3, a4, a5, a6, a7, a8, a9, a10, a11, a12, a13, a14, a15, a16, a17, a18, a19, a20, a21, a22, a23, a24, a25, a26, a27⟩ := u
  exact cl_x hl hh h
section
variable {B R S : Nat} {ma ml oa ol md uw mt vc : Int32} {me st lt rs ss ws mk lm pw ca ms fw vn vq : Nat → Int32} {pu : SX → Prop}
theorem x_i243 (hp : pu (nI B, nI (8 * B), nI (32 * B), nI (12 * B), nI R, nI S, ma, ml, oa, ol, md, uw, mt, vc, me, st, lt, rs, ss, fg ws 0 4 (fun _ => -1), mk, lm, pw, ca, ms, fw, vn, vq)) : ∃ n243 : Nat, wX_init_243 pu (nI B) (nI (8 * B)) (nI (32 * B)) (nI (12 * B)) (nI R) (nI S) ma ml oa ol md uw mt vc n243 0 me st lt rs ss ws mk lm pw ca ms fw vn vq :=
  Exists.intro 5 (fg_loop (fun n i a => wX_init_243 pu (nI B) (nI (8 * B)) (nI (32 * B)) (nI (12 * B)) (nI R) (nI S) ma ml oa ol md uw mt vc n (nI i) me st lt rs ss a mk lm pw ca ms fw vn vq) (fun _ => -1) 4 4 (fun a => pu (nI B, nI (8 * B), nI (32 * B), nI (12 * B), nI R, nI S, ma, ml, oa, ol, md, uw, mt, vc, me, st, lt, rs, ss, a, mk, lm, pw, ca, ms, fw, vn, vq))
    (fun _ _ a h h2 q => br_t (nI_le (a := 4) h (by omega)) q)
    (fun _ i a h h2 w => br_f (nI_ge (b := 4) h (by omega)) (And.intro (vp_in_nI (by omega) (by omega)) (nm_r (nu_u (by omega) rfl) (nm_r (nI_1 i) w)))) (by omega) 5 0 ws (by omega) (by omega) hp)
theorem x_i218 (hp : pu (nI B, nI (8 * B), nI (32 * B), nI (12 * B), nI R, nI S, ma, ml, oa, ol, md, uw, mt, vc, me, st, lt, rs, fg ss 0 6 (fun _ => -100), fg ws 0 4 (fun _ => -1), mk, lm, pw, ca, ms, fw, vn, vq)) : ∃ n218 : Nat, wX_init_218 pu (nI B) (nI (8 * B)) (nI (32 * B)) (nI (12 * B)) (nI R) (nI S) ma ml oa ol md uw mt vc n218 0 me st lt rs ss ws mk lm pw ca ms fw vn vq :=
  Exists.intro 7 (fg_loop (fun n i a => wX_init_218 pu (nI B) (nI (8 * B)) (nI (32 * B)) (nI (12 * B)) (nI R) (nI S) ma ml oa ol md uw mt vc n (nI i) me st lt rs a ws mk lm pw ca ms fw vn vq) (fun _ => -100) 6 6 (fun a => pu (nI B, nI (8 * B), nI (32 * B), nI (12 * B), nI R, nI S, ma, ml, oa, ol, md, uw, mt, vc, me, st, lt, rs, a, fg ws 0 4 (fun _ => -1), mk, lm, pw, ca, ms, fw, vn, vq))
    (fun _ _ a h h2 q => br_t (nI_le (a := 6) h (by omega)) (x_i243 q))
    (fun _ i a h h2 w => br_f (nI_ge (b := 6) h (by omega)) (And.intro (vp_in_nI (by omega) (by omega)) (nm_r (nu_u (by omega) rfl) (nm_r (nI_1 i) w)))) (by omega) 7 0 ss (by omega) (by omega) hp)
theorem x_i194 (hp : pu (nI B, nI (8 * B), nI (32 * B), nI (12 * B), nI R, nI S, ma, ml, oa, ol, md, uw, mt, vc, me, st, lt, fg rs 0 12 (fun _ => -1), fg ss 0 6 (fun _ => -100), fg ws 0 4 (fun _ => -1), mk, lm, pw, ca, ms, fw, vn, vq)) : ∃ n194 : Nat, wX_init_194 pu (nI B) (nI (8 * B)) (nI (32 * B)) (nI (12 * B)) (nI R) (nI S) ma ml oa ol md uw mt vc n194 0 me st lt rs ss ws mk lm pw ca ms fw vn vq :=
  Exists.intro 13 (fg_loop (fun n i a => wX_init_194 pu (nI B) (nI (8 * B)) (nI (32 * B)) (nI (12 * B)) (nI R) (nI S) ma ml oa ol md uw mt vc n (nI i) me st lt a ss ws mk lm pw ca ms fw vn vq) (fun _ => -1) 12 12 (fun a => pu (nI B, nI (8 * B), nI (32 * B), nI (12 * B), nI R, nI S, ma, ml, oa, ol, md, uw, mt, vc, me, st, lt, a, fg ss 0 6 (fun _ => -100), fg ws 0 4 (fun _ => -1), mk, lm, pw, ca, ms, fw, vn, vq))
    (fun _ _ a h h2 q => br_t (nI_le (a := 12) h (by omega)) (x_i218 q))
    (fun _ i a h h2 w => br_f (nI_ge (b := 12) h (by omega)) (And.intro (vp_in_nI (by omega) (by omega)) (nm_r (nu_u (by omega) rfl) (nm_r (nI_1 i) w)))) (by omega) 13 0 rs (by omega) (by omega) hp)
end
section
variable {B R S : Nat} {yd : Int32} {ce ro sS sV wS re vi : Nat → Int32} {qu : SY → Prop}
theorem y_i152 (hp : qu (nI (12 * B), nI R, nI S, yd, ce, ro, sS, fg sV 0 6 (fun _ => -100), wS, re, vi)) : ∃ n152 : Nat, wY_init_152 qu (nI (12 * B)) (nI R) (nI S) yd n152 0 ce ro sS sV wS re vi :=
  Exists.intro 7 (fg_loop (fun n i a => wY_init_152 qu (nI (12 * B)) (nI R) (nI S) yd n (nI i) ce ro sS a wS re vi) (fun _ => -100) 6 6 (fun a => qu (nI (12 * B), nI R, nI S, yd, ce, ro, sS, a, wS, re, vi))
    (fun _ _ a h h2 q => br_t (nI_le (a := 6) h (by omega)) q)
    (fun _ i a h h2 w => br_f (nI_ge (b := 6) h (by omega)) (And.intro (vp_in_nI (by omega) (by omega)) (nm_r (nu_u (by omega) rfl) (nm_r (nI_1 i) w)))) (by omega) 7 0 sV (by omega) (by omega) hp)
theorem y_i116 {c : Int32} (hc : Cl c 1 6 S) (hp : qu (nI (12 * B), nI R, nI S, 0, ce, ro, sS, fg sV 0 6 (fun _ => -100), wS, re, vi)) : wY_init_116 qu c (nI R) (nI (12 * B)) 0 0 0 ce ro sS sV wS re vi := by
  unfold wY_init_116
  exact cl_y (W := fun z => ∃ n152 : Nat, wY_init_152 qu (nI (12 * B)) (nI R) z 0 n152 0 ce ro sS sV wS re vi) hc (y_i152 hp)
theorem y_i83 {b c : Int32} (hb : Cl b 2 12 R) (hc : Cl c 1 6 S) (hp : qu (nI (12 * B), nI R, nI S, 0, ce, ro, sS, fg sV 0 6 (fun _ => -100), wS, re, vi)) : wY_init_83 qu b c (nI B) 0 0 0 0 ce ro sS sV wS re vi := by
  unfold wY_init_83
  refine nm_r (nu_12m B) ?_
  exact cl_y (W := fun z => wY_init_116 qu c z (nI (12 * B)) 0 0 0 ce ro sS sV wS re vi) hb (y_i116 hc hp)
end
theorem in_n100 : (-100 : Int32) < 0 := by decide
theorem in_lv {e : Nat} : ¬ LV (fun _ => 0) e := fun h => h.2 rfl
theorem i_vc0 (k0 : Int32) (k1 : Int32) (k2 : Int32) : wpX_init (fun u => wpY_init (fun v => i_Rel 3 u v) k0 k1 k2) k0 k1 k2 := by
  unfold wpX_init
  refine x_clamp (lo := 6) (hi := 8) rfl rfl (by omega) (by omega) (fun B b1 b2 hB => ?_)
  refine nm_r (e' := nI (8 * B)) (by rw [nu_m8, Nat.mul_comm]) (nm_r (e' := nI (32 * B)) (by rw [nu_m32, Nat.mul_comm]) (nm_r (e' := nI (12 * B)) (by rw [nu_m12, Nat.mul_comm]) ?_))
  refine x_clamp (lo := 2) (hi := 12) rfl rfl (by omega) (by omega) (fun R r1 r2 hR => ?_)
  refine x_clamp (lo := 1) (hi := 6) rfl rfl (by omega) (by omega) (fun S s1 s2 hS => ?_)
  refine x_i194 ?_
  unfold wpY_init
  refine cl_y (W := fun z => wY_init_83 _ k1 k2 z 0 0 0 0 (fun _ => 0) (fun _ => 0) (fun _ => 0) (fun _ => 0) (fun _ => 0) (fun _ => 0) (fun _ => 0)) hB ?_
  refine y_i83 hR hS ?_
  have t0 : tot (fun _ => 0) (fun _ => 0) (fun _ => 0) = 0 := sm_z (fun i _ => if_pos rfl)
  have h := rl_mk (k := 3) (B := B) (R := R) (S := S) (nd := 0) (sr := fun _ => 0) (ln := fun _ => 0) (dn := fun _ => 0) (lk := fun _ _ => 0) (dt := fun _ _ => 0) (rt := fun _ => 0) (wk := fun _ => 0) (se := fun _ => 0) (sv := fun _ => -100) (ad := fun _ => 0) (a := 0) (l := 0) (o := 0) (p := 0) (mt := 0) (vc := 0)
    (me := fun _ => 0) (st := fun _ => 0) (lt := fun _ => 0) (rs := fg (fun _ => 0) 0 12 (fun _ => -1)) (ss := fg (fun _ => 0) 0 6 (fun _ => -100)) (ws := fg (fun _ => 0) 0 4 (fun _ => -1)) (mk := fun _ => 0) (lm := fun _ => 0) (pw := fun _ => 0) (ca := fun _ => 0) (ms := fun _ => 0) (fw := fun _ => 0) (vn := fun _ => 0) (vq := fun _ => 0)
    (ce := fun _ => 0) (ro := fun _ => 0) (sS := fun _ => 0) (sV := fg (fun _ => 0) 0 6 (fun _ => -100)) (wS := fun _ => 0) (re := fun _ => 0) (vi := fun _ => 0)
    ⟨⟨b1, b2, r1, r2, s1, s2, by omega⟩, ⟨fun e he => absurd he in_lv, fun e f he => absurd he in_lv, fun e he => absurd he in_lv⟩, ⟨fun i _ => OKr_0, fun i _ => rfl, fun i _ => OKr_0, fun i _ => OKr_0, fun i _ => rfl, fun i _ _ => in_n100, fun i t _ e => absurd e (Nat.succ_ne_zero t).symm⟩, by rw [t0]; omega⟩
    ⟨⟨fun e he => absurd he in_lv, fun e f he => absurd he in_lv⟩, fun e he => absurd he in_lv, fun w hw => (bb_f (fun ⟨e, he, _⟩ => in_lv he)).symm⟩
    ⟨fun w ⟨e, he, _⟩ => absurd he in_lv, ⟨by omega, by omega, fun q => by omega, fun w _ q => by omega⟩, ⟨by omega, by omega, fun q => by omega, fun w _ q => by omega⟩, fun w _ q => by omega⟩
    ⟨fun i hi => fg_in (by omega), fun i hi => fg_in (by omega), fun i hi => fg_in (by omega)⟩ (fun b _ => rfl) ⟨fun e _ => rfl, fun e he => absurd he in_lv⟩ ⟨fun i _ => rfl, fun i _ => rfl, fun i _ => rfl, fun i hi => fg_in (by omega)⟩
  rw [t0] at h
  exact h
/-! questions -/
theorem i_vc_wordsFree {k : Nat} {u : SX} {v : SY} (I : i_Rel k u v) (hk : k + 4 ≤ 2051) : wpX_wordsFree (fun r => wpY_wordsFree (fun r' => r' = r ∧ i_Rel (k + 4) u v) v) u := by
  refine I (fun u v => wpX_wordsFree (fun r => wpY_wordsFree (fun r' => r' = r ∧ i_Rel (k + 4) u v) v) u) ?_
  intro B R S nd sr ln dn lk dt rt wk se sv ad a l o p mt vc me st lt rs ss ws mk lm pw ca ms fw vn vq ce ro sS sV wS re vi G H HR HS HC HM HY
  obtain ⟨b1, b2, b3, b4, b5, b6, b7⟩ := G.1
  unfold wpX_wordsFree wpY_wordsFree
  exact y_used b7 G.2.1 HM ⟨rfl, rl_mk G H HR HS HC HM HY⟩
section
variable {B R S : Nat} {ma ml oa ol md uw mt vc : Int32} {me st lt rs ss ws mk lm pw ca ms fw vn vq : Nat → Int32} {pr : Int32 → Prop} {sr ln dn : Nat → Nat} {lk : Nat → Nat → Nat} {dt : Nat → Nat → Int32} {ad : Nat → Nat} {nd : Nat} {rt wk se : Nat → Nat} {sv : Nat → Int32}
theorem x_hasL {v : Int32} (hB : B ≤ 8) (H : HP B sr ln dn lk dt ad me st) (hf : ∀ e, LV sr e → nI (sr e) = v → pr 1) (hn : (∀ e, LV sr e → ¬ nI (sr e) = v) → pr 0) : ∀ n x, 32 * B - x < n → x ≤ 32 * B → (∀ e, LV sr e → ad e < x → ¬ nI (sr e) = v) → wX_has_8 pr v (nI B) (nI (8 * B)) (nI (32 * B)) (nI (12 * B)) (nI R) (nI S) ma ml oa ol md uw mt vc me st lt rs ss ws mk lm pw ca ms fw vn vq n (nI x) := by
  intro n
  induction n with
  | zero => intro x h; omega
  | succ n ih =>
    intro x h1 h2 h3
    refine pk_le (32 * B) x (fun q => hn (fun e he => h3 e he (by have := (H.1.1 e he).2.2.2; omega))) (fun q => And.intro (vp_in_nI (by omega) (by omega)) ?_)
    rw [nI_clamp (by omega), H.2.2 x (by omega)]
    by_cases he : ∃ e, LV sr e ∧ ad e = x
    · obtain ⟨e, he, rfl⟩ := he
      have q1 := LY_lt H.1 hB he
      refine br_f (bb_n0.mpr ⟨e, he, rfl⟩) (x_serialAt (by omega) ?_)
      rw [H.2.1 e he 1 (by omega), oc_1]
      refine br_c (fun c => hf e he c) (fun c => nm_r (nI_1 _) (ih (ad e + 1) (by omega) (by omega) (fun f hf' g => ?_)))
      by_cases d : f = e
      · subst d; exact c
      · refine h3 f hf' ?_
        have : ad f ≠ ad e := fun z => d (LY_in (c := 0) (d := 0) H.1 hf' he (by have := (H.1.1 f hf').1; omega) (by omega) z).1
        omega
    · refine br_t (bb_0.mpr he) (nm_r (nI_1 x) (ih (x + 1) (by omega) (by omega) (fun f hf' g => h3 f hf' ?_)))
      have : ad f ≠ x := fun z => he ⟨f, hf', z⟩
      omega
/-- slot i is the first that addresses its object -/
def fp (se : Nat → Nat) (i : Nat) : Prop := ¬ se i = 0 ∧ ∀ j, j < i → ¬ se j = se i
theorem x_ftpL {s t : Nat} (hB : B ≤ 8) (hs : s < 6) (H : HP B sr ln dn lk dt ad me st) (hG : GR R S sr ln dn rt wk se sv) (hS : ∀ i, i < 6 → ss i = sw ad (sv i) (se i)) (ht : LV sr t) (e : se s = t + 1) (h1 : fp se s → pr 1) (h0 : ¬ fp se s → pr 0) : ∀ n j, s - j < n → j ≤ s → (∀ i, i < j → ¬ se i = se s) → wX_firstToPin_13 pr (nI s) (nI (ad t)) (nI B) (nI (8 * B)) (nI (32 * B)) (nI (12 * B)) (nI R) (nI S) ma ml oa ol md uw mt vc me st lt rs ss ws mk lm pw ca ms fw vn vq n (nI j) := by
  intro n
  induction n with
  | zero => intro j h; omega
  | succ n ih =>
    intro j g1 g2 g3
    have up : ¬ se j = se s → ∀ i, i < j + 1 → ¬ se i = se s := fun c i hi => by
      rcases Nat.lt_or_ge i j with y | y
      · exact g3 i y
      · have : i = j := by omega
        subst this; exact c
    refine pk_le s j (fun q => h1 ⟨by omega, fun i hi => g3 i (by omega)⟩) (fun q => And.intro (vp_in_nI (by omega) (by omega)) ?_)
    rcases g_word (s := j) (by omega) hG hS with ⟨e1, e2, e3⟩ | ⟨t', c, e1, e2, e3, e4, e5⟩
    · exact nm_r (e' := ss j) (by rw [nI_clamp (by omega)]) (br_t e3 (nm_r (nI_1 j) (ih (j + 1) (by omega) (by omega) (up (by omega)))))
    · have q1 := LY_lt H.1 hB e2
      have q2 := LY_lt H.1 hB ht
      refine nm_r (e' := nI (ad t' + c)) (by rw [nI_clamp (by omega), e5]) (br_f (nI_pos (by omega)) (g_startOf hB H.1 H.2.2 e2 e3 (pk_eq (ad t') (ad t) (fun z => h0 (fun z2 => ?_)) (fun z => nm_r (nI_1 j) (ih (j + 1) (by omega) (by omega) (up (fun z2 => ?_)))))))
      · have := (LY_in (c := 0) (d := 0) H.1 e2 ht (by omega) (by omega) z).1
        exact z2.2 j q (by rw [e1, e, this])
      · have : t' = t := by omega
        exact z (by rw [this])
theorem x_pinnedL (hB : B ≤ 8) (hS6 : S ≤ 6) (H : HP B sr ln dn lk dt ad me st) (hG : GR R S sr ln dn rt wk se sv) (hS : ∀ i, i < 6 → ss i = sw ad (sv i) (se i)) (hp : pr (nI (cnt (fp se) S))) : ∀ n s, S - s < n → s ≤ S → wX_pinned_4 pr (nI B) (nI (8 * B)) (nI (32 * B)) (nI (12 * B)) (nI R) (nI S) ma ml oa ol md uw mt vc me st lt rs ss ws mk lm pw ca ms fw vn vq n (nI (cnt (fp se) s)) (nI s) := by
  intro n
  induction n with
  | zero => intro s h; omega
  | succ n ih =>
    intro s h1 h2
    refine pk_le S s (fun q => ?_) (fun q => And.intro (vp_in_nI (by omega) (by omega)) ?_)
    · have : s = S := by omega
      subst this; exact hp
    have ih' := ih (s + 1) (by omega) (by omega)
    have cs : cnt (fp se) (s + 1) = cnt (fp se) s + bn (fp se s) := rfl
    rw [nI_clamp (by omega)]
    rcases g_word (s := s) (by omega) hG hS with ⟨e1, e2, e3⟩ | ⟨t, c, e1, e2, e3, e4, e5⟩
    · refine br_t e3 (nm_r (nI_1 s) ?_)
      rw [cs, bn_f (fun z => z.1 e1)] at ih'
      exact ih'
    · have q1 := LY_lt H.1 hB e2
      refine br_f (by rw [e5]; exact nI_pos (by omega)) ?_
      unfold wpX_firstToPin
      refine And.intro (vp_in_nI (by omega) (by omega)) ?_
      rw [nI_clamp (by omega), e5]
      refine g_startOf hB H.1 H.2.2 e2 e3 (Exists.intro 9 (x_ftpL hB (by omega) H hG hS e2 e1 (fun z => br_f bb_10 ?_) (fun z => br_t rfl (nm_r (nI_1 s) ?_)) 9 0 (by omega) (by omega) (fun i hi => by omega)))
      · rw [cs, bn_t z] at ih'
        exact nm_r (nI_1 _) (nm_r (nI_1 s) ih')
      · rw [cs, bn_f z] at ih'
        exact ih'
end
theorem i_vc_has {k : Nat} {u : SX} {v : SY} (I : i_Rel k u v) (hk : k + 4 ≤ 2051) (v1 : Int32) : wpX_has (fun r => wpY_has (fun r' => r' = r ∧ i_Rel (k + 4) u v) v v1) u v1 := by
  refine I (fun u v => wpX_has (fun r => wpY_has (fun r' => r' = r ∧ i_Rel (k + 4) u v) v v1) u v1) ?_
  intro B R S nd sr ln dn lk dt rt wk se sv ad a l o p mt vc me st lt rs ss ws mk lm pw ca ms fw vn vq ce ro sS sV wS re vi G H HR HS HC HM HY
  obtain ⟨b1, b2, b3, b4, b5, b6, b7⟩ := G.1
  unfold wpX_has wpY_has
  by_cases h0 : 0 < v1
  · refine br_t h0 (Exists.intro 300 (x_hasL b2 H (fun e he q => ?_) (fun hn => ?_) 300 0 (by omega) (by omega) (fun e _ h => by omega)))
    · refine y_entryOf h0 (fun f hf _ => br_f (nI_pos (by omega)) ⟨rfl, rl_mk G H HR HS HC HM HY⟩) (fun hn => ?_)
      exact absurd (by rw [HM.1 e he.1]; exact q) (hn e he.1)
    · refine y_entryOf h0 (fun f hf q => ?_) (fun _ => br_t nu_n1 ⟨rfl, rl_mk G H HR HS HC HM HY⟩)
      rw [HM.1 f hf] at q
      refine absurd q (hn f ⟨hf, fun z => ?_⟩)
      rw [z] at q
      rw [← q] at h0
      exact absurd h0 (by decide)
  · exact br_f h0 (y_entry0 h0 (br_t nu_n1 ⟨rfl, rl_mk G H HR HS HC HM HY⟩))
section
variable {B R S : Nat} {yd : Int32} {ce ro sS sV wS re vi : Nat → Int32} {pr : Int32 → Prop} {sr ln dn : Nat → Nat} {lk : Nat → Nat → Nat} {dt : Nat → Nat → Int32} {nd : Nat} {rt wk se : Nat → Nat} {sv : Nat → Int32}
theorem sf_inj {r q : Nat} (hd : nd ≤ 30000) (G : GO nd sr ln dn lk) (hr : OKr sr r) (hq : OKr sr q) (h : sf sr r = sf sr q) : r = q := by
  cases r with
  | zero =>
    cases q with
    | zero => rfl
    | succ t => exact absurd h.symm (sr_pos hd G (hq t rfl))
  | succ s =>
    cases q with
    | zero => exact absurd h (sr_pos hd G (hr s rfl))
    | succ t =>
      have a := (G.1 s (hr s rfl)).2.2.2
      have b := (G.1 t (hq t rfl)).2.2.2
      have := G.2.1 s t (hr s rfl) (hq t rfl) (nu_inj h (by omega) (by omega))
      rw [this]
theorem y_p28 {J : Int32 → Int32 → Prop} {s : Nat} {x1 : Int32} (hs : s < 6) (hd : nd ≤ 30000) (G : GO nd sr ln dn lk) (ho : ∀ i, i < 6 → OKr sr (se i)) (hY : ∀ i, i < 6 → sS i = sf sr (se i)) (h1 : fp se s → J (x1 + 1) (nI (s + 1))) (h0 : ¬ fp se s → J x1 (nI (s + 1))) : ∀ n j, s - j < n → j ≤ s → ∀ y, ((y = 1 ∧ ¬ se s = 0 ∧ ∀ i, i < j → ¬ se i = se s) ∨ (y = 0 ∧ ¬ fp se s)) → wY_pinned_28 pr J x1 (nI s) (nI (12 * B)) (nI R) (nI S) yd ce ro sS sV wS re vi n y (nI j) := by
  intro n
  induction n with
  | zero => intro j h; omega
  | succ n ih =>
    intro j g1 g2 y g3
    refine pk_le s j (fun q => ?_) (fun q => And.intro (vp_in_nI (by omega) (by omega)) (And.intro (vp_in_nI (by omega) (by omega)) ?_))
    · rcases g3 with ⟨rfl, a2, a3⟩ | ⟨rfl, a2⟩
      · exact br_f bb_10 (nm_e (nm_r (nI_1 s) (h1 ⟨a2, fun i hi => a3 i (by omega)⟩)))
      · exact br_t rfl (nm_r (nI_1 s) (h0 a2))
    · rw [nI_clamp (n := j) (by omega), nI_clamp (n := s) (by omega), hY j (by omega), hY s hs]
      refine br_c (fun c => nm_r (nI_1 j) (ih (j + 1) (by omega) (by omega) 0 (Or.inr ⟨rfl, fun z => ?_⟩))) (fun c => nm_r (nI_1 j) (ih (j + 1) (by omega) (by omega) y ?_))
      · exact z.2 j q (sf_inj hd G (ho j (by omega)) (ho s hs) c)
      · rcases g3 with ⟨a1, a2, a3⟩ | a
        · refine Or.inl ⟨a1, a2, fun i hi => ?_⟩
          rcases Nat.lt_or_ge i j with w | w
          · exact a3 i w
          · have : i = j := by omega
            subst this
            exact fun z => c (by rw [z])
        · exact Or.inr a
theorem y_pinnedL (hd : nd ≤ 30000) (G : GO nd sr ln dn lk) (ho : ∀ i, i < 6 → OKr sr (se i)) (hY : ∀ i, i < 6 → sS i = sf sr (se i)) (hp : pr (nI (cnt (fp se) 6))) : ∀ n s, 6 - s < n → s ≤ 6 → wY_pinned_4 pr (nI (12 * B)) (nI R) (nI S) yd ce ro sS sV wS re vi n (nI (cnt (fp se) s)) (nI s) := by
  intro n
  induction n with
  | zero => intro s h; omega
  | succ n ih =>
    intro s h1 h2
    refine pk_le 6 s (fun q => ?_) (fun q => And.intro (vp_in_nI (by omega) (by omega)) ?_)
    · have : s = 6 := by omega
      subst this; exact hp
    have ih' := ih (s + 1) (by omega) (by omega)
    have cs : cnt (fp se) (s + 1) = cnt (fp se) s + bn (fp se s) := rfl
    have k1 : fp se s → wY_pinned_4 pr (nI (12 * B)) (nI R) (nI S) yd ce ro sS sV wS re vi n (nI (cnt (fp se) s) + 1) (nI (s + 1)) := fun z => by
      rw [cs, bn_t z] at ih'
      rw [nI_1]; exact ih'
    have k0 : ¬ fp se s → wY_pinned_4 pr (nI (12 * B)) (nI R) (nI S) yd ce ro sS sV wS re vi n (nI (cnt (fp se) s)) (nI (s + 1)) := fun z => by
      rw [cs, bn_f z] at ih'
      exact ih'
    rw [nI_clamp (by omega), hY s q]
    by_cases z : se s = 0
    · exact br_t (by rw [z]; rfl) (Exists.intro 9 (y_p28 q hd G ho hY k1 k0 9 0 (by omega) (by omega) 0 (Or.inr ⟨rfl, fun c => c.1 z⟩)))
    · refine br_f (fun c => z ?_) (Exists.intro 9 (y_p28 q hd G ho hY k1 k0 9 0 (by omega) (by omega) 1 (Or.inl ⟨rfl, z, fun i hi => by omega⟩)))
      exact sf_inj hd G (ho s q) OKr_0 c
end
theorem fp_S {S : Nat} {se : Nat → Nat} (h : ∀ i, S ≤ i → se i = 0) : ∀ n, S ≤ n → cnt (fp se) n = cnt (fp se) S
  | 0, hn => by have : S = 0 := by omega
                rw [this]
  | n + 1, hn => by
    rcases Nat.lt_or_ge S (n + 1) with q | q
    · have a := fp_S h n (by omega)
      have cs : cnt (fp se) (n + 1) = cnt (fp se) n + bn (fp se n) := rfl
      rw [cs, bn_f (fun z => z.1 (h n (by omega)))]
      omega
    · have : S = n + 1 := by omega
      rw [this]
theorem i_vc_pinned {k : Nat} {u : SX} {v : SY} (I : i_Rel k u v) (hk : k + 4 ≤ 2051) : wpX_pinned (fun r => wpY_pinned (fun r' => r' = r ∧ i_Rel (k + 4) u v) v) u := by
  refine I (fun u v => wpX_pinned (fun r => wpY_pinned (fun r' => r' = r ∧ i_Rel (k + 4) u v) v) u) ?_
  intro B R S nd sr ln dn lk dt rt wk se sv ad a l o p mt vc me st lt rs ss ws mk lm pw ca ms fw vn vq ce ro sS sV wS re vi G H HR HS HC HM HY
  obtain ⟨b1, b2, b3, b4, b5, b6, b7⟩ := G.1
  refine Exists.intro 9 (x_pinnedL b2 b6 H G.2.2.1 HS.2.2 ?_ 9 0 (by omega) (by omega))
  refine Exists.intro 9 (y_pinnedL b7 G.2.1 G.2.2.1.2.2.2.1 HY.2.2.1 ?_ 9 0 (by omega) (by omega))
  rw [fp_S G.2.2.1.2.2.2.2.1 6 (by omega)]
  exact ⟨rfl, rl_mk G H HR HS HC HM HY⟩
end
section
/-! reach, evacuate, scan -/
def CI (B : Nat) (sr ln dn : Nat → Nat) (lk : Nat → Nat → Nat) (dt : Nat → Nat → Int32) (ad0 se : Nat → Nat) (Q cr : Nat → Prop) (np : Nat) (ad sc sk : Nat → Nat) (M : Nat → Prop) (tp a l o p : Nat) (me st mk lm ms lt : Nat → Int32) : Prop :=
  CA B (LV sr) M (zs ln dn) ad0 ad ∧ CM (LV sr) M sr ln dn lk dt ad0 ad sc me ∧ XT (LV sr) ad st ∧ CK (LV sr) M (zs ln dn) ad mk lm ∧ CS (LV sr) M Q cr ln ad sc tp sk ms np ∧
  RI B (fun w => OC (LV sr) (zs ln dn) ad0 w ∨ OC (LV sr) (zs ln dn) ad w) lt a l o p ∧ (∀ i t, i < 6 → se i = t + 1 → ad t = ad0 t)
theorem CM_hd {L M : Nat → Prop} {sr ln dn : Nat → Nat} {lk : Nat → Nat → Nat} {dt : Nat → Nat → Int32} {ad0 ad sc : Nat → Nat} {me : Nat → Int32} {e : Nat} (h : CM L M sr ln dn lk dt ad0 ad sc me) (he : L e) : me (ad e) = nI (8 * ln e + dn e) := by
  have a := h.1 e he 0 (by unfold zs; omega)
  rw [oc_0, oc_0] at a
  by_cases q : 0 < sc e
  · rw [if_pos q] at a; exact a
  · rw [if_neg q] at a; exact a
theorem CM_scan {B : Nat} {L M : Nat → Prop} {sr ln dn : Nat → Nat} {lk : Nat → Nat → Nat} {dt : Nat → Nat → Int32} {ad0 ad sc : Nat → Nat} {me : Nat → Int32} {e c : Nat} (hA : CA B L M (zs ln dn) ad0 ad) (h : CM L M sr ln dn lk dt ad0 ad sc me) (he : L e) (hm : M e) (hc : sc e = c) (h2 : 2 ≤ c) (hc2 : c < 2 + ln e) (ht : ∀ t, lk e c = t + 1 → M t) :
    CM L M sr ln dn lk dt ad0 ad (un sc e (c + 1)) (upd me (ad e + c) (rf ad (lk e c))) := by
  have cz : c < zs ln dn e := by unfold zs; omega
  obtain ⟨h1, h3, h4, h5⟩ := h
  refine ⟨fun f hf d hd => ?_, fun f hf hn => ?_, fun f hf => ?_, fun f hf d d1 d2 t q => ?_⟩
  · by_cases q : f = e
    · subst q; rw [un_s]
      by_cases q2 : d = c
      · subst q2; rw [pk_us, if_pos (by omega), oc_l h2 hc2]
      · rw [pk_un (by omega), h1 f hf d hd]
        by_cases q3 : d < c
        · rw [if_pos (by omega), if_pos (by omega)]
        · rw [if_neg (by omega), if_neg (by omega)]
    · rw [un_n q, pk_un (fun z => q (LY_in hA.2.1 hf he hd cz z).1)]
      exact h1 f hf d hd
  · have n1 : ad0 f ≠ ad e + c := by
      intro z
      have zf := (hA.1.1 f hf).1
      rcases hA.2.2.2 e f he hf with ⟨a1, a2⟩ | a | a
      · subst a1; exact hn a2
      · omega
      · omega
    rw [pk_un n1]; exact h3 f hf hn
  · by_cases q : f = e
    · subst q; rw [un_s]; exact ⟨by omega, by omega, fun z => absurd hm z⟩
    · rw [un_n q]; exact h4 f hf
  · by_cases q1 : f = e
    · subst q1
      rw [un_s] at d2
      rcases Nat.lt_or_ge d c with y | y
      · exact h5 f hf d d1 (by omega) t q
      · have : d = c := by omega
        subst this; exact ht t q
    · rw [un_n q1] at d2
      exact h5 f hf d d1 d2 t q
theorem CS_scan {L M Q cr : Nat → Prop} {ln ad sc sk : Nat → Nat} {tp np e c : Nat} {ms : Nat → Int32} (h : CS L M Q cr ln ad sc tp sk ms np) (he : cr e) (hc : ∀ f, cr f → f = e) : CS L M Q cr ln ad (un sc e c) tp sk ms np := by
  obtain ⟨h1, h2, h3, h4, h5, h6⟩ := h
  refine ⟨fun i hi => ?_, h2, fun f f1 f2 => ?_, h4, h5, h6⟩
  · obtain ⟨a1, a2, a3, a4, a5⟩ := h1 i hi
    have n1 : sk i ≠ e := fun z => a5 (by rw [z]; exact he)
    exact ⟨a1, a2, by rw [un_n n1]; exact a3, a4, a5⟩
  · by_cases q : f = e
    · subst q; exact Or.inr (Or.inr he)
    · rw [un_n q]; exact h3 f f1 f2
theorem CS_end {L M Q : Nat → Prop} {ln ad sc sk : Nat → Nat} {tp np e : Nat} {ms : Nat → Int32} (h : CS L M Q (fun f => f = e) ln ad sc tp sk ms np) (he : sc e = 2 + ln e) : CS L M Q (fun _ => False) ln ad sc tp sk ms np := by
  obtain ⟨h1, h2, h3, h4, h5, h6⟩ := h
  refine ⟨fun i hi => ?_, h2, fun f f1 f2 => ?_, h4, fun f q => q.elim, h6⟩
  · obtain ⟨a1, a2, a3, a4, a5⟩ := h1 i hi
    exact ⟨a1, a2, a3, a4, fun z => z⟩
  · rcases h3 f f1 f2 with a | a | a
    · exact Or.inl a
    · exact Or.inr (Or.inl a)
    · subst a; exact Or.inl he
theorem CS_pop {L M Q : Nat → Prop} {ln ad sc sk : Nat → Nat} {tp np : Nat} {ms : Nat → Int32} (h : CS L M Q (fun _ => False) ln ad sc (tp + 1) sk ms np) : CS L M Q (fun f => f = sk tp) ln ad sc tp sk ms (np + 1) := by
  obtain ⟨h1, h2, h3, h4, h5, h6⟩ := h
  refine ⟨fun i hi => ?_, fun i j hi hj => h2 i j (by omega) (by omega), fun f f1 f2 => ?_, h4, fun f q => ?_, by omega⟩
  · obtain ⟨a1, a2, a3, a4, a5⟩ := h1 i (by omega)
    refine ⟨a1, a2, a3, a4, fun z => ?_⟩
    have := h2 i tp (by omega) (by omega) z
    omega
  · rcases h3 f f1 f2 with a | ⟨i, i1, i2⟩ | a
    · exact Or.inl a
    · by_cases q : i = tp
      · subst q; exact Or.inr (Or.inr i2.symm)
      · exact Or.inr (Or.inl ⟨i, by omega, i2⟩)
    · exact a.elim
  · rw [q]; exact (h1 tp (by omega)).2.1
section
variable {B R S : Nat} {ma ml oa ol md uw mt vc : Int32} {me st lt rs ss ws mk lm pw ca ms fw vn vq : Nat → Int32} {pp : Int32 → SX → Prop} {pu : SX → Prop} {sr ln dn : Nat → Nat} {lk : Nat → Nat → Nat} {dt : Nat → Nat → Int32} {ad0 se : Nat → Nat} {nd : Nat} {Q cr : Nat → Prop} {np : Nat}
theorem x_mark {ad ad' sc sk : Nat → Nat} {M : Nat → Prop} {tp a l o p t : Nat} (hB : B ≤ 8) (G : GO nd sr ln dn lk) (ht : LV sr t) (hQ : Q t) (hm : ¬ M t) (hK : CK (LV sr) M (zs ln dn) ad mk lm) (hS : CS (LV sr) M Q cr ln ad sc tp sk ms np) (ha : ∀ e, M e → ad' e = ad e)
    (hA : CA B (LV sr) (ad1 M t) (zs ln dn) ad0 ad') (hM : CM (LV sr) (ad1 M t) sr ln dn lk dt ad0 ad' sc me) (h2 : sc t = 2) (hT : XT (LV sr) ad' st) (hR : RI B (fun w => OC (LV sr) (zs ln dn) ad0 w ∨ OC (LV sr) (zs ln dn) ad' w) lt a l o p) (hP : ∀ i t, i < 6 → se i = t + 1 → ad' t = ad0 t)
    (hp : ∀ mk' lm' ms' sk', CI B sr ln dn lk dt ad0 se Q cr np ad' sc sk' (ad1 M t) (tp + 1) a l o p me st mk' lm' ms' lt → pp (nI (ad' t)) (nI B, nI (8 * B), nI (32 * B), nI (12 * B), nI R, nI S, nI a, nI l, nI o, nI p, md, uw, nI (tp + 1), vc, me, st, lt, rs, ss, ws, mk', lm', pw, ca, ms', fw, vn, vq)) : wX_reach_63 pp (nI (ad' t)) (nI B) (nI (8 * B)) (nI (32 * B)) (nI (12 * B)) (nI R) (nI S) (nI a) (nI l) (nI o) (nI p) md uw (nI tp) vc me st lt rs ss ws mk lm pw ca ms fw vn vq := by
  have q1 := LY_lt hA.2.1 hB ht
  have q2 := G.1 t ht
  have q3 : zs ln dn t = 2 + ln t + dn t := rfl
  have q4 := CS_lt hS ht.1 hm
  have hK' := CK_mark hK ha ht (by omega)
  have hS' := CS_push hS ha ht.1 ht hQ hm h2
  refine And.intro (vp_in_nI (by omega) (by omega)) (nm_r (nu_u (by omega) bb_v1) ?_)
  refine x_markLines (CM_hd hM ht) (by omega) (by omega) (by omega) ?_
  refine br_f (nI_ge (b := 48) (by omega) (by omega)) (And.intro (vp_in_nI (by omega) (by omega)) (nm_r (nu_u (by omega) rfl) (nm_r (nI_1 tp) ?_)))
  exact hp _ _ _ _ ⟨hA, hM, hT, hK', hS', hR, hP⟩
theorem x_reach {ad sc sk : Nat → Nat} {M : Nat → Prop} {tp a l o p r : Nat} (hB : B ≤ 8) (hS6 : ∀ i, S ≤ i → se i = 0) (G : GO nd sr ln dn lk) (hpw : ∀ w, w < 256 → pw w = bb (PN se (zs ln dn) ad0 S w)) (C : CI B sr ln dn lk dt ad0 se Q cr np ad sc sk M tp a l o p me st mk lm ms lt) (hr : ∀ t, r = t + 1 → LV sr t ∧ Q t)
    (hp : ∀ ad' sk' M' tp' a' l' o' p' me' st' mk' lm' ms' lt', CI B sr ln dn lk dt ad0 se Q cr np ad' sc sk' M' tp' a' l' o' p' me' st' mk' lm' ms' lt' → (∀ e, M e → M' e ∧ ad' e = ad e) → (∀ t, r = t + 1 → M' t) → pp (rf ad' r) (nI B, nI (8 * B), nI (32 * B), nI (12 * B), nI R, nI S, nI a', nI l', nI o', nI p', md, uw, nI tp', vc, me', st', lt', rs, ss, ws, mk', lm', pw, ca, ms', fw, vn, vq)) :
    wpX_reach pp (nI B, nI (8 * B), nI (32 * B), nI (12 * B), nI R, nI S, nI a, nI l, nI o, nI p, md, uw, nI tp, vc, me, st, lt, rs, ss, ws, mk, lm, pw, ca, ms, fw, vn, vq) (rf ad0 r) := by
  have C0 := C
  obtain ⟨hA, hM, hT, hK, hS, hR, hP⟩ := C
  cases r with
  | zero => exact br_f nu_nn1 (hp ad sk M tp a l o p me st mk lm ms lt C0 (fun e he => ⟨he, rfl⟩) (fun t e => by omega))
  | succ t =>
    obtain ⟨ht, hQ⟩ := hr t rfl
    have q0 := LY_lt hA.1 hB ht
    have q1 := LY_lt hA.2.1 hB ht
    have q2 := G.1 t ht
    have q3 : zs ln dn t = 2 + ln t + dn t := rfl
    have same : M t → pp (rf ad (t + 1)) (nI B, nI (8 * B), nI (32 * B), nI (12 * B), nI R, nI S, nI a, nI l, nI o, nI p, md, uw, nI tp, vc, me, st, lt, rs, ss, ws, mk, lm, pw, ca, ms, fw, vn, vq) := fun hm => hp ad sk M tp a l o p me st mk lm ms lt C0 (fun e he => ⟨he, rfl⟩) (fun u e => by
      have : u = t := by omega
      subst this; exact hm)
    show wpX_reach pp (nI B, nI (8 * B), nI (32 * B), nI (12 * B), nI R, nI S, nI a, nI l, nI o, nI p, md, uw, nI tp, vc, me, st, lt, rs, ss, ws, mk, lm, pw, ca, ms, fw, vn, vq) (nI (ad0 t))
    refine br_t (nI_pos' (by omega)) (And.intro (vp_in_nI (by omega) (by omega)) ?_)
    by_cases mv1 : ad t = ad0 t
    rotate_left
    · have hm : M t := by
        rcases Classical.em (M t) with z | z
        · exact z
        · exact absurd (hA.2.2.1 t ht z) mv1
      have e1 : me (nI (ad0 t)).toNatClampNeg = (-1) - nI (ad t) := by rw [nI_clamp (by omega)]; exact hM.2.1 t ht mv1
      refine br_f (by rw [e1]; exact fun z => nu_le0.mp z (nu_fn (by omega))) (And.intro (vp_in_nI (by omega) (by omega)) ?_)
      rw [e1, nu_ff]
      exact same hm
    have e1 : me (nI (ad0 t)).toNatClampNeg = nI (8 * ln t + dn t) := by rw [nI_clamp (by omega), ← mv1]; exact CM_hd hM ht
    have e2 : mk (nI (ad0 t)).toNatClampNeg = bb (M t) := by
      rw [nI_clamp (by omega), hK.1 _ (by omega)]
      refine bb_c ⟨fun ⟨e, a1, a2, a3⟩ => ?_, fun z => ⟨t, ht, z, mv1⟩⟩
      have := (LY_in (c := 0) (d := 0) hA.2.1 a1 ht (by have := (hA.2.1.1 e a1).1; omega) (by omega) (by omega)).1
      subst this; exact a2
    refine br_t (by rw [e1]; exact nI_pos' (by omega)) (And.intro (vp_in_nI (by omega) (by omega)) ?_)
    rw [e2]
    by_cases hm : M t
    · refine br_f (bb_n0.mpr hm) ?_
      rw [← mv1]
      exact same hm
    refine br_t (bb_0.mpr hm) ?_
    have h2 := (hM.2.2.1 t ht).2.2 hm
    have mono : ∀ e, M e → ad1 M t e := fun e he => Or.inl he
    -- the object stays; the runs may have changed
    have stay : ∀ lt' a' l' o' p', RI B (fun w => OC (LV sr) (zs ln dn) ad0 w ∨ OC (LV sr) (zs ln dn) ad w) lt' a' l' o' p' → wX_reach_63 pp (nI (ad0 t)) (nI B) (nI (8 * B)) (nI (32 * B)) (nI (12 * B)) (nI R) (nI S) (nI a') (nI l') (nI o') (nI p') md uw (nI tp) vc me st lt' rs ss ws mk lm pw ca ms fw vn vq := by
      intro lt' a' l' o' p' hR'
      rw [← mv1]
      refine x_mark (ad := ad) (ad' := ad) (t := t) hB G ht hQ hm hK hS (fun _ _ => rfl) (CA_mono hA mono) (CM_mono hM mono) h2 hT hR' hP (fun mk' lm' ms' sk' C' => ?_)
      exact hp ad sk' (ad1 M t) (tp + 1) a' l' o' p' me st mk' lm' ms' lt' C' (fun e he => ⟨Or.inl he, rfl⟩) (fun u e => by
        have : u = t := by omega
        subst this; exact Or.inr rfl)
    rw [nu_s5 (by omega)]
    refine And.intro (vp_in_nI (by omega) (by omega)) (br_c (fun _ => stay lt a l o p hR) (fun _ => And.intro (vp_in_nI (by omega) (by omega)) (br_c (fun hw => ?_) (fun _ => stay lt a l o p hR))))
    rw [nI_clamp (by omega), hpw _ (by omega), bb_0] at hw
    unfold wpX_evacuate
    refine x_sizeOf (by rw [nI_clamp (by omega)] at e1; exact e1) (by omega) (by omega) (by omega) ?_
    refine x_place (z := zs ln dn t) hB (by omega) (by omega) hR (fun lt' a' l' o' p' hR' _ _ => br_f nu_nn1 (stay lt' a' l' o' p' hR')) (fun x lt' a' l' o' p' x1 x2 x3 hR' => ?_)
    have dj : x + zs ln dn t ≤ ad0 t ∨ ad0 t + zs ln dn t ≤ x := iv_dj (by omega) (by omega) (fun w w1 w2 z => x3 w w1 w2 (Or.inl ⟨t, ht, z⟩))
    refine br_t (nI_pos' (by omega)) (x_moveObject (z := zs ln dn t) (by omega) (by omega) (by omega) (by omega) (And.intro (vp_in_nI (by omega) (by omega)) (nm_r (nu_u (by omega) rfl) ?_)))
    have hA' := CA_move hA ht x1 x2 x3
    have hM' := CM_move hA hM ht hm x3
    have hT' := XT_move (x := x) hA.2.1 hT ht (fun e he z => x3 x (Nat.le_refl _) (by omega) (Or.inr ⟨e, he, by omega, by have := (hA.2.1.1 e he).1; omega⟩))
    rw [mv1] at hM' hT'
    have ux : un ad t x t = x := un_s
    have key := x_mark (se := se) (pp := pp) (B := B) (R := R) (S := S) (md := md) (uw := uw) (vc := vc) (rs := rs) (ss := ss) (ws := ws) (pw := pw) (ca := ca) (fw := fw) (vn := vn) (vq := vq) (lt := lt') (ad := ad) (ad' := un ad t x) (t := t) (a := a') (l := l') (o := o') (p := p') hB G ht hQ hm hK hS (fun e he => un_n (fun z => hm (z ▸ he))) hA' hM' h2 hT'
      (RI_c hR' (fun w => ?_)) (fun i u hi e => ?_) (fun mk' lm' ms' sk' C' => ?_)
    · rw [ux] at key; exact key
    · refine ⟨fun z => ?_, fun z => ?_⟩
      · rcases z with z | ⟨e, a1, a2⟩
        · exact Or.inl (Or.inl z)
        · by_cases g : e = t
          · subst g; rw [un_s] at a2; exact Or.inr a2
          · rw [un_n g] at a2; exact Or.inl (Or.inr ⟨e, a1, a2⟩)
      · rcases z with (z | ⟨e, a1, a2⟩) | z
        · exact Or.inl z
        · by_cases g : e = t
          · subst g; rw [mv1] at a2; exact Or.inl ⟨e, a1, a2⟩
          · exact Or.inr ⟨e, a1, by rw [un_n g]; exact a2⟩
        · exact Or.inr ⟨t, ht, by rw [un_s]; exact z⟩
    · by_cases g : u = t
      · subst g
        refine absurd ⟨i, u, ?_, e, Nat.le_refl _, by omega⟩ hw
        rcases Nat.lt_or_ge i S with y | y
        · exact y
        · have := hS6 i y; omega
      · rw [un_n g]; exact hP i u hi e
    · exact hp (un ad t x) sk' (ad1 M t) (tp + 1) a' l' o' p' _ _ mk' lm' ms' lt' C' (fun e he => ⟨Or.inl he, un_n (fun z => hm (z ▸ he))⟩) (fun u e => by
        have : u = t := by omega
        subst this; exact Or.inr rfl)
theorem x_scanL {e : Nat} (hB : B ≤ 8) (hS6 : ∀ i, S ≤ i → se i = 0) (G : GO nd sr ln dn lk) (hpw : ∀ w, w < 256 → pw w = bb (PN se (zs ln dn) ad0 S w)) (hQ : ∀ e, LV sr e → Q e → ∀ c t, 2 ≤ c → c < 2 + ln e → lk e c = t + 1 → Q t) (he : LV sr e) (M0 : Nat → Prop) (aM : Nat → Nat) (x0 : Nat)
    (hp : ∀ ad' sc' sk' M' tp' a' l' o' p' me' st' mk' lm' ms' lt', CI B sr ln dn lk dt ad0 se Q (fun _ => False) np ad' sc' sk' M' tp' a' l' o' p' me' st' mk' lm' ms' lt' → (∀ e, M0 e → M' e ∧ ad' e = aM e) → pu (nI B, nI (8 * B), nI (32 * B), nI (12 * B), nI R, nI S, nI a', nI l', nI o', nI p', md, uw, nI tp', vc, me', st', lt', rs, ss, ws, mk', lm', pw, ca, ms', fw, vn, vq)) :
    ∀ n i ad sc sk M tp a l o p me st mk lm ms lt, ln e - i < n → i ≤ ln e → CI B sr ln dn lk dt ad0 se Q (fun f => f = e) np ad sc sk M tp a l o p me st mk lm ms lt → M e → sc e = 2 + i → (∀ f, M0 f → M f ∧ ad f = aM f) → ad e = x0 → wX_scan_8 pu (nI x0) (nI (ln e)) n (nI i) (nI B) (nI (8 * B)) (nI (32 * B)) (nI (12 * B)) (nI R) (nI S) (nI a) (nI l) (nI o) (nI p) md uw (nI tp) vc me st lt rs ss ws mk lm pw ca ms fw vn vq := by
  intro n
  induction n with
  | zero => intro i ad sc sk M tp a l o p me st mk lm ms lt h; omega
  | succ n ih =>
    intro i ad sc sk M tp a l o p me st mk lm ms lt h1 h2 C hm hs h0 hx
    have C0 := C
    obtain ⟨hA, hM, hT, hK, hS, hR, hP⟩ := C
    have q1 := LY_lt hA.2.1 hB he
    have q2 := G.1 e he
    have q3 : zs ln dn e = 2 + ln e + dn e := rfl
    refine pk_le (ln e) i (fun q => ?_) (fun q => ?_)
    · exact hp ad sc sk M tp a l o p me st mk lm ms lt ⟨hA, hM, hT, hK, CS_end hS (by omega), hR, hP⟩ h0
    have i1 : nI x0 + 2 + nI i = nI (x0 + (2 + i)) := by rw [nu_a2, nI_add]; exact congrArg nI (by omega)
    rw [i1]
    refine And.intro (vp_in_nI (by omega) (by omega)) (nm_r (e' := rf ad0 (lk e (2 + i))) ?_ ?_)
    · rw [nI_clamp (by omega), ← hx, hM.1 e he (2 + i) (by omega), if_neg (by omega), oc_l (by omega) (by omega)]
    refine x_reach hB hS6 G hpw C0 (fun t g => ⟨G.2.2 e he (2 + i) (by omega) (by omega) t g, hQ e he (hS.2.2.2.1 e hm).2 (2 + i) t (by omega) (by omega) g⟩) (fun ad' sk' M' tp' a' l' o' p' me' st' mk' lm' ms' lt' C' g1 g2 => ?_)
    obtain ⟨hA', hM', hT', hK', hS', hR', hP'⟩ := C'
    have ex : ad' e = x0 := by rw [(g1 e hm).2]; exact hx
    refine And.intro (vp_in_nI (by omega) (by omega)) (nm_r (nu_u (by omega) rfl) (nm_r (nI_1 i) ?_))
    refine ih (i + 1) ad' (un sc e (2 + i + 1)) sk' M' tp' a' l' o' p' _ st' mk' lm' ms' lt' (by omega) (by omega) ⟨hA', ?_, hT', hK', CS_scan hS' rfl (fun _ z => z), hR', hP'⟩ (g1 e hm).1 (by rw [un_s]; omega) (fun f hf => ⟨(g1 f (h0 f hf).1).1, (g1 f (h0 f hf).1).2.trans (h0 f hf).2⟩) ex
    rw [← ex]
    exact CM_scan hA' hM' he (g1 e hm).1 hs (by omega) (by omega) g2
end
end
section
/-! the rest of X's collection -/
theorem rf_ag {ad ad' : Nat → Nat} {r : Nat} (h : ∀ t, r = t + 1 → ad' t = ad t) : rf ad' r = rf ad r := by
  cases r with
  | zero => rfl
  | succ t => exact congrArg nI (h t rfl)
noncomputable def kp (M : Nat → Prop) (r : Nat) : Nat := @ite Nat (∃ t, r = t + 1 ∧ ¬ M t) (Classical.propDecidable _) 0 r
theorem kp_0 {M : Nat → Prop} : kp M 0 = 0 := by unfold kp; rw [if_neg (fun ⟨t, h, _⟩ => by omega)]
theorem kp_t {M : Nat → Prop} {t : Nat} (h : M t) : kp M (t + 1) = t + 1 := by
  unfold kp
  refine if_neg (fun ⟨u, h1, h2⟩ => ?_)
  have : u = t := by omega
  subst this; exact h2 h
theorem kp_f {M : Nat → Prop} {t : Nat} (h : ¬ M t) : kp M (t + 1) = 0 := by
  unfold kp; exact if_pos ⟨t, rfl, h⟩
noncomputable def kS (M : Nat → Prop) (sr : Nat → Nat) (e : Nat) : Nat := bn (M e) * sr e
theorem kS_t {M : Nat → Prop} {sr : Nat → Nat} {e : Nat} (h : M e) : kS M sr e = sr e := by unfold kS; rw [bn_t h]; omega
theorem kS_f {M : Nat → Prop} {sr : Nat → Nat} {e : Nat} (h : ¬ M e) : kS M sr e = 0 := by unfold kS; rw [bn_f h]; omega
theorem kS_lv {M : Nat → Prop} {sr : Nat → Nat} {e : Nat} : LV (kS M sr) e ↔ LV sr e ∧ M e := by
  unfold LV
  rcases Classical.em (M e) with h | h
  · rw [kS_t h]; exact ⟨fun z => ⟨z, h⟩, fun z => z.1⟩
  · rw [kS_f h]; exact ⟨fun z => absurd rfl z.2, fun z => absurd z.2 h⟩
section
variable {B R S : Nat} {ma ml oa ol md uw mt vc : Int32} {me st lt rs ss ws mk lm pw ca ms fw vn vq : Nat → Int32} {pp : Int32 → SX → Prop} {pu : SX → Prop} {sr ln dn : Nat → Nat} {lk : Nat → Nat → Nat} {dt : Nat → Nat → Int32} {ad0 se : Nat → Nat} {nd : Nat} {Q : Nat → Prop} {rt wk : Nat → Nat} {sv : Nat → Int32}
theorem x_ra76 (hB : B ≤ 8) (hS6 : ∀ i, S ≤ i → se i = 0) (G : GO nd sr ln dn lk) (hpw : ∀ w, w < 256 → pw w = bb (PN se (zs ln dn) ad0 S w)) (hQ : ∀ e, LV sr e → Q e → ∀ c t, 2 ≤ c → c < 2 + ln e → lk e c = t + 1 → Q t) (M0 : Nat → Prop) (aM : Nat → Nat)
    (hp : ∀ ad sc M a l o p me st mk lm ms lt, CA B (LV sr) M (zs ln dn) ad0 ad → CM (LV sr) M sr ln dn lk dt ad0 ad sc me → XT (LV sr) ad st → CK (LV sr) M (zs ln dn) ad mk lm → (∀ e, LV sr e → M e → sc e = 2 + ln e) → (∀ e, M e → LV sr e ∧ Q e) → (∀ f, M0 f → M f ∧ ad f = aM f) → (∀ i t, i < 6 → se i = t + 1 → ad t = ad0 t) → pu (nI B, nI (8 * B), nI (32 * B), nI (12 * B), nI R, nI S, nI a, nI l, nI o, nI p, md, uw, nI 0, vc, me, st, lt, rs, ss, ws, mk, lm, pw, ca, ms, fw, vn, vq)) :
    ∀ n x ad sc sk M tp a l o p me st mk lm ms lt, 48 - x < n → x ≤ 48 → CI B sr ln dn lk dt ad0 se Q (fun _ => False) x ad sc sk M tp a l o p me st mk lm ms lt → (∀ f, M0 f → M f ∧ ad f = aM f) → wX_reachAll_76 pu n (nI x) (nI B) (nI (8 * B)) (nI (32 * B)) (nI (12 * B)) (nI R) (nI S) (nI a) (nI l) (nI o) (nI p) md uw (nI tp) vc me st lt rs ss ws mk lm pw ca ms fw vn vq := by
  intro n
  induction n with
  | zero => intro x ad sc sk M tp a l o p me st mk lm ms lt h; omega
  | succ n ih =>
    intro x ad sc sk M tp a l o p me st mk lm ms lt h1 h2 C h0
    have C0 := C
    obtain ⟨hA, hM, hT, hK, hS, hR, hP⟩ := C
    have c1 := hS.2.2.2.2.2
    have c2 := cnt_le M 48
    have fin : tp = 0 → pu (nI B, nI (8 * B), nI (32 * B), nI (12 * B), nI R, nI S, nI a, nI l, nI o, nI p, md, uw, nI tp, vc, me, st, lt, rs, ss, ws, mk, lm, pw, ca, ms, fw, vn, vq) := by
      intro z
      subst z
      refine hp ad sc M a l o p me st mk lm ms lt hA hM hT hK (fun e e1 e2 => ?_) hS.2.2.2.1 h0 hP
      rcases hS.2.2.1 e e1 e2 with g | ⟨i, i1, _⟩ | g
      · exact g
      · omega
      · exact g.elim
    refine pk_le 48 x (fun q => fin (by omega)) (fun q => pk_le tp 0 (fun q2 => fin (by omega)) (fun q2 => ?_))
    obtain ⟨m, rfl⟩ : ∃ m, tp = m + 1 := ⟨tp - 1, by omega⟩
    obtain ⟨s1, s2, s3, s4, s5⟩ := hS.1 m (by omega)
    have q1 := LY_lt hA.2.1 hB s1
    have q3 := G.1 _ s1
    refine nm_r (nI_pred m) (And.intro (vp_in_nI (by omega) (by omega)) ?_)
    rw [nI_clamp (by omega), s4]
    unfold wpX_scan
    refine x_linksOf (CM_hd hM s1) (by omega) (by omega) (by omega) (Exists.intro 9 ?_)
    exact x_scanL hB hS6 G hpw hQ s1 M0 aM (ad (sk m)) (fun ad' sc' sk' M' tp' a' l' o' p' me' st' mk' lm' ms' lt' C' g => nm_r (nI_1 x) (ih (x + 1) ad' sc' sk' M' tp' a' l' o' p' me' st' mk' lm' ms' lt' (by omega) (by omega) C' g)) 9 0 ad sc sk M m a l o p me st mk lm ms lt (by omega) (by omega) ⟨hA, hM, hT, hK, CS_pop hS, hR, hP⟩ s2 (by omega) h0 rfl
theorem x_ra44 (hB : B ≤ 8) (hR12 : R ≤ 12) (hS6 : ∀ i, S ≤ i → se i = 0) (hR0 : ∀ i, R ≤ i → rt i = 0) (G : GO nd sr ln dn lk) (hpw : ∀ w, w < 256 → pw w = bb (PN se (zs ln dn) ad0 S w)) (hQ : ∀ e, LV sr e → Q e → ∀ c t, 2 ≤ c → c < 2 + ln e → lk e c = t + 1 → Q t) (hQr : ∀ i t, i < 12 → rt i = t + 1 → LV sr t ∧ Q t)
    (hp : ∀ ad sc M a l o p me st mk lm ms lt rs, CA B (LV sr) M (zs ln dn) ad0 ad → CM (LV sr) M sr ln dn lk dt ad0 ad sc me → XT (LV sr) ad st → CK (LV sr) M (zs ln dn) ad mk lm → (∀ e, LV sr e → M e → sc e = 2 + ln e) → (∀ e, M e → LV sr e ∧ Q e) → (∀ i, i < 12 → rs i = rf ad (rt i)) → (∀ i t, i < 12 → rt i = t + 1 → M t) → (∀ i t, i < 6 → se i = t + 1 → M t ∧ ad t = ad0 t) → pu (nI B, nI (8 * B), nI (32 * B), nI (12 * B), nI R, nI S, nI a, nI l, nI o, nI p, md, uw, nI 0, vc, me, st, lt, rs, ss, ws, mk, lm, pw, ca, ms, fw, vn, vq)) :
    ∀ n x ad sc sk M tp a l o p me st mk lm ms lt rs, R - x < n → x ≤ R → CI B sr ln dn lk dt ad0 se Q (fun _ => False) 0 ad sc sk M tp a l o p me st mk lm ms lt → (∀ i t, i < 6 → se i = t + 1 → M t) → (∀ i, i < 12 → (i < x → rs i = rf ad (rt i) ∧ ∀ t, rt i = t + 1 → M t) ∧ (x ≤ i → rs i = rf ad0 (rt i))) → wX_reachAll_44 pu n (nI x) (nI B) (nI (8 * B)) (nI (32 * B)) (nI (12 * B)) (nI R) (nI S) (nI a) (nI l) (nI o) (nI p) md uw (nI tp) vc me st lt rs ss ws mk lm pw ca ms fw vn vq := by
  intro n
  induction n with
  | zero => intro x ad sc sk M tp a l o p me st mk lm ms lt rs h; omega
  | succ n ih =>
    intro x ad sc sk M tp a l o p me st mk lm ms lt rs h1 h2 C hse h3
    refine pk_le R x (fun q => Exists.intro 49 ?_) (fun q => And.intro (vp_in_nI (by omega) (by omega)) ?_)
    · refine x_ra76 hB hS6 G hpw hQ M ad (fun ad' sc' M' a' l' o' p' me' st' mk' lm' ms' lt' k1 k2 k3 k4 k5 k6 k7 k8 => ?_) 49 0 ad sc sk M tp a l o p me st mk lm ms lt (by omega) (by omega) C (fun f hf => ⟨hf, rfl⟩)
      have rr : ∀ i, i < 12 → rs i = rf ad (rt i) ∧ ∀ t, rt i = t + 1 → M t := by
        intro i hi
        rcases Nat.lt_or_ge i x with c | c
        · exact (h3 i hi).1 c
        · have z := hR0 i (by omega)
          rw [(h3 i hi).2 c, z]
          exact ⟨rfl, fun t e => by omega⟩
      refine hp ad' sc' M' a' l' o' p' me' st' mk' lm' ms' lt' rs k1 k2 k3 k4 k5 k6 (fun i hi => ?_) (fun i t hi e => (k7 t ((rr i hi).2 t e)).1) (fun i t hi e => ⟨(k7 t (hse i t hi e)).1, k8 i t hi e⟩)
      rw [(rr i hi).1]
      exact (rf_ag (fun t e => (k7 t ((rr i hi).2 t e)).2)).symm
    · rw [nI_clamp (by omega), (h3 x (by omega)).2 (Nat.le_refl _)]
      refine x_reach hB hS6 G hpw C (fun t e => hQr x t (by omega) e) (fun ad' sk' M' tp' a' l' o' p' me' st' mk' lm' ms' lt' C' g1 g2 => And.intro (vp_in_nI (by omega) (by omega)) (nm_e (nm_r (nI_1 x) ?_)))
      refine ih (x + 1) ad' sc sk' M' tp' a' l' o' p' me' st' mk' lm' ms' lt' _ (by omega) (by omega) C' (fun i t hi e => (g1 t (hse i t hi e)).1) (fun i hi => ?_)
      by_cases g : i = x
      · subst g; rw [pk_us]; exact ⟨fun _ => ⟨rfl, g2⟩, fun _ => by omega⟩
      · rw [pk_un g]
        refine ⟨fun c => ?_, fun c => (h3 i hi).2 (by omega)⟩
        obtain ⟨y1, y2⟩ := (h3 i hi).1 (by omega)
        exact ⟨y1.trans (rf_ag (fun t e => (g1 t (y2 t e)).2)).symm, fun t e => (g1 t (y2 t e)).1⟩
theorem x_ra2 (hB : B ≤ 8) (hR12 : R ≤ 12) (hS6' : S ≤ 6) (hS6 : ∀ i, S ≤ i → se i = 0) (hR0 : ∀ i, R ≤ i → rt i = 0) (G : GO nd sr ln dn lk) (hpw : ∀ w, w < 256 → pw w = bb (PN se (zs ln dn) ad0 S w)) (hQ : ∀ e, LV sr e → Q e → ∀ c t, 2 ≤ c → c < 2 + ln e → lk e c = t + 1 → Q t) (hQr : ∀ i t, i < 12 → rt i = t + 1 → LV sr t ∧ Q t) (hQs : ∀ i t, i < 6 → se i = t + 1 → Q t) (hG : GR R S sr ln dn rt wk se sv) (hrs : ∀ i, i < 12 → rs i = rf ad0 (rt i)) (hss : ∀ i, i < 6 → ss i = sw ad0 (sv i) (se i))
    (hp : ∀ ad sc M a l o p me st mk lm ms lt rs, CA B (LV sr) M (zs ln dn) ad0 ad → CM (LV sr) M sr ln dn lk dt ad0 ad sc me → XT (LV sr) ad st → CK (LV sr) M (zs ln dn) ad mk lm → (∀ e, LV sr e → M e → sc e = 2 + ln e) → (∀ e, M e → LV sr e ∧ Q e) → (∀ i, i < 12 → rs i = rf ad (rt i)) → (∀ i t, i < 12 → rt i = t + 1 → M t) → (∀ i t, i < 6 → se i = t + 1 → M t ∧ ad t = ad0 t) → pu (nI B, nI (8 * B), nI (32 * B), nI (12 * B), nI R, nI S, nI a, nI l, nI o, nI p, md, uw, nI 0, vc, me, st, lt, rs, ss, ws, mk, lm, pw, ca, ms, fw, vn, vq)) :
    ∀ n x ad sc sk M tp a l o p me st mk lm ms lt, S - x < n → x ≤ S → CI B sr ln dn lk dt ad0 se Q (fun _ => False) 0 ad sc sk M tp a l o p me st mk lm ms lt → (∀ i t, i < x → se i = t + 1 → M t) → wX_reachAll_2 pu n (nI x) (nI B) (nI (8 * B)) (nI (32 * B)) (nI (12 * B)) (nI R) (nI S) (nI a) (nI l) (nI o) (nI p) md uw (nI tp) vc me st lt rs ss ws mk lm pw ca ms fw vn vq := by
  intro n
  induction n with
  | zero => intro x ad sc sk M tp a l o p me st mk lm ms lt h; omega
  | succ n ih =>
    intro x ad sc sk M tp a l o p me st mk lm ms lt h1 h2 C h3
    refine pk_le S x (fun q => Exists.intro 13 ?_) (fun q => And.intro (vp_in_nI (by omega) (by omega)) ?_)
    · refine x_ra44 hB hR12 hS6 hR0 G hpw hQ hQr hp 13 0 ad sc sk M tp a l o p me st mk lm ms lt rs (by omega) (by omega) C (fun i t hi e => ?_) (fun i hi => ⟨fun c => by omega, fun _ => hrs i hi⟩)
      rcases Nat.lt_or_ge i x with c | c
      · exact h3 i t c e
      · have := hS6 i (by omega); omega
    rw [nI_clamp (by omega)]
    rcases g_word (s := x) (by omega) hG hss with ⟨e1, e2, e3⟩ | ⟨t, c, e1, e2, e3, e4, e5⟩
    · refine br_t e3 (nm_r (nI_1 x) (ih (x + 1) ad sc sk M tp a l o p me st mk lm ms lt (by omega) (by omega) C (fun i t hi e => ?_)))
      rcases Nat.lt_or_ge i x with y | y
      · exact h3 i t y e
      · have : i = x := by omega
        subst this; omega
    · have eq0 : ad t = ad0 t := C.2.2.2.2.2.2 x t (by omega) e1
      have q1 := LY_lt C.1.2.1 hB e2
      rw [e5, ← eq0]
      refine br_f (nI_pos (by omega)) (And.intro (vp_in_nI (by omega) (by omega)) (g_startOf hB C.1.2.1 C.2.2.1 e2 e3 ?_))
      rw [eq0]
      refine x_reach (r := t + 1) hB hS6 G hpw C (fun u e => ?_) (fun ad' sk' M' tp' a' l' o' p' me' st' mk' lm' ms' lt' C' g1 g2 => nm_r (nI_1 x) ?_)
      · have : u = t := by omega
        subst this; exact ⟨e2, hQs x u (by omega) e1⟩
      · refine ih (x + 1) ad' sc sk' M' tp' a' l' o' p' me' st' mk' lm' ms' lt' (by omega) (by omega) C' (fun i u hi e => ?_)
        rcases Nat.lt_or_ge i x with y | y
        · exact (g1 u (h3 i u y e)).1
        · have : i = x := by omega
          subst this
          have : u = t := by omega
          subst this
          exact g2 u rfl
theorem x_mendL {ad sc : Nat → Nat} {M : Nat → Prop} (hB : B ≤ 8) (G : GO nd sr ln dn lk) (hA : CA B (LV sr) M (zs ln dn) ad0 ad) (hM : CM (LV sr) M sr ln dn lk dt ad0 ad sc me) (hK : CK (LV sr) M (zs ln dn) ad mk lm) (hw : ∀ i, i < 4 → OKr sr (wk i)) (hp : ∀ ws, (∀ i, i < 4 → ws i = rf ad (kp M (wk i))) → pu (nI B, nI (8 * B), nI (32 * B), nI (12 * B), nI R, nI S, ma, ml, oa, ol, md, uw, mt, vc, me, st, lt, rs, ss, ws, mk, lm, pw, ca, ms, fw, vn, vq)) : ∀ n x ws, 4 - x < n → x ≤ 4 → (∀ i, i < 4 → (i < x → ws i = rf ad (kp M (wk i))) ∧ (x ≤ i → ws i = rf ad0 (wk i))) → wX_mendWeak_2 pu (nI B) (nI (8 * B)) (nI (32 * B)) (nI (12 * B)) (nI R) (nI S) ma ml oa ol md uw mt vc n (nI x) me st lt rs ss ws mk lm pw ca ms fw vn vq := by
  intro n
  induction n with
  | zero => intro x ws h; omega
  | succ n ih =>
    intro x ws h1 h2 h3
    refine pk_le 4 x (fun q => hp ws (fun i hi => (h3 i hi).1 (by omega))) (fun q => And.intro (vp_in_nI (by omega) (by omega)) ?_)
    have e0 := (h3 x q).2 (Nat.le_refl _)
    have keep : ws x = rf ad (kp M (wk x)) → wX_mendWeak_2 pu (nI B) (nI (8 * B)) (nI (32 * B)) (nI (12 * B)) (nI R) (nI S) ma ml oa ol md uw mt vc n (nI (x + 1)) me st lt rs ss ws mk lm pw ca ms fw vn vq := fun g => ih (x + 1) ws (by omega) (by omega) (fun i hi => by
      by_cases z : i = x
      · subst z; exact ⟨fun _ => g, fun _ => by omega⟩
      · exact ⟨fun c => (h3 i hi).1 (by omega), fun c => (h3 i hi).2 (by omega)⟩)
    have put : ∀ y, y = rf ad (kp M (wk x)) → wX_mendWeak_2 pu (nI B) (nI (8 * B)) (nI (32 * B)) (nI (12 * B)) (nI R) (nI S) ma ml oa ol md uw mt vc n (nI (x + 1)) me st lt rs ss (upd ws x y) mk lm pw ca ms fw vn vq := fun y g => ih (x + 1) _ (by omega) (by omega) (fun i hi => by
      by_cases z : i = x
      · subst z; rw [pk_us]; exact ⟨fun _ => g, fun _ => by omega⟩
      · rw [pk_un z]; exact ⟨fun c => (h3 i hi).1 (by omega), fun c => (h3 i hi).2 (by omega)⟩)
    have ok := hw x q
    cases e : wk x with
    | zero =>
      rw [e] at e0 keep
      refine nm_r (e' := -1) (by rw [nI_clamp (by omega), e0]; rfl) (br_t nu_n1 (nm_r (nI_1 x) (keep ?_)))
      rw [kp_0]; exact e0
    | succ t =>
      rw [e] at e0 keep put
      have ht := ok t e
      have q0 := LY_lt hA.1 hB ht
      have q1 := LY_lt hA.2.1 hB ht
      have q2 := G.1 t ht
      refine nm_r (e' := nI (ad0 t)) (by rw [nI_clamp (by omega), e0]; rfl) (br_f (nI_pos (by omega)) (And.intro (vp_in_nI (by omega) (by omega)) ?_))
      by_cases mv1 : ad t = ad0 t
      · have e1 : me (nI (ad0 t)).toNatClampNeg = nI (8 * ln t + dn t) := by rw [nI_clamp (by omega), ← mv1]; exact CM_hd hM ht
        have e2 : mk (nI (ad0 t)).toNatClampNeg = bb (M t) := by
          rw [nI_clamp (by omega), hK.1 _ (by omega)]
          refine bb_c ⟨fun ⟨e, a1, a2, a3⟩ => ?_, fun z => ⟨t, ht, z, mv1⟩⟩
          have := (LY_in (c := 0) (d := 0) hA.2.1 a1 ht (by have := (hA.2.1.1 e a1).1; omega) (by omega) (by omega)).1
          subst this; exact a2
        refine br_t (by rw [e1]; exact nI_pos' (by omega)) (And.intro (vp_in_nI (by omega) (by omega)) ?_)
        rw [e2]
        by_cases hm : M t
        · refine br_f (bb_n0.mpr hm) (nm_r (nI_1 x) (keep ?_))
          rw [kp_t hm, e0]
          exact congrArg nI mv1.symm
        · exact br_t (bb_0.mpr hm) (And.intro (vp_in_nI (by omega) (by omega)) (nm_r (nu_u (by omega) rfl) (nm_r (nI_1 x) (put _ (by rw [kp_f hm]; rfl)))))
      · have hm : M t := by
          rcases Classical.em (M t) with z | z
          · exact z
          · exact absurd (hA.2.2.1 t ht z) mv1
        have e1 : me (nI (ad0 t)).toNatClampNeg = (-1) - nI (ad t) := by rw [nI_clamp (by omega)]; exact hM.2.1 t ht mv1
        refine br_f (by rw [e1]; exact fun z => nu_le0.mp z (nu_fn (by omega))) (And.intro (vp_in_nI (by omega) (by omega)) (And.intro (vp_in_nI (by omega) (by omega)) (nm_r (nu_u (by omega) rfl) (nm_r (nI_1 x) (put _ ?_)))))
        rw [e1, nu_ff, kp_t hm]; rfl
/-- how many, how large: by address -/
noncomputable def sD (L M : Nat → Prop) (ad : Nat → Nat) (w : Nat) : Nat := sm (fun e => bn (L e ∧ ¬ M e ∧ ad e = w)) 48
noncomputable def sZ (L M : Nat → Prop) (z ad : Nat → Nat) (w : Nat) : Nat := sm (fun e => bn (L e ∧ M e ∧ ad e = w) * z e) 48
theorem x_sweepL {ad sc : Nat → Nat} {M : Nat → Prop} (hB : B ≤ 8) (G : GO nd sr ln dn lk) (hA : CA B (LV sr) M (zs ln dn) ad0 ad) (hM : CM (LV sr) M sr ln dn lk dt ad0 ad sc me) (hK : CK (LV sr) M (zs ln dn) ad mk lm)
    (hp : ∀ st, (∀ w, w < 256 → st w = bb (∃ e, (LV sr e ∧ M e) ∧ ad e = w)) → pp (nI (sm (sD (LV sr) M ad) (32 * B))) (nI B, nI (8 * B), nI (32 * B), nI (12 * B), nI R, nI S, ma, ml, oa, ol, md, nI (sm (sZ (LV sr) M (zs ln dn) ad) (32 * B)), mt, vc, me, st, lt, rs, ss, ws, mk, lm, pw, ca, ms, fw, vn, vq)) : ∀ n x st, 32 * B - x < n → x ≤ 32 * B → (∀ w, w < 256 → (w < x → st w = bb (∃ e, (LV sr e ∧ M e) ∧ ad e = w)) ∧ (x ≤ w → st w = bb (∃ e, LV sr e ∧ ad e = w))) → wX_sweep_6 pp (nI B) (nI (8 * B)) (nI (32 * B)) (nI (12 * B)) (nI R) (nI S) ma ml oa ol md uw mt vc n (nI (sm (sD (LV sr) M ad) x)) (nI (sm (sZ (LV sr) M (zs ln dn) ad) x)) (nI x) me st lt rs ss ws mk lm pw ca ms fw vn vq := by
  intro n
  induction n with
  | zero => intro x st h; omega
  | succ n ih =>
    intro x st h1 h2 h3
    refine pk_le (32 * B) x (fun q => ?_) (fun q => And.intro (vp_in_nI (by omega) (by omega)) ?_)
    · have : x = 32 * B := by omega
      subst this
      refine hp st (fun w hw => ?_)
      rcases Nat.lt_or_ge w (32 * B) with c | c
      · exact (h3 w hw).1 c
      · rw [(h3 w hw).2 c]
        refine bb_c ⟨fun ⟨e, a1, a2⟩ => ?_, fun ⟨e, a1, a2⟩ => ⟨e, a1.1, a2⟩⟩
        have := (hA.2.1.1 e a1).2.2.2
        omega
    have e0 : st (nI x).toNatClampNeg = bb (∃ e, LV sr e ∧ ad e = x) := by rw [nI_clamp (by omega)]; exact (h3 x (by omega)).2 (Nat.le_refl _)
    rw [e0]
    have sd : sm (sD (LV sr) M ad) (x + 1) = sm (sD (LV sr) M ad) x + sD (LV sr) M ad x := rfl
    have sz : sm (sZ (LV sr) M (zs ln dn) ad) (x + 1) = sm (sZ (LV sr) M (zs ln dn) ad) x + sZ (LV sr) M (zs ln dn) ad x := rfl
    by_cases he : ∃ e, LV sr e ∧ ad e = x
    · obtain ⟨e, he, rfl⟩ := he
      have q1 := LY_lt hA.2.1 hB he
      have q2 := G.1 e he
      have uq : ∀ f, LV sr f → ad f = ad e → f = e := fun f hf z => (LY_in (c := 0) (d := 0) hA.2.1 hf he (by have := (hA.2.1.1 f hf).1; omega) (by omega) z).1
      have d1 : sD (LV sr) M ad (ad e) = bn (LV sr e ∧ ¬ M e ∧ ad e = ad e) := sm_1 he.1 (fun i _ hn => bn_f (fun z => hn (uq i z.1 z.2.2)))
      have z1 : sZ (LV sr) M (zs ln dn) ad (ad e) = bn (LV sr e ∧ M e ∧ ad e = ad e) * zs ln dn e := sm_1 (f := fun f => bn (LV sr f ∧ M f ∧ ad f = ad e) * zs ln dn f) he.1 (fun i _ hn => by
        show bn (LV sr i ∧ M i ∧ ad i = ad e) * zs ln dn i = 0
        rw [bn_f (fun z => hn (uq i z.1 z.2.2))]; omega)
      have e2 : mk (nI (ad e)).toNatClampNeg = bb (M e) := by
        rw [nI_clamp (by omega), hK.1 _ (by omega)]
        refine bb_c ⟨fun ⟨f, a1, a2, a3⟩ => ?_, fun z => ⟨e, he, z, rfl⟩⟩
        have := uq f a1 a3
        subst this; exact a2
      refine br_f (bb_n0.mpr ⟨e, he, rfl⟩) (And.intro (vp_in_nI (by omega) (by omega)) ?_)
      rw [e2]
      by_cases hm : M e
      · rw [d1, bn_f (fun z => z.2.1 hm)] at sd
        rw [z1, bn_t ⟨he, hm, rfl⟩, Nat.one_mul] at sz
        refine br_f (bb_n0.mpr hm) (x_sizeOf (CM_hd hM he) (by omega) (by omega) (by omega) (nm_r (e' := nI (sm (sZ (LV sr) M (zs ln dn) ad) (ad e + 1))) (by rw [nI_add, sz]; rfl) (nm_r (nI_1 _) ?_)))
        have g := ih (ad e + 1) st (by omega) (by omega) (fun w hw => ⟨fun c => ?_, fun c => (h3 w hw).2 (by omega)⟩)
        · rw [sd, Nat.add_zero] at g; exact g
        · rcases Nat.lt_or_ge w (ad e) with y | y
          · exact (h3 w hw).1 y
          · have : w = ad e := by omega
            subst this
            rw [(h3 (ad e) hw).2 (Nat.le_refl _)]
            exact bb_c ⟨fun _ => ⟨e, ⟨he, hm⟩, rfl⟩, fun ⟨f, a1, a2⟩ => ⟨f, a1.1, a2⟩⟩
      · rw [d1, bn_t ⟨he, hm, rfl⟩] at sd
        rw [z1, bn_f (fun z => hm z.2.1), Nat.zero_mul] at sz
        refine br_t (bb_0.mpr hm) (And.intro (vp_in_nI (by omega) (by omega)) (nm_r (nu_u (by omega) bb_v0) (nm_r (e' := nI (sm (sD (LV sr) M ad) (ad e + 1))) (by rw [nI_1, sd]) (nm_r (nI_1 _) ?_))))
        have g := ih (ad e + 1) (upd st (ad e) 0) (by omega) (by omega) (fun w hw => ?_)
        · rw [sz, Nat.add_zero] at g; exact g
        · by_cases z : w = ad e
          · subst z; rw [pk_us]
            refine ⟨fun _ => (bb_f (fun ⟨f, a1, a2⟩ => ?_)).symm, fun _ => by omega⟩
            exact hm (uq f a1.1 a2 ▸ a1.2)
          · rw [pk_un z]; exact ⟨fun c => (h3 w hw).1 (by omega), fun c => (h3 w hw).2 (by omega)⟩
    · have d1 : sD (LV sr) M ad x = 0 := sm_z (fun i _ => bn_f (fun z => he ⟨i, z.1, z.2.2⟩))
      have z1 : sZ (LV sr) M (zs ln dn) ad x = 0 := sm_z (fun i _ => by
        show bn (LV sr i ∧ M i ∧ ad i = x) * zs ln dn i = 0
        rw [bn_f (fun z => he ⟨i, z.1, z.2.2⟩)]; omega)
      have g := ih (x + 1) st (by omega) (by omega) (fun w hw => ⟨fun c => ?_, fun c => (h3 w hw).2 (by omega)⟩)
      · rw [sd, sz, d1, z1] at g
        exact br_t (bb_0.mpr he) (nm_r (nI_1 x) g)
      · rcases Nat.lt_or_ge w x with y | y
        · exact (h3 w hw).1 y
        · have : w = x := by omega
          subst this
          rw [(h3 w hw).2 (Nat.le_refl _)]
          exact bb_c ⟨fun z => absurd z he, fun ⟨f, a1, a2⟩ => ⟨f, a1.1, a2⟩⟩
end
theorem sD_sum {B : Nat} {L M : Nat → Prop} {z ad : Nat → Nat} (hL : LY B L z ad) : sm (sD L M ad) (32 * B) = cnt (fun e => L e ∧ ¬ M e) 48 := by
  have s := sm_swap (f := fun w e => bn (L e ∧ ¬ M e ∧ ad e = w)) (m := 48) (n := 32 * B)
  have e : sm (sD L M ad) (32 * B) = sm (fun i => sm (fun j => bn (L j ∧ ¬ M j ∧ ad j = i)) 48) (32 * B) := rfl
  rw [e, s]
  refine sm_eq (fun e _ => ?_)
  show sm (fun i => bn (L e ∧ ¬ M e ∧ ad e = i)) (32 * B) = bn (L e ∧ ¬ M e)
  rcases Classical.em (L e ∧ ¬ M e) with h | h
  · rw [sm_1 (k := ad e) (hL.1 e h.1).2.2.2 (fun i _ hn => bn_f (fun q => hn q.2.2.symm)), bn_t h]
    exact bn_t ⟨h.1, h.2, rfl⟩
  · rw [bn_f h]
    exact sm_z (fun i _ => bn_f (fun q => h ⟨q.1, q.2.1⟩))
theorem sZ_sum {B : Nat} {sr ln dn ad : Nat → Nat} {M Q : Nat → Prop} (hL : LY B (LV sr) (zs ln dn) ad) (hQ : ∀ e, LV sr e → (M e ↔ Q e)) : sm (sZ (LV sr) M (zs ln dn) ad) (32 * B) = tot (kS Q sr) ln dn := by
  have s := sm_swap (f := fun w e => bn (LV sr e ∧ M e ∧ ad e = w) * zs ln dn e) (m := 48) (n := 32 * B)
  have e : sm (sZ (LV sr) M (zs ln dn) ad) (32 * B) = sm (fun i => sm (fun j => bn (LV sr j ∧ M j ∧ ad j = i) * zs ln dn j) 48) (32 * B) := rfl
  rw [e, s]
  refine sm_eq (fun e he => ?_)
  show sm (fun i => bn (LV sr e ∧ M e ∧ ad e = i) * zs ln dn e) (32 * B) = if kS Q sr e = 0 then 0 else zs ln dn e
  rcases Classical.em (LV sr e ∧ M e) with h | h
  · rw [sm_1 (k := ad e) (hL.1 e h.1).2.2.2 (fun i _ hn => by
      show bn (LV sr e ∧ M e ∧ ad e = i) * zs ln dn e = 0
      rw [bn_f (fun q => hn q.2.2.symm)]; omega), kS_t ((hQ e h.1).mp h.2), if_neg h.1.2, bn_t ⟨h.1, h.2, rfl⟩, Nat.one_mul]
  · rw [sm_z (fun i _ => by
      show bn (LV sr e ∧ M e ∧ ad e = i) * zs ln dn e = 0
      rw [bn_f (fun q => h ⟨q.1, q.2.1⟩)]; omega)]
    by_cases z : sr e = 0
    · rw [if_pos (by unfold kS; rw [z]; omega)]
    · rw [kS_f (fun q => h ⟨⟨he, z⟩, (hQ e ⟨he, z⟩).mpr q⟩), if_pos rfl]
end
section
/-- what can be reached -/
def Rch (sr ln : Nat → Nat) (lk : Nat → Nat → Nat) (rt se : Nat → Nat) (e : Nat) : Prop := ∀ P : Nat → Prop, (∀ i t, i < 12 → rt i = t + 1 → P t) → (∀ i t, i < 6 → se i = t + 1 → P t) → (∀ e, LV sr e → P e → ∀ c t, 2 ≤ c → c < 2 + ln e → lk e c = t + 1 → P t) → P e
theorem Rch_r {sr ln : Nat → Nat} {lk : Nat → Nat → Nat} {rt se : Nat → Nat} {i t : Nat} (hi : i < 12) (h : rt i = t + 1) : Rch sr ln lk rt se t := fun _ h1 _ _ => h1 i t hi h
theorem Rch_s {sr ln : Nat → Nat} {lk : Nat → Nat → Nat} {rt se : Nat → Nat} {i t : Nat} (hi : i < 6) (h : se i = t + 1) : Rch sr ln lk rt se t := fun _ _ h2 _ => h2 i t hi h
theorem Rch_c {sr ln : Nat → Nat} {lk : Nat → Nat → Nat} {rt se : Nat → Nat} : ∀ e, LV sr e → Rch sr ln lk rt se e → ∀ c t, 2 ≤ c → c < 2 + ln e → lk e c = t + 1 → Rch sr ln lk rt se t :=
  fun e he hq c t c1 c2 h P h1 h2 h3 => h3 e he (hq P h1 h2 h3) c t c1 c2 h
section
variable {B R S : Nat} {ma ml oa ol md uw mt vc : Int32} {me st lt rs ss ws mk lm pw ca ms fw vn vq : Nat → Int32} {pp : Int32 → SX → Prop} {pu : SX → Prop} {sr ln dn : Nat → Nat} {lk : Nat → Nat → Nat} {dt : Nat → Nat → Int32} {ad0 se : Nat → Nat} {nd : Nat} {rt wk : Nat → Nat} {sv : Nat → Int32}
theorem x_retireMain {a l : Nat} (hl : l ≤ 256) (ha : a ≤ 256) (hp : pu (nI B, nI (8 * B), nI (32 * B), nI (12 * B), nI R, nI S, 0, 0, oa, ol, md, uw, mt, vc, me, st, fg lt ((a + 3) / 4) (l / 4) (fun _ => 0), rs, ss, ws, mk, lm, pw, ca, ms, fw, vn, vq)) : wpX_retireMain pu (nI B, nI (8 * B), nI (32 * B), nI (12 * B), nI R, nI S, nI a, nI l, oa, ol, md, uw, mt, vc, me, st, lt, rs, ss, ws, mk, lm, pw, ca, ms, fw, vn, vq) := by
  unfold wpX_retireMain
  exact x_release hl ha hp
theorem x_retireOver {a l : Nat} (hl : l ≤ 256) (ha : a ≤ 256) (hp : pu (nI B, nI (8 * B), nI (32 * B), nI (12 * B), nI R, nI S, ma, ml, 0, 0, md, uw, mt, vc, me, st, fg lt ((a + 3) / 4) (l / 4) (fun _ => 0), rs, ss, ws, mk, lm, pw, ca, ms, fw, vn, vq)) : wpX_retireOver pu (nI B, nI (8 * B), nI (32 * B), nI (12 * B), nI R, nI S, ma, ml, nI a, nI l, md, uw, mt, vc, me, st, lt, rs, ss, ws, mk, lm, pw, ca, ms, fw, vn, vq) := by
  unfold wpX_retireOver
  exact x_release hl ha hp
theorem x_collect {a l o p : Nat} (W : GW B R S nd sr ln dn lk rt wk se sv) (H : HP B sr ln dn lk dt ad0 me st) (HR : RI B (OC (LV sr) (zs ln dn) ad0) lt a l o p) (HS : SL rt wk se sv ad0 rs ws ss)
    (hp : ∀ ad me' st' lt' rs' ws' mk' lm' pw' ca' ms', HP B (kS (Rch sr ln lk rt se) sr) ln dn lk dt ad me' st' → RI B (OC (LV (kS (Rch sr ln lk rt se) sr)) (zs ln dn) ad) lt' 0 0 0 0 → SL rt (fun i => kp (Rch sr ln lk rt se) (wk i)) se sv ad rs' ws' ss → CZ ca' →
      pp (nI (cnt (fun e => LV sr e ∧ ¬ Rch sr ln lk rt se e) 48)) (nI B, nI (8 * B), nI (32 * B), nI (12 * B), nI R, nI S, 0, 0, 0, 0, md, nI (tot (kS (Rch sr ln lk rt se) sr) ln dn), nI 0, vc, me', st', lt', rs', ss, ws', mk', lm', pw', ca', ms', fw, vn, vq)) : wpX_collect pp (nI B, nI (8 * B), nI (32 * B), nI (12 * B), nI R, nI S, nI a, nI l, nI o, nI p, md, uw, mt, vc, me, st, lt, rs, ss, ws, mk, lm, pw, ca, ms, fw, vn, vq) := by
  obtain ⟨⟨b1, b2, b3, b4, b5, b6, b7⟩, G, hG, hT⟩ := W
  have r1 := HR.2.1
  have r2 := HR.2.2.1
  have R1 := RI_rel HR
  have R2 := RI_sw (RI_rel (RI_sw R1))
  unfold wpX_collect
  refine x_retireMain (by have := r1.2.1; omega) (by have := r1.1; have := r1.2.1; omega) ?_
  refine x_retireOver (by have := r2.2.1; omega) (by have := r2.1; have := r2.2.1; omega) ?_
  refine g_flagPins b2 b6 G H hG HS.2.2 (fun pw' hpw => ?_)
  refine x_choose b2 (fun ca' => ?_)
  refine x_clearMarks ?_
  have C0 : CI B sr ln dn lk dt ad0 se (Rch sr ln lk rt se) (fun _ => False) 0 ad0 (fun _ => 2) (fun _ => 0) (fun _ => False) 0 0 0 0 0 me st (fg mk 0 256 (fun _ => 0)) (fg lm 0 64 (fun _ => 0)) ms (fg (fg lt ((a + 3) / 4) (l / 4) (fun _ => 0)) ((o + 3) / 4) (p / 4) (fun _ => 0)) := by
    refine ⟨⟨H.1, H.1, fun _ _ _ => rfl, fun e f he hf => ?_⟩, ⟨fun e he c hc => ?_, fun e he hn => absurd rfl hn, fun e he => ⟨Nat.le_refl 2, Nat.le_add_right 2 _, fun _ => rfl⟩, fun e he c c1 c2 => absurd (Nat.lt_of_lt_of_le c2 c1) (Nat.lt_irrefl _)⟩, H.2.2, ⟨fun w hw => ?_, fun j hj => ?_⟩, ⟨fun i hi => by omega, fun i j hi => by omega, fun e _ z => z.elim, fun e z => z.elim, fun e z => z, ?_⟩, RI_c R2 (fun w => ⟨fun z => z.elim id id, Or.inl⟩), fun _ _ _ _ => rfl⟩
    · by_cases q : e = f
      · exact Or.inl ⟨q, rfl⟩
      · exact Or.inr (H.1.2 e f he hf q)
    · rw [H.2.1 e he c hc]
      by_cases q : c < 2
      · rw [if_pos q]
      · rw [if_neg q]
    · rw [fg_in (by omega)]; exact (bb_f (fun ⟨e, _, z, _⟩ => z)).symm
    · rw [fg_in (by omega)]; exact (bb_f (fun ⟨e, _, z, _⟩ => z)).symm
    · exact (sm_z (fun i _ => bn_f (fun z => z))).symm
  refine Exists.intro 9 (x_ra2 b2 b4 b6 hG.2.2.2.2.1 hG.2.1 G hpw Rch_c (fun i t hi e => ⟨hG.1 i hi t e, Rch_r hi e⟩) (fun i t hi e => Rch_s hi e) hG HS.1 HS.2.2 (fun ad sc M a l o p me st mk lm ms lt rs hA hM hX hK hsc hMQ hrs hrM hsM => ?_) 9 0 ad0 (fun _ => 2) (fun _ => 0) (fun _ => False) 0 0 0 0 0 me st _ _ ms _ (by omega) (by omega) C0 (fun i t hi => by omega))
  have iff : ∀ e, LV sr e → (M e ↔ Rch sr ln lk rt se e) := fun e he => ⟨fun z => (hMQ e z).2, fun z => z M hrM (fun i t hi q => (hsM i t hi q).1) (fun f hf hm c t c1 c2 q => hM.2.2.2 f hf c c1 (by rw [hsc f hf hm]; exact c2) t q)⟩
  refine Exists.intro 5 (x_mendL b2 G hA hM hK hG.2.2.1 (fun ws' hws => ?_) 5 0 ws (by omega) (by omega) (fun i hi => ⟨fun c => by omega, fun _ => HS.2.1 i hi⟩))
  refine Exists.intro 300 (x_sweepL b2 G hA hM hK (fun st' hst => ?_) 300 0 st (by omega) (by omega) (fun w hw => ⟨fun c => by omega, fun _ => hX w hw⟩))
  refine x_adopt (fun j hj => by rw [hK.2 j hj]; exact bb_v _) ?_
  refine x_candClear ?_
  have lvM : ∀ e, LV (kS (Rch sr ln lk rt se) sr) e → LV sr e ∧ M e := fun e he => ⟨(kS_lv.mp he).1, (iff e (kS_lv.mp he).1).mpr (kS_lv.mp he).2⟩
  have lvI : ∀ e, LV sr e → M e → LV (kS (Rch sr ln lk rt se) sr) e := fun e he hm => kS_lv.mpr ⟨he, (iff e he).mp hm⟩
  rw [sD_sum hA.2.1, sZ_sum hA.2.1 iff, cnt_c (Q := fun e => LV sr e ∧ ¬ Rch sr ln lk rt se e) (fun e _ => ⟨fun z => ⟨z.1, fun y => z.2 ((iff e z.1).mpr y)⟩, fun z => ⟨z.1, fun y => z.2 ((iff e z.1).mp y)⟩⟩)]
  refine hp ad me st' _ rs ws' mk lm pw' _ ms ⟨⟨fun e he => hA.2.1.1 e (lvM e he).1, fun e f he hf => hA.2.1.2 e f (lvM e he).1 (lvM f hf).1⟩, fun e he c hc => ?_, fun w hw => ?_⟩ ⟨fun w ⟨e, he, w1, w2⟩ => ?_, ⟨by omega, by omega, fun q => by omega, fun w _ q => by omega⟩, ⟨by omega, by omega, fun q => by omega, fun w _ q => by omega⟩, fun w _ q => by omega⟩ ⟨hrs, fun i hi => ?_, fun i hi => ?_⟩ (fun b hb => fg_in (by omega))
  · obtain ⟨he1, he2⟩ := lvM e he
    rw [kS_t (kS_lv.mp he).2, hM.1 e he1 c hc, hsc e he1 he2]
    by_cases q : c < 2 + ln e
    · rw [if_pos q]
    · rw [if_neg q, oc_d (by omega), oc_d (by omega)]
  · rw [hst w hw]
    exact bb_c ⟨fun ⟨e, a1, a2⟩ => ⟨e, lvI e a1.1 a1.2, a2⟩, fun ⟨e, a1, a2⟩ => ⟨e, lvM e a1, a2⟩⟩
  · obtain ⟨he1, he2⟩ := lvM e he
    have := LY_lt hA.2.1 b2 he1
    rw [fg_in (by omega), hK.2 _ (by omega)]
    exact bb_n0.mpr ⟨e, he1, he2, by omega, by omega⟩
  · rw [hws i hi]
    show rf ad (kp M (wk i)) = rf ad (kp (Rch sr ln lk rt se) (wk i))
    have ok := hG.2.2.1 i hi
    cases e : wk i with
    | zero => rw [kp_0, kp_0]
    | succ t =>
      rcases Classical.em (M t) with z | z
      · rw [kp_t z, kp_t ((iff t (ok t e)).mp z)]
      · rw [kp_f z, kp_f (fun y => z ((iff t (ok t e)).mpr y))]
  · rw [HS.2.2 i hi]
    cases e : se i with
    | zero => rfl
    | succ t =>
      show nI (ad0 t) + sv i = nI (ad t) + sv i
      rw [(hsM i t hi e).2]
end
end
section
/-! Y's collection -/
def YN (re : Nat → Int32) (N : Nat → Prop) : Prop := ∀ e, e < 48 → re e = bb (N e)
theorem YN_p {re : Nat → Int32} {N : Nat → Prop} {t : Nat} (h : YN re N) : YN (upd re t 1) (ad1 N t) := by
  intro e he
  by_cases q : e = t
  · subst q; rw [pk_us]; exact (bb_t (Or.inr rfl)).symm
  · rw [pk_un q, h e he]
    exact bb_c ⟨Or.inl, fun z => z.resolve_right q⟩
def NQ (sr : Nat → Nat) (Q N : Nat → Prop) : Prop := ∀ e, N e → LV sr e ∧ Q e
theorem NQ_p {sr : Nat → Nat} {Q N : Nat → Prop} {t : Nat} (h : NQ sr Q N) (ht : LV sr t) (hq : Q t) : NQ sr Q (ad1 N t) := fun e z => z.elim (h e) (fun c => c ▸ ⟨ht, hq⟩)
/-- the state within a pass that began with N0 -/
def NP (sr ln : Nat → Nat) (lk : Nat → Nat → Nat) (Q N0 N : Nat → Prop) (e k : Nat) (mo : Int32) : Prop :=
  (∀ f, N0 f → N f) ∧ NQ sr Q N ∧
  ((mo = 0 ∧ (∀ f, N f → N0 f) ∧ (∀ f, f < e → N f → ∀ c t, 2 ≤ c → c < 2 + ln f → lk f c = t + 1 → N t) ∧ (N e → ∀ c t, 2 ≤ c → c < 2 + ln e → c < 2 + k → lk e c = t + 1 → N t)) ∨ (mo = 1 ∧ cnt N0 48 < cnt N 48))
theorem NP_s {sr ln : Nat → Nat} {lk : Nat → Nat → Nat} {Q N0 N : Nat → Prop} {e k : Nat} {mo : Int32} (h : NP sr ln lk Q N0 N e k mo) (hk : N e → 2 + k < 2 + ln e → ∀ t, lk e (2 + k) = t + 1 → N t) : NP sr ln lk Q N0 N e (k + 1) mo := by
  obtain ⟨h1, h2, h3⟩ := h
  refine ⟨h1, h2, ?_⟩
  rcases h3 with ⟨a1, a2, a3, a4⟩ | a
  · refine Or.inl ⟨a1, a2, a3, fun hn c t c1 c2 c3 q => ?_⟩
    rcases Nat.lt_or_ge c (2 + k) with y | y
    · exact a4 hn c t c1 c2 y q
    · have : c = 2 + k := by omega
      subst this
      exact hk hn c2 t q
  · exact Or.inr a
theorem NP_n {sr ln : Nat → Nat} {lk : Nat → Nat → Nat} {Q N0 N : Nat → Prop} {e k : Nat} {mo : Int32} (h : NP sr ln lk Q N0 N e k mo) (hk : 4 ≤ k) (hl : N e → ln e ≤ 4) : NP sr ln lk Q N0 N (e + 1) 0 mo := by
  obtain ⟨h1, h2, h3⟩ := h
  refine ⟨h1, h2, ?_⟩
  rcases h3 with ⟨a1, a2, a3, a4⟩ | a
  · refine Or.inl ⟨a1, a2, fun f hf hn c t c1 c2 q => ?_, fun _ c t c1 c2 c3 => by omega⟩
    rcases Nat.lt_or_ge f e with y | y
    · exact a3 f y hn c t c1 c2 q
    · have : f = e := by omega
      subst this
      exact a4 hn c t c1 c2 (by have := hl hn; omega) q
  · exact Or.inr a
theorem NP_f {sr ln : Nat → Nat} {lk : Nat → Nat → Nat} {Q N0 N : Nat → Prop} {e k e' k' : Nat} {mo : Int32} {t : Nat} (h : NP sr ln lk Q N0 N e k mo) (ht : LV sr t) (hq : Q t) (hn : ¬ N t) : NP sr ln lk Q N0 (ad1 N t) e' k' 1 := by
  obtain ⟨h1, h2, h3⟩ := h
  refine ⟨fun f z => Or.inl (h1 f z), NQ_p h2 ht hq, Or.inr ⟨rfl, ?_⟩⟩
  have a := cnt_mo (P := N0) (Q := N) (n := 48) (fun i _ z => h1 i z)
  have b := cnt_s (P := N) (Q := ad1 N t) ht.1 hn (Or.inr rfl) (fun i _ q => ⟨fun z => z.resolve_right q, Or.inl⟩)
  omega
section
variable {B R S : Nat} {yd : Int32} {ce ro sS sV wS re vi : Nat → Int32} {pr : Int32 → Prop} {qp : Int32 → SY → Prop} {sr ln dn : Nat → Nat} {lk : Nat → Nat → Nat} {dt : Nat → Nat → Int32} {nd : Nat} {rt wk se : Nat → Nat} {sv : Nat → Int32} {Q : Nat → Prop}
theorem y_reach {r : Nat} {v : Int32} {N : Nat → Prop} (hd : nd ≤ 30000) (G : GO nd sr ln dn lk) (M : YM sr ln dn lk dt ce) (hN : YN re N) (hr : OKr sr r) (hv : v = sf sr r) (h0 : (∀ t, r = t + 1 → N t) → qp 0 (nI (12 * B), nI R, nI S, yd, ce, ro, sS, sV, wS, re, vi)) (h1 : ∀ t, r = t + 1 → ¬ N t → qp 1 (nI (12 * B), nI R, nI S, yd, ce, ro, sS, sV, wS, upd re t 1, vi)) : wpY_reach qp (nI (12 * B), nI R, nI S, yd, ce, ro, sS, sV, wS, re, vi) v := by
  subst hv
  unfold wpY_reach
  cases r with
  | zero => exact y_entry0 (show ¬ (0 : Int32) < 0 by decide) (br_t nu_n1 (h0 (fun t e => by omega)))
  | succ t =>
    have ht := hr t rfl
    have h4 := ht.1
    refine y_ent hd G M ht (br_f (nI_pos (by omega)) (And.intro (vp_in_nI h4 (by omega)) ?_))
    have e : re (nI t).toNatClampNeg = bb (N t) := by rw [nI_clamp (by omega)]; exact hN t h4
    rw [e]
    by_cases q : N t
    · refine br_f (bb_n0.mpr q) (h0 (fun u z => ?_))
      have : u = t := by omega
      subst this; exact q
    · exact br_t (bb_0.mpr q) (And.intro (vp_in_nI h4 (by omega)) (nm_r (nu_u (by omega) bb_v1) (h1 t rfl q)))
theorem y_c98 {J75 J89 : Int32 → Int32 → Int32 → Int32 → Int32 → Int32 → (Nat → Int32) → (Nat → Int32) → (Nat → Int32) → (Nat → Int32) → (Nat → Int32) → (Nat → Int32) → (Nat → Int32) → Prop} {x2 : Int32} {e : Nat} {N0 : Nat → Prop} (he : e < 48) (hd : nd ≤ 30000) (G : GO nd sr ln dn lk) (M : YM sr ln dn lk dt ce) (hQ : ∀ e, LV sr e → Q e → ∀ c t, 2 ≤ c → c < 2 + ln e → lk e c = t + 1 → Q t)
    (hJ : ∀ mo re N, YN re N → NP sr ln lk Q N0 N (e + 1) 0 mo → J89 mo (nI (e + 1)) (nI (12 * B)) (nI R) (nI S) yd ce ro sS sV wS re vi) : ∀ n k mo re N, 4 - k < n → k ≤ 4 → YN re N → NP sr ln lk Q N0 N e k mo → wY_collect_98 qp J75 J89 x2 (nI e) n mo (nI k) (nI (12 * B)) (nI R) (nI S) yd ce ro sS sV wS re vi := by
  intro n
  induction n with
  | zero => intro k mo re N h; omega
  | succ n ih =>
    intro k mo re N h1 h2 hN hP
    refine pk_le 4 k (fun q => nm_r (nI_1 e) (hJ mo re N hN (NP_n hP q (fun z => (G.1 e (hP.2.1 e z).1).1)))) (fun q => And.intro (vp_in_nI he (by omega)) ?_)
    have e1 : re (nI e).toNatClampNeg = bb (N e) := by rw [nI_clamp (by omega)]; exact hN e he
    rw [e1]
    by_cases ne : N e
    · have hL := (hP.2.1 e ne).1
      have b := G.1 e hL
      have hh := y_hd M hL
      rw [Nat.add_zero] at hh
      refine br_f (bb_n0.mpr ne) ?_
      rw [nu_8m]
      refine And.intro (vp_in_nI (by omega) (by omega)) (And.intro nu_80 ?_)
      have hdv : ce (nI (8 * e)).toNatClampNeg / 8 = nI (ln e) := by rw [nI_clamp (by omega), hh, nu_d8 (by omega), show (8 * ln e + dn e) / 8 = ln e by omega]
      refine pk_le (ln e) k (fun w => nm_r (nI_1 k) (ih (k + 1) mo re N (by omega) (by omega) hN (NP_s hP (fun _ y => by omega)))) (fun w => ?_) hdv rfl
      have ix : nI (8 * e) + 2 + nI k = nI (8 * e + (2 + k)) := by rw [nu_a2, nI_add]; exact congrArg nI (by omega)
      rw [ix]
      refine And.intro (vp_in_nI (by omega) (by omega)) ?_
      refine y_reach (r := lk e (2 + k)) hd G M hN (G.2.2 e hL (2 + k) (by omega) (by omega)) ?_ (fun z => ?_) (fun t z1 z2 => ?_)
      · rw [nI_clamp (by omega), M.2 e hL (2 + k) (by unfold zs; omega), oc_l (by omega) (by omega)]
      · have g := ih (k + 1) mo re N (by omega) (by omega) hN (NP_s hP (fun _ _ t y => z t y))
        rcases hP.2.2 with ⟨a1, _⟩ | ⟨a1, _⟩
        · subst a1; exact br_t rfl (br_t rfl (nm_r (nI_1 k) g))
        · subst a1; exact br_f bb_10 (nm_r (nI_1 k) g)
      · have ht := G.2.2 e hL (2 + k) (by omega) (by omega) t z1
        have g := ih (k + 1) 1 (upd re t 1) (ad1 N t) (by omega) (by omega) (YN_p hN) (NP_f hP ht (hQ e hL (hP.2.1 e ne).2 (2 + k) t (by omega) (by omega) z1) z2)
        refine br_c (fun _ => br_f bb_10 (nm_r (nI_1 k) g)) (fun _ => nm_r (nI_1 k) g)
    · exact br_t (bb_0.mpr ne) (nm_r (nI_1 k) (ih (k + 1) mo re N (by omega) (by omega) hN (NP_s hP (fun z => absurd z ne))))
theorem y_c89 {J75 : Int32 → Int32 → Int32 → Int32 → Int32 → Int32 → (Nat → Int32) → (Nat → Int32) → (Nat → Int32) → (Nat → Int32) → (Nat → Int32) → (Nat → Int32) → (Nat → Int32) → Prop} {x : Nat} {N0 : Nat → Prop} (hd : nd ≤ 30000) (G : GO nd sr ln dn lk) (M : YM sr ln dn lk dt ce) (hQ : ∀ e, LV sr e → Q e → ∀ c t, 2 ≤ c → c < 2 + ln e → lk e c = t + 1 → Q t)
    (hJ : ∀ mo re N, YN re N → NP sr ln lk Q N0 N 48 0 mo → J75 mo (nI (x + 1)) (nI (12 * B)) (nI R) (nI S) yd ce ro sS sV wS re vi) : ∀ n e mo re N, 48 - e < n → e ≤ 48 → YN re N → NP sr ln lk Q N0 N e 0 mo → wY_collect_89 qp J75 (nI x) n mo (nI e) (nI (12 * B)) (nI R) (nI S) yd ce ro sS sV wS re vi := by
  intro n
  induction n with
  | zero => intro e mo re N h; omega
  | succ n ih =>
    intro e mo re N h1 h2 hN hP
    refine pk_le 48 e (fun q => ?_) (fun q => Exists.intro 5 (y_c98 q hd G M hQ (fun mo' re' N' a b => ih (e + 1) mo' re' N' (by omega) (by omega) a b) 5 0 mo re N (by omega) (by omega) hN hP))
    have : e = 48 := by omega
    subst this
    exact nm_r (nI_1 x) (hJ mo re N hN hP)
/-- closed under the links -/
def NC (sr ln : Nat → Nat) (lk : Nat → Nat → Nat) (N : Nat → Prop) : Prop := ∀ f, N f → ∀ c t, 2 ≤ c → c < 2 + ln f → lk f c = t + 1 → N t
theorem y_c75 (B0 : Nat → Prop) (hd : nd ≤ 30000) (G : GO nd sr ln dn lk) (M : YM sr ln dn lk dt ce) (hQ : ∀ e, LV sr e → Q e → ∀ c t, 2 ≤ c → c < 2 + ln e → lk e c = t + 1 → Q t)
    (hp : ∀ re N, YN re N → NQ sr Q N → NC sr ln lk N → (∀ f, B0 f → N f) → ∃ n187 : Nat, wY_collect_187 qp (nI (12 * B)) (nI R) (nI S) yd n187 0 0 ce ro sS sV wS re vi) : ∀ n x mo re N, 49 - x < n → x ≤ 49 → YN re N → NQ sr Q N → (∀ f, B0 f → N f) → ((mo = 1 ∧ x ≤ cnt N 48) ∨ (mo = 0 ∧ NC sr ln lk N)) → wY_collect_75 qp n mo (nI x) (nI (12 * B)) (nI R) (nI S) yd ce ro sS sV wS re vi := by
  intro n
  induction n with
  | zero => intro x mo re N h; omega
  | succ n ih =>
    intro x mo re N h1 h2 hN hq hb h3
    have cl := cnt_le N 48
    refine pk_lt 48 x (fun q => ?_) (fun q => ?_)
    · rcases h3 with ⟨_, b⟩ | ⟨_, b⟩
      · omega
      · exact hp re N hN hq b hb
    · rcases h3 with ⟨a, b⟩ | ⟨a, b⟩
      · subst a
        refine br_f bb_10 (Exists.intro 49 (y_c89 (N0 := N) hd G M hQ (fun mo' re' N' g1 g2 => ?_) 49 0 0 re N (by omega) (by omega) hN ⟨fun _ z => z, hq, Or.inl ⟨rfl, fun _ z => z, fun f hf => by omega, fun _ c t c1 c2 c3 => by omega⟩⟩))
        refine ih (x + 1) mo' re' N' (by omega) (by omega) g1 g2.2.1 (fun f z => g2.1 f (hb f z)) ?_
        rcases g2.2.2 with ⟨y1, y2, y3, _⟩ | ⟨y1, y2⟩
        · exact Or.inr ⟨y1, fun f hf c t c1 c2 z => y3 f (g2.2.1 f hf).1.1 hf c t c1 c2 z⟩
        · exact Or.inl ⟨y1, by omega⟩
      · subst a
        exact br_t rfl (hp re N hN hq b hb)
theorem y_c48 (hd : nd ≤ 30000) (G : GO nd sr ln dn lk) (M : YM sr ln dn lk dt ce) (hG : GR R S sr ln dn rt wk se sv) (hY : YL sr rt wk se sv ro wS sS sV) (hQs : ∀ i t, i < 6 → se i = t + 1 → Q t)
    (hp : ∀ re N, YN re N → NQ sr Q N → (∀ i t, i < 12 → rt i = t + 1 → N t) → (∀ i t, i < 6 → se i = t + 1 → N t) → ∃ n75 : Nat, wY_collect_75 qp n75 1 0 (nI (12 * B)) (nI R) (nI S) yd ce ro sS sV wS re vi) : ∀ n x re N, 6 - x < n → x ≤ 6 → YN re N → NQ sr Q N → (∀ i t, i < 12 → rt i = t + 1 → N t) → (∀ i t, i < x → se i = t + 1 → N t) → wY_collect_48 qp n (nI x) (nI (12 * B)) (nI R) (nI S) yd ce ro sS sV wS re vi := by
  intro n
  induction n with
  | zero => intro x re N h; omega
  | succ n ih =>
    intro x re N h1 h2 hN hq hr hs
    refine pk_le 6 x (fun q => hp re N hN hq hr (fun i t hi => hs i t (by omega))) (fun q => And.intro (vp_in_nI (by omega) (by omega)) ?_)
    have ok := hG.2.2.2.1 x q
    refine y_reach (r := se x) hd G M hN ok (by rw [nI_clamp (by omega)]; exact hY.2.2.1 x q) (fun z => nm_r (nI_1 x) (ih (x + 1) re N (by omega) (by omega) hN hq hr (fun i t hi e => ?_))) (fun t z1 z2 => nm_r (nI_1 x) (ih (x + 1) _ (ad1 N t) (by omega) (by omega) (YN_p hN) (NQ_p hq (ok t z1) (hQs x t q z1)) (fun i t hi e => Or.inl (hr i t hi e)) (fun i u hi e => ?_)))
    · rcases Nat.lt_or_ge i x with y | y
      · exact hs i t y e
      · have : i = x := by omega
        subst this; exact z t e
    · rcases Nat.lt_or_ge i x with y | y
      · exact Or.inl (hs i u y e)
      · have : i = x := by omega
        subst this
        exact Or.inr (by omega)
theorem y_c23 (hd : nd ≤ 30000) (G : GO nd sr ln dn lk) (M : YM sr ln dn lk dt ce) (hG : GR R S sr ln dn rt wk se sv) (hY : YL sr rt wk se sv ro wS sS sV) (hQr : ∀ i t, i < 12 → rt i = t + 1 → Q t)
    (hp : ∀ re N, YN re N → NQ sr Q N → (∀ i t, i < 12 → rt i = t + 1 → N t) → ∃ n48 : Nat, wY_collect_48 qp n48 0 (nI (12 * B)) (nI R) (nI S) yd ce ro sS sV wS re vi) : ∀ n x re N, 12 - x < n → x ≤ 12 → YN re N → NQ sr Q N → (∀ i t, i < x → rt i = t + 1 → N t) → wY_collect_23 qp n (nI x) (nI (12 * B)) (nI R) (nI S) yd ce ro sS sV wS re vi := by
  intro n
  induction n with
  | zero => intro x re N h; omega
  | succ n ih =>
    intro x re N h1 h2 hN hq hs
    refine pk_le 12 x (fun q => hp re N hN hq (fun i t hi => hs i t (by omega))) (fun q => And.intro (vp_in_nI (by omega) (by omega)) ?_)
    have ok := hG.1 x q
    refine y_reach (r := rt x) hd G M hN ok (by rw [nI_clamp (by omega)]; exact hY.1 x q) (fun z => nm_r (nI_1 x) (ih (x + 1) re N (by omega) (by omega) hN hq (fun i t hi e => ?_))) (fun t z1 z2 => nm_r (nI_1 x) (ih (x + 1) _ (ad1 N t) (by omega) (by omega) (YN_p hN) (NQ_p hq (ok t z1) (hQr x t q z1)) (fun i u hi e => ?_)))
    · rcases Nat.lt_or_ge i x with y | y
      · exact hs i t y e
      · have : i = x := by omega
        subst this; exact z t e
    · rcases Nat.lt_or_ge i x with y | y
      · exact Or.inl (hs i u y e)
      · have : i = x := by omega
        subst this
        exact Or.inr (by omega)
theorem y_c2 (hp : ∃ n23 : Nat, wY_collect_23 qp n23 0 (nI (12 * B)) (nI R) (nI S) yd ce ro sS sV wS (fg re 0 48 (fun _ => 0)) vi) : wpY_collect qp (nI (12 * B), nI R, nI S, yd, ce, ro, sS, sV, wS, re, vi) :=
  Exists.intro 49 (fg_loop (fun n i a => wY_collect_2 qp (nI (12 * B)) (nI R) (nI S) yd n (nI i) ce ro sS sV wS a vi) (fun _ => 0) 48 48 (fun a => ∃ n23 : Nat, wY_collect_23 qp n23 0 (nI (12 * B)) (nI R) (nI S) yd ce ro sS sV wS a vi)
    (fun _ _ a h h2 q => br_t (nI_le (a := 48) h (by omega)) q)
    (fun _ i a h h2 w => br_f (nI_ge (b := 48) h (by omega)) (And.intro (vp_in_nI (by omega) (by omega)) (nm_r (nu_u (by omega) bb_v0) (nm_r (nI_1 i) w)))) (by omega) 49 0 re (by omega) (by omega) hp)
theorem y_c187 {N : Nat → Prop} (ce0 : Nat → Int32) (hs : ∀ e, e < 48 → sr e ≤ 30000) (hN : YN re N) (hq : ∀ e, LV sr e → (N e ↔ Q e)) (hp : ∀ ce, (∀ j, ¬ j % 8 = 1 → ce j = ce0 j) → (∀ e, e < 48 → ce (8 * e + 1) = nI (kS Q sr e)) → ∃ n239 : Nat, wY_collect_239 qp (nI (cnt (fun e => LV sr e ∧ ¬ Q e) 48)) (nI (12 * B)) (nI R) (nI S) yd n239 0 ce ro sS sV wS re vi) :
    ∀ n x ce, 48 - x < n → x ≤ 48 → (∀ j, ¬ j % 8 = 1 → ce j = ce0 j) → (∀ e, e < 48 → (e < x → ce (8 * e + 1) = nI (kS Q sr e)) ∧ (x ≤ e → ce (8 * e + 1) = nI (sr e))) → wY_collect_187 qp (nI (12 * B)) (nI R) (nI S) yd n (nI (cnt (fun e => LV sr e ∧ ¬ Q e) x)) (nI x) ce ro sS sV wS re vi := by
  intro n
  induction n with
  | zero => intro x ce h; omega
  | succ n ih =>
    intro x ce h1 h2 h3 h4
    refine pk_le 48 x (fun q => ?_) (fun q => ?_)
    · have : x = 48 := by omega
      subst this
      exact hp ce h3 (fun e he => (h4 e he).1 he)
    have cs : cnt (fun e => LV sr e ∧ ¬ Q e) (x + 1) = cnt (fun e => LV sr e ∧ ¬ Q e) x + bn (LV sr x ∧ ¬ Q x) := rfl
    have up : nI (sr x) = nI (kS Q sr x) → ∀ e, e < 48 → (e < x + 1 → ce (8 * e + 1) = nI (kS Q sr e)) ∧ (x + 1 ≤ e → ce (8 * e + 1) = nI (sr e)) := fun g e he => by
      refine ⟨fun c => ?_, fun c => (h4 e he).2 (by omega)⟩
      rcases Nat.lt_or_ge e x with y | y
      · exact (h4 e he).1 y
      · have : e = x := by omega
        subst this
        rw [(h4 e he).2 (Nat.le_refl _), g]
    have bd := hs x q
    have ex : ce (nI (8 * x + 1)).toNatClampNeg = nI (sr x) := by rw [nI_clamp (by omega)]; exact (h4 x q).2 (Nat.le_refl _)
    rw [nu_8m, nI_1]
    refine And.intro (vp_in_nI (by omega) (by omega)) ?_
    rw [ex]
    by_cases z : sr x = 0
    · refine br_t (by rw [z]; rfl) (nm_r (nI_1 x) ?_)
      have g := ih (x + 1) ce (by omega) (by omega) h3 (up (by unfold kS; rw [z]; rfl))
      rw [cs, bn_f (fun y => y.1.2 z)] at g
      exact g
    · have hL : LV sr x := ⟨q, z⟩
      have er : re (nI x).toNatClampNeg = bb (N x) := by rw [nI_clamp (by omega)]; exact hN x q
      refine br_f (fun c => z (nu_inj (b := 0) c (by omega) (by omega))) (And.intro (vp_in_nI q (by omega)) ?_)
      rw [er]
      by_cases hn : N x
      · have hQ := (hq x hL).mp hn
        refine br_f (bb_n0.mpr hn) (nm_r (nI_1 x) ?_)
        have g := ih (x + 1) ce (by omega) (by omega) h3 (up (by rw [kS_t hQ]))
        rw [cs, bn_f (fun y => y.2 hQ)] at g
        exact g
      · have hQ : ¬ Q x := fun y => hn ((hq x hL).mpr y)
        refine br_t (bb_0.mpr hn) (And.intro (vp_in_nI (by omega) (by omega)) (nm_r (nu_u (by omega) rfl) (nm_r (e' := nI (cnt (fun e => LV sr e ∧ ¬ Q e) (x + 1))) (by rw [nI_1, cs, bn_t ⟨hL, hQ⟩]) (nm_r (nI_1 x) (ih (x + 1) _ (by omega) (by omega) (fun j hj => ?_) (fun e he => ?_))))))
        · rw [pk_un (by omega)]; exact h3 j hj
        · by_cases y : e = x
          · subst y; rw [pk_us, kS_f hQ]; exact ⟨fun _ => rfl, fun _ => by omega⟩
          · rw [pk_un (by omega)]
            exact ⟨fun c => (h4 e he).1 (by omega), fun c => (h4 e he).2 (by omega)⟩
theorem y_c239 {D : Int32} (hd : nd ≤ 30000) (G : GO nd sr ln dn lk) (hw : ∀ i, i < 4 → OKr sr (wk i)) (hc : ∀ e, e < 48 → ce (8 * e + 1) = nI (kS Q sr e)) (hp : ∀ wS, (∀ i, i < 4 → wS i = sf (kS Q sr) (kp Q (wk i))) → qp D (nI (12 * B), nI R, nI S, yd, ce, ro, sS, sV, wS, re, vi)) : ∀ n x wS, 4 - x < n → x ≤ 4 → (∀ i, i < 4 → (i < x → wS i = sf (kS Q sr) (kp Q (wk i))) ∧ (x ≤ i → wS i = sf sr (wk i))) → wY_collect_239 qp D (nI (12 * B)) (nI R) (nI S) yd n (nI x) ce ro sS sV wS re vi := by
  intro n
  induction n with
  | zero => intro x wS h; omega
  | succ n ih =>
    intro x wS h1 h2 h3
    refine pk_le 4 x (fun q => hp wS (fun i hi => (h3 i hi).1 (by omega))) (fun q => And.intro (vp_in_nI (by omega) (by omega)) ?_)
    have e0 := (h3 x q).2 (Nat.le_refl _)
    have ok := hw x q
    have keep : wS x = sf (kS Q sr) (kp Q (wk x)) → wY_collect_239 qp D (nI (12 * B)) (nI R) (nI S) yd n (nI (x + 1)) ce ro sS sV wS re vi := fun g => ih (x + 1) wS (by omega) (by omega) (fun i hi => by
      by_cases z : i = x
      · subst z; exact ⟨fun _ => g, fun _ => by omega⟩
      · exact ⟨fun c => (h3 i hi).1 (by omega), fun c => (h3 i hi).2 (by omega)⟩)
    have put : 0 = sf (kS Q sr) (kp Q (wk x)) → wY_collect_239 qp D (nI (12 * B)) (nI R) (nI S) yd n (nI (x + 1)) ce ro sS sV (upd wS x 0) re vi := fun g => ih (x + 1) _ (by omega) (by omega) (fun i hi => by
      by_cases z : i = x
      · subst z; rw [pk_us]; exact ⟨fun _ => g, fun _ => by omega⟩
      · rw [pk_un z]; exact ⟨fun c => (h3 i hi).1 (by omega), fun c => (h3 i hi).2 (by omega)⟩)
    have ex : wS (nI x).toNatClampNeg = sf sr (wk x) := by rw [nI_clamp (by omega)]; exact e0
    rw [ex]
    cases e : wk x with
    | zero =>
      rw [e] at e0 keep put
      exact y_entry0 (show ¬ (0 : Int32) < 0 by decide) (br_f nu_nn1 (And.intro (vp_in_nI (by omega) (by omega)) (nm_r (nu_u (by omega) rfl) (nm_r (nI_1 x) (put (by rw [kp_0]; rfl))))))
    | succ t =>
      rw [e] at e0 keep put
      have ht := ok t e
      have bt := (G.1 t ht).2.2.2
      have h0 := ht.2
      show wpY_entryOf _ _ (nI (sr t))
      by_cases hQ : Q t
      · refine y_entryOf (nI_lt (a := 0) (by omega) (by omega)) (fun f hf _ => br_t (nI_pos' (by omega)) (nm_r (nI_1 x) (keep ?_))) (fun hn => ?_)
        · rw [kp_t hQ, e0]
          exact congrArg nI (kS_t hQ).symm
        · exact absurd (by rw [hc t ht.1, kS_t hQ]) (hn t ht.1)
      · refine y_entryOf (nI_lt (a := 0) (by omega) (by omega)) (fun f hf z => ?_) (fun _ => br_f nu_nn1 (And.intro (vp_in_nI (by omega) (by omega)) (nm_r (nu_u (by omega) rfl) (nm_r (nI_1 x) (put (by rw [kp_f hQ]; rfl))))))
        exfalso
        rw [hc f hf] at z
        rcases Classical.em (Q f) with y | y
        · rw [kS_t y] at z
          by_cases w : sr f = 0
          · rw [w] at z
            exact h0 (nu_inj z (by omega) (by omega)).symm
          · have bf := (G.1 f ⟨hf, w⟩).2.2.2
            have := G.2.1 f t ⟨hf, w⟩ ht (nu_inj z (by omega) (by omega))
            subst this
            exact hQ y
        · rw [kS_f y] at z
          exact h0 (nu_inj z (by omega) (by omega)).symm
end
end
section
/-! the collection, both sides -/
theorem kc_ok {sr : Nat → Nat} {Q : Nat → Prop} {r : Nat} (h : OKr sr r) (hq : ∀ t, r = t + 1 → Q t) : OKr (kS Q sr) r := fun t e => kS_lv.mpr ⟨h t e, hq t e⟩
theorem kc_sf {sr : Nat → Nat} {Q : Nat → Prop} {r : Nat} (hq : ∀ t, r = t + 1 → Q t) : sf (kS Q sr) r = sf sr r := by
  cases r with
  | zero => rfl
  | succ t => exact congrArg nI (kS_t (hq t rfl))
theorem kc_GO {nd : Nat} {sr ln dn : Nat → Nat} {lk : Nat → Nat → Nat} {Q : Nat → Prop} (hQ : ∀ e, LV sr e → Q e → ∀ c t, 2 ≤ c → c < 2 + ln e → lk e c = t + 1 → Q t) (G : GO nd sr ln dn lk) : GO nd (kS Q sr) ln dn lk := by
  obtain ⟨h1, h2, h3⟩ := G
  refine ⟨fun e he => ?_, fun e f he hf q => ?_, fun e he c c1 c2 => ?_⟩
  · obtain ⟨a, b⟩ := kS_lv.mp he
    rw [kS_t b]; exact h1 e a
  · obtain ⟨a, b⟩ := kS_lv.mp he
    obtain ⟨a', b'⟩ := kS_lv.mp hf
    rw [kS_t b, kS_t b'] at q
    exact h2 e f a a' q
  · obtain ⟨a, b⟩ := kS_lv.mp he
    exact kc_ok (h3 e a c c1 c2) (fun t q => hQ e a b c t c1 c2 q)
theorem kc_GR {R S : Nat} {sr ln dn rt wk se : Nat → Nat} {sv : Nat → Int32} {Q : Nat → Prop} (hr : ∀ i t, i < 12 → rt i = t + 1 → Q t) (hs : ∀ i t, i < 6 → se i = t + 1 → Q t) (G : GR R S sr ln dn rt wk se sv) : GR R S (kS Q sr) ln dn rt (fun i => kp Q (wk i)) se sv := by
  obtain ⟨a1, a2, a3, a4, a5, a6, a7⟩ := G
  refine ⟨fun i hi => kc_ok (a1 i hi) (fun t => hr i t hi), a2, fun i hi => ?_, fun i hi => kc_ok (a4 i hi) (fun t => hs i t hi), a5, a6, a7⟩
  show OKr (kS Q sr) (kp Q (wk i))
  have ok := a3 i hi
  cases e : wk i with
  | zero => rw [kp_0]; exact OKr_0
  | succ t =>
    rcases Classical.em (Q t) with q | q
    · rw [kp_t q]; exact OKr_s (kS_lv.mpr ⟨ok t e, q⟩)
    · rw [kp_f q]; exact OKr_0
theorem kc_tot {sr ln dn : Nat → Nat} {Q : Nat → Prop} : tot (kS Q sr) ln dn ≤ tot sr ln dn := by
  refine sm_le (fun e _ => ?_)
  show (if kS Q sr e = 0 then 0 else zs ln dn e) ≤ if sr e = 0 then 0 else zs ln dn e
  by_cases z : sr e = 0
  · rw [if_pos z, if_pos (by unfold kS; rw [z]; omega)]; omega
  · rw [if_neg z]
    by_cases y : kS Q sr e = 0
    · rw [if_pos y]; omega
    · rw [if_neg y]; omega
theorem kc_YM {nd : Nat} {sr ln dn : Nat → Nat} {lk : Nat → Nat → Nat} {dt : Nat → Nat → Int32} {Q : Nat → Prop} {ce ce' : Nat → Int32} (G : GO nd sr ln dn lk) (hQ : ∀ e, LV sr e → Q e → ∀ c t, 2 ≤ c → c < 2 + ln e → lk e c = t + 1 → Q t) (M : YM sr ln dn lk dt ce) (h1 : ∀ j, ¬ j % 8 = 1 → ce' j = ce j) (h2 : ∀ e, e < 48 → ce' (8 * e + 1) = nI (kS Q sr e)) : YM (kS Q sr) ln dn lk dt ce' := by
  refine ⟨h2, fun e he c hc => ?_⟩
  obtain ⟨a, b⟩ := kS_lv.mp he
  have z := GO_z G e a
  by_cases q : c = 1
  · subst q; rw [h2 e a.1, oc_1]
  · rw [h1 _ (by omega), M.2 e a c hc, kS_t b]
    exact oc_c (fun c1 c2 => (kc_sf (fun t => hQ e a b c t c1 c2)).symm) (fun _ => rfl)
theorem i_vc_collect {k : Nat} {u : SX} {v : SY} (I : i_Rel k u v) (hk : k + 4 ≤ 2051) : wpX_collect (fun r u' => wpY_collect (fun r' v' => r' = r ∧ i_Rel (k + 4) u' v') v) u := by
  refine I (fun u v => wpX_collect (fun r u' => wpY_collect (fun r' v' => r' = r ∧ i_Rel (k + 4) u' v') v) u) ?_
  intro B R S nd sr ln dn lk dt rt wk se sv ad a l o p mt vc me st lt rs ss ws mk lm pw ca ms fw vn vq ce ro sS sV wS re vi G H HR HS HC HM HY
  have G0 := G
  obtain ⟨⟨b1, b2, b3, b4, b5, b6, b7⟩, G1, G2, G3⟩ := G
  refine x_collect G0 H HR HS (fun ad' me' st' lt' rs' ws' mk' lm' pw' ca' ms' H' HR' HS' HC' => ?_)
  refine y_c2 (Exists.intro 13 (y_c23 (Q := Rch sr ln lk rt se) b7 G1 HM G2 HY (fun i t hi e => Rch_r hi e) (fun re1 N1 n1 n2 n3 => Exists.intro 7 (y_c48 (Q := Rch sr ln lk rt se) b7 G1 HM G2 HY (fun i t hi e => Rch_s hi e) (fun re2 N2 m1 m2 m3 m4 => Exists.intro 50 (y_c75 (Q := Rch sr ln lk rt se) (fun f => (∃ i, i < 12 ∧ rt i = f + 1) ∨ (∃ i, i < 6 ∧ se i = f + 1)) b7 G1 HM Rch_c (fun re3 N3 p1 p2 p3 p4 => Exists.intro 49 ?_) 50 0 1 re2 N2 (by omega) (by omega) m1 m2 (fun f z => ?_) (Or.inl ⟨rfl, by omega⟩))) 7 0 re1 N1 (by omega) (by omega) n1 n2 n3 (fun i t hi => by omega))) 13 0 _ (fun _ => False) (by omega) (by omega) (fun e he => ?_) (fun e z => z.elim) (fun i t hi => by omega)))
  · have iff : ∀ e, LV sr e → (N3 e ↔ Rch sr ln lk rt se e) := fun e he => ⟨fun z => (p2 e z).2, fun z => z N3 (fun i t hi q => p4 t (Or.inl ⟨i, hi, q⟩)) (fun i t hi q => p4 t (Or.inr ⟨i, hi, q⟩)) (fun f _ hf c t c1 c2 q => p3 f hf c t c1 c2 q)⟩
    refine y_c187 (Q := Rch sr ln lk rt se) ce (al_bd b7 G1) p1 iff (fun ce' c1 c2 => Exists.intro 5 (y_c239 (Q := Rch sr ln lk rt se) b7 G1 G2.2.2.1 c2 (fun wS' w1 => ?_) 5 0 wS (by omega) (by omega) (fun i hi => ⟨fun c => by omega, fun _ => HY.2.1 i hi⟩))) 49 0 ce (by omega) (by omega) (fun j _ => rfl) (fun e he => ⟨fun c => by omega, fun _ => HM.1 e he⟩)
    refine ⟨rfl, rl_mk (a := 0) (l := 0) (o := 0) (p := 0) ⟨⟨b1, b2, b3, b4, b5, b6, b7⟩, kc_GO Rch_c G1, kc_GR (fun i t hi e => Rch_r hi e) (fun i t hi e => Rch_s hi e) G2, Nat.le_trans kc_tot G3⟩ H' HR' HS' HC' (kc_YM G1 Rch_c HM c1 c2) ⟨fun i hi => ?_, w1, fun i hi => ?_, HY.2.2.2⟩⟩
    · exact (HY.1 i hi).trans (kc_sf (Q := Rch sr ln lk rt se) (r := rt i) (fun t e => Rch_r hi e)).symm
    · exact (HY.2.2.1 i hi).trans (kc_sf (Q := Rch sr ln lk rt se) (r := se i) (fun t e => Rch_s hi e)).symm
  · rcases z with ⟨i, i1, i2⟩ | ⟨i, i1, i2⟩
    · exact m3 i f i1 i2
    · exact m4 i f i1 i2
  · rw [fg_in (by omega)]
    exact (bb_f (fun z => z)).symm
end
section
/-! the digest: vs the entries visited so far, cn how many -/
def fo (h : Int64) (v : Int32) : Int64 := ((h * 31) + v.toInt64) &&& 1152921504606846975
def dix (vs : Nat → Nat) (t : Nat) : Nat → Nat
  | 0 => 0
  | n + 1 => if vs n = t then n + 1 else dix vs t n
theorem dix_le (vs : Nat → Nat) (t : Nat) : ∀ n, dix vs t n ≤ n
  | 0 => Nat.le_refl _
  | n + 1 => by
    have := dix_le vs t n
    unfold dix
    by_cases q : vs n = t
    · rw [if_pos q]; omega
    · rw [if_neg q]; omega
theorem dix_0 {vs : Nat → Nat} {t : Nat} : ∀ {n}, dix vs t n = 0 → ∀ i, i < n → ¬ vs i = t
  | 0, _, i, hi => by omega
  | n + 1, h, i, hi => by
    unfold dix at h
    by_cases q : vs n = t
    · rw [if_pos q] at h; omega
    · rw [if_neg q] at h
      rcases Nat.lt_or_ge i n with y | y
      · exact dix_0 h i y
      · have : i = n := by omega
        subst this; exact q
theorem dix_c {vs vs' : Nat → Nat} {t : Nat} : ∀ {n}, (∀ i, i < n → vs' i = vs i) → dix vs' t n = dix vs t n
  | 0, _ => rfl
  | n + 1, h => by
    unfold dix
    rw [h n (by omega), dix_c (n := n) (fun i hi => h i (by omega))]
def dnum (vs : Nat → Nat) (cn : Nat) : Nat → Nat
  | 0 => 0
  | t + 1 => if dix vs t cn = 0 then cn + 1 else dix vs t cn
def dvs (vs : Nat → Nat) (cn : Nat) : Nat → Nat → Nat
  | 0 => vs
  | t + 1 => if dix vs t cn = 0 then un vs cn t else vs
def dcn (vs : Nat → Nat) (cn : Nat) : Nat → Nat
  | 0 => cn
  | t + 1 => if dix vs t cn = 0 then cn + 1 else cn
theorem dnum_t {vs : Nat → Nat} {cn t : Nat} (q : dix vs t cn = 0) : dnum vs cn (t + 1) = cn + 1 := if_pos q
theorem dnum_f {vs : Nat → Nat} {cn t : Nat} (q : ¬ dix vs t cn = 0) : dnum vs cn (t + 1) = dix vs t cn := if_neg q
theorem dvs_t {vs : Nat → Nat} {cn t : Nat} (q : dix vs t cn = 0) : dvs vs cn (t + 1) = un vs cn t := if_pos q
theorem dvs_f {vs : Nat → Nat} {cn t : Nat} (q : ¬ dix vs t cn = 0) : dvs vs cn (t + 1) = vs := if_neg q
theorem dcn_t {vs : Nat → Nat} {cn t : Nat} (q : dix vs t cn = 0) : dcn vs cn (t + 1) = cn + 1 := if_pos q
theorem dcn_f {vs : Nat → Nat} {cn t : Nat} (q : ¬ dix vs t cn = 0) : dcn vs cn (t + 1) = cn := if_neg q
def dL (l : Nat → Nat) : Nat → Nat → Int64 → (Nat → Nat) → Nat → Int64 × (Nat → Nat) × Nat
  | 0, _, h, vs, cn => (h, vs, cn)
  | n + 1, c, h, vs, cn => dL l n (c + 1) (fo h (nI (dnum vs cn (l c)))) (dvs vs cn (l c)) (dcn vs cn (l c))
def dD (d : Nat → Int32) : Nat → Nat → Int64 → Int64
  | 0, _, h => h
  | n + 1, c, h => dD d n (c + 1) (fo h (d c))
def dV (sr : Nat → Nat) (vs : Nat → Nat) (cn : Nat) : Prop := (∀ i, i < cn → LV sr (vs i)) ∧ ∀ i j, i < cn → j < cn → vs i = vs j → i = j
theorem dV_cnt {vs : Nat → Nat} : ∀ n, (∀ i, i < n → vs i < 48) → (∀ i j, i < n → j < n → vs i = vs j → i = j) → cnt (fun e => ∃ i, i < n ∧ vs i = e) 48 = n
  | 0, _, _ => sm_z (fun i _ => bn_f (fun ⟨j, hj, _⟩ => by omega))
  | n + 1, h1, h2 => by
    have a := dV_cnt n (fun i hi => h1 i (by omega)) (fun i j hi hj => h2 i j (by omega) (by omega))
    have b := cnt_s (P := fun e => ∃ i, i < n ∧ vs i = e) (Q := fun e => ∃ i, i < n + 1 ∧ vs i = e) (k := vs n) (n := 48) (h1 n (by omega)) (fun ⟨i, i1, i2⟩ => by have := h2 i n (by omega) (by omega) i2; omega) ⟨n, by omega, rfl⟩ (fun e _ hn => ⟨fun ⟨i, i1, i2⟩ => ⟨i, by
      rcases Nat.lt_or_ge i n with y | y
      · exact y
      · have : i = n := by omega
        subst this; exact absurd i2.symm hn, i2⟩, fun ⟨i, i1, i2⟩ => ⟨i, by omega, i2⟩⟩)
    omega
theorem dV_le {sr vs : Nat → Nat} {cn : Nat} (h : dV sr vs cn) : cn ≤ 48 := by
  have a := dV_cnt cn (fun i hi => (h.1 i hi).1) h.2
  have b := cnt_le (fun e => ∃ i, i < cn ∧ vs i = e) 48
  omega
theorem dV_lt {sr vs : Nat → Nat} {cn t : Nat} (h : dV sr vs cn) (ht : LV sr t) (hn : dix vs t cn = 0) : cn < 48 := by
  have a := dV_cnt cn (fun i hi => (h.1 i hi).1) h.2
  have b := cnt_n (P := fun e => ∃ i, i < cn ∧ vs i = e) ht.1 (fun ⟨i, i1, i2⟩ => dix_0 hn i i1 i2)
  omega
theorem dV_s {sr vs : Nat → Nat} {cn r : Nat} (h : dV sr vs cn) (hr : OKr sr r) : dV sr (dvs vs cn r) (dcn vs cn r) := by
  cases r with
  | zero => exact h
  | succ t =>
    by_cases q : dix vs t cn = 0
    · rw [dvs_t q, dcn_t q]
      refine ⟨fun i hi => ?_, fun i j hi hj e => ?_⟩
      · by_cases y : i = cn
        · subst y; rw [un_s]; exact hr t rfl
        · rw [un_n y]; exact h.1 i (by omega)
      · by_cases y : i = cn
        · by_cases w : j = cn
          · omega
          · rw [y, un_s, un_n w] at e
            exact absurd e.symm (dix_0 q j (by omega))
        · by_cases w : j = cn
          · rw [w, un_s, un_n y] at e
            exact absurd e (dix_0 q i (by omega))
          · rw [un_n y, un_n w] at e
            exact h.2 i j (by omega) (by omega) e
    · rw [dvs_f q, dcn_f q]; exact h
theorem dV_L {sr : Nat → Nat} {l : Nat → Nat} : ∀ (n c : Nat) (h : Int64) (vs : Nat → Nat) (cn : Nat), dV sr vs cn → (∀ d, c ≤ d → d < c + n → OKr sr (l d)) → dV sr (dL l n c h vs cn).2.1 (dL l n c h vs cn).2.2
  | 0, _, _, _, _, hv, _ => hv
  | n + 1, c, h, vs, cn, hv, hl => dV_L n (c + 1) _ _ _ (dV_s hv (hl c (by omega) (by omega))) (fun d d1 d2 => hl d (by omega) (by omega))
def dX (sr ad vs : Nat → Nat) (cn : Nat) (vn vq : Nat → Int32) : Prop := (∀ i, i < cn → vq i = nI (ad (vs i))) ∧ ∀ e, LV sr e → vn (ad e) = nI (dix vs e cn)
section
variable {B R S : Nat} {ma ml oa ol md uw mt vc : Int32} {me st lt rs ss ws mk lm pw ca ms fw vn vq : Nat → Int32} {pp : Int32 → SX → Prop} {pl : Int64 → SX → Prop} {pf : Int64 → Prop} {sr ln dn : Nat → Nat} {lk : Nat → Nat → Nat} {dt : Nat → Nat → Int32} {ad : Nat → Nat} {nd : Nat}
theorem x_fold {h : Int64} {v : Int32} (hp : pf (fo h v)) : wpX_fold pf (nI B, nI (8 * B), nI (32 * B), nI (12 * B), nI R, nI S, ma, ml, oa, ol, md, uw, mt, vc, me, st, lt, rs, ss, ws, mk, lm, pw, ca, ms, fw, vn, vq) h v := hp
theorem x_visit {vs : Nat → Nat} {cn t : Nat} (hB : B ≤ 8) (hL : LY B (LV sr) (zs ln dn) ad) (ht : LV sr t) (hv : dV sr vs cn) (hx : dX sr ad vs cn vn vq)
    (hp : ∀ vn' vq', dX sr ad (dvs vs cn (t + 1)) (dcn vs cn (t + 1)) vn' vq' → pp (nI (dnum vs cn (t + 1))) (nI B, nI (8 * B), nI (32 * B), nI (12 * B), nI R, nI S, ma, ml, oa, ol, md, uw, mt, nI (dcn vs cn (t + 1)), me, st, lt, rs, ss, ws, mk, lm, pw, ca, ms, fw, vn', vq')) : wpX_visit pp (nI B, nI (8 * B), nI (32 * B), nI (12 * B), nI R, nI S, ma, ml, oa, ol, md, uw, mt, nI cn, me, st, lt, rs, ss, ws, mk, lm, pw, ca, ms, fw, vn, vq) (nI (ad t)) := by
  have q1 := LY_lt hL hB ht
  have q2 := dV_le hv
  have q3 := dix_le vs t cn
  refine And.intro (vp_in_nI (by omega) (by omega)) ?_
  have e0 : vn (nI (ad t)).toNatClampNeg = nI (dix vs t cn) := by rw [nI_clamp (by omega)]; exact hx.2 t ht
  rw [e0]
  by_cases q : dix vs t cn = 0
  · rw [dvs_t q, dcn_t q, dnum_t q] at hp
    have q4 := dV_lt hv ht q
    refine br_t (by rw [q]; rfl) (br_f (nI_ge (b := 48) (by omega) (by omega)) (And.intro (vp_in_nI (by omega) (by omega)) (nm_r (nu_u (by omega) rfl) (nm_r (nI_1 cn) (And.intro (vp_in_nI (by omega) (by omega)) (nm_r (nu_u (by omega) rfl) (And.intro (vp_in_nI (by omega) (by omega)) ?_)))))))
    rw [nI_clamp (n := ad t) (by omega), pk_us]
    refine hp _ _ ⟨fun i hi => ?_, fun e he => ?_⟩
    · by_cases y : i = cn
      · subst y; rw [pk_us, un_s]
      · rw [pk_un y, un_n y]; exact hx.1 i (by omega)
    · have d1 : dix (un vs cn t) e (cn + 1) = if un vs cn t cn = e then cn + 1 else dix (un vs cn t) e cn := rfl
      rw [d1, un_s]
      by_cases y : t = e
      · subst y; rw [pk_us, if_pos rfl]
      · have n1 : ad e ≠ ad t := fun c => y (LY_in (c := 0) (d := 0) hL he ht (by have := (hL.1 e he).1; omega) (by omega) c).1.symm
        rw [pk_un n1, if_neg y, dix_c (fun i hi => un_n (by omega))]
        exact hx.2 e he
  · rw [dvs_f q, dcn_f q, dnum_f q] at hp
    refine br_f (nI_ne0 (by omega) (by omega)) (And.intro (vp_in_nI (by omega) (by omega)) ?_)
    exact hp vn vq hx
theorem x_fo91 {e : Nat} (hB : B ≤ 8) (G : GO nd sr ln dn lk) (H : HP B sr ln dn lk dt ad me st) (he : LV sr e) : ∀ n k h, dn e - k < n → k ≤ dn e → pl (dD (dt e) (dn e - k) (2 + ln e + k) h) (nI B, nI (8 * B), nI (32 * B), nI (12 * B), nI R, nI S, ma, ml, oa, ol, md, uw, mt, vc, me, st, lt, rs, ss, ws, mk, lm, pw, ca, ms, fw, vn, vq) → wX_foldObject_91 pl (nI (ad e)) (nI (ln e)) (nI (dn e)) (nI B) (nI (8 * B)) (nI (32 * B)) (nI (12 * B)) (nI R) (nI S) ma ml oa ol md uw mt vc me st lt rs ss ws mk lm pw ca ms fw vn vq n h (nI k) := by
  have q1 := LY_lt H.1 hB he
  have q2 := G.1 e he
  have q3 : zs ln dn e = 2 + ln e + dn e := rfl
  intro n
  induction n with
  | zero => intro k h g; omega
  | succ n ih =>
    intro k h g1 g2 g3
    refine pk_le (dn e) k (fun q => ?_) (fun q => ?_)
    · rw [show dn e - k = 0 by omega] at g3
      exact g3
    have i1 : nI (ad e) + 2 + nI (ln e) + nI k = nI (ad e + (2 + ln e + k)) := by rw [nu_a2, nI_add, nI_add]; exact congrArg nI (by omega)
    rw [i1]
    refine And.intro (vp_in_nI (by omega) (by omega)) (x_fold (nm_r (nI_1 k) (ih (k + 1) _ (by omega) (by omega) ?_)))
    rw [nI_clamp (by omega), H.2.1 e he (2 + ln e + k) (by omega), oc_d (by omega)]
    obtain ⟨m, hm⟩ : ∃ m, dn e - k = m + 1 := ⟨dn e - k - 1, by omega⟩
    rw [hm] at g3
    rw [show dn e - (k + 1) = m by omega]
    exact g3
theorem x_fo36 {e : Nat} (hB : B ≤ 8) (G : GO nd sr ln dn lk) (H : HP B sr ln dn lk dt ad me st) (he : LV sr e) : ∀ n k h vs cn vn vq, ln e - k < n → k ≤ ln e → dV sr vs cn → dX sr ad vs cn vn vq →
    (∀ vn' vq', dX sr ad (dL (lk e) (ln e - k) (2 + k) h vs cn).2.1 (dL (lk e) (ln e - k) (2 + k) h vs cn).2.2 vn' vq' → ∃ n91 : Nat, wX_foldObject_91 pl (nI (ad e)) (nI (ln e)) (nI (dn e)) (nI B) (nI (8 * B)) (nI (32 * B)) (nI (12 * B)) (nI R) (nI S) ma ml oa ol md uw mt (nI (dL (lk e) (ln e - k) (2 + k) h vs cn).2.2) me st lt rs ss ws mk lm pw ca ms fw vn' vq' n91 (dL (lk e) (ln e - k) (2 + k) h vs cn).1 0) →
    wX_foldObject_36 pl (nI (ad e)) (nI (ln e)) (nI (dn e)) n h (nI k) (nI B) (nI (8 * B)) (nI (32 * B)) (nI (12 * B)) (nI R) (nI S) ma ml oa ol md uw mt (nI cn) me st lt rs ss ws mk lm pw ca ms fw vn vq := by
  have q1 := LY_lt H.1 hB he
  have q2 := G.1 e he
  have q3 : zs ln dn e = 2 + ln e + dn e := rfl
  intro n
  induction n with
  | zero => intro k h vs cn vn vq g; omega
  | succ n ih =>
    intro k h vs cn vn vq g1 g2 hv hx hp
    refine pk_le (ln e) k (fun q => ?_) (fun q => ?_)
    · rw [show ln e - k = 0 by omega] at hp
      exact hp vn vq hx
    obtain ⟨m, hm⟩ : ∃ m, ln e - k = m + 1 := ⟨ln e - k - 1, by omega⟩
    rw [hm] at hp
    have i1 : nI (ad e) + 2 + nI k = nI (ad e + (2 + k)) := by rw [nu_a2, nI_add]; exact congrArg nI (by omega)
    rw [i1]
    have ok := G.2.2 e he (2 + k) (by omega) (by omega)
    have hm2 : ln e - (k + 1) = m := by omega
    refine And.intro (vp_in_nI (by omega) (by omega)) (nm_r (e' := rf ad (lk e (2 + k))) ?_ ?_)
    · rw [nI_clamp (by omega), H.2.1 e he (2 + k) (by omega), oc_l (by omega) (by omega)]
    have key : ∀ vn' vq', dX sr ad (dvs vs cn (lk e (2 + k))) (dcn vs cn (lk e (2 + k))) vn' vq' → wX_foldObject_36 pl (nI (ad e)) (nI (ln e)) (nI (dn e)) n (fo h (nI (dnum vs cn (lk e (2 + k))))) (nI (k + 1)) (nI B) (nI (8 * B)) (nI (32 * B)) (nI (12 * B)) (nI R) (nI S) ma ml oa ol md uw mt (nI (dcn vs cn (lk e (2 + k)))) me st lt rs ss ws mk lm pw ca ms fw vn' vq' := by
      intro vn' vq' hx'
      refine ih (k + 1) _ _ _ vn' vq' (by omega) (by omega) (dV_s hv ok) hx' ?_
      rw [hm2]
      exact hp
    cases el : lk e (2 + k) with
    | zero =>
      rw [el] at key
      refine br_t nu_n1 ?_
      unfold wX_foldObject_72
      exact x_fold (nm_r (nI_1 k) (key vn vq hx))
    | succ t =>
      rw [el] at key ok
      have ht := ok t rfl
      have q5 := LY_lt H.1 hB ht
      refine br_f (nI_pos (n := ad t) (by omega)) (x_visit (t := t) hB H.1 ht hv hx (fun vn' vq' hx' => ?_))
      unfold wX_foldObject_72
      exact x_fold (nm_r (nI_1 k) (key vn' vq' hx'))
end
/-- one object -/
def dO (ln dn : Nat → Nat) (lk : Nat → Nat → Nat) (dt : Nat → Nat → Int32) (e : Nat) (h : Int64) (vs : Nat → Nat) (cn : Nat) : Int64 × (Nat → Nat) × Nat :=
  (dD (dt e) (dn e) (2 + ln e) (dL (lk e) (ln e) 2 (fo (fo h (nI (ln e))) (nI (dn e))) vs cn).1, (dL (lk e) (ln e) 2 (fo (fo h (nI (ln e))) (nI (dn e))) vs cn).2.1, (dL (lk e) (ln e) 2 (fo (fo h (nI (ln e))) (nI (dn e))) vs cn).2.2)
def dM (ln dn : Nat → Nat) (lk : Nat → Nat → Nat) (dt : Nat → Nat → Int32) : Nat → Nat → Int64 → (Nat → Nat) → Nat → Int64
  | 0, _, h, _, _ => h
  | n + 1, t, h, vs, cn => if cn ≤ t then h else dM ln dn lk dt n (t + 1) (dO ln dn lk dt (vs t) h vs cn).1 (dO ln dn lk dt (vs t) h vs cn).2.1 (dO ln dn lk dt (vs t) h vs cn).2.2
section
variable {B R S : Nat} {ma ml oa ol md uw mt vc : Int32} {me st lt rs ss ws mk lm pw ca ms fw vn vq : Nat → Int32} {pp : Int32 → SX → Prop} {pl : Int64 → SX → Prop} {pf : Int64 → Prop} {sr ln dn : Nat → Nat} {lk : Nat → Nat → Nat} {dt : Nat → Nat → Int32} {ad : Nat → Nat} {nd : Nat}
theorem x_foldObj {e cn : Nat} {h : Int64} {vs : Nat → Nat} (hB : B ≤ 8) (G : GO nd sr ln dn lk) (H : HP B sr ln dn lk dt ad me st) (he : LV sr e) (hv : dV sr vs cn) (hx : dX sr ad vs cn vn vq)
    (hp : ∀ vn' vq', dX sr ad (dO ln dn lk dt e h vs cn).2.1 (dO ln dn lk dt e h vs cn).2.2 vn' vq' → pl (dO ln dn lk dt e h vs cn).1 (nI B, nI (8 * B), nI (32 * B), nI (12 * B), nI R, nI S, ma, ml, oa, ol, md, uw, mt, nI (dO ln dn lk dt e h vs cn).2.2, me, st, lt, rs, ss, ws, mk, lm, pw, ca, ms, fw, vn', vq')) : wpX_foldObject pl (nI B, nI (8 * B), nI (32 * B), nI (12 * B), nI R, nI S, ma, ml, oa, ol, md, uw, mt, nI cn, me, st, lt, rs, ss, ws, mk, lm, pw, ca, ms, fw, vn, vq) h (nI (ad e)) := by
  have q2 := G.1 e he
  unfold wpX_foldObject
  refine g_linksOf hB G H he ?_
  refine g_dataOf hB G H he ?_
  refine x_fold ?_
  refine x_fold ?_
  refine Exists.intro 9 (x_fo36 hB G H he 9 0 _ vs cn vn vq (by omega) (by omega) hv hx (fun vn' vq' hx' => Exists.intro 9 (x_fo91 hB G H he 9 0 _ (by omega) (by omega) (hp vn' vq' hx'))))
theorem x_d65 (hB : B ≤ 8) (G : GO nd sr ln dn lk) (H : HP B sr ln dn lk dt ad me st) : ∀ n m t h vs cn vn vq, m < n → t + m = 48 → dV sr vs cn → dX sr ad vs cn vn vq → (∀ vc' vn' vq', pl (dM ln dn lk dt m t h vs cn) (nI B, nI (8 * B), nI (32 * B), nI (12 * B), nI R, nI S, ma, ml, oa, ol, md, uw, mt, vc', me, st, lt, rs, ss, ws, mk, lm, pw, ca, ms, fw, vn', vq')) → wX_digest_65 pl n h (nI t) (nI B) (nI (8 * B)) (nI (32 * B)) (nI (12 * B)) (nI R) (nI S) ma ml oa ol md uw mt (nI cn) me st lt rs ss ws mk lm pw ca ms fw vn vq := by
  intro n
  induction n with
  | zero => intro m t h vs cn vn vq g; omega
  | succ n ih =>
    intro m t h vs cn vn vq g1 g2 hv hx hp
    have c48 := dV_le hv
    refine pk_le 48 t (fun q => ?_) (fun q => ?_)
    · have : m = 0 := by omega
      subst this
      exact hp _ vn vq
    obtain ⟨m', rfl⟩ : ∃ m', m = m' + 1 := ⟨m - 1, by omega⟩
    unfold dM at hp
    refine pk_le cn t (fun q2 => ?_) (fun q2 => And.intro (vp_in_nI (by omega) (by omega)) ?_)
    · rw [if_pos q2] at hp
      exact hp _ vn vq
    rw [if_neg (by omega)] at hp
    rw [nI_clamp (by omega), hx.1 t q2]
    have he := hv.1 t q2
    refine x_foldObj hB G H he hv hx (fun vn' vq' hx' => nm_r (nI_1 t) (ih m' (t + 1) _ _ _ vn' vq' (by omega) (by omega) ?_ hx' hp))
    exact dV_L _ _ _ _ _ hv (fun d d1 d2 => G.2.2 _ he d d1 (by omega))
theorem x_d27 {t : Nat} (hB : B ≤ 8) (G : GO nd sr ln dn lk) (H : HP B sr ln dn lk dt ad me st) (ht : LV sr t) (hp : ∀ vc' vn' vq', pl (dM ln dn lk dt 48 0 17 (un (fun _ => 0) 0 t) 1) (nI B, nI (8 * B), nI (32 * B), nI (12 * B), nI R, nI S, ma, ml, oa, ol, md, uw, mt, vc', me, st, lt, rs, ss, ws, mk, lm, pw, ca, ms, fw, vn', vq')) : ∃ n27 : Nat, wX_digest_27 pl (nI (ad t)) (nI B) (nI (8 * B)) (nI (32 * B)) (nI (12 * B)) (nI R) (nI S) ma ml oa ol md uw mt vc n27 0 me st lt rs ss ws mk lm pw ca ms fw vn vq := by
  refine Exists.intro 257 (fg_loop (fun n i a => wX_digest_27 pl (nI (ad t)) (nI B) (nI (8 * B)) (nI (32 * B)) (nI (12 * B)) (nI R) (nI S) ma ml oa ol md uw mt vc n (nI i) me st lt rs ss ws mk lm pw ca ms fw a vq) (fun _ => 0) 256 256 (fun a => wpX_visit (fun r_35 u => match u with | (b0, b1, b2, b3, b4, b5, b6, b7, b8, b9, b10, b11, b12, b13, b14, b15, b16, b17, b18, b19, b20, b21, b22, b23, b24, b25, b26, b27) => (∃ n65 : Nat, wX_digest_65 pl n65 17 0 b0 b1 b2 b3 b4 b5 b6 b7 b8 b9 b10 b11 b12 b13 b14 b15 b16 b17 b18 b19 b20 b21 b22 b23 b24 b25 b26 b27)) (nI B, nI (8 * B), nI (32 * B), nI (12 * B), nI R, nI S, ma, ml, oa, ol, md, uw, mt, 0, me, st, lt, rs, ss, ws, mk, lm, pw, ca, ms, fw, a, vq) (nI (ad t)))
    (fun _ _ a h h2 q => br_t (nI_le (a := 256) h (by omega)) q)
    (fun _ i a h h2 w => br_f (nI_ge (b := 256) h (by omega)) (And.intro (vp_in_nI (by omega) (by omega)) (nm_r (nu_u (by omega) rfl) (nm_r (nI_1 i) w)))) (by omega) 257 0 vn (by omega) (by omega) ?_)
  have hv0 : dV sr (fun _ => 0) 0 := ⟨fun i hi => by omega, fun i j hi => by omega⟩
  refine x_visit (vs := fun _ => 0) (cn := 0) hB H.1 ht hv0 ⟨fun i hi => by omega, fun e he => ?_⟩ (fun vn' vq' hx' => Exists.intro 49 ?_)
  · have q1 := LY_lt H.1 hB he
    rw [fg_in (by omega)]; rfl
  · exact x_d65 hB G H 49 48 0 17 (un (fun _ => 0) 0 t) 1 vn' vq' (by omega) (by omega) (dV_s (r := t + 1) hv0 (OKr_s ht)) hx' hp
end
end
section
/-! the digest, Y's side, and both -/
def dY (sr vs : Nat → Nat) (cn : Nat) (vi : Nat → Int32) : Prop := ∀ i, i < cn → vi i = nI (sr (vs i))
section
variable {B R S : Nat} {yd : Int32} {ce ro sS sV wS re vi : Nat → Int32} {pr : Int32 → Prop} {ql : Int64 → SY → Prop} {pf : Int64 → Prop} {sr ln dn : Nat → Nat} {lk : Nat → Nat → Nat} {dt : Nat → Nat → Int32} {nd : Nat} {J44 J101 : Int32 → Int64 → Int32 → (Nat → Int32) → (Nat → Int32) → (Nat → Int32) → (Nat → Int32) → (Nat → Int32) → (Nat → Int32) → (Nat → Int32) → Prop}
theorem y_fold {h : Int64} {v : Int32} (hp : pf (fo h v)) : wpY_fold pf (nI (12 * B), nI R, nI S, yd, ce, ro, sS, sV, wS, re, vi) h v := hp
theorem y_d174 {vs : Nat → Nat} {cn t : Nat} {h : Int64} {x5 x6 x7 x8 x9 : Int32} (ht : LV sr t) (hv : dV sr vs cn) (hy : dY sr vs cn vi)
    (hp : ∀ vi', dY sr (dvs vs cn (t + 1)) (dcn vs cn (t + 1)) vi' → wY_digest_199 ql J44 J101 (nI (dcn vs cn (t + 1))) h x5 x6 x7 x8 x9 (nI (dnum vs cn (t + 1))) (nI (12 * B)) (nI R) (nI S) yd ce ro sS sV wS re vi') : wY_digest_174 ql J44 J101 (nI cn) h x5 x6 x7 x8 x9 (nI (sr t)) (nI (dix vs t cn)) (nI (12 * B)) (nI R) (nI S) yd ce ro sS sV wS re vi := by
  have q2 := dV_le hv
  have q3 := dix_le vs t cn
  by_cases q : dix vs t cn = 0
  · rw [dvs_t q, dcn_t q, dnum_t q] at hp
    have q4 := dV_lt hv ht q
    refine br_t (by rw [q]; rfl) (br_f (nI_ge (b := 48) (by omega) (by omega)) (And.intro (vp_in_nI (by omega) (by omega)) (nm_r (nu_u (by omega) rfl) (nm_r (nI_1 cn) (hp _ (fun i hi => ?_))))))
    by_cases y : i = cn
    · subst y; rw [pk_us, un_s]
    · rw [pk_un y, un_n y]; exact hy i (by omega)
  · rw [dvs_f q, dcn_f q, dnum_f q] at hp
    exact br_f (nI_ne0 (by omega) (by omega)) (hp vi hy)
theorem y_d137 {vs : Nat → Nat} {cn t : Nat} {h : Int64} {x5 x6 x7 x8 x9 : Int32} (hd : nd ≤ 30000) (G : GO nd sr ln dn lk) (ht : LV sr t) (hv : dV sr vs cn) (hy : dY sr vs cn vi)
    (hp : wY_digest_174 ql J44 J101 (nI cn) h x5 x6 x7 x8 x9 (nI (sr t)) (nI (dix vs t cn)) (nI (12 * B)) (nI R) (nI S) yd ce ro sS sV wS re vi) : ∀ n x, cn - x < n → x ≤ cn → wY_digest_137 ql J44 J101 (nI cn) h x5 x6 x7 x8 x9 (nI (sr t)) (nI (12 * B)) (nI R) (nI S) yd ce ro sS sV wS re vi n (nI (dix vs t x)) (nI x) := by
  have q2 := dV_le hv
  intro n
  induction n with
  | zero => intro x g; omega
  | succ n ih =>
    intro x g1 g2
    refine pk_le 48 x (fun q => ?_) (fun q => pk_le cn x (fun w => ?_) (fun w => And.intro (vp_in_nI (by omega) (by omega)) ?_))
    · have : x = cn := by omega
      subst this; exact hp
    · have : x = cn := by omega
      subst this; exact hp
    · have d1 : dix vs t (x + 1) = if vs x = t then x + 1 else dix vs t x := rfl
      have g := ih (x + 1) (by omega) (by omega)
      rw [d1] at g
      rw [nI_clamp (by omega), hy x w]
      by_cases e : vs x = t
      · rw [if_pos e] at g
        exact br_t (by rw [e]) (nm_r (nI_1 x) (nm_r (nI_1 x) g))
      · rw [if_neg e] at g
        refine br_f (fun c => e ?_) (nm_r (nI_1 x) g)
        have b1 := (G.1 _ (hv.1 x w)).2.2.2
        have b2 := (G.1 t ht).2.2.2
        exact G.2.1 _ t (hv.1 x w) ht (nu_inj c (by omega) (by omega))
theorem y_d216 {e cn x : Nat} (hd : nd ≤ 30000) (G : GO nd sr ln dn lk) (M : YM sr ln dn lk dt ce) (he : LV sr e) : ∀ n k h, dn e - k < n → k ≤ dn e → J44 (nI cn) (dD (dt e) (dn e - k) (2 + ln e + k) h) (nI (x + 1)) ce ro sS sV wS re vi → wY_digest_216 ql J44 (nI cn) (nI x) (nI (sr e)) (nI (ln e)) (nI (dn e)) (nI (12 * B)) (nI R) (nI S) yd ce ro sS sV wS re vi n h (nI k) := by
  have q2 := G.1 e he
  have q3 : zs ln dn e = 2 + ln e + dn e := rfl
  intro n
  induction n with
  | zero => intro k h g; omega
  | succ n ih =>
    intro k h g1 g2 g3
    have fin : dn e ≤ k → ∀ y, y = nI x + 1 → J44 (nI cn) h y ce ro sS sV wS re vi := fun q => nm_r (nI_1 x) (by
      rw [show dn e - k = 0 by omega] at g3
      exact g3)
    refine pk_le 4 k (fun q => fin (by omega)) (fun q => pk_le (dn e) k (fun w => fin w) (fun w => ?_))
    rw [show 2 + nI (ln e) + nI k = nI (2 + ln e + k) by rw [nu_2, nI_add]]
    refine y_at hd G M he (by omega) (y_fold (nm_r (nI_1 k) (ih (k + 1) _ (by omega) (by omega) ?_)))
    rw [M.2 e he (2 + ln e + k) (by omega), oc_d (by omega)]
    obtain ⟨m, hm⟩ : ∃ m, dn e - k = m + 1 := ⟨dn e - k - 1, by omega⟩
    rw [hm] at g3
    rw [show dn e - (k + 1) = m by omega]
    exact g3
theorem y_d101 {e : Nat} {x5 : Int32} (hd : nd ≤ 30000) (G : GO nd sr ln dn lk) (M : YM sr ln dn lk dt ce) (he : LV sr e) : ∀ n k h vs cn vi, ln e - k < n → k ≤ ln e → dV sr vs cn → dY sr vs cn vi →
    (∀ vi', dY sr (dL (lk e) (ln e - k) (2 + k) h vs cn).2.1 (dL (lk e) (ln e - k) (2 + k) h vs cn).2.2 vi' → ∃ n216 : Nat, wY_digest_216 ql J44 (nI (dL (lk e) (ln e - k) (2 + k) h vs cn).2.2) x5 (nI (sr e)) (nI (ln e)) (nI (dn e)) (nI (12 * B)) (nI R) (nI S) yd ce ro sS sV wS re vi' n216 (dL (lk e) (ln e - k) (2 + k) h vs cn).1 0) →
    wY_digest_101 ql J44 x5 (nI (sr e)) (nI (ln e)) (nI (dn e)) (nI (12 * B)) (nI R) (nI S) yd n (nI cn) h (nI k) ce ro sS sV wS re vi := by
  have q2 := G.1 e he
  have q3 : zs ln dn e = 2 + ln e + dn e := rfl
  intro n
  induction n with
  | zero => intro k h vs cn vi g; omega
  | succ n ih =>
    intro k h vs cn vi g1 g2 hv hy hp
    have c48 := dV_le hv
    have fin : ln e ≤ k → ∃ n216 : Nat, wY_digest_216 ql J44 (nI cn) x5 (nI (sr e)) (nI (ln e)) (nI (dn e)) (nI (12 * B)) (nI R) (nI S) yd ce ro sS sV wS re vi n216 h 0 := by
      intro q
      rw [show ln e - k = 0 by omega] at hp
      exact hp vi hy
    refine pk_le 4 k (fun q => fin (by omega)) (fun q => pk_le (ln e) k (fun w => fin w) (fun w => ?_))
    obtain ⟨m, hm⟩ : ∃ m, ln e - k = m + 1 := ⟨ln e - k - 1, by omega⟩
    rw [hm] at hp
    have ok := G.2.2 e he (2 + k) (by omega) (by omega)
    have hm2 : ln e - (k + 1) = m := by omega
    have key : ∀ vi', dY sr (dvs vs cn (lk e (2 + k))) (dcn vs cn (lk e (2 + k))) vi' → wY_digest_101 ql J44 x5 (nI (sr e)) (nI (ln e)) (nI (dn e)) (nI (12 * B)) (nI R) (nI S) yd n (nI (dcn vs cn (lk e (2 + k)))) (fo h (nI (dnum vs cn (lk e (2 + k))))) (nI (k + 1)) ce ro sS sV wS re vi' := by
      intro vi' hy'
      refine ih (k + 1) _ _ _ vi' (by omega) (by omega) (dV_s hv ok) hy' ?_
      rw [hm2]
      exact hp
    rw [nu_2]
    refine y_at hd G M he (by omega) ?_
    rw [M.2 e he (2 + k) (by omega), oc_l (by omega) (by omega)]
    cases el : lk e (2 + k) with
    | zero =>
      rw [el] at key
      refine br_t rfl ?_
      unfold wY_digest_199
      exact y_fold (nm_r (nI_1 k) (key vi hy))
    | succ t =>
      rw [el] at key ok
      have ht := ok t rfl
      refine br_f (sr_pos hd G ht) (Exists.intro 49 (y_d137 (t := t) hd G ht hv hy (y_d174 ht hv hy (fun vi' hy' => ?_)) 49 0 (by omega) (by omega)))
      unfold wY_digest_199
      exact y_fold (nm_r (nI_1 k) (key vi' hy'))
theorem y_d44 (hd : nd ≤ 30000) (G : GO nd sr ln dn lk) (M : YM sr ln dn lk dt ce) : ∀ n m t h vs cn vi, m < n → t + m = 48 → dV sr vs cn → dY sr vs cn vi → (∀ vi', ql (dM ln dn lk dt m t h vs cn) (nI (12 * B), nI R, nI S, yd, ce, ro, sS, sV, wS, re, vi')) → wY_digest_44 ql (nI (12 * B)) (nI R) (nI S) yd n (nI cn) h (nI t) ce ro sS sV wS re vi := by
  intro n
  induction n with
  | zero => intro m t h vs cn vi g; omega
  | succ n ih =>
    intro m t h vs cn vi g1 g2 hv hy hp
    have c48 := dV_le hv
    refine pk_le 48 t (fun q => ?_) (fun q => ?_)
    · have : m = 0 := by omega
      subst this
      exact hp vi
    obtain ⟨m', rfl⟩ : ∃ m', m = m' + 1 := ⟨m - 1, by omega⟩
    unfold dM at hp
    refine pk_le cn t (fun q2 => ?_) (fun q2 => And.intro (vp_in_nI (by omega) (by omega)) ?_)
    · rw [if_pos q2] at hp
      exact hp vi
    rw [if_neg (by omega)] at hp
    have he := hv.1 t q2
    have q4 := G.1 _ he
    refine nm_r (e' := nI (sr (vs t))) (by rw [nI_clamp (by omega)]; exact hy t q2) ?_
    refine y_linksOf hd G M he ?_
    refine y_dataOf hd G M he ?_
    refine y_fold ?_
    refine y_fold ?_
    refine Exists.intro 9 (y_d101 hd G M he 9 0 _ vs cn vi (by omega) (by omega) hv hy (fun vi' hy' => Exists.intro 9 (y_d216 hd G M he 9 0 _ (by omega) (by omega) ?_)))
    exact ih m' (t + 1) _ _ _ vi' (by omega) (by omega) (dV_L _ _ _ _ _ hv (fun d d1 d2 => G.2.2 _ he d d1 (by omega))) hy' hp
end
theorem i_vc_digest {k : Nat} {u : SX} {v : SY} (I : i_Rel k u v) (hk : k + 4 ≤ 2051) (v1 : Int32) : wpX_digest (fun r u' => wpY_digest (fun r' v' => r' = r ∧ i_Rel (k + 4) u' v') v v1) u v1 := by
  refine I (fun u v => wpX_digest (fun r u' => wpY_digest (fun r' v' => r' = r ∧ i_Rel (k + 4) u' v') v v1) u v1) ?_
  intro B R S nd sr ln dn lk dt rt wk se sv ad a l o p mt vc me st lt rs ss ws mk lm pw ca ms fw vn vq ce ro sS sV wS re vi G H HR HS HC HM HY
  unfold wpX_digest wpY_digest
  obtain ⟨b1, b2, b3, b4, b5, b6, b7⟩ := G.1
  rcases gh_ix (v := v1) (n := R) (by omega) with h1 | ⟨j1, h1, rfl⟩
  · exact x_bad (by omega) h1 (br_f bb_10 (y_bad (by omega) (by omega) h1 (br_f bb_10 ⟨rfl, rl_mk G H HR HS HC HM HY⟩)))
  refine x_good (by omega) h1 (br_t rfl (And.intro (vp_in_nI (by omega) (by omega)) ?_))
  rcases rt_c (j := j1) b7 G.2.1 G.2.2.1 HS HY (by omega) with ⟨e1, e2, e3⟩ | ⟨t, e1, ht, e2, e3, e4⟩
  · exact nm_r e2 (br_f nu_nn1 (y_good (by omega) h1 (br_t rfl (And.intro (vp_in_nI (by omega) (by omega)) (br_t e3 ⟨rfl, rl_mk G H HR HS HC HM HY⟩)))))
  have q1 := LY_lt H.1 b2 ht
  refine nm_r e2 (br_t (nI_pos' (by omega)) (x_d27 b2 G.2.1 H ht (fun vc' vn' vq' => ?_)))
  refine y_good (by omega) h1 (br_t rfl (And.intro (vp_in_nI (by omega) (by omega)) (br_f (by rw [e3]; exact e4) (And.intro (vp_in_nI (by omega) (by omega)) (nm_r (e' := upd vi 0 (nI (sr t))) (by rw [e3]) (Exists.intro 49 ?_))))))
  have hv0 : dV sr (fun _ => 0) 0 := ⟨fun i hi => by omega, fun i j hi => by omega⟩
  refine y_d44 b7 G.2.1 HM 49 48 0 17 (un (fun _ => 0) 0 t) 1 _ (by omega) (by omega) (dV_s (r := t + 1) hv0 (OKr_s ht)) (fun i hi => ?_) (fun vi' => ⟨rfl, rl_mk G H HR HS HC HM HY⟩)
  have : i = 0 := by omega
  subst this
  rw [pk_us, un_s]
end
