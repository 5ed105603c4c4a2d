section
/-! starting text: rows of the kit to paste (pk_*); then own rows -/
theorem pk_us {f : Nat → Int32} {k : Nat} {x : Int32} : upd f k x k = x := if_pos rfl
theorem pk_un {f : Nat → Int32} {k j : Nat} {x : Int32} (h : j ≠ k) : upd f k x j = f j := if_neg h
theorem pk_sub {a b : Nat} (h : b ≤ a) : nI a - nI b = nI (a - b) := by
  obtain ⟨c, rfl⟩ : ∃ c, a = c + b := ⟨a - b, by omega⟩
  rw [← nI_add, Int32.add_sub_cancel, Nat.add_sub_cancel]
theorem pk_m1 (n : Nat) : nI (n + 1) + (-1) = nI n := by
  rw [← nI_1, Int32.add_assoc, show (1 : Int32) + (-1) = 0 from rfl, Int32.add_zero]
theorem pk_mul (a b : Nat) : nI a * nI b = nI (a * b) := (Int32.ofNat_mul a b).symm
theorem pk_div {a d : Nat} (ha : a < 2 ^ 31) (h0 : 0 < d) (hd : d < 2 ^ 31) : nI a / nI d = nI (a / d) := by
  apply Int32.toInt_inj.mp
  rw [lg_idiv_nonneg (by rw [nI_toInt ha]; omega) (by rw [nI_toInt hd]; omega), nI_toInt ha, nI_toInt hd, nI_toInt (Nat.lt_of_le_of_lt (Nat.div_le_self a d) ha)]
  first | rfl | exact (Int.natCast_ediv _ _).symm
theorem pk_rem {a d : Nat} (ha : a < 2 ^ 31) (h0 : 0 < d) (hd : d < 2 ^ 31) : nI a - nI a / nI d * nI d = nI (a % d) := by
  rw [pk_div ha h0 hd, pk_mul, pk_sub (Nat.div_mul_le_self a d)]
  exact congrArg nI (by have := Nat.div_add_mod' a d; omega)
theorem pk_sub_toInt {a b : Nat} (ha : a < 2 ^ 30) (hb : b < 2 ^ 30) : (nI a - nI b).toInt = (a : Int) - b := by
  rw [Int32.toInt_sub, nI_toInt (by omega), nI_toInt (by omega)]
  exact Int.bmod_eq_of_le (by omega) (by omega)
theorem pk_sneg {a b : Nat} (hb : b < 2 ^ 30) (h : a < b) : nI a - nI b < 0 := by
  rw [Int32.lt_iff_toInt_lt, pk_sub_toInt (by omega) hb, show (0 : Int32).toInt = 0 from by decide]
  omega
theorem pk_ix (x : Int32) {n : Nat} (hn : n < 2 ^ 31) : x < 0 ∨ nI n ≤ x ∨ ∃ j : Nat, j < n ∧ x = nI j := by
  by_cases h : x < 0
  · exact Or.inl h
  · obtain ⟨j, hj, rfl⟩ := nI_of h
    by_cases h2 : j < n
    · exact Or.inr (Or.inr ⟨j, h2, rfl⟩)
    · exact Or.inr (Or.inl (nI_le (by omega) hj))
theorem pk_le {x y : Int32} {A B : Prop} (a b : Nat) (f : a ≤ b → A) (g : b < a → B) (hx : x = nI a := by rfl) (hy : y = nI b := by rfl) (ha : a < 2 ^ 31 := by omega) (hb : b < 2 ^ 31 := by omega) : (x ≤ y → A) ∧ (¬ x ≤ y → B) := by
  subst hx hy
  rw [nI_leI ha hb]
  exact ⟨f, fun z => g (by omega)⟩
theorem pk_lt {x y : Int32} {A B : Prop} (a b : Nat) (f : a < b → A) (g : b ≤ a → B) (hx : x = nI a := by rfl) (hy : y = nI b := by rfl) (ha : a < 2 ^ 31 := by omega) (hb : b < 2 ^ 31 := by omega) : (x < y → A) ∧ (¬ x < y → B) := by
  subst hx hy
  rw [nI_ltI ha hb]
  exact ⟨f, fun z => g (by omega)⟩
theorem pk_eq {x y : Int32} {A B : Prop} (a b : Nat) (f : a = b → A) (g : a ≠ b → B) (hx : x = nI a := by rfl) (hy : y = nI b := by rfl) (ha : a < 2 ^ 31 := by omega) (hb : b < 2 ^ 31 := by omega) : (x = y → A) ∧ (¬ x = y → B) := by
  subst hx hy
  rw [nI_eq ha hb]
  exact ⟨f, g⟩
theorem pk_in {x : Int32} (n N : Nat) (h : n < N) (hx : x = nI n := by rfl) (hN : N < 2 ^ 31 := by omega) : vp_in x N := by
  subst hx
  exact vp_in_nI h hN
theorem pk_cl {x : Int32} (n : Nat) (hx : x = nI n := by rfl) (h : n < 2 ^ 31 := by omega) : x.toNatClampNeg = n := by
  subst hx
  exact nI_clamp h
theorem pk_tn {n : Nat} (h : n < 2 ^ 32) : (nI n).toBitVec.toNat = n := Nat.mod_eq_of_lt h
theorem re_m3 (a : Nat) : nI a * 3 = nI (a * 3) := pk_mul a 3
theorem re_m7 (a : Nat) : nI a * 7 = nI (a * 7) := pk_mul a 7
theorem re_m28 (a : Nat) : nI a * 28 = nI (a * 28) := pk_mul a 28
theorem re_m49 (a : Nat) : nI a * 49 = nI (a * 49) := pk_mul a 49
theorem re_m4 (a : Nat) : nI a * 4 = nI (a * 4) := pk_mul a 4
theorem re_m8 (a : Nat) : nI a * 8 = nI (a * 8) := pk_mul a 8
theorem re_m84 (a : Nat) : nI a * 84 = nI (a * 84) := pk_mul a 84
theorem re_a2 (a : Nat) : nI a + 2 = nI (a + 2) := nI_add a 2
theorem re_a3 (a : Nat) : nI a + 3 = nI (a + 3) := nI_add a 3
theorem re_a4 (a : Nat) : nI a + 4 = nI (a + 4) := nI_add a 4
theorem re_a5 (a : Nat) : nI a + 5 = nI (a + 5) := nI_add a 5
theorem re_a6 (a : Nat) : nI a + 6 = nI (a + 6) := nI_add a 6
theorem re_b336 (a : Nat) : 336 + nI a = nI (336 + a) := nI_add 336 a
theorem re_b8 (a : Nat) : 8 + nI a = nI (8 + a) := nI_add 8 a
theorem re_b0 (a : Nat) : 0 + nI a = nI a := by rw [Int32.zero_add]
theorem re_in {n N : Nat} (h : n < N) (hN : N < 2147483648) : vp_in (nI n) N = True := eq_true (vp_in_nI h hN)
theorem re_d3 {a : Nat} (h : a < 2147483648) : nI a / 3 = nI (a / 3) := pk_div (d := 3) h (by decide) (by decide)
theorem re_r3 {a : Nat} (h : a < 2147483648) : nI a - nI a / 3 * 3 = nI (a % 3) := pk_rem (d := 3) h (by decide) (by decide)
theorem re_z3 : ((3 : Int32) = 0) = False := eq_false (by decide)
theorem re_d7 {a : Nat} (h : a < 2147483648) : nI a / 7 = nI (a / 7) := pk_div (d := 7) h (by decide) (by decide)
theorem re_r7 {a : Nat} (h : a < 2147483648) : nI a - nI a / 7 * 7 = nI (a % 7) := pk_rem (d := 7) h (by decide) (by decide)
theorem re_z7 : ((7 : Int32) = 0) = False := eq_false (by decide)
theorem re_d21 {a : Nat} (h : a < 2147483648) : nI a / 21 = nI (a / 21) := pk_div (d := 21) h (by decide) (by decide)
theorem re_r21 {a : Nat} (h : a < 2147483648) : nI a - nI a / 21 * 21 = nI (a % 21) := pk_rem (d := 21) h (by decide) (by decide)
theorem re_z21 : ((21 : Int32) = 0) = False := eq_false (by decide)
theorem re_d49 {a : Nat} (h : a < 2147483648) : nI a / 49 = nI (a / 49) := pk_div (d := 49) h (by decide) (by decide)
theorem re_r49 {a : Nat} (h : a < 2147483648) : nI a - nI a / 49 * 49 = nI (a % 49) := pk_rem (d := 49) h (by decide) (by decide)
theorem re_z49 : ((49 : Int32) = 0) = False := eq_false (by decide)
def re_oc (b : Nat) : Int32 := nI b - 1
theorem re_oc0 : re_oc 0 = -1 := by decide
theorem re_ocS {b : Nat} (h : 0 < b) : re_oc b = nI (b - 1) := by
  obtain ⟨c, rfl⟩ : ∃ c, b = c + 1 := ⟨b - 1, by omega⟩
  exact nI_pred c
theorem re_oc_neg {b : Nat} (h : b ≤ 3) : re_oc b < 0 ↔ b = 0 := by
  rcases Nat.eq_zero_or_pos b with e | e
  · subst e; exact ⟨fun _ => rfl, fun _ => by decide⟩
  · rw [re_ocS e]
    exact ⟨fun z => absurd z (nI_pos (by omega)), fun z => by omega⟩
theorem re_oc_inj {a b : Nat} (ha : a ≤ 3) (hb : b ≤ 3) (h : re_oc a = re_oc b) : a = b := by
  rcases Nat.eq_zero_or_pos a with e | e
  · have := (re_oc_neg hb).mp (by rw [← h, e]; decide)
    omega
  · rcases Nat.eq_zero_or_pos b with e2 | e2
    · have := (re_oc_neg ha).mp (by rw [h, e2]; decide)
      omega
    · rw [re_ocS e, re_ocS e2, nI_eq (by omega) (by omega)] at h
      omega
noncomputable def re_b01 (P : Prop) : Nat := @ite Nat P (Classical.propDecidable P) 1 0
theorem re_b01_t {P : Prop} (h : P) : re_b01 P = 1 := by unfold re_b01; rw [if_pos h]
theorem re_b01_f {P : Prop} (h : ¬ P) : re_b01 P = 0 := by unfold re_b01; rw [if_neg h]
theorem re_b01_le (P : Prop) : re_b01 P ≤ 1 := by
  rcases Classical.em P with h | h
  · rw [re_b01_t h]; omega
  · rw [re_b01_f h]; omega
theorem re_b01_mono {P Q : Prop} (h : P → Q) : re_b01 P ≤ re_b01 Q := by
  rcases Classical.em P with hp | hp
  · rw [re_b01_t hp, re_b01_t (h hp)]; omega
  · rw [re_b01_f hp]; omega
noncomputable def re_cn (P : Nat → Prop) : Nat → Nat
  | 0 => 0
  | k + 1 => re_cn P k + re_b01 (P k)
theorem re_cn_mono {P Q : Nat → Prop} : ∀ {N : Nat}, (∀ k, k < N → P k → Q k) → re_cn P N ≤ re_cn Q N
  | 0, _ => Nat.le_refl _
  | N + 1, h => by
    have a := re_cn_mono (P := P) (Q := Q) (N := N) (fun k hk => h k (by omega))
    have b := re_b01_mono (h N (by omega))
    simp only [re_cn]; omega
theorem re_cn_lt {P Q : Nat → Prop} {a : Nat} (hp : ¬ P a) (hq : Q a) : ∀ {N : Nat}, (∀ k, k < N → P k → Q k) → a < N → re_cn P N < re_cn Q N
  | 0, _, h => by omega
  | N + 1, h, ha => by
    simp only [re_cn]
    rcases Nat.lt_or_ge a N with z | z
    · have x := re_cn_lt hp hq (N := N) (fun k hk => h k (by omega)) z
      have b := re_b01_mono (h N (by omega))
      omega
    · have e : a = N := by omega
      subst e
      have x := re_cn_mono (P := P) (Q := Q) (N := a) (fun k hk => h k (by omega))
      rw [re_b01_t hq, re_b01_f hp]; omega
theorem re_cn_le (P : Nat → Prop) : ∀ N, re_cn P N ≤ N
  | 0 => Nat.le_refl _
  | N + 1 => by have := re_cn_le P N; have := re_b01_le (P N); simp only [re_cn]; omega
theorem re_cn_eq {P Q : Nat → Prop} {N : Nat} (h : ∀ k, k < N → (P k ↔ Q k)) : re_cn P N = re_cn Q N :=
  Nat.le_antisymm (re_cn_mono fun k hk => (h k hk).mp) (re_cn_mono fun k hk => (h k hk).mpr)
theorem re_cn_add {P : Nat → Prop} {a : Nat} (hp : ¬ P a) : ∀ {N : Nat}, a < N → re_cn (fun k => P k ∨ k = a) N = re_cn P N + 1
  | 0, h => by omega
  | N + 1, h => by
    simp only [re_cn]
    rcases Nat.lt_or_ge a N with z | z
    · rw [re_cn_add hp z]
      have : re_b01 (P N ∨ N = a) = re_b01 (P N) := Nat.le_antisymm (re_b01_mono fun q => q.elim id (fun e => by omega)) (re_b01_mono Or.inl)
      omega
    · have e : a = N := by omega
      subst e
      rw [re_cn_eq (P := fun k => P k ∨ k = a) (Q := P) (fun k hk => ⟨fun q => q.elim id (fun e => by omega), Or.inl⟩), re_b01_t (Or.inr rfl), re_b01_f hp]
theorem re_cn_t {P : Nat → Prop} {n : Nat} (h : P n) : re_cn P (n + 1) = re_cn P n + 1 := by simp only [re_cn]; rw [re_b01_t h]
theorem re_cn_f {P : Nat → Prop} {n : Nat} (h : ¬ P n) : re_cn P (n + 1) = re_cn P n := by simp only [re_cn]; rw [re_b01_f h]; rfl
theorem re_cn_0 {P : Nat → Prop} {n : Nat} (h : ∀ i, i < n → ¬ P i) : re_cn P n = 0 := by
  induction n with
  | zero => rfl
  | succ n ih => rw [re_cn_f (h n (by omega))]; exact ih (fun i hi => h i (by omega))
theorem re_cn_pos {P : Nat → Prop} {n i : Nat} (hi : i < n) (h : P i) : 0 < re_cn P n := by
  induction n with
  | zero => omega
  | succ n ih =>
    rcases Nat.lt_or_ge i n with z | z
    · have := ih z
      simp only [re_cn]; omega
    · have e : i = n := by omega
      subst e
      rw [re_cn_t h]; omega
theorem re_cn_ex {P : Nat → Prop} {n : Nat} (h : 0 < re_cn P n) : ∃ i, i < n ∧ P i := by
  rcases Classical.em (∃ i, i < n ∧ P i) with z | z
  · exact z
  · rw [re_cn_0 (fun i hi hp => z ⟨i, hi, hp⟩)] at h
    omega
theorem re_cn_all {P : Nat → Prop} {n : Nat} (h : n ≤ re_cn P n) : ∀ i, i < n → P i := by
  intro i hi
  rcases Classical.em (P i) with z | z
  · exact z
  · have a := re_cn_lt (P := P) (Q := fun _ => True) (a := i) z trivial (N := n) (fun _ _ _ => trivial) hi
    have b := re_cn_le (fun _ => True) n
    omega
/-- an int is one of the first n naturals -/
def re_IN (p : Int32) (n : Nat) : Prop := ∃ t, t < n ∧ p = nI t
/-- an int lies in a range -/
def re_VR (p : Int32) (lo hi : Int) : Prop := lo ≤ p.toInt ∧ p.toInt ≤ hi
theorem re_IN_iff {p : Int32} {n : Nat} (hn : n < 2147483648) : re_IN p n ↔ 0 ≤ p.toInt ∧ p.toInt < n := by
  constructor
  · rintro ⟨t, ht, rfl⟩
    rw [nI_toInt (by omega)]
    omega
  · intro h
    have h0 : ¬ p < 0 := by
      rw [Int32.lt_iff_toInt_lt]
      show ¬ p.toInt < 0
      omega
    obtain ⟨j, hj, rfl⟩ := nI_of h0
    rw [nI_toInt hj] at h
    exact ⟨j, by omega, rfl⟩
end
section
/-! the schema as naturals; rows, references, keys as pure predicates of one cell array -/
abbrev re_Sc : Type := (Nat → Nat) × (Nat → Nat) × (Nat → Nat) × (Nat → Nat) × (Nat → Nat) × (Nat → Nat) × (Nat → Nat)
def re_kt (s : re_Sc) : Nat → Nat := s.1
def re_ka (s : re_Sc) : Nat → Nat := s.2.1
def re_kb (s : re_Sc) : Nat → Nat := s.2.2.1
def re_ct (s : re_Sc) : Nat → Nat := s.2.2.2.1
def re_fa (s : re_Sc) : Nat → Nat := s.2.2.2.2.1
def re_fb (s : re_Sc) : Nat → Nat := s.2.2.2.2.2.1
def re_fk (s : re_Sc) : Nat → Nat := s.2.2.2.2.2.2
/-- bounds of the schema -/
def re_SP (s : re_Sc) (T R K F : Nat) : Prop :=
  (1 ≤ T ∧ T ≤ 4 ∧ 2 ≤ R ∧ R ≤ 7 ∧ K ≤ 6 ∧ F ≤ 8) ∧
  (∀ k, k < K → re_kt s k < T ∧ re_ka s k < 3 ∧ re_kb s k ≤ 3 ∧ re_kb s k ≠ re_ka s k + 1) ∧
  (∀ f, f < F → re_ct s f < T ∧ re_fa s f < 3 ∧ re_fb s f ≤ 3 ∧ re_fb s f ≠ re_fa s f + 1 ∧ re_fk s f < K ∧ (re_fb s f = 0 ↔ re_kb s (re_fk s f) = 0))
/-- the component's arrays hold the schema -/
def re_LX (s : re_Sc) (K F : Nat) (kT kA kB cC cA cB cK : Nat → Int32) : Prop :=
  (∀ k, k < K → kT k = nI (re_kt s k) ∧ kA k = nI (re_ka s k) ∧ kB k = re_oc (re_kb s k)) ∧
  (∀ f, f < F → cC f = nI (re_ct s f) ∧ cA f = nI (re_fa s f) ∧ cB f = re_oc (re_fb s f) ∧ cK f = nI (re_fk s f))
/-- the reference's arrays hold the schema -/
def re_LY (s : re_Sc) (K F : Nat) (ks fs : Nat → Int32) : Prop :=
  (∀ k, k < K → ks (k * 4) = nI (re_kt s k) ∧ ks (k * 4 + 1) = nI (re_ka s k) ∧ ks (k * 4 + 2) = re_oc (re_kb s k)) ∧
  (∀ f, f < F → fs (f * 7) = nI (re_ct s f) ∧ fs (f * 7 + 1) = nI (re_fa s f) ∧ fs (f * 7 + 2) = re_oc (re_fb s f) ∧ fs (f * 7 + 3) = nI (re_fk s f))
def re_HV (ce : Nat → Int32) (b p a bb : Nat) : Prop := ¬ ce (b + p * 3 + a) < 0 ∧ (bb = 0 ∨ ¬ ce (b + p * 3 + (bb - 1)) < 0)
def re_SM (ce : Nat → Int32) (b x xa xb y ya yb : Nat) : Prop :=
  ¬ ce (b + x * 3 + xa) < 0 ∧ ce (b + x * 3 + xa) = ce (b + y * 3 + ya) ∧ (xb = 0 ∨ (¬ ce (b + x * 3 + (xb - 1)) < 0 ∧ ce (b + x * 3 + (xb - 1)) = ce (b + y * 3 + (yb - 1))))
/-- row i of the child table refers by f to row j of the parent table -/
def re_RB (s : re_Sc) (ce : Nat → Int32) (b f i j : Nat) : Prop :=
  re_SM ce b (re_ct s f * 7 + i) (re_fa s f) (re_fb s f) (re_kt s (re_fk s f) * 7 + j) (re_ka s (re_fk s f)) (re_kb s (re_fk s f))
def re_FR (s : re_Sc) (ce : Nat → Int32) (b k : Nat) (a a' : Int32) (r : Nat) : Prop :=
  ce (b + (re_kt s k * 7 + r) * 3 + re_ka s k) = a ∧ (re_kb s k = 0 ∨ ce (b + (re_kt s k * 7 + r) * 3 + (re_kb s k - 1)) = a')
def re_DG (s : re_Sc) (ce : Nat → Int32) (b f i : Nat) : Prop := re_HV ce b (re_ct s f * 7 + i) (re_fa s f) (re_fb s f) ∧ ∀ j, j < 7 → ¬ re_RB s ce b f i j
/-- two rows of key k are equal in its columns -/
def re_TW (s : re_Sc) (ce : Nat → Int32) (b k i j : Nat) : Prop :=
  re_SM ce b (re_kt s k * 7 + i) (re_ka s k) (re_kb s k) (re_kt s k * 7 + j) (re_ka s k) (re_kb s k)
def re_UQ (s : re_Sc) (K : Nat) (ce : Nat → Int32) (b : Nat) : Prop := ∀ k, k < K → ∀ i j, i < 7 → j < 7 → i ≠ j → ¬ re_TW s ce b k i j
/-- the row at a place: absent, or present with values in its range -/
def re_RW (T R : Nat) (ce : Nat → Int32) (b p : Nat) : Prop :=
  (∀ c, c < 3 → ce (b + p * 3 + c) = -2) ∨ (p / 7 < T ∧ p % 7 < R ∧ ∀ c, c < 3 → -1 ≤ (ce (b + p * 3 + c)).toInt ∧ (ce (b + p * 3 + c)).toInt ≤ 99)
def re_RG (T R : Nat) (ce : Nat → Int32) (b : Nat) : Prop := ∀ p, p < 28 → re_RW T R ce b p
theorem re_RB_hv {s : re_Sc} {ce : Nat → Int32} {b f i j : Nat} (h : re_RB s ce b f i j) : re_HV ce b (re_ct s f * 7 + i) (re_fa s f) (re_fb s f) :=
  ⟨h.1, h.2.2.elim Or.inl (fun z => Or.inr z.1)⟩
theorem re_RB_fr {s : re_Sc} {ce : Nat → Int32} {b f i j : Nat} {a' : Int32} (hz : re_fb s f = 0 ↔ re_kb s (re_fk s f) = 0) (hv : re_HV ce b (re_ct s f * 7 + i) (re_fa s f) (re_fb s f))
    (ha : re_fb s f = 0 ∨ a' = ce (b + (re_ct s f * 7 + i) * 3 + (re_fb s f - 1))) :
    re_FR s ce b (re_fk s f) (ce (b + (re_ct s f * 7 + i) * 3 + re_fa s f)) a' j ↔ re_RB s ce b f i j := by
  constructor
  · rintro ⟨h1, h2⟩
    refine ⟨hv.1, h1.symm, ?_⟩
    rcases Nat.eq_zero_or_pos (re_fb s f) with e | e
    · exact Or.inl e
    · refine Or.inr ⟨hv.2.resolve_left (by omega), ?_⟩
      have h3 := h2.resolve_left (by omega)
      have h4 := ha.resolve_left (by omega)
      rw [h3, ← h4]
  · rintro ⟨h1, h2, h3⟩
    refine ⟨h2.symm, ?_⟩
    rcases Nat.eq_zero_or_pos (re_fb s f) with e | e
    · exact Or.inl (hz.mp e)
    · have h4 := ha.resolve_left (by omega)
      exact Or.inr (by rw [h4, (h3.resolve_left (by omega)).2])
/-- under unique keys a row refers to one row at most -/
theorem re_RB_uq {s : re_Sc} {T R K F : Nat} {ce : Nat → Int32} {b f i j j' : Nat} (hP : re_SP s T R K F) (hU : re_UQ s K ce b) (hf : f < F) (hj : j < 7) (hj' : j' < 7) (h : re_RB s ce b f i j) (h' : re_RB s ce b f i j') : j = j' := by
  have G := hP.2.2 f hf
  rcases Nat.lt_trichotomy j j' with z | z | z
  · refine absurd ?_ (hU (re_fk s f) (by omega) j j' hj hj' (by omega))
    refine ⟨h.2.1 ▸ h.1, h.2.1.symm.trans h'.2.1, ?_⟩
    rcases Nat.eq_zero_or_pos (re_fb s f) with e | e
    · exact Or.inl (by omega)
    · have a := h.2.2.resolve_left (by omega)
      have a' := h'.2.2.resolve_left (by omega)
      exact Or.inr ⟨a.2 ▸ a.1, a.2.symm.trans a'.2⟩
  · exact z
  · refine absurd ?_ (hU (re_fk s f) (by omega) j j' hj hj' (by omega))
    refine ⟨h.2.1 ▸ h.1, h.2.1.symm.trans h'.2.1, ?_⟩
    rcases Nat.eq_zero_or_pos (re_fb s f) with e | e
    · exact Or.inl (by omega)
    · have a := h.2.2.resolve_left (by omega)
      have a' := h'.2.2.resolve_left (by omega)
      exact Or.inr ⟨a.2 ▸ a.1, a.2.symm.trans a'.2⟩
end
section
/-! the argument checks and the small readers of the component -/
theorem re_ne1 {n : Nat} (h : n < 2147483648) : ¬ nI n = -1 := by
  intro e
  have z := congrArg Int32.toInt e
  rw [nI_toInt (by omega), show ((-1 : Int32)).toInt = -1 from by decide] at z
  omega
theorem re_br {A B : Prop} {p : Int32} {N : Nat} (hN : N < 2147483648) (h1 : re_IN p N → A) (h0 : ¬ re_IN p N → B) : (p < 0 → B) ∧ (¬ p < 0 → ((nI N ≤ p → B) ∧ (¬ nI N ≤ p → A))) := by
  rw [re_IN_iff hN] at h1 h0
  rw [Int32.lt_iff_toInt_lt, Int32.le_iff_toInt_le, nI_toInt (by omega), show ((0 : Int32)).toInt = 0 from by decide]
  exact ⟨fun a => h0 (by omega), fun a => ⟨fun c => h0 (by omega), fun c => h1 (by omega)⟩⟩
theorem re_brV {A B : Prop} {p lo hi : Int32} (h1 : re_VR p lo.toInt hi.toInt → A) (h0 : ¬ re_VR p lo.toInt hi.toInt → B) : (p < lo → B) ∧ (¬ p < lo → ((hi < p → B) ∧ (¬ hi < p → A))) := by
  unfold re_VR at h1 h0
  rw [Int32.lt_iff_toInt_lt, Int32.lt_iff_toInt_lt]
  exact ⟨fun a => h0 (by omega), fun a => ⟨fun c => h0 (by omega), fun c => h1 (by omega)⟩⟩
theorem re_bq1 {A B : Prop} (h : B) : ((1 : Int32) = 0 → A) ∧ (¬ (1 : Int32) = 0 → B) := br_f (by decide) h
theorem re_bq0 {A B : Prop} (h : A) : ((0 : Int32) = 0 → A) ∧ (¬ (0 : Int32) = 0 → B) := br_t rfl h
section
variable {T R K F : Nat} {s : re_Sc} {sl dp cu tu rn qe : Int32} {rq kT kA kB kP cC cA cB cK cD cU ce mo rm rl mk qu po : Nat → Int32} {ks fs ym yr yk : Nat → Int32}
theorem rx_isTable {post : Int32 → Prop} {p : Int32} (hT : T < 2147483648) (h1 : re_IN p T → post 1) (h0 : ¬ re_IN p T → post 0) : wpX_isTable post (nI T, nI R, sl, dp, cu, tu, nI K, nI F, 336, rn, qe, rq, kT, kA, kB, kP, cC, cA, cB, cK, cD, cU, ce, mo, rm, rl, mk, qu, po) p := by
  unfold wpX_isTable
  exact re_br hT h1 h0
theorem rx_isColumn {post : Int32 → Prop} {p : Int32} (h1 : re_IN p 3 → post 1) (h0 : ¬ re_IN p 3 → post 0) : wpX_isColumn post (nI T, nI R, sl, dp, cu, tu, nI K, nI F, 336, rn, qe, rq, kT, kA, kB, kP, cC, cA, cB, cK, cD, cU, ce, mo, rm, rl, mk, qu, po) p := by
  unfold wpX_isColumn
  exact re_br (N := 3) (by decide) h1 h0
theorem rx_isRow {post : Int32 → Prop} {p : Int32} (hT : R < 2147483648) (h1 : re_IN p R → post 1) (h0 : ¬ re_IN p R → post 0) : wpX_isRow post (nI T, nI R, sl, dp, cu, tu, nI K, nI F, 336, rn, qe, rq, kT, kA, kB, kP, cC, cA, cB, cK, cD, cU, ce, mo, rm, rl, mk, qu, po) p := by
  unfold wpX_isRow
  exact re_br hT h1 h0
theorem rx_isKey {post : Int32 → Prop} {p : Int32} (hT : K < 2147483648) (h1 : re_IN p K → post 1) (h0 : ¬ re_IN p K → post 0) : wpX_isKey post (nI T, nI R, sl, dp, cu, tu, nI K, nI F, 336, rn, qe, rq, kT, kA, kB, kP, cC, cA, cB, cK, cD, cU, ce, mo, rm, rl, mk, qu, po) p := by
  unfold wpX_isKey
  exact re_br hT h1 h0
theorem rx_isForeign {post : Int32 → Prop} {p : Int32} (hT : F < 2147483648) (h1 : re_IN p F → post 1) (h0 : ¬ re_IN p F → post 0) : wpX_isForeign post (nI T, nI R, sl, dp, cu, tu, nI K, nI F, 336, rn, qe, rq, kT, kA, kB, kP, cC, cA, cB, cK, cD, cU, ce, mo, rm, rl, mk, qu, po) p := by
  unfold wpX_isForeign
  exact re_br hT h1 h0
theorem rx_isColumnOrNone {post : Int32 → Prop} {p : Int32} (h1 : re_VR p (-1) 2 → post 1) (h0 : ¬ re_VR p (-1) 2 → post 0) : wpX_isColumnOrNone post (nI T, nI R, sl, dp, cu, tu, nI K, nI F, 336, rn, qe, rq, kT, kA, kB, kP, cC, cA, cB, cK, cD, cU, ce, mo, rm, rl, mk, qu, po) p := by
  unfold wpX_isColumnOrNone
  unfold re_VR at h1 h0
  dsimp only
  rw [Int32.lt_iff_toInt_lt, Int32.le_iff_toInt_le, show ((-1 : Int32)).toInt = -1 from by decide, show ((3 : Int32)).toInt = 3 from by decide]
  exact ⟨fun a => h0 (by omega), fun a => ⟨fun c => h0 (by omega), fun c => h1 (by omega)⟩⟩
theorem rx_isCellValue {post : Int32 → Prop} {p : Int32} (h1 : re_VR p (-1) 99 → post 1) (h0 : ¬ re_VR p (-1) 99 → post 0) : wpX_isCellValue post (nI T, nI R, sl, dp, cu, tu, nI K, nI F, 336, rn, qe, rq, kT, kA, kB, kP, cC, cA, cB, cK, cD, cU, ce, mo, rm, rl, mk, qu, po) p := by
  unfold wpX_isCellValue
  exact re_brV (lo := -1) (hi := 99) h1 h0
theorem rx_isAction {post : Int32 → Prop} {p : Int32} (h1 : re_VR p 0 3 → post 1) (h0 : ¬ re_VR p 0 3 → post 0) : wpX_isAction post (nI T, nI R, sl, dp, cu, tu, nI K, nI F, 336, rn, qe, rq, kT, kA, kB, kP, cC, cA, cB, cK, cD, cU, ce, mo, rm, rl, mk, qu, po) p := by
  unfold wpX_isAction
  exact re_brV (lo := 0) (hi := 3) h1 h0
theorem rx_inRange {post : Int32 → Prop} {p lo hi : Int32} (h1 : re_VR p lo.toInt hi.toInt → post 1) (h0 : ¬ re_VR p lo.toInt hi.toInt → post 0) : wpX_inRange post (nI T, nI R, sl, dp, cu, tu, nI K, nI F, 336, rn, qe, rq, kT, kA, kB, kP, cC, cA, cB, cK, cD, cU, ce, mo, rm, rl, mk, qu, po) p lo hi := by
  unfold wpX_inRange
  exact re_brV h1 h0
theorem rx_isLevel {post : Int32 → Prop} {p : Int32} {D : Nat} (hD : D < 2147483648) (h1 : re_VR p (-1) D → post 1) (h0 : ¬ re_VR p (-1) D → post 0) : wpX_isLevel post (nI T, nI R, sl, nI D, cu, tu, nI K, nI F, 336, rn, qe, rq, kT, kA, kB, kP, cC, cA, cB, cK, cD, cU, ce, mo, rm, rl, mk, qu, po) p := by
  unfold wpX_isLevel
  rw [← nI_toInt hD] at h1 h0
  exact re_brV (lo := -1) (hi := nI D) h1 h0
theorem re_VR01 {p : Int32} : re_VR p 0 1 ↔ p = 0 ∨ p = 1 := by
  constructor
  · rintro ⟨h1, h2⟩
    rcases (by omega : p.toInt = 0 ∨ p.toInt = 1) with e | e
    · exact Or.inl (Int32.toInt_inj.mp (e.trans (by decide)))
    · exact Or.inr (Int32.toInt_inj.mp (e.trans (by decide)))
  · rintro (rfl | rfl)
    · exact ⟨by decide, by decide⟩
    · exact ⟨by decide, by decide⟩
theorem rx_isMode {post : Int32 → Prop} {p : Int32} (h1 : re_VR p 0 1 → post 1) (h0 : ¬ re_VR p 0 1 → post 0) : wpX_isMode post (nI T, nI R, sl, dp, cu, tu, nI K, nI F, 336, rn, qe, rq, kT, kA, kB, kP, cC, cA, cB, cK, cD, cU, ce, mo, rm, rl, mk, qu, po) p := by
  unfold wpX_isMode
  rw [re_VR01] at h1 h0
  exact br_c (fun e => h1 (Or.inl e)) (fun e => br_c (fun e' => h1 (Or.inr e')) (fun e' => h0 (fun z => z.elim e e')))
theorem rx_isPresent {post : Int32 → Prop} {b p : Nat} (hb : b + p * 3 < 420) (h0 : ce (b + p * 3) = -2 → post 0) (h1 : ¬ ce (b + p * 3) = -2 → post 1) : wpX_isPresent post (nI T, nI R, sl, dp, cu, tu, nI K, nI F, 336, rn, qe, rq, kT, kA, kB, kP, cC, cA, cB, cK, cD, cU, ce, mo, rm, rl, mk, qu, po) (nI b) (nI p) := by
  unfold wpX_isPresent
  dsimp only
  try simp (disch := omega) only [nI_clamp, re_in, re_m3, re_m7, re_m28, re_m49, re_m4, re_m8, re_m84, nI_add, nI_1, re_a2, re_a3, re_a4, re_a5, re_a6, re_b336, re_b8, re_b0, forall_eq, true_and, and_true, not_false_eq_true, not_true_eq_false, false_implies, true_implies, implies_true]
  exact br_c h0 h1
theorem rx_hasValues {post : Int32 → Prop} {b p a bb : Nat} (hb : b + p * 3 + 3 ≤ 420) (ha : a < 3) (hbb : bb ≤ 3) (h1 : re_HV ce b p a bb → post 1) (h0 : ¬ re_HV ce b p a bb → post 0) : wpX_hasValues post (nI T, nI R, sl, dp, cu, tu, nI K, nI F, 336, rn, qe, rq, kT, kA, kB, kP, cC, cA, cB, cK, cD, cU, ce, mo, rm, rl, mk, qu, po) (nI b) (nI p) (nI a) (re_oc bb) := by
  unfold wpX_hasValues
  dsimp only
  try simp (disch := omega) only [nI_clamp, re_in, re_m3, re_m7, re_m28, re_m49, re_m4, re_m8, re_m84, nI_add, nI_1, re_a2, re_a3, re_a4, re_a5, re_a6, re_b336, re_b8, re_b0, forall_eq, true_and, and_true, not_false_eq_true, not_true_eq_false, false_implies, true_implies, implies_true]
  by_cases z : ce (b + p * 3 + a) < 0
  · exact br_t z (h0 (fun h => h.1 z))
  refine br_f z ?_
  rcases Nat.eq_zero_or_pos bb with e | e
  · subst e
    exact br_t (by decide) (h1 ⟨z, Or.inl rfl⟩)
  · rw [re_ocS e]
    try simp (disch := omega) only [nI_clamp, re_in, re_m3, re_m7, re_m28, re_m49, re_m4, re_m8, re_m84, nI_add, nI_1, re_a2, re_a3, re_a4, re_a5, re_a6, re_b336, re_b8, re_b0, forall_eq, true_and, and_true, not_false_eq_true, not_true_eq_false, false_implies, true_implies, implies_true]
    refine br_f (nI_pos (by omega)) ?_
    by_cases z2 : ce (b + p * 3 + (bb - 1)) < 0
    · exact br_t z2 (h0 (fun h => (h.2.resolve_left (by omega)) z2))
    · exact br_f z2 (h1 ⟨z, Or.inr z2⟩)
theorem rx_findRow {post : Int32 → Prop} (hP : re_SP s T R K F) (hX : re_LX s K F kT kA kB cC cA cB cK) {b k : Nat} {a a' : Int32} (hb : b ≤ 336) (hk : k < K) (h0 : (∀ r, r < 7 → ¬ re_FR s ce b k a a' r) → post (-1)) (h1 : ∀ r, r < 7 → re_FR s ce b k a a' r → (∀ q, q < r → ¬ re_FR s ce b k a a' q) → post (nI r)) : wpX_findRow post (nI T, nI R, sl, dp, cu, tu, nI K, nI F, 336, rn, qe, rq, kT, kA, kB, kP, cC, cA, cB, cK, cD, cU, ce, mo, rm, rl, mk, qu, po) (nI b) (nI k) a a' := by
  have B := hP.1
  have G := hP.2.1 k hk
  have E := hX.1 k hk
  unfold wpX_findRow
  refine loop_0 (fun n i (_ : Unit) => wX_findRow_3 post (nI b) (nI k) a a' (nI T) (nI R) sl dp cu tu (nI K) (nI F) 336 rn qe rq kT kA kB kP cC cA cB cK cD cU ce mo rm rl mk qu po n (nI i)) (fun i _ => ∀ q, q < i → ¬ re_FR s ce b k a a' q) 7 () lt_0 ?_ ?_
  · intro n _ hI
    exact br_t (by decide) (h0 hI)
  · intro n i _ hi hI hc
    simp (disch := omega) only [wX_findRow_3, E.1, E.2.1, nI_clamp, re_in, re_m3, re_m7, re_m28, re_m49, re_m4, re_m8, re_m84, nI_add, nI_1, re_a2, re_a3, re_a4, re_a5, re_a6, re_b336, re_b8, re_b0, forall_eq, true_and, and_true, not_false_eq_true, not_true_eq_false, false_implies, true_implies, implies_true]
    refine pk_le 7 i (fun h => absurd h (by omega)) (fun _ => ?_)
    by_cases z : ce (b + (re_kt s k * 7 + i) * 3 + re_ka s k) = a
    · refine br_t z ?_
      rcases Nat.eq_zero_or_pos (re_kb s k) with e | e
      · refine br_t ?_ (h1 i hi ⟨z, Or.inl e⟩ hI)
        rw [E.2.2, e]; decide
      · rw [E.2.2, re_ocS e]
        refine br_f (nI_pos (by omega)) ?_
        try simp (disch := omega) only [nI_clamp, re_in, re_m3, re_m7, re_m28, re_m49, re_m4, re_m8, re_m84, nI_add, nI_1, re_a2, re_a3, re_a4, re_a5, re_a6, re_b336, re_b8, re_b0, forall_eq, true_and, and_true, not_false_eq_true, not_true_eq_false, false_implies, true_implies, implies_true]
        by_cases z2 : ce (b + (re_kt s k * 7 + i) * 3 + (re_kb s k - 1)) = a'
        · exact br_t z2 (h1 i hi ⟨z, Or.inr z2⟩ hI)
        · exact br_f z2 (hc () (lt_s hI (fun h => z2 (h.2.resolve_left (by omega)))))
    · exact br_f z (hc () (lt_s hI (fun h => z h.1)))
theorem rx_parentPlace {post : Int32 → Prop} (hP : re_SP s T R K F) (hX : re_LX s K F kT kA kB cC cA cB cK) {b f i : Nat} (hb : b ≤ 336) (hf : f < F) (hi : i < 7) (h0 : (∀ j, j < 7 → ¬ re_RB s ce b f i j) → post (-1)) (h1 : ∀ j, j < 7 → re_RB s ce b f i j → (∀ q, q < j → ¬ re_RB s ce b f i q) → post (nI (re_kt s (re_fk s f) * 7 + j))) : wpX_parentPlace post (nI T, nI R, sl, dp, cu, tu, nI K, nI F, 336, rn, qe, rq, kT, kA, kB, kP, cC, cA, cB, cK, cD, cU, ce, mo, rm, rl, mk, qu, po) (nI b) (nI f) (nI (re_ct s f * 7 + i)) := by
  have B := hP.1
  have G := hP.2.2 f hf
  have E := hX.2 f hf
  have hk : re_fk s f < K := G.2.2.2.2.1
  have E2 := hX.1 _ hk
  have G2 := hP.2.1 _ hk
  unfold wpX_parentPlace
  dsimp only
  simp (disch := omega) only [E.1, E.2.1, E.2.2.1, nI_clamp, re_in, re_m3, re_m7, re_m28, re_m49, re_m4, re_m8, re_m84, nI_add, nI_1, re_a2, re_a3, re_a4, re_a5, re_a6, re_b336, re_b8, re_b0, forall_eq, true_and, and_true, not_false_eq_true, not_true_eq_false, false_implies, true_implies, implies_true]
  refine rx_hasValues (by omega) (by omega) (by omega) (fun hv => re_bq1 ?_) (fun hv => re_bq0 (h0 (fun j _ z => hv (re_RB_hv z))))
  have key : ∀ a', (re_fb s f = 0 ∨ a' = ce (b + (re_ct s f * 7 + i) * 3 + (re_fb s f - 1))) → wX_parentPlace_73 post (nI b) (nI f) (ce (b + (re_ct s f * 7 + i) * 3 + re_fa s f)) a' (nI T) (nI R) sl dp cu tu (nI K) (nI F) 336 rn qe rq kT kA kB kP cC cA cB cK cD cU ce mo rm rl mk qu po := by
    intro a' ha
    unfold wX_parentPlace_73
    simp (disch := omega) only [E.2.2.2, nI_clamp, re_in, re_m3, re_m7, re_m28, re_m49, re_m4, re_m8, re_m84, nI_add, nI_1, re_a2, re_a3, re_a4, re_a5, re_a6, re_b336, re_b8, re_b0, forall_eq, true_and, and_true, not_false_eq_true, not_true_eq_false, false_implies, true_implies, implies_true]
    have hz := G.2.2.2.2.2
    refine rx_findRow hP hX hb hk (fun hn => br_t rfl (h0 (fun j hj z => hn j hj ((re_RB_fr hz hv ha).mpr z)))) (fun j hj hr hq => br_f (re_ne1 (by omega)) ?_)
    simp (disch := omega) only [E2.1, nI_clamp, re_in, re_m3, re_m7, re_m28, re_m49, re_m4, re_m8, re_m84, nI_add, nI_1, re_a2, re_a3, re_a4, re_a5, re_a6, re_b336, re_b8, re_b0, forall_eq, true_and, and_true, not_false_eq_true, not_true_eq_false, false_implies, true_implies, implies_true]
    exact h1 j hj ((re_RB_fr hz hv ha).mp hr) (fun q hq' z => hq q hq' ((re_RB_fr hz hv ha).mpr z))
  rcases Nat.eq_zero_or_pos (re_fb s f) with e | e
  · refine br_f ?_ (key _ (Or.inl e))
    rw [e]; decide
  · rw [re_ocS e]
    refine br_t (nI_pos' (by omega)) ?_
    try simp (disch := omega) only [nI_clamp, re_in, re_m3, re_m7, re_m28, re_m49, re_m4, re_m8, re_m84, nI_add, nI_1, re_a2, re_a3, re_a4, re_a5, re_a6, re_b336, re_b8, re_b0, forall_eq, true_and, and_true, not_false_eq_true, not_true_eq_false, false_implies, true_implies, implies_true]
    exact key _ (Or.inr rfl)
theorem rx_countDangling {post : Int32 → Prop} (hP : re_SP s T R K F) (hX : re_LX s K F kT kA kB cC cA cB cK) {b f : Nat} (hb : b ≤ 336) (hf : f < F) (h : post (nI (re_cn (re_DG s ce b f) 7))) : wpX_countDangling post (nI T, nI R, sl, dp, cu, tu, nI K, nI F, 336, rn, qe, rq, kT, kA, kB, kP, cC, cA, cB, cK, cD, cU, ce, mo, rm, rl, mk, qu, po) (nI b) (nI f) := by
  have B := hP.1
  have G := hP.2.2 f hf
  have E := hX.2 f hf
  have G2 := hP.2.1 _ G.2.2.2.2.1
  unfold wpX_countDangling
  refine loop_0 (fun n i (_ : Unit) => wX_countDangling_5 post (nI b) (nI f) (nI T) (nI R) sl dp cu tu (nI K) (nI F) 336 rn qe rq kT kA kB kP cC cA cB cK cD cU ce mo rm rl mk qu po n (nI (re_cn (re_DG s ce b f) i)) (nI i)) (fun i _ => True) 7 () trivial ?_ ?_
  · intro n _ hI
    exact br_t (by decide) h
  · intro n i _ hi hI hc
    have hc1 := hc () trivial
    simp (disch := omega) only [wX_countDangling_5, E.1, E.2.1, E.2.2.1, nI_clamp, re_in, re_m3, re_m7, re_m28, re_m49, re_m4, re_m8, re_m84, nI_add, nI_1, re_a2, re_a3, re_a4, re_a5, re_a6, re_b336, re_b8, re_b0, forall_eq, true_and, and_true, not_false_eq_true, not_true_eq_false, false_implies, true_implies, implies_true]
    refine pk_le 7 i (fun h => absurd h (by omega)) (fun _ => ?_)
    refine rx_hasValues (by omega) (by omega) (by omega) (fun hv => re_bq1 ?_) (fun hv => re_bq0 ?_)
    · refine rx_parentPlace hP hX hb hf hi (fun hn => br_t rfl ?_) (fun j hj hr hq => br_f (re_ne1 (by omega)) ?_)
      · rw [re_cn_t (show re_DG s ce b f i from ⟨hv, hn⟩)] at hc1
        exact hc1
      · rw [re_cn_f (show ¬ re_DG s ce b f i from fun z => z.2 j hj hr)] at hc1
        exact hc1
    · rw [re_cn_f (show ¬ re_DG s ce b f i from fun z => hv z.1)] at hc1
      exact hc1
end
end
section
/-! the argument checks and the small readers of the reference -/
section
variable {T R K F : Nat} {s : re_Sc} {sl dp cu tu rn qe : Int32} {rq kT kA kB kP cC cA cB cK cD cU ce mo rm rl mk qu po : Nat → Int32} {ks fs ym yr yk : Nat → Int32}
theorem ry_in {post : Int32 → Prop} {p lo hi : Int32} (h1 : re_VR p lo.toInt hi.toInt → post 1) (h0 : ¬ re_VR p lo.toInt hi.toInt → post 0) : wpY_in post (nI T, nI R, sl, nI K, nI F, dp, cu, tu, ks, fs, ce, ym, rq, yr, yk) p lo hi := by
  unfold wpY_in
  exact re_brV h1 h0
theorem ry_noFk {post : Int32 → Prop} {p : Int32} (hT : F < 2147483648) (h0 : re_IN p F → post 0) (h1 : ¬ re_IN p F → post 1) : wpY_noFk post (nI T, nI R, sl, nI K, nI F, dp, cu, tu, ks, fs, ce, ym, rq, yr, yk) p := by
  unfold wpY_noFk
  dsimp only
  rw [re_IN_iff hT] at h1 h0
  rw [Int32.lt_iff_toInt_lt, Int32.lt_iff_toInt_lt, nI_toInt (by omega), show ((0 : Int32)).toInt = 0 from by decide]
  exact ⟨fun a => h1 (by omega), fun a => ⟨fun c => h0 (by omega), fun c => h1 (by omega)⟩⟩
theorem ry_noCell {post : Int32 → Prop} {p q c : Int32} (hT : T < 2147483648) (hR : R < 2147483648) (h0 : re_IN p T → re_IN q R → re_IN c 3 → post 0) (h1 : ¬ (re_IN p T ∧ re_IN q R ∧ re_IN c 3) → post 1) : wpY_noCell post (nI T, nI R, sl, nI K, nI F, dp, cu, tu, ks, fs, ce, ym, rq, yr, yk) p q c := by
  unfold wpY_noCell
  dsimp only
  rw [re_IN_iff hT, re_IN_iff hR, re_IN_iff (by decide)] at h1 h0
  rw [Int32.lt_iff_toInt_lt, Int32.le_iff_toInt_le, Int32.lt_iff_toInt_lt, Int32.le_iff_toInt_le, Int32.lt_iff_toInt_lt, Int32.le_iff_toInt_le, nI_toInt (by omega), nI_toInt (by omega), show ((0 : Int32)).toInt = 0 from by decide, show ((2 : Int32)).toInt = 2 from by decide]
  exact ⟨fun a => h1 (by omega), fun a => ⟨fun c => h1 (by omega), fun c => ⟨fun a => h1 (by omega), fun a => ⟨fun c => h1 (by omega), fun c => ⟨fun a => h1 (by omega), fun a => ⟨fun c => h0 (by omega) (by omega) (by omega), fun c => h1 (by omega)⟩⟩⟩⟩⟩⟩
theorem ry_at {post : Int32 → Prop} {st p c : Nat} (hb : st * 84 + p * 3 + c < 420) (h : post (ce (st * 84 + p * 3 + c))) : wpY_at post (nI T, nI R, sl, nI K, nI F, dp, cu, tu, ks, fs, ce, ym, rq, yr, yk) (nI st) (nI p) (nI c) := by
  unfold wpY_at
  dsimp only
  try simp (disch := omega) only [nI_clamp, re_in, re_m3, re_m7, re_m28, re_m49, re_m4, re_m8, re_m84, nI_add, nI_1, re_a2, re_a3, re_a4, re_a5, re_a6, re_b336, re_b8, re_b0, forall_eq, true_and, and_true, not_false_eq_true, not_true_eq_false, false_implies, true_implies, implies_true]
  exact h
theorem ry_child {post : Int32 → Prop} (hP : re_SP s T R K F) (hY : re_LY s K F ks fs) {f i : Nat} (hf : f < F) (h : post (nI (re_ct s f * 7 + i))) : wpY_child post (nI T, nI R, sl, nI K, nI F, dp, cu, tu, ks, fs, ce, ym, rq, yr, yk) (nI f) (nI i) := by
  have B := hP.1
  have E := hY.2 f hf
  unfold wpY_child
  dsimp only
  simp (disch := omega) only [E.1, nI_clamp, re_in, re_m3, re_m7, re_m28, re_m49, re_m4, re_m8, re_m84, nI_add, nI_1, re_a2, re_a3, re_a4, re_a5, re_a6, re_b336, re_b8, re_b0, forall_eq, true_and, and_true, not_false_eq_true, not_true_eq_false, false_implies, true_implies, implies_true]
  exact h
theorem ry_parent {post : Int32 → Prop} (hP : re_SP s T R K F) (hY : re_LY s K F ks fs) {f i : Nat} (hf : f < F) (h : post (nI (re_kt s (re_fk s f) * 7 + i))) : wpY_parent post (nI T, nI R, sl, nI K, nI F, dp, cu, tu, ks, fs, ce, ym, rq, yr, yk) (nI f) (nI i) := by
  have B := hP.1
  have E := hY.2 f hf
  have G := hP.2.2 f hf
  have hk : re_fk s f < K := G.2.2.2.2.1
  have E2 := hY.1 _ hk
  unfold wpY_parent
  dsimp only
  simp (disch := omega) only [E.2.2.2, E2.1, nI_clamp, re_in, re_m3, re_m7, re_m28, re_m49, re_m4, re_m8, re_m84, nI_add, nI_1, re_a2, re_a3, re_a4, re_a5, re_a6, re_b336, re_b8, re_b0, forall_eq, true_and, and_true, not_false_eq_true, not_true_eq_false, false_implies, true_implies, implies_true]
  exact h
theorem ry_same {post : Int32 → Prop} {st x xa xb y ya yb : Nat} (hst : st ≤ 4) (hx : x < 28) (hy : y < 28) (hxa : xa < 3) (hya : ya < 3) (hxb : xb ≤ 3) (hyb : yb ≤ 3) (hz : xb = 0 ↔ yb = 0) (h1 : re_SM ce (st * 84) x xa xb y ya yb → post 1) (h0 : ¬ re_SM ce (st * 84) x xa xb y ya yb → post 0) : wpY_same post (nI T, nI R, sl, nI K, nI F, dp, cu, tu, ks, fs, ce, ym, rq, yr, yk) (nI st) (nI x) (nI xa) (re_oc xb) (nI y) (nI ya) (re_oc yb) := by
  unfold wpY_same
  dsimp only
  refine ry_at (by omega) ?_
  by_cases z : ce (st * 84 + x * 3 + xa) < 0
  · exact br_t z (h0 (fun h => h.1 z))
  refine br_f z (ry_at (by omega) (ry_at (by omega) ?_))
  by_cases z2 : ce (st * 84 + x * 3 + xa) = ce (st * 84 + y * 3 + ya)
  · refine br_t z2 ?_
    rcases Nat.eq_zero_or_pos xb with e | e
    · subst e
      exact br_t (by decide) (h1 ⟨z, z2, Or.inl rfl⟩)
    · rw [re_ocS e, re_ocS (show 0 < yb by omega)]
      refine br_f (nI_pos (by omega)) (ry_at (by omega) ?_)
      by_cases z3 : ce (st * 84 + x * 3 + (xb - 1)) < 0
      · exact br_t z3 (h0 (fun h => (h.2.2.resolve_left (by omega)).1 z3))
      · refine br_f z3 (ry_at (by omega) (ry_at (by omega) ?_))
        by_cases z4 : ce (st * 84 + x * 3 + (xb - 1)) = ce (st * 84 + y * 3 + (yb - 1))
        · exact br_t z4 (h1 ⟨z, z2, Or.inr ⟨z3, z4⟩⟩)
        · exact br_f z4 (h0 (fun h => z4 (h.2.2.resolve_left (by omega)).2))
  · exact br_f z2 (h0 (fun h => z2 h.2.1))
theorem ry_refers {post : Int32 → Prop} (hP : re_SP s T R K F) (hY : re_LY s K F ks fs) {st f i j : Nat} (hst : st ≤ 4) (hf : f < F) (hi : i < 7) (hj : j < 7) (h1 : re_RB s ce (st * 84) f i j → post 1) (h0 : ¬ re_RB s ce (st * 84) f i j → post 0) : wpY_refers post (nI T, nI R, sl, nI K, nI F, dp, cu, tu, ks, fs, ce, ym, rq, yr, yk) (nI st) (nI f) (nI (re_ct s f * 7 + i)) (nI (re_kt s (re_fk s f) * 7 + j)) := by
  have B := hP.1
  have E := hY.2 f hf
  have G := hP.2.2 f hf
  have hk : re_fk s f < K := G.2.2.2.2.1
  have E2 := hY.1 _ hk
  have G2 := hP.2.1 _ hk
  unfold wpY_refers
  dsimp only
  simp (disch := omega) only [E.2.2.2, E.2.1, E.2.2.1, E2.2.1, E2.2.2, nI_clamp, re_in, re_m3, re_m7, re_m28, re_m49, re_m4, re_m8, re_m84, nI_add, nI_1, re_a2, re_a3, re_a4, re_a5, re_a6, re_b336, re_b8, re_b0, forall_eq, true_and, and_true, not_false_eq_true, not_true_eq_false, false_implies, true_implies, implies_true]
  exact ry_same hst (by omega) (by omega) (by omega) (by omega) (by omega) (by omega) G.2.2.2.2.2 (fun h => ⟨rfl, h1 h⟩) (fun h => ⟨rfl, h0 h⟩)
theorem ry_danglers {post : Int32 → Prop} (hP : re_SP s T R K F) (hY : re_LY s K F ks fs) {st f : Nat} (hst : st ≤ 4) (hf : f < F) (h : post (nI (re_cn (re_DG s ce (st * 84) f) 7))) : wpY_danglers post (nI T, nI R, sl, nI K, nI F, dp, cu, tu, ks, fs, ce, ym, rq, yr, yk) (nI st) (nI f) := by
  have B := hP.1
  have E := hY.2 f hf
  have G := hP.2.2 f hf
  have hk : re_fk s f < K := G.2.2.2.2.1
  unfold wpY_danglers
  dsimp only
  simp (disch := omega) only [E.2.1, E.2.2.1, nI_clamp, re_in, re_m3, re_m7, re_m28, re_m49, re_m4, re_m8, re_m84, nI_add, nI_1, re_a2, re_a3, re_a4, re_a5, re_a6, re_b336, re_b8, re_b0, forall_eq, true_and, and_true, not_false_eq_true, not_true_eq_false, false_implies, true_implies, implies_true]
  refine loop_0 (fun n i (_ : Unit) => wY_danglers_31 post (nI st) (nI f) (nI (re_fa s f)) (re_oc (re_fb s f)) (nI T) (nI R) sl (nI K) (nI F) dp cu tu ks fs ce ym rq yr yk n (nI (re_cn (re_DG s ce (st * 84) f) i)) (nI i)) (fun i _ => True) 7 () trivial ?_ ?_
  · intro n _ hI
    exact br_t (by decide) h
  · intro n i _ hi hI hc
    have hc1 := hc () trivial
    simp only [wY_danglers_31]
    refine pk_le 7 i (fun h => absurd h (by omega)) (fun _ => ?_)
    refine ry_child hP hY hf ?_
    have key : ∀ x8 : Int32, (x8 = 0 ↔ ¬ re_HV ce (st * 84) (re_ct s f * 7 + i) (re_fa s f) (re_fb s f)) → ∃ n69 : Nat, wY_danglers_69 post (wY_danglers_31 post (nI st) (nI f) (nI (re_fa s f)) (re_oc (re_fb s f)) (nI T) (nI R) sl (nI K) (nI F) dp cu tu ks fs ce ym rq yr yk n) (nI st) (nI f) (nI (re_cn (re_DG s ce (st * 84) f) i)) (nI (re_fa s f)) (re_oc (re_fb s f)) (nI i) (nI (re_ct s f * 7 + i)) (nI T) (nI R) sl (nI K) (nI F) dp cu tu ks fs ce ym rq yr yk n69 x8 0 := by
      intro x8 h8
      refine loop_0 (fun m j (x : Int32) => wY_danglers_69 post (wY_danglers_31 post (nI st) (nI f) (nI (re_fa s f)) (re_oc (re_fb s f)) (nI T) (nI R) sl (nI K) (nI F) dp cu tu ks fs ce ym rq yr yk n) (nI st) (nI f) (nI (re_cn (re_DG s ce (st * 84) f) i)) (nI (re_fa s f)) (re_oc (re_fb s f)) (nI i) (nI (re_ct s f * 7 + i)) (nI T) (nI R) sl (nI K) (nI F) dp cu tu ks fs ce ym rq yr yk m x (nI j)) (fun j x => x = 0 ↔ ¬ (re_HV ce (st * 84) (re_ct s f * 7 + i) (re_fa s f) (re_fb s f) ∧ ∀ q, q < j → ¬ re_RB s ce (st * 84) f i q)) 7 x8 ?_ ?_ ?_
      · rw [h8]
        exact ⟨fun a b => a b.1, fun a b => a ⟨b, lt_0⟩⟩
      · intro m x hx
        simp (disch := omega) only [wY_danglers_69, nI_clamp, re_in, re_m3, re_m7, re_m28, re_m49, re_m4, re_m8, re_m84, nI_add, nI_1, re_a2, re_a3, re_a4, re_a5, re_a6, re_b336, re_b8, re_b0, forall_eq, true_and, and_true, not_false_eq_true, not_true_eq_false, false_implies, true_implies, implies_true]
        refine br_t (by decide) ?_
        by_cases z : x = 0
        · refine br_t z ?_
          rw [re_cn_f (show ¬ re_DG s ce (st * 84) f i from hx.mp z)] at hc1
          exact hc1
        · refine br_f z ?_
          rw [re_cn_t (show re_DG s ce (st * 84) f i from Classical.byContradiction (fun w => z (hx.mpr w)))] at hc1
          exact hc1
      · intro m j x hj hx hc2
        simp (disch := omega) only [wY_danglers_69, nI_clamp, re_in, re_m3, re_m7, re_m28, re_m49, re_m4, re_m8, re_m84, nI_add, nI_1, re_a2, re_a3, re_a4, re_a5, re_a6, re_b336, re_b8, re_b0, forall_eq, true_and, and_true, not_false_eq_true, not_true_eq_false, false_implies, true_implies, implies_true]
        refine pk_le 7 j (fun h => absurd h (by omega)) (fun _ => ?_)
        refine ry_parent hP hY hf (ry_refers hP hY hst hf hi hj (fun z => re_bq1 (hc2 0 ?_)) (fun z => re_bq0 (hc2 x ?_)))
        · exact ⟨fun _ w => w.2 j (by omega) z, fun _ => rfl⟩
        · rw [hx]
          exact ⟨fun a b => a ⟨b.1, fun q hq => b.2 q (by omega)⟩, fun a b => a ⟨b.1, lt_s b.2 z⟩⟩
    exact ry_same hst (by omega) (by omega) (by omega) (by omega) (by omega) (by omega) Iff.rfl (fun h => key 1 ⟨fun z => absurd z (by decide), fun z => absurd ⟨h.1, h.2.2.elim Or.inl (fun w => Or.inr w.1)⟩ z⟩) (fun h => key 0 ⟨fun _ z => h ⟨z.1, rfl, z.2.elim Or.inl (fun w => Or.inr ⟨w, rfl⟩)⟩, fun _ => rfl⟩)
end
end
section
/-! removal sets and marks: closed, least; sums -/
def re_RF (s : re_Sc) (ce : Nat → Int32) (f c p : Nat) : Prop :=
  ∃ i j, i < 7 ∧ j < 7 ∧ c = re_ct s f * 7 + i ∧ p = re_kt s (re_fk s f) * 7 + j ∧ re_RB s ce 0 f i j
def re_CD (s : re_Sc) (F : Nat) (cD ce : Nat → Int32) (S : Nat → Prop) : Prop := ∀ f c p, f < F → cD f = 2 → re_RF s ce f c p → S p → S c
def re_LD (s : re_Sc) (F : Nat) (cD ce : Nat → Int32) (Sd D : Nat → Prop) : Prop :=
  (∀ p, p < 28 → Sd p → D p) ∧ re_CD s F cD ce D ∧ ∀ S : Nat → Prop, re_CD s F cD ce S → (∀ p, p < 28 → Sd p → S p) → ∀ p, p < 28 → D p → S p
def re_KM (s : re_Sc) (M : Nat → Int) (f p : Nat) : Prop :=
  0 < M (p * 3 + re_ka s (re_fk s f)) ∨ (0 < re_kb s (re_fk s f) ∧ 0 < M (p * 3 + (re_kb s (re_fk s f) - 1)))
def re_NU (s : re_Sc) (M : Nat → Int) (f c : Nat) : Prop := 2 ≤ M (c * 3 + re_fa s f) ∧ (0 < re_fb s f → 2 ≤ M (c * 3 + (re_fb s f - 1)))
def re_NL (s : re_Sc) (cD cU : Nat → Int32) (D : Nat → Prop) (M : Nat → Int) (f p : Nat) : Prop := (D p ∧ cD f = 3) ∨ (¬ D p ∧ cU f = 3 ∧ re_KM s M f p)
def re_FO (s : re_Sc) (M : Nat → Int) (f c p : Nat) : Prop :=
  M (p * 3 + re_ka s (re_fk s f)) ≤ M (c * 3 + re_fa s f) ∧ (0 < re_fb s f → M (p * 3 + (re_kb s (re_fk s f) - 1)) ≤ M (c * 3 + (re_fb s f - 1)))
/-- the marks are closed under the actions -/
def re_CM (s : re_Sc) (F : Nat) (cD cU ce : Nat → Int32) (D : Nat → Prop) (M : Nat → Int) : Prop :=
  ∀ f c p, f < F → re_RF s ce f c p → ¬ D c → (re_NL s cD cU D M f p → re_NU s M f c) ∧ (¬ D p → cU f = 2 → re_FO s M f c p)
/-- closed bounds above the seeds -/
def re_BS (s : re_Sc) (F : Nat) (cD cU ce : Nat → Int32) (D : Nat → Prop) (Sd B : Nat → Int) : Prop :=
  re_CM s F cD cU ce D B ∧ ∀ i, i < 84 → 0 ≤ B i ∧ Sd i ≤ B i
def re_LM (s : re_Sc) (F : Nat) (cD cU ce : Nat → Int32) (D : Nat → Prop) (Sd M : Nat → Int) : Prop :=
  (∀ i, i < 84 → 0 ≤ M i ∧ M i ≤ 2) ∧ (∀ i, i < 84 → Sd i ≤ M i) ∧ re_CM s F cD cU ce D M ∧ ∀ B, re_BS s F cD cU ce D Sd B → ∀ i, i < 84 → M i ≤ B i
theorem re_LD_uq {s : re_Sc} {F : Nat} {cD ce : Nat → Int32} {Sd D D' : Nat → Prop} (h : re_LD s F cD ce Sd D) (h' : re_LD s F cD ce Sd D') : ∀ p, p < 28 → (D p ↔ D' p) :=
  fun p hp => ⟨h.2.2 D' h'.2.1 h'.1 p hp, h'.2.2 D h.2.1 h.1 p hp⟩
theorem re_LM_uq {s : re_Sc} {F : Nat} {cD cU ce : Nat → Int32} {D : Nat → Prop} {Sd M M' : Nat → Int} (h : re_LM s F cD cU ce D Sd M) (h' : re_LM s F cD cU ce D Sd M') : ∀ i, i < 84 → M i = M' i := by
  intro i hi
  have a := h.2.2.2 M' ⟨h'.2.2.1, fun i hi => ⟨(h'.1 i hi).1, h'.2.1 i hi⟩⟩ i hi
  have b := h'.2.2.2 M ⟨h.2.2.1, fun i hi => ⟨(h.1 i hi).1, h.2.1 i hi⟩⟩ i hi
  omega
theorem re_RF_lt {s : re_Sc} {T R K F : Nat} {ce : Nat → Int32} {f c p : Nat} (hP : re_SP s T R K F) (hf : f < F) (h : re_RF s ce f c p) : c < 28 ∧ p < 28 := by
  obtain ⟨i, j, hi, hj, rfl, rfl, -⟩ := h
  have B := hP.1
  have G := hP.2.2 f hf
  have G2 := hP.2.1 _ G.2.2.2.2.1
  omega
theorem re_CM_cong {s : re_Sc} {T R K F : Nat} {cD cU ce : Nat → Int32} {D D' : Nat → Prop} {M : Nat → Int} (hP : re_SP s T R K F) (hD : ∀ p, p < 28 → (D p ↔ D' p)) (h : re_CM s F cD cU ce D M) : re_CM s F cD cU ce D' M := by
  intro f c p hf hr hc
  obtain ⟨h1, h2⟩ := re_RF_lt hP hf hr
  obtain ⟨a, b⟩ := h f c p hf hr (fun z => hc ((hD c h1).mp z))
  refine ⟨fun z => a ?_, fun z => b (fun w => z ((hD p h2).mp w))⟩
  rcases z with ⟨z1, z2⟩ | ⟨z1, z2⟩
  · exact Or.inl ⟨(hD p h2).mpr z1, z2⟩
  · exact Or.inr ⟨fun w => z1 ((hD p h2).mp w), z2⟩
theorem re_LM_cong {s : re_Sc} {T R K F : Nat} {cD cU ce : Nat → Int32} {D D' : Nat → Prop} {Sd M : Nat → Int} (hP : re_SP s T R K F) (hD : ∀ p, p < 28 → (D p ↔ D' p)) (h : re_LM s F cD cU ce D Sd M) : re_LM s F cD cU ce D' Sd M :=
  ⟨h.1, h.2.1, re_CM_cong hP hD h.2.2.1, fun B hB => h.2.2.2 B ⟨re_CM_cong hP (fun p hp => (hD p hp).symm) hB.1, hB.2⟩⟩
noncomputable def re_if (P : Prop) (a b : Int) : Int := @ite Int P (Classical.propDecidable P) a b
theorem re_if_t {P : Prop} {a b : Int} (h : P) : re_if P a b = a := by unfold re_if; rw [if_pos h]
theorem re_if_f {P : Prop} {a b : Int} (h : ¬ P) : re_if P a b = b := by unfold re_if; rw [if_neg h]
theorem re_if_le {P : Prop} {b : Int} (h : 0 ≤ b) : re_if P 0 b ≤ b ∧ 0 ≤ re_if P 0 b := by
  rcases Classical.em P with z | z
  · rw [re_if_t z]; omega
  · rw [re_if_f z]; omega
theorem re_RF_ix {s : re_Sc} {T R K F : Nat} {ce : Nat → Int32} {f c p : Nat} (hP : re_SP s T R K F) (hf : f < F) (h : re_RF s ce f c p) :
    c * 3 + re_fa s f < 84 ∧ c * 3 + (re_fb s f - 1) < 84 ∧ p * 3 + re_ka s (re_fk s f) < 84 ∧ p * 3 + (re_kb s (re_fk s f) - 1) < 84 := by
  have a := re_RF_lt hP hf h
  have G := hP.2.2 f hf
  have G2 := hP.2.1 _ G.2.2.2.2.1
  omega
theorem re_RF_va {s : re_Sc} {ce : Nat → Int32} {f c p : Nat} (h : re_RF s ce f c p) : ¬ ce (c * 3 + re_fa s f) < 0 ∧ ce (c * 3 + re_fa s f) = ce (p * 3 + re_ka s (re_fk s f)) ∧
    (0 < re_fb s f → ¬ ce (c * 3 + (re_fb s f - 1)) < 0 ∧ ce (c * 3 + (re_fb s f - 1)) = ce (p * 3 + (re_kb s (re_fk s f) - 1))) := by
  obtain ⟨i, j, hi, hj, rfl, rfl, h1, h2, h3⟩ := h
  rw [Nat.zero_add] at h1 h2 h3
  rw [Nat.zero_add] at h2 h3
  exact ⟨h1, h2, fun z => h3.resolve_left (by omega)⟩
/-- marks stand on present rows alone -/
theorem re_LM_pres {s : re_Sc} {T R K F : Nat} {cD cU ce : Nat → Int32} {D : Nat → Prop} {Sd M : Nat → Int} (hP : re_SP s T R K F) (h : re_LM s F cD cU ce D Sd M) (hs : ∀ i, i < 84 → ce i = -2 → Sd i ≤ 0) : ∀ i, i < 84 → ce i = -2 → M i = 0 := by
  have key := h.2.2.2 (fun i => re_if (ce i = -2) 0 (M i)) ⟨?_, ?_⟩
  · intro i hi hc
    have a := key i hi
    have b := h.1 i hi
    rw [re_if_t hc] at a
    omega
  · have own : ∀ i, ¬ ce i < 0 → re_if (ce i = -2) 0 (M i) = M i := fun i hi => re_if_f (fun z => hi (by rw [z]; decide))
    intro f c p hf hr hc
    obtain ⟨i1, i2, i3, i4⟩ := re_RF_ix hP hf hr
    obtain ⟨v1, v2, v3⟩ := re_RF_va hr
    obtain ⟨a, b⟩ := h.2.2.1 f c p hf hr hc
    refine ⟨fun z => ?_, fun z1 z2 => ?_⟩
    · have z' : re_NL s cD cU D M f p := by
        rcases z with z | ⟨z1, z2, z3⟩
        · exact Or.inl z
        · refine Or.inr ⟨z1, z2, ?_⟩
          rcases z3 with z3 | ⟨z3, z4⟩
          · have := (re_if_le (P := ce (p * 3 + re_ka s (re_fk s f)) = -2) (h.1 _ i3).1).1
            exact Or.inl (by dsimp only at z3; omega)
          · have := (re_if_le (P := ce (p * 3 + (re_kb s (re_fk s f) - 1)) = -2) (h.1 _ i4).1).1
            exact Or.inr ⟨z3, by dsimp only at z4; omega⟩
      obtain ⟨n1, n2⟩ := a z'
      refine ⟨?_, fun w => ?_⟩
      · dsimp only; rw [own _ v1]; exact n1
      · dsimp only; rw [own _ (v3 w).1]; exact n2 w
    · obtain ⟨n1, n2⟩ := b z1 z2
      refine ⟨?_, fun w => ?_⟩
      · dsimp only; rw [own _ v1]
        have := (re_if_le (P := ce (p * 3 + re_ka s (re_fk s f)) = -2) (h.1 _ i3).1).1
        omega
      · dsimp only; rw [own _ (v3 w).1]
        have := (re_if_le (P := ce (p * 3 + (re_kb s (re_fk s f) - 1)) = -2) (h.1 _ i4).1).1
        have := n2 w
        omega
  · intro i hi
    refine ⟨(re_if_le (h.1 i hi).1).2, ?_⟩
    rcases Classical.em (ce i = -2) with z | z
    · dsimp only; rw [re_if_t z]; exact hs i hi z
    · dsimp only; rw [re_if_f z]; exact h.2.1 i hi
/-- a CHANGED mark travels with the value that it changes -/
theorem re_LM_one {s : re_Sc} {T R K F : Nat} {cD cU ce : Nat → Int32} {D : Nat → Prop} {Sd M : Nat → Int} {good : Int32 → Prop} (hP : re_SP s T R K F) (h : re_LM s F cD cU ce D Sd M) (hs : ∀ i, i < 84 → Sd i = 1 → good (ce i)) (hs2 : ∀ i, i < 84 → Sd i ≤ 0 ∨ Sd i = 1 ∨ (Sd i = 2)) : ∀ i, i < 84 → M i = 1 → good (ce i) := by
  have key := h.2.2.2 (fun i => re_if (M i = 1 ∧ ¬ good (ce i)) 0 (M i)) ⟨?_, ?_⟩
  · intro i hi h1
    rcases Classical.em (good (ce i)) with z | z
    · exact z
    · have a := key i hi
      rw [re_if_t ⟨h1, z⟩] at a
      omega
  · intro f c p hf hr hc
    obtain ⟨i1, i2, i3, i4⟩ := re_RF_ix hP hf hr
    obtain ⟨v1, v2, v3⟩ := re_RF_va hr
    obtain ⟨a, b⟩ := h.2.2.1 f c p hf hr hc
    refine ⟨fun z => ?_, fun z1 z2 => ?_⟩
    · have z' : re_NL s cD cU D M f p := by
        rcases z with z | ⟨z1, z2, z3⟩
        · exact Or.inl z
        · refine Or.inr ⟨z1, z2, ?_⟩
          rcases z3 with z3 | ⟨z3, z4⟩
          · have := (re_if_le (P := M (p * 3 + re_ka s (re_fk s f)) = 1 ∧ ¬ good (ce (p * 3 + re_ka s (re_fk s f)))) (h.1 _ i3).1).1
            exact Or.inl (by dsimp only at z3; omega)
          · have := (re_if_le (P := M (p * 3 + (re_kb s (re_fk s f) - 1)) = 1 ∧ ¬ good (ce (p * 3 + (re_kb s (re_fk s f) - 1)))) (h.1 _ i4).1).1
            exact Or.inr ⟨z3, by dsimp only at z4; omega⟩
      obtain ⟨n1, n2⟩ := a z'
      refine ⟨?_, fun w => ?_⟩
      · dsimp only; rw [re_if_f (fun y => by have := y.1; omega)]; exact n1
      · have n3 := n2 w
        dsimp only; rw [re_if_f (fun y => by have := y.1; omega)]; exact n3
    · obtain ⟨n1, n2⟩ := b z1 z2
      have gen : ∀ o x : Nat, x < 84 → o < 84 → ce o = ce x → M x ≤ M o → re_if (M x = 1 ∧ ¬ good (ce x)) 0 (M x) ≤ re_if (M o = 1 ∧ ¬ good (ce o)) 0 (M o) := by
        intro o x hx ho e hm
        have b1 := h.1 o ho
        have b2 := h.1 x hx
        rcases Classical.em (M x = 1 ∧ ¬ good (ce x)) with w | w
        · rw [re_if_t w]
          exact (re_if_le b1.1).2
        · rw [re_if_f w]
          rcases Classical.em (M o = 1 ∧ ¬ good (ce o)) with w2 | w2
          · rw [re_if_t w2]
            have w3 : ¬ M x = 1 := fun y => w ⟨y, by rw [← e]; exact w2.2⟩
            have := w2.1
            omega
          · rw [re_if_f w2]; exact hm
      exact ⟨gen _ _ i3 i1 v2 n1, fun w => gen _ _ i4 i2 (v3 w).2 (n2 w)⟩
  · intro i hi
    refine ⟨(re_if_le (h.1 i hi).1).2, ?_⟩
    rcases Classical.em (M i = 1 ∧ ¬ good (ce i)) with z | z
    · dsimp only; rw [re_if_t z]
      have a := h.2.1 i hi
      rcases hs2 i hi with w | w | w
      · exact w
      · exact absurd (hs i hi w) z.2
      · have := z.1; omega
    · dsimp only; rw [re_if_f z]; exact h.2.1 i hi
def re_sm (M : Nat → Int) : Nat → Int
  | 0 => 0
  | n + 1 => re_sm M n + M n
theorem re_sm_eq {M M' : Nat → Int} : ∀ n, (∀ i, i < n → M' i = M i) → re_sm M' n = re_sm M n
  | 0, _ => rfl
  | n + 1, h => by simp only [re_sm]; rw [re_sm_eq n (fun i hi => h i (by omega)), h n (by omega)]
theorem re_sm_up {M M' : Nat → Int} {k : Nat} : ∀ n, k < n → (∀ i, i < n → i ≠ k → M' i = M i) → re_sm M' n = re_sm M n + (M' k - M k)
  | 0, h, _ => by omega
  | n + 1, h, hm => by
    simp only [re_sm]
    rcases Nat.lt_or_ge k n with z | z
    · rw [re_sm_up n z (fun i hi => hm i (by omega)), hm n (by omega) (by omega)]
      omega
    · have e : k = n := by omega
      subst e
      rw [re_sm_eq k (fun i hi => hm i (by omega) (by omega))]
      omega
theorem re_sm_le {M : Nat → Int} : ∀ n, (∀ i, i < n → M i ≤ 2) → re_sm M n ≤ 2 * n
  | 0, _ => by simp only [re_sm]; omega
  | n + 1, h => by
    simp only [re_sm]
    have a := re_sm_le n (fun i hi => h i (by omega))
    have b := h n (by omega)
    omega
theorem re_sm_mono {M M' : Nat → Int} : ∀ n, (∀ i, i < n → M i ≤ M' i) → re_sm M n ≤ re_sm M' n
  | 0, _ => by simp only [re_sm]; omega
  | n + 1, h => by
    simp only [re_sm]
    have a := re_sm_mono n (fun i hi => h i (by omega))
    have b := h n (by omega)
    omega
theorem re_sm_lt {M : Nat → Int} {k n : Nat} (hk : k < n) (h : ∀ i, i < n → M i ≤ 2) (hM : M k < 2) : re_sm M n < 2 * n := by
  have a := re_sm_up (M := M) (M' := fun i => if i = k then 2 else M i) (k := k) n hk (fun i _ hi => if_neg hi)
  have b := re_sm_le (M := fun i => if i = k then 2 else M i) n (fun i hi => by
    rcases Nat.decEq i k with z | z
    · rw [if_neg z]; exact h i hi
    · rw [if_pos z]; omega)
  rw [if_pos rfl] at a
  omega
end
section
/-! the component: copies, the start of a statement, the new content -/
def re_CP (n src dst : Nat) (a : Nat → Int32) : Nat → Int32 := fun j => if dst ≤ j ∧ j < dst + n then a (src + (j - dst)) else a j
theorem re_CP_0 {src dst : Nat} {a : Nat → Int32} : a = re_CP 0 src dst a := by
  funext j
  unfold re_CP
  rw [if_neg (by omega)]
theorem re_CP_s {n i src dst : Nat} {a : Nat → Int32} (hi : i < n) (hne : src + n ≤ dst ∨ dst + n ≤ src) : upd (re_CP i src dst a) (dst + i) (re_CP i src dst a (src + i)) = re_CP (i + 1) src dst a := by
  have e : re_CP i src dst a (src + i) = a (src + i) := by
    unfold re_CP
    rw [if_neg (by omega)]
  rw [e]
  funext j
  unfold upd re_CP
  rcases Nat.decEq j (dst + i) with z | z
  · rw [if_neg z]
    rcases Classical.em (dst ≤ j ∧ j < dst + i) with w | w
    · rw [if_pos w, if_pos (by omega)]
    · rw [if_neg w, if_neg (by omega)]
  · rw [if_pos z, if_pos (by omega), z, show dst + i - dst = i by omega]
theorem re_CP_in {n src dst i : Nat} {a : Nat → Int32} (hi : i < n) : re_CP n src dst a (dst + i) = a (src + i) := by
  unfold re_CP
  rw [if_pos (by omega), show dst + i - dst = i by omega]
theorem re_CP_out {n src dst j : Nat} {a : Nat → Int32} (h : j < dst ∨ dst + n ≤ j) : re_CP n src dst a j = a j := by
  unfold re_CP
  rw [if_neg (by omega)]
def re_Z (n : Nat) (a : Nat → Int32) : Nat → Int32 := fun j => if j < n then 0 else a j
theorem re_Z_0 {a : Nat → Int32} : a = re_Z 0 a := by
  funext j
  unfold re_Z
  rw [if_neg (by omega)]
theorem re_Z_s {i : Nat} {a : Nat → Int32} : upd (re_Z i a) i 0 = re_Z (i + 1) a := by
  funext j
  unfold upd re_Z
  rcases Nat.decEq j i with z | z
  · rw [if_neg z]
    rcases Nat.decLt j i with w | w
    · rw [if_neg w, if_neg (by omega)]
    · rw [if_pos w, if_pos (by omega)]
  · rw [if_pos z, if_pos (by omega)]
theorem re_Z_in {n i : Nat} {a : Nat → Int32} (h : i < n) : re_Z n a i = 0 := if_pos h
theorem re_nb0 : vp_nar .boolean 0 = 0 := rfl
theorem re_nb1 : vp_nar .boolean 1 = 1 := rfl
def re_NX (rm mk ce : Nat → Int32) (g : Int32 → Int32) (i : Nat) : Int32 := if rm (i / 3) = 0 then (if mk i = 2 then -1 else if mk i = 1 then g (ce i) else ce i) else -2
def re_BN (rm mk : Nat → Int32) (g : Int32 → Int32) (n : Nat) (ce : Nat → Int32) : Nat → Int32 := fun j => if 336 ≤ j ∧ j < 336 + n then re_NX rm mk ce g (j - 336) else ce j
theorem re_BN_0 {rm mk ce : Nat → Int32} {g : Int32 → Int32} : ce = re_BN rm mk g 0 ce := by
  funext j
  unfold re_BN
  rw [if_neg (by omega)]
theorem re_BN_s {rm mk ce : Nat → Int32} {g : Int32 → Int32} {i : Nat} {x : Int32} (h : x = re_NX rm mk ce g i) : upd (re_BN rm mk g i ce) (336 + i) x = re_BN rm mk g (i + 1) ce := by
  funext j
  unfold upd re_BN
  rcases Nat.decEq j (336 + i) with z | z
  · rw [if_neg z]
    rcases Classical.em (336 ≤ j ∧ j < 336 + i) with w | w
    · rw [if_pos w, if_pos (by omega)]
    · rw [if_neg w, if_neg (by omega)]
  · rw [if_pos z, if_pos (by omega), z, show 336 + i - 336 = i by omega, h]
theorem re_BN_lo {rm mk ce : Nat → Int32} {g : Int32 → Int32} {n j : Nat} (h : j < 336) : re_BN rm mk g n ce j = ce j := by
  unfold re_BN
  rw [if_neg (by omega)]
theorem re_BN_in {rm mk ce : Nat → Int32} {g : Int32 → Int32} {n i : Nat} (h : i < n) : re_BN rm mk g n ce (336 + i) = re_NX rm mk ce g i := by
  unfold re_BN
  rw [if_pos (by omega), show 336 + i - 336 = i by omega]
theorem re_BN_cong {rm mk yr yk ce : Nat → Int32} {g : Int32 → Int32} (h1 : ∀ p, p < 28 → (rm p = 0 ↔ yr p = 0)) (h2 : ∀ i, i < 84 → mk i = yk i) : re_BN rm mk g 84 ce = re_BN yr yk g 84 ce := by
  funext j
  unfold re_BN
  rcases Classical.em (336 ≤ j ∧ j < 336 + 84) with w | w
  · rw [if_pos w, if_pos w]
    unfold re_NX
    rw [h2 (j - 336) (by omega)]
    have e := h1 ((j - 336) / 3) (by omega)
    rcases Classical.em (rm ((j - 336) / 3) = 0) with v | v
    · rw [if_pos v, if_pos (e.mp v)]
    · rw [if_neg v, if_neg (fun q => v (e.mpr q))]
  · rw [if_neg w, if_neg w]
def re_PC1 (s : re_Sc) (ce po : Nat → Int32) (f c : Nat) : Prop :=
  (po (f * 28 + c) = -1 ∧ ∀ p, ¬ re_RF s ce f c p) ∨ ∃ p, p < 28 ∧ po (f * 28 + c) = nI p ∧ re_RF s ce f c p ∧ ∀ q, re_RF s ce f c q → q = p
/-- who refers to whom at the start -/
def re_PO (s : re_Sc) (F : Nat) (ce po : Nat → Int32) : Prop := ∀ f c, f < F → c < 28 → re_PC1 s ce po f c
theorem re_PC1_keep {s : re_Sc} {ce po : Nat → Int32} {f c k : Nat} {x : Int32} (h : re_PC1 s ce po f c) (hk : f * 28 + c ≠ k) : re_PC1 s ce (upd po k x) f c := by
  unfold re_PC1
  rw [pk_un hk]
  exact h
section
variable {T R K F : Nat} {s : re_Sc} {sl dp cu tu rn qe : Int32} {rq kT kA kB kP cC cA cB cK cD cU ce mo rm rl mk qu po : Nat → Int32} {ks fs ym yr yk : Nat → Int32}
theorem rx_copyRows {post : SX → Prop} {p0 p1 : Int32} {src dst : Nat} (h0 : (p0 + 1) * 84 = nI src) (h1 : (p1 + 1) * 84 = nI dst) (hs : src + 84 ≤ 420) (hd : dst + 84 ≤ 420) (hne : src + 84 ≤ dst ∨ dst + 84 ≤ src) (h : post (nI T, nI R, sl, dp, cu, tu, nI K, nI F, 336, rn, qe, rq, kT, kA, kB, kP, cC, cA, cB, cK, cD, cU, re_CP 84 src dst ce, mo, rm, rl, mk, qu, po)) : wpX_copyRows post (nI T, nI R, sl, dp, cu, tu, nI K, nI F, 336, rn, qe, rq, kT, kA, kB, kP, cC, cA, cB, cK, cD, cU, ce, mo, rm, rl, mk, qu, po) p0 p1 := by
  unfold wpX_copyRows wpX_baseOf
  dsimp only
  rw [h0, h1]
  refine loop_0 (fun n i (c : Nat → Int32) => wX_copyRows_16 post (nI src) (nI dst) (nI T) (nI R) sl dp cu tu (nI K) (nI F) 336 rn qe n (nI i) rq kT kA kB kP cC cA cB cK cD cU c mo rm rl mk qu po) (fun i c => c = re_CP i src dst ce) 84 ce re_CP_0 ?_ ?_
  · rintro n c rfl
    exact br_t (by decide) h
  · rintro n i c hi rfl hc
    simp (disch := omega) only [wX_copyRows_16, nI_clamp, re_in, re_m3, re_m7, re_m28, re_m49, re_m4, re_m8, re_m84, nI_add, nI_1, re_a2, re_a3, re_a4, re_a5, re_a6, re_b336, re_b8, re_b0, forall_eq, true_and, and_true, not_false_eq_true, not_true_eq_false, false_implies, true_implies, implies_true]
    refine pk_le 84 i (fun h => absurd h (by omega)) (fun _ => ?_)
    exact hc _ (re_CP_s hi hne)
theorem rx_copyModes {post : SX → Prop} {p0 p1 : Int32} {src dst : Nat} (h0 : (p0 + 1) * 8 = nI src) (h1 : (p1 + 1) * 8 = nI dst) (hs : src + 8 ≤ 32) (hd : dst + 8 ≤ 32) (hne : src + 8 ≤ dst ∨ dst + 8 ≤ src) (h : post (nI T, nI R, sl, dp, cu, tu, nI K, nI F, 336, rn, qe, rq, kT, kA, kB, kP, cC, cA, cB, cK, cD, cU, ce, re_CP 8 src dst mo, rm, rl, mk, qu, po)) : wpX_copyModes post (nI T, nI R, sl, dp, cu, tu, nI K, nI F, 336, rn, qe, rq, kT, kA, kB, kP, cC, cA, cB, cK, cD, cU, ce, mo, rm, rl, mk, qu, po) p0 p1 := by
  unfold wpX_copyModes
  refine nm_r h0 (nm_r h1 ?_)
  refine loop_0 (fun n i (c : Nat → Int32) => wX_copyModes_18 post (nI src) (nI dst) (nI T) (nI R) sl dp cu tu (nI K) (nI F) 336 rn qe n (nI i) rq kT kA kB kP cC cA cB cK cD cU ce c rm rl mk qu po) (fun i c => c = re_CP i src dst mo) 8 mo re_CP_0 ?_ ?_
  · rintro n c rfl
    exact br_t (by decide) h
  · rintro n i c hi rfl hc
    simp (disch := omega) only [wX_copyModes_18, nI_clamp, re_in, re_m3, re_m7, re_m28, re_m49, re_m4, re_m8, re_m84, nI_add, nI_1, re_a2, re_a3, re_a4, re_a5, re_a6, re_b336, re_b8, re_b0, forall_eq, true_and, and_true, not_false_eq_true, not_true_eq_false, false_implies, true_implies, implies_true]
    refine pk_le 8 i (fun h => absurd h (by omega)) (fun _ => ?_)
    exact hc _ (re_CP_s hi hne)
theorem rx_restore {post : SX → Prop} {p0 : Int32} {src sm : Nat} (h0 : (p0 + 1) * 84 = nI src) (h1 : (p0 + 1) * 8 = nI sm) (hs : src + 84 ≤ 420) (hs' : 84 ≤ src) (hm : sm + 8 ≤ 32) (hm' : 8 ≤ sm) (h : post (nI T, nI R, sl, p0, cu, tu, nI K, nI F, 336, rn, qe, rq, kT, kA, kB, kP, cC, cA, cB, cK, cD, cU, re_CP 84 src 0 ce, re_CP 8 sm 0 mo, rm, rl, mk, qu, po)) : wpX_restore post (nI T, nI R, sl, dp, cu, tu, nI K, nI F, 336, rn, qe, rq, kT, kA, kB, kP, cC, cA, cB, cK, cD, cU, ce, mo, rm, rl, mk, qu, po) p0 := by
  unfold wpX_restore
  refine rx_copyRows (dst := 0) h0 (by decide) hs (by omega) (by omega) ?_
  exact rx_copyModes (dst := 0) h1 (by decide) hm (by omega) (by omega) h
theorem rx_buildNext {post : SX → Prop} {x1 am : Int32} {g : Int32 → Int32} (hg : ∀ v, (x1 = 0 → g v = am) ∧ (¬ x1 = 0 → g v = v + am)) (h : post (nI T, nI R, sl, dp, cu, tu, nI K, nI F, 336, rn, qe, rq, kT, kA, kB, kP, cC, cA, cB, cK, cD, cU, re_BN rm mk g 84 ce, mo, rm, rl, mk, qu, po)) : wpX_buildNext post (nI T, nI R, sl, dp, cu, tu, nI K, nI F, 336, rn, qe, rq, kT, kA, kB, kP, cC, cA, cB, cK, cD, cU, ce, mo, rm, rl, mk, qu, po) x1 am := by
  unfold wpX_buildNext
  refine loop_0 (fun n i (c : Nat → Int32) => wX_buildNext_2 post x1 am (nI T) (nI R) sl dp cu tu (nI K) (nI F) 336 rn qe n (nI i) rq kT kA kB kP cC cA cB cK cD cU c mo rm rl mk qu po) (fun i c => c = re_BN rm mk g i ce) 84 ce re_BN_0 ?_ ?_
  · rintro n c rfl
    exact br_t (by decide) h
  · rintro n i c hi rfl hc
    have key : ∀ x, x = re_NX rm mk ce g i → wX_buildNext_74 post (wX_buildNext_2 post x1 am (nI T) (nI R) sl dp cu tu (nI K) (nI F) 336 rn qe n) x1 am (nI i) x (nI T) (nI R) sl dp cu tu (nI K) (nI F) 336 rn qe rq kT kA kB kP cC cA cB cK cD cU (re_BN rm mk g i ce) mo rm rl mk qu po := by
      intro x hx
      simp (disch := omega) only [wX_buildNext_74, nI_clamp, re_in, re_m3, re_m7, re_m28, re_m49, re_m4, re_m8, re_m84, nI_add, nI_1, re_a2, re_a3, re_a4, re_a5, re_a6, re_b336, re_b8, re_b0, forall_eq, true_and, and_true, not_false_eq_true, not_true_eq_false, false_implies, true_implies, implies_true]
      exact hc _ (re_BN_s hx)
    have e := re_BN_lo (rm := rm) (mk := mk) (ce := ce) (g := g) (n := i) (j := i) (by omega)
    simp (disch := omega) only [wX_buildNext_2, wX_buildNext_72, re_d3, re_z3, e, nI_clamp, re_in, re_m3, re_m7, re_m28, re_m49, re_m4, re_m8, re_m84, nI_add, nI_1, re_a2, re_a3, re_a4, re_a5, re_a6, re_b336, re_b8, re_b0, forall_eq, true_and, and_true, not_false_eq_true, not_true_eq_false, false_implies, true_implies, implies_true]
    refine pk_le 84 i (fun h => absurd h (by omega)) (fun _ => ?_)
    refine br_c (fun z => ?_) (fun z => key _ (by unfold re_NX; rw [if_neg z]))
    refine br_c (fun z2 => key _ (by unfold re_NX; rw [if_pos z, if_pos z2])) (fun z2 => ?_)
    refine br_c (fun z3 => ?_) (fun z3 => key _ (by unfold re_NX; rw [if_pos z, if_neg z2, if_neg z3]))
    exact br_c (fun z4 => key _ (by unfold re_NX; rw [if_pos z, if_neg z2, if_pos z3, (hg _).1 z4])) (fun z4 => key _ (by unfold re_NX; rw [if_pos z, if_neg z2, if_pos z3, (hg _).2 z4]))
theorem rx_startPO {post : SX → Prop} (hP : re_SP s T R K F) (hX : re_LX s K F kT kA kB cC cA cB cK) (hU : re_UQ s K ce 0) (h0 : ∀ i, i < 224 → po i = -1) (h : ∀ po', re_PO s F ce po' → post (nI T, nI R, sl, dp, cu, tu, nI K, nI F, 336, rn, qe, rq, kT, kA, kB, kP, cC, cA, cB, cK, cD, cU, ce, mo, rm, rl, mk, qu, po')) : ∃ n76 : Nat, wX_startStatement_76 post (nI T) (nI R) sl dp cu tu (nI K) (nI F) 336 rn qe n76 0 rq kT kA kB kP cC cA cB cK cD cU ce mo rm rl mk qu po := by
  have B := hP.1
  refine loop_0 (fun n f (c : Nat → Int32) => wX_startStatement_76 post (nI T) (nI R) sl dp cu tu (nI K) (nI F) 336 rn qe n (nI f) rq kT kA kB kP cC cA cB cK cD cU ce mo rm rl mk qu c) (fun f c => (∀ g d, g < f → d < 28 → re_PC1 s ce c g d) ∧ ∀ g d, f ≤ g → g < 8 → d < 28 → c (g * 28 + d) = -1) F po ⟨fun g d h => by omega, fun g d _ h1 h2 => h0 _ (by omega)⟩ ?_ ?_
  · rintro n c ⟨h1, -⟩
    have hp := h c (fun f d hf hd => h1 f d hf hd)
    simp only [wX_startStatement_76]
    exact pk_le 8 F (fun _ => hp) (fun _ => pk_le F F (fun _ => hp) (fun z => by omega))
  · rintro n f c hf ⟨h1, h2⟩ hc
    have G := hP.2.2 f hf
    have E := hX.2 f hf
    have G2 := hP.2.1 _ G.2.2.2.2.1
    simp only [wX_startStatement_76]
    refine pk_le 8 f (fun _ => by omega) (fun _ => pk_le F f (fun _ => by omega) (fun _ => ?_))
    refine loop_0 (fun m i (d : Nat → Int32) => wX_startStatement_92 post (wX_startStatement_76 post (nI T) (nI R) sl dp cu tu (nI K) (nI F) 336 rn qe n) (nI f) (nI T) (nI R) sl dp cu tu (nI K) (nI F) 336 rn qe m (nI i) rq kT kA kB kP cC cA cB cK cD cU ce mo rm rl mk qu d) (fun i d => (∀ g e, g < f → e < 28 → re_PC1 s ce d g e) ∧ (∀ e, e < i → re_PC1 s ce d f (re_ct s f * 7 + e)) ∧ (∀ e, e < 28 → (∀ r, r < i → e ≠ re_ct s f * 7 + r) → d (f * 28 + e) = -1) ∧ ∀ g e, f < g → g < 8 → e < 28 → d (g * 28 + e) = -1) 7 c ⟨h1, fun e he => by omega, fun e he _ => h2 f e (Nat.le_refl _) (by omega) he, fun g e a b d => h2 g e (by omega) b d⟩ ?_ ?_
    · rintro m d ⟨k1, k2, k3, k4⟩
      simp (disch := omega) only [wX_startStatement_92, nI_clamp, re_in, re_m3, re_m7, re_m28, re_m49, re_m4, re_m8, re_m84, nI_add, nI_1, re_a2, re_a3, re_a4, re_a5, re_a6, re_b336, re_b8, re_b0, forall_eq, true_and, and_true, not_false_eq_true, not_true_eq_false, false_implies, true_implies, implies_true]
      refine br_t (by decide) (hc d ⟨?_, fun g e a b d => k4 g e (by omega) b d⟩)
      intro g e hg he
      rcases Nat.lt_or_ge g f with z | z
      · exact k1 g e z he
      · have eg : g = f := by omega
        subst eg
        rcases Classical.em (∃ r, r < 7 ∧ e = re_ct s g * 7 + r) with ⟨r, hr, w⟩ | w
        · rw [w]; exact k2 r hr
        · refine Or.inl ⟨k3 e he (fun r hr q => w ⟨r, hr, q⟩), ?_⟩
          rintro p ⟨i, j, hi, hj, q, -⟩
          exact w ⟨i, hi, q⟩
    · rintro m i d hi ⟨k1, k2, k3, k4⟩ hc2
      have step : ∀ x, re_PC1 s ce (upd d (f * 28 + (re_ct s f * 7 + i)) x) f (re_ct s f * 7 + i) → wX_startStatement_92 post (wX_startStatement_76 post (nI T) (nI R) sl dp cu tu (nI K) (nI F) 336 rn qe n) (nI f) (nI T) (nI R) sl dp cu tu (nI K) (nI F) 336 rn qe m (nI (i + 1)) rq kT kA kB kP cC cA cB cK cD cU ce mo rm rl mk qu (upd d (f * 28 + (re_ct s f * 7 + i)) x) := by
        intro x hx
        refine hc2 _ ⟨fun g e a b => re_PC1_keep (k1 g e a b) (by omega), ?_, ?_, ?_⟩
        · intro e he
          rcases Nat.lt_or_ge e i with z | z
          · exact re_PC1_keep (k2 e z) (by omega)
          · have eg : e = i := by omega
            rw [eg]; exact hx
        · intro e he hr
          have := hr i (by omega)
          rw [pk_un (by omega)]
          exact k3 e he (fun r a => hr r (by omega))
        · intro g e a b c
          rw [pk_un (by omega)]
          exact k4 g e a b c
      simp (disch := omega) only [wX_startStatement_92, E.1, nI_clamp, re_in, re_m3, re_m7, re_m28, re_m49, re_m4, re_m8, re_m84, nI_add, nI_1, re_a2, re_a3, re_a4, re_a5, re_a6, re_b336, re_b8, re_b0, forall_eq, true_and, and_true, not_false_eq_true, not_true_eq_false, false_implies, true_implies, implies_true]
      refine pk_le 7 i (fun _ => by omega) (fun _ => ?_)
      refine rx_parentPlace (b := 0) hP hX (by omega) hf hi (fun hn => ?_) (fun j hj hr hq => ?_)
      · try simp (disch := omega) only [nI_clamp, re_in, re_m3, re_m7, re_m28, re_m49, re_m4, re_m8, re_m84, nI_add, nI_1, re_a2, re_a3, re_a4, re_a5, re_a6, re_b336, re_b8, re_b0, forall_eq, true_and, and_true, not_false_eq_true, not_true_eq_false, false_implies, true_implies, implies_true]
        refine step _ (Or.inl ⟨pk_us, ?_⟩)
        rintro p ⟨i', j, hi', hj, e1, -, hr⟩
        have : i' = i := by omega
        subst this
        exact hn j hj hr
      · try simp (disch := omega) only [nI_clamp, re_in, re_m3, re_m7, re_m28, re_m49, re_m4, re_m8, re_m84, nI_add, nI_1, re_a2, re_a3, re_a4, re_a5, re_a6, re_b336, re_b8, re_b0, forall_eq, true_and, and_true, not_false_eq_true, not_true_eq_false, false_implies, true_implies, implies_true]
        refine step _ (Or.inr ⟨_, ?_, pk_us, ⟨i, j, hi, hj, rfl, rfl, hr⟩, ?_⟩)
        · omega
        · rintro q ⟨i', j', hi', hj', e1, e2, hr'⟩
          have : i' = i := by omega
          subst this
          rw [e2, re_RB_uq hP hU hf hj' hj hr' hr]
def re_M1 (n : Nat) (a : Nat → Int32) : Nat → Int32 := fun j => if j < n then -1 else a j
theorem re_M1_0 {a : Nat → Int32} : a = re_M1 0 a := by
  funext j
  unfold re_M1
  rw [if_neg (by omega)]
theorem re_M1_s {i : Nat} {a : Nat → Int32} : upd (re_M1 i a) i (-1) = re_M1 (i + 1) a := by
  funext j
  unfold upd re_M1
  rcases Nat.decEq j i with z | z
  · rw [if_neg z]
    rcases Nat.decLt j i with w | w
    · rw [if_neg w, if_neg (by omega)]
    · rw [if_pos w, if_pos (by omega)]
  · rw [if_pos z, if_pos (by omega)]
theorem rx_startStatement {post : SX → Prop} (hP : re_SP s T R K F) (hX : re_LX s K F kT kA kB cC cA cB cK) (hU : re_UQ s K ce 0) (h : ∀ po', re_PO s F ce po' → post (nI T, nI R, sl, dp, cu, tu, nI K, nI F, 336, 0, 0, rq, kT, kA, kB, kP, cC, cA, cB, cK, cD, cU, ce, mo, re_Z 28 rm, rl, re_Z 84 mk, qu, po')) : wpX_startStatement post (nI T, nI R, sl, dp, cu, tu, nI K, nI F, 336, rn, qe, rq, kT, kA, kB, kP, cC, cA, cB, cK, cD, cU, ce, mo, rm, rl, mk, qu, po) := by
  unfold wpX_startStatement
  refine loop_0 (fun n i (c : Nat → Int32) => wX_startStatement_12 post (nI T) (nI R) sl dp cu tu (nI K) (nI F) 336 0 0 n (nI i) rq kT kA kB kP cC cA cB cK cD cU ce mo c rl mk qu po) (fun i c => c = re_Z i rm) 28 rm re_Z_0 ?_ ?_
  · rintro n c rfl
    refine br_t (by decide) ?_
    refine loop_0 (fun n i (c : Nat → Int32) => wX_startStatement_33 post (nI T) (nI R) sl dp cu tu (nI K) (nI F) 336 0 0 n (nI i) rq kT kA kB kP cC cA cB cK cD cU ce mo (re_Z 28 rm) rl c qu po) (fun i c => c = re_Z i mk) 84 mk re_Z_0 ?_ ?_
    · rintro n c rfl
      refine br_t (by decide) ?_
      refine loop_0 (fun n i (c : Nat → Int32) => wX_startStatement_54 post (nI T) (nI R) sl dp cu tu (nI K) (nI F) 336 0 0 n (nI i) rq kT kA kB kP cC cA cB cK cD cU ce mo (re_Z 28 rm) rl (re_Z 84 mk) qu c) (fun i c => c = re_M1 i po) 224 po re_M1_0 ?_ ?_
      · rintro n c rfl
        refine br_t (by decide) ?_
        exact rx_startPO hP hX hU (fun i hi => if_pos hi) h
      · rintro n i c hi rfl hc
        simp (disch := omega) only [wX_startStatement_54, nI_clamp, re_in, re_m3, re_m7, re_m28, re_m49, re_m4, re_m8, re_m84, nI_add, nI_1, re_a2, re_a3, re_a4, re_a5, re_a6, re_b336, re_b8, re_b0, forall_eq, true_and, and_true, not_false_eq_true, not_true_eq_false, false_implies, true_implies, implies_true]
        exact pk_le 224 i (fun h => absurd h (by omega)) (fun _ => hc _ re_M1_s)
    · rintro n i c hi rfl hc
      simp (disch := omega) only [wX_startStatement_33, nI_clamp, re_in, re_m3, re_m7, re_m28, re_m49, re_m4, re_m8, re_m84, nI_add, nI_1, re_a2, re_a3, re_a4, re_a5, re_a6, re_b336, re_b8, re_b0, forall_eq, true_and, and_true, not_false_eq_true, not_true_eq_false, false_implies, true_implies, implies_true]
      exact pk_le 84 i (fun h => absurd h (by omega)) (fun _ => hc _ re_Z_s)
  · rintro n i c hi rfl hc
    simp (disch := omega) only [wX_startStatement_12, re_nb0, nI_clamp, re_in, re_m3, re_m7, re_m28, re_m49, re_m4, re_m8, re_m84, nI_add, nI_1, re_a2, re_a3, re_a4, re_a5, re_a6, re_b336, re_b8, re_b0, forall_eq, true_and, and_true, not_false_eq_true, not_true_eq_false, false_implies, true_implies, implies_true]
    exact pk_le 28 i (fun h => absurd h (by omega)) (fun _ => hc _ re_Z_s)
end
end
section
/-! the component: the final checks -/
def re_LK (D : Nat → Prop) (M : Nat → Int) (rm mk : Nat → Int32) : Prop := (∀ p, p < 28 → (rm p = 0 ↔ ¬ D p)) ∧ ∀ i, i < 84 → (mk i).toInt = M i
theorem re_pos {x : Int32} : (0 : Int32) < x ↔ 0 < x.toInt := by
  rw [Int32.lt_iff_toInt_lt, show ((0 : Int32)).toInt = 0 from by decide]
theorem re_le0 {x : Int32} : x ≤ (0 : Int32) ↔ x.toInt ≤ 0 := by
  rw [Int32.le_iff_toInt_le, show ((0 : Int32)).toInt = 0 from by decide]
def re_ST (s : re_Sc) (cD cU : Nat → Int32) (D : Nat → Prop) (M : Nat → Int) (f p : Nat) : Prop := (D p ∧ cD f = 1) ∨ (¬ D p ∧ cU f = 1 ∧ re_KM s M f p)
def re_PA (s : re_Sc) (cD cU ce : Nat → Int32) (D : Nat → Prop) (M : Nat → Int) (f : Nat) : Prop := ∃ c p, re_RF s ce f c p ∧ re_ST s cD cU D M f p
def re_PB (rq ce : Nat → Int32) (b i : Nat) : Prop := ¬ rq i = 0 ∧ ∃ r, r < 7 ∧ ce (b + (i / 3 * 7 + r) * 3 + i % 3) = -1
def re_PC (s : re_Sc) (ce : Nat → Int32) (b k : Nat) : Prop := ∃ i j, i < 7 ∧ j < 7 ∧ i ≠ j ∧ re_TW s ce b k i j
def re_PD (s : re_Sc) (ce : Nat → Int32) (L : Nat → Prop) (b f : Nat) : Prop := L f ∧ 0 < re_cn (re_DG s ce b f) 7
theorem re_TW_sym {s : re_Sc} {ce : Nat → Int32} {b k i j : Nat} (h : re_TW s ce b k i j) : re_TW s ce b k j i :=
  ⟨h.2.1 ▸ h.1, h.2.1.symm, h.2.2.elim Or.inl (fun z => Or.inr ⟨z.2 ▸ z.1, z.2.symm⟩)⟩
theorem re_TW_fr {s : re_Sc} {ce : Nat → Int32} {b k i j : Nat} {a' : Int32} (hv : re_HV ce b (re_kt s k * 7 + i) (re_ka s k) (re_kb s k))
    (ha : re_kb s k = 0 ∨ a' = ce (b + (re_kt s k * 7 + i) * 3 + (re_kb s k - 1))) :
    re_FR s ce b k (ce (b + (re_kt s k * 7 + i) * 3 + re_ka s k)) a' j ↔ re_TW s ce b k i j := by
  constructor
  · rintro ⟨h1, h2⟩
    refine ⟨hv.1, h1.symm, ?_⟩
    rcases Nat.eq_zero_or_pos (re_kb s k) with e | e
    · exact Or.inl e
    · refine Or.inr ⟨hv.2.resolve_left (by omega), ?_⟩
      have h3 := h2.resolve_left (by omega)
      have h4 := ha.resolve_left (by omega)
      rw [h3, ← h4]
  · rintro ⟨h1, h2, h3⟩
    refine ⟨h2.symm, ?_⟩
    rcases Nat.eq_zero_or_pos (re_kb s k) with e | e
    · exact Or.inl e
    · have h4 := ha.resolve_left (by omega)
      exact Or.inr (by rw [h4, (h3.resolve_left (by omega)).2])
section
variable {T R K F : Nat} {s : re_Sc} {sl dp cu tu rn qe : Int32} {rq kT kA kB kP cC cA cB cK cD cU ce mo rm rl mk qu po : Nat → Int32} {ks fs ym yr yk : Nat → Int32}
variable {D : Nat → Prop} {M : Nat → Int}
theorem rx_restricts {post : Int32 → Prop} (hP : re_SP s T R K F) (hX : re_LX s K F kT kA kB cC cA cB cK) (hL : re_LK D M rm mk) {f p : Nat} (hf : f < F) (hp : p < 28) (h1 : re_ST s cD cU D M f p → post 1) (h0 : ¬ re_ST s cD cU D M f p → post 0) : wpX_restricts post (nI T, nI R, sl, dp, cu, tu, nI K, nI F, 336, rn, qe, rq, kT, kA, kB, kP, cC, cA, cB, cK, cD, cU, ce, mo, rm, rl, mk, qu, po) (nI f) (nI p) := by
  have B := hP.1
  have G := hP.2.2 f hf
  have E := hX.2 f hf
  have hk : re_fk s f < K := G.2.2.2.2.1
  have E2 := hX.1 _ hk
  have G2 := hP.2.1 _ hk
  have hD := hL.1 p hp
  have m1 := hL.2 (p * 3 + re_ka s (re_fk s f)) (by omega)
  have m2 := hL.2 (p * 3 + (re_kb s (re_fk s f) - 1)) (by omega)
  unfold wpX_restricts
  dsimp only
  simp (disch := omega) only [E.2.2.2, E2.2.1, re_pos, re_le0, m1, nI_clamp, re_in, re_m3, re_m7, re_m28, re_m49, re_m4, re_m8, re_m84, nI_add, nI_1, re_a2, re_a3, re_a4, re_a5, re_a6, re_b336, re_b8, re_b0, forall_eq, true_and, and_true, not_false_eq_true, not_true_eq_false, false_implies, true_implies, implies_true]
  refine br_c (fun z => br_c (fun z2 => ?_) (fun z2 => h0 ?_)) (fun z => br_c (fun z2 => h1 (Or.inl ⟨Classical.byContradiction (fun w => z (hD.mpr w)), z2⟩)) (fun z2 => h0 ?_))
  · refine br_c (fun z3 => h1 (Or.inr ⟨hD.mp z, z2, Or.inl z3⟩)) (fun z3 => ?_)
    rcases Nat.eq_zero_or_pos (re_kb s (re_fk s f)) with e | e
    · refine br_t (by rw [E2.2.2, e]; decide) (h0 ?_)
      rintro (⟨w, -⟩ | ⟨-, -, w | ⟨w, -⟩⟩)
      · exact hD.mp z w
      · exact z3 w
      · omega
    · rw [E2.2.2, re_ocS e]
      simp (disch := omega) only [m2, nI_clamp, re_in, re_m3, re_m7, re_m28, re_m49, re_m4, re_m8, re_m84, nI_add, nI_1, re_a2, re_a3, re_a4, re_a5, re_a6, re_b336, re_b8, re_b0, forall_eq, true_and, and_true, not_false_eq_true, not_true_eq_false, false_implies, true_implies, implies_true]
      refine br_f (nI_pos (by omega)) (br_c (fun z4 => h0 ?_) (fun z4 => h1 (Or.inr ⟨hD.mp z, z2, Or.inr ⟨e, by omega⟩⟩)))
      rintro (⟨w, -⟩ | ⟨-, -, w | ⟨-, w⟩⟩)
      · exact hD.mp z w
      · exact z3 w
      · omega
  · rintro (⟨w, -⟩ | ⟨-, w, -⟩)
    · exact hD.mp z w
    · exact z2 w
  · rintro (⟨-, w⟩ | ⟨w, -⟩)
    · exact z2 w
    · exact z (hD.mpr w)
theorem rx_brokenRestrict {post : Int32 → Prop} (hP : re_SP s T R K F) (hX : re_LX s K F kT kA kB cC cA cB cK) (hL : re_LK D M rm mk) (hO : re_PO s F ce po) (h0 : (∀ f, f < F → ¬ re_PA s cD cU ce D M f) → post (-1)) (h1 : ∀ f, f < F → re_PA s cD cU ce D M f → (∀ g, g < f → ¬ re_PA s cD cU ce D M g) → post (nI f)) : wpX_brokenRestrict post (nI T, nI R, sl, dp, cu, tu, nI K, nI F, 336, rn, qe, rq, kT, kA, kB, kP, cC, cA, cB, cK, cD, cU, ce, mo, rm, rl, mk, qu, po) := by
  have B := hP.1
  unfold wpX_brokenRestrict
  refine loop_0 (fun n f (_ : Unit) => wX_brokenRestrict_2 post (nI T) (nI R) sl dp cu tu (nI K) (nI F) 336 rn qe rq kT kA kB kP cC cA cB cK cD cU ce mo rm rl mk qu po n (nI f)) (fun f _ => ∀ g, g < f → ¬ re_PA s cD cU ce D M g) F () lt_0 ?_ ?_
  · intro n _ hI
    simp only [wX_brokenRestrict_2]
    exact pk_le 8 F (fun _ => h0 hI) (fun _ => pk_le F F (fun _ => h0 hI) (fun z => by omega))
  · intro n f _ hf hI hc
    simp only [wX_brokenRestrict_2]
    refine pk_le 8 f (fun _ => by omega) (fun _ => pk_le F f (fun _ => by omega) (fun _ => ?_))
    refine loop_0 (fun m c (_ : Unit) => wX_brokenRestrict_18 post (wX_brokenRestrict_2 post (nI T) (nI R) sl dp cu tu (nI K) (nI F) 336 rn qe rq kT kA kB kP cC cA cB cK cD cU ce mo rm rl mk qu po n) (nI f) (nI T) (nI R) sl dp cu tu (nI K) (nI F) 336 rn qe rq kT kA kB kP cC cA cB cK cD cU ce mo rm rl mk qu po m (nI c)) (fun c _ => ∀ d, d < c → ∀ p, re_RF s ce f d p → ¬ re_ST s cD cU D M f p) 28 () lt_0 ?_ ?_
    · intro m _ hJ
      simp (disch := omega) only [wX_brokenRestrict_18, nI_clamp, re_in, re_m3, re_m7, re_m28, re_m49, re_m4, re_m8, re_m84, nI_add, nI_1, re_a2, re_a3, re_a4, re_a5, re_a6, re_b336, re_b8, re_b0, forall_eq, true_and, and_true, not_false_eq_true, not_true_eq_false, false_implies, true_implies, implies_true]
      refine br_t (by decide) (hc () (lt_s hI ?_))
      rintro ⟨c, p, hr, hs⟩
      exact hJ c (re_RF_lt hP hf hr).1 p hr hs
    · intro m c _ hcl hJ hc2
      simp (disch := omega) only [wX_brokenRestrict_18, nI_clamp, re_in, re_m3, re_m7, re_m28, re_m49, re_m4, re_m8, re_m84, nI_add, nI_1, re_a2, re_a3, re_a4, re_a5, re_a6, re_b336, re_b8, re_b0, forall_eq, true_and, and_true, not_false_eq_true, not_true_eq_false, false_implies, true_implies, implies_true]
      refine pk_le 28 c (fun _ => by omega) (fun _ => ?_)
      rcases hO f c hf hcl with ⟨e, hn⟩ | ⟨p, hp, e, hr, hu⟩
      · rw [e]
        exact br_t rfl (hc2 () (lt_s hJ (fun p hr => absurd hr (hn p))))
      · rw [e]
        refine br_f (re_ne1 (by omega)) (rx_restricts hP hX hL hf hp (fun hs => re_bq1 (h1 f hf ⟨c, p, hr, hs⟩ hI)) (fun hs => re_bq0 (hc2 () (lt_s hJ ?_))))
        intro q hq
        rw [hu q hq]
        exact hs
theorem rx_brokenRequired {post : Int32 → Prop} (h0 : (∀ i, i < 12 → ¬ re_PB rq ce 336 i) → post (-1)) (h1 : ∀ i, i < 12 → re_PB rq ce 336 i → (∀ g, g < i → ¬ re_PB rq ce 336 g) → post (nI i)) : wpX_brokenRequired post (nI T, nI R, sl, dp, cu, tu, nI K, nI F, 336, rn, qe, rq, kT, kA, kB, kP, cC, cA, cB, cK, cD, cU, ce, mo, rm, rl, mk, qu, po) := by
  unfold wpX_brokenRequired
  refine loop_0 (fun n f (_ : Unit) => wX_brokenRequired_2 post (nI T) (nI R) sl dp cu tu (nI K) (nI F) 336 rn qe rq kT kA kB kP cC cA cB cK cD cU ce mo rm rl mk qu po n (nI f)) (fun f _ => ∀ g, g < f → ¬ re_PB rq ce 336 g) 12 () lt_0 ?_ ?_
  · intro n _ hI
    simp only [wX_brokenRequired_2]
    exact br_t (by decide) (h0 hI)
  · intro n f _ hf hI hc
    simp (disch := omega) only [wX_brokenRequired_2, ↓re_r3, re_d3, re_z3, nI_clamp, re_in, re_m3, re_m7, re_m28, re_m49, re_m4, re_m8, re_m84, nI_add, nI_1, re_a2, re_a3, re_a4, re_a5, re_a6, re_b336, re_b8, re_b0, forall_eq, true_and, and_true, not_false_eq_true, not_true_eq_false, false_implies, true_implies, implies_true]
    refine pk_le 12 f (fun _ => by omega) (fun _ => br_c (fun z => hc () (lt_s hI (fun w => w.1 z))) (fun z => ?_))
    refine loop_0 (fun m c (_ : Unit) => wX_brokenRequired_28 post (wX_brokenRequired_2 post (nI T) (nI R) sl dp cu tu (nI K) (nI F) 336 rn qe rq kT kA kB kP cC cA cB cK cD cU ce mo rm rl mk qu po n) (nI f) (nI (f / 3)) (nI (f % 3)) (nI T) (nI R) sl dp cu tu (nI K) (nI F) 336 rn qe rq kT kA kB kP cC cA cB cK cD cU ce mo rm rl mk qu po m (nI c)) (fun c _ => ∀ d, d < c → ¬ ce (336 + (f / 3 * 7 + d) * 3 + f % 3) = -1) 7 () lt_0 ?_ ?_
    · intro m _ hJ
      simp (disch := omega) only [wX_brokenRequired_28, nI_clamp, re_in, re_m3, re_m7, re_m28, re_m49, re_m4, re_m8, re_m84, nI_add, nI_1, re_a2, re_a3, re_a4, re_a5, re_a6, re_b336, re_b8, re_b0, forall_eq, true_and, and_true, not_false_eq_true, not_true_eq_false, false_implies, true_implies, implies_true]
      refine br_t (by decide) (hc () (lt_s hI ?_))
      rintro ⟨-, r, hr, w⟩
      exact hJ r hr w
    · intro m c _ hcl hJ hc2
      simp (disch := omega) only [wX_brokenRequired_28, nI_clamp, re_in, re_m3, re_m7, re_m28, re_m49, re_m4, re_m8, re_m84, nI_add, nI_1, re_a2, re_a3, re_a4, re_a5, re_a6, re_b336, re_b8, re_b0, forall_eq, true_and, and_true, not_false_eq_true, not_true_eq_false, false_implies, true_implies, implies_true]
      exact pk_le 7 c (fun _ => by omega) (fun _ => br_c (fun w => h1 f hf ⟨z, c, hcl, w⟩ hI) (fun w => hc2 () (lt_s hJ w)))
theorem rx_hasTwins {post : Int32 → Prop} (hP : re_SP s T R K F) (hX : re_LX s K F kT kA kB cC cA cB cK) {k : Nat} (hk : k < K) (h1 : re_PC s ce 336 k → post 1) (h0 : ¬ re_PC s ce 336 k → post 0) : wpX_hasTwins post (nI T, nI R, sl, dp, cu, tu, nI K, nI F, 336, rn, qe, rq, kT, kA, kB, kP, cC, cA, cB, cK, cD, cU, ce, mo, rm, rl, mk, qu, po) (nI k) := by
  have B := hP.1
  have E := hX.1 k hk
  have G := hP.2.1 k hk
  unfold wpX_hasTwins
  refine loop_0 (fun n i (_ : Unit) => wX_hasTwins_2 post (nI k) (nI T) (nI R) sl dp cu tu (nI K) (nI F) 336 rn qe rq kT kA kB kP cC cA cB cK cD cU ce mo rm rl mk qu po n (nI i)) (fun i _ => ∀ j, j < i → ∀ q, q < j → ¬ re_TW s ce 336 k j q) 7 () lt_0 ?_ ?_
  · intro n _ hI
    refine br_t (by decide) (h0 ?_)
    rintro ⟨i, j, hi, hj, hne, ht⟩
    rcases Nat.lt_or_ge i j with z | z
    · exact hI j hj i z (re_TW_sym ht)
    · exact hI i hi j (by omega) ht
  · intro n i _ hi hI hc
    simp (disch := omega) only [wX_hasTwins_2, E.1, E.2.1, E.2.2, nI_clamp, re_in, re_m3, re_m7, re_m28, re_m49, re_m4, re_m8, re_m84, nI_add, nI_1, re_a2, re_a3, re_a4, re_a5, re_a6, re_b336, re_b8, re_b0, forall_eq, true_and, and_true, not_false_eq_true, not_true_eq_false, false_implies, true_implies, implies_true]
    refine pk_le 7 i (fun _ => by omega) (fun _ => ?_)
    refine rx_hasValues (b := 336) (by omega) (by omega) (by omega) (fun hv => re_bq1 ?_) (fun hv => re_bq0 (hc () (lt_s hI (fun q _ w => hv ⟨w.1, w.2.2.elim Or.inl (fun z => Or.inr z.1)⟩))))
    have key : ∀ a', (re_kb s k = 0 ∨ a' = ce (336 + (re_kt s k * 7 + i) * 3 + (re_kb s k - 1))) → wX_hasTwins_97 post (wX_hasTwins_2 post (nI k) (nI T) (nI R) sl dp cu tu (nI K) (nI F) 336 rn qe rq kT kA kB kP cC cA cB cK cD cU ce mo rm rl mk qu po n) (nI k) (nI i) (ce (336 + (re_kt s k * 7 + i) * 3 + re_ka s k)) a' (nI T) (nI R) sl dp cu tu (nI K) (nI F) 336 rn qe rq kT kA kB kP cC cA cB cK cD cU ce mo rm rl mk qu po := by
      intro a' ha
      have self : re_FR s ce 336 k (ce (336 + (re_kt s k * 7 + i) * 3 + re_ka s k)) a' i := ⟨rfl, ha.elim Or.inl (fun z => Or.inr z.symm)⟩
      unfold wX_hasTwins_97
      refine rx_findRow (b := 336) hP hX (by omega) hk (fun hn => absurd self (hn i hi)) (fun r hr hf hq => ?_)
      try simp (disch := omega) only [nI_clamp, re_in, re_m3, re_m7, re_m28, re_m49, re_m4, re_m8, re_m84, nI_add, nI_1, re_a2, re_a3, re_a4, re_a5, re_a6, re_b336, re_b8, re_b0, forall_eq, true_and, and_true, not_false_eq_true, not_true_eq_false, false_implies, true_implies, implies_true]
      refine pk_eq r i (fun e => ?_) (fun e => h1 ⟨i, r, hi, hr, fun z => e z.symm, (re_TW_fr hv ha).mp hf⟩)
      subst e
      exact hc () (lt_s hI (fun q hq' w => hq q hq' ((re_TW_fr hv ha).mpr w)))
    rcases Nat.eq_zero_or_pos (re_kb s k) with e | e
    · refine br_f ?_ (key _ (Or.inl e))
      rw [e]; decide
    · rw [re_ocS e]
      refine br_t (nI_pos' (by omega)) ?_
      try simp (disch := omega) only [nI_clamp, re_in, re_m3, re_m7, re_m28, re_m49, re_m4, re_m8, re_m84, nI_add, nI_1, re_a2, re_a3, re_a4, re_a5, re_a6, re_b336, re_b8, re_b0, forall_eq, true_and, and_true, not_false_eq_true, not_true_eq_false, false_implies, true_implies, implies_true]
      exact key _ (Or.inr rfl)
theorem rx_brokenUnique {post : Int32 → Prop} (hP : re_SP s T R K F) (hX : re_LX s K F kT kA kB cC cA cB cK) (h0 : (∀ k, k < K → ¬ re_PC s ce 336 k) → post (-1)) (h1 : ∀ k, k < K → re_PC s ce 336 k → (∀ g, g < k → ¬ re_PC s ce 336 g) → post (nI k)) : wpX_brokenUnique post (nI T, nI R, sl, dp, cu, tu, nI K, nI F, 336, rn, qe, rq, kT, kA, kB, kP, cC, cA, cB, cK, cD, cU, ce, mo, rm, rl, mk, qu, po) := by
  have B := hP.1
  unfold wpX_brokenUnique
  refine loop_0 (fun n f (_ : Unit) => wX_brokenUnique_2 post (nI T) (nI R) sl dp cu tu (nI K) (nI F) 336 rn qe rq kT kA kB kP cC cA cB cK cD cU ce mo rm rl mk qu po n (nI f)) (fun f _ => ∀ g, g < f → ¬ re_PC s ce 336 g) K () lt_0 ?_ ?_
  · intro n _ hI
    simp only [wX_brokenUnique_2]
    exact pk_le 6 K (fun _ => h0 hI) (fun _ => pk_le K K (fun _ => h0 hI) (fun z => by omega))
  · intro n f _ hf hI hc
    simp (disch := omega) only [wX_brokenUnique_2, nI_clamp, re_in, re_m3, re_m7, re_m28, re_m49, re_m4, re_m8, re_m84, nI_add, nI_1, re_a2, re_a3, re_a4, re_a5, re_a6, re_b336, re_b8, re_b0, forall_eq, true_and, and_true, not_false_eq_true, not_true_eq_false, false_implies, true_implies, implies_true]
    refine pk_le 6 f (fun _ => by omega) (fun _ => pk_le K f (fun _ => by omega) (fun _ => ?_))
    exact rx_hasTwins hP hX hf (fun z => re_bq1 (h1 f hf z hI)) (fun z => re_bq0 (hc () (lt_s hI z)))
theorem rx_brokenForeign {post : Int32 → Prop} (hP : re_SP s T R K F) (hX : re_LX s K F kT kA kB cC cA cB cK) {b : Nat} {x2 : Int32} {L : Nat → Prop} (hLx : ∀ f, f < F → (L f ↔ (x2 = 0 ∨ mo f = 0))) (hb : b ≤ 336) (h0 : (∀ f, f < F → ¬ re_PD s ce L b f) → post (-1)) (h1 : ∀ f, f < F → re_PD s ce L b f → (∀ g, g < f → ¬ re_PD s ce L b g) → post (nI f)) : wpX_brokenForeign post (nI T, nI R, sl, dp, cu, tu, nI K, nI F, 336, rn, qe, rq, kT, kA, kB, kP, cC, cA, cB, cK, cD, cU, ce, mo, rm, rl, mk, qu, po) (nI b) x2 := by
  have B := hP.1
  unfold wpX_brokenForeign
  refine loop_0 (fun n f (_ : Unit) => wX_brokenForeign_2 post (nI b) x2 (nI T) (nI R) sl dp cu tu (nI K) (nI F) 336 rn qe rq kT kA kB kP cC cA cB cK cD cU ce mo rm rl mk qu po n (nI f)) (fun f _ => ∀ g, g < f → ¬ re_PD s ce L b g) F () lt_0 ?_ ?_
  · intro n _ hI
    simp only [wX_brokenForeign_2]
    exact pk_le 8 F (fun _ => h0 hI) (fun _ => pk_le F F (fun _ => h0 hI) (fun z => by omega))
  · intro n f _ hf hI hc
    have hl := hLx f hf
    have yes : L f → wX_brokenForeign_29 post (wX_brokenForeign_2 post (nI b) x2 (nI T) (nI R) sl dp cu tu (nI K) (nI F) 336 rn qe rq kT kA kB kP cC cA cB cK cD cU ce mo rm rl mk qu po n) (nI b) x2 (nI f) (nI T) (nI R) sl dp cu tu (nI K) (nI F) 336 rn qe rq kT kA kB kP cC cA cB cK cD cU ce mo rm rl mk qu po := by
      intro hl2
      unfold wX_brokenForeign_29 wX_brokenForeign_34
      refine br_f (by decide) (rx_countDangling hP hX hb hf ?_)
      try simp (disch := omega) only [nI_clamp, re_in, re_m3, re_m7, re_m28, re_m49, re_m4, re_m8, re_m84, nI_add, nI_1, re_a2, re_a3, re_a4, re_a5, re_a6, re_b336, re_b8, re_b0, forall_eq, true_and, and_true, not_false_eq_true, not_true_eq_false, false_implies, true_implies, implies_true]
      have cl := re_cn_le (re_DG s ce b f) 7
      refine pk_le (re_cn (re_DG s ce b f) 7) 0 (fun z => hc () (lt_s hI (fun w => ?_))) (fun z => h1 f hf ⟨hl2, z⟩ hI)
      have := w.2
      omega
    have no : ¬ L f → wX_brokenForeign_34 post (wX_brokenForeign_2 post (nI b) x2 (nI T) (nI R) sl dp cu tu (nI K) (nI F) 336 rn qe rq kT kA kB kP cC cA cB cK cD cU ce mo rm rl mk qu po n) (nI b) x2 (nI f) 0 (nI T) (nI R) sl dp cu tu (nI K) (nI F) 336 rn qe rq kT kA kB kP cC cA cB cK cD cU ce mo rm rl mk qu po := by
      intro hl2
      unfold wX_brokenForeign_34
      refine br_t rfl ?_
      try simp (disch := omega) only [nI_clamp, re_in, re_m3, re_m7, re_m28, re_m49, re_m4, re_m8, re_m84, nI_add, nI_1, re_a2, re_a3, re_a4, re_a5, re_a6, re_b336, re_b8, re_b0, forall_eq, true_and, and_true, not_false_eq_true, not_true_eq_false, false_implies, true_implies, implies_true]
      exact hc () (lt_s hI (fun w => hl2 w.1))
    simp (disch := omega) only [wX_brokenForeign_2, nI_clamp, re_in, re_m3, re_m7, re_m28, re_m49, re_m4, re_m8, re_m84, nI_add, nI_1, re_a2, re_a3, re_a4, re_a5, re_a6, re_b336, re_b8, re_b0, forall_eq, true_and, and_true, not_false_eq_true, not_true_eq_false, false_implies, true_implies, implies_true]
    refine pk_le 8 f (fun _ => by omega) (fun _ => pk_le F f (fun _ => by omega) (fun _ => ?_))
    exact br_c (fun z => yes (hl.mpr (Or.inl z))) (fun z => br_c (fun w => yes (hl.mpr (Or.inr w))) (fun w => no (fun v => (hl.mp v).elim z w)))
theorem rx_countMarkedCells {post : Int32 → Prop} (hM : ∀ i, i < 84 → (mk i).toInt = M i) (h : post (nI (re_cn (fun i => 0 < M i) 84))) : wpX_countMarkedCells post (nI T, nI R, sl, dp, cu, tu, nI K, nI F, 336, rn, qe, rq, kT, kA, kB, kP, cC, cA, cB, cK, cD, cU, ce, mo, rm, rl, mk, qu, po) := by
  unfold wpX_countMarkedCells
  refine loop_0 (fun n i (_ : Unit) => wX_countMarkedCells_4 post (nI T) (nI R) sl dp cu tu (nI K) (nI F) 336 rn qe rq kT kA kB kP cC cA cB cK cD cU ce mo rm rl mk qu po n (nI (re_cn (fun i => 0 < M i) i)) (nI i)) (fun i _ => True) 84 () trivial ?_ ?_
  · intro n _ _
    exact br_t (by decide) h
  · intro n i _ hi _ hc
    have hc1 := hc () trivial
    simp (disch := omega) only [wX_countMarkedCells_4, re_le0, hM i hi, nI_clamp, re_in, re_m3, re_m7, re_m28, re_m49, re_m4, re_m8, re_m84, nI_add, nI_1, re_a2, re_a3, re_a4, re_a5, re_a6, re_b336, re_b8, re_b0, forall_eq, true_and, and_true, not_false_eq_true, not_true_eq_false, false_implies, true_implies, implies_true]
    refine pk_le 84 i (fun _ => by omega) (fun _ => br_c (fun z => ?_) (fun z => ?_))
    · rw [re_cn_f (P := fun i => 0 < M i) (show ¬ 0 < M i by omega)] at hc1
      exact hc1
    · rw [re_cn_t (P := fun i => 0 < M i) (show 0 < M i by omega)] at hc1
      exact hc1
def re_MR (M : Nat → Int) (p : Nat) : Prop := 0 < M (p * 3) ∨ 0 < M (p * 3 + 1) ∨ 0 < M (p * 3 + 2)
theorem rx_countMarkedRows {post : Int32 → Prop} (hM : ∀ i, i < 84 → (mk i).toInt = M i) (h : post (nI (re_cn (re_MR M) 28))) : wpX_countMarkedRows post (nI T, nI R, sl, dp, cu, tu, nI K, nI F, 336, rn, qe, rq, kT, kA, kB, kP, cC, cA, cB, cK, cD, cU, ce, mo, rm, rl, mk, qu, po) := by
  unfold wpX_countMarkedRows
  refine loop_0 (fun n i (_ : Unit) => wX_countMarkedRows_4 post (nI T) (nI R) sl dp cu tu (nI K) (nI F) 336 rn qe rq kT kA kB kP cC cA cB cK cD cU ce mo rm rl mk qu po n (nI (re_cn (re_MR M) i)) (nI i)) (fun i _ => True) 28 () trivial ?_ ?_
  · intro n _ _
    exact br_t (by decide) h
  · intro n i _ hi _ hc
    have hc1 := hc () trivial
    have m0 := hM (i * 3) (by omega)
    have m1 := hM (i * 3 + 1) (by omega)
    have m2 := hM (i * 3 + 2) (by omega)
    have yes : re_MR M i → wX_countMarkedRows_4 post (nI T) (nI R) sl dp cu tu (nI K) (nI F) 336 rn qe rq kT kA kB kP cC cA cB cK cD cU ce mo rm rl mk qu po n (nI (re_cn (re_MR M) i + 1)) (nI (i + 1)) := by
      intro z
      rw [re_cn_t z] at hc1
      exact hc1
    simp (disch := omega) only [wX_countMarkedRows_4, re_le0, re_pos, m0, m1, m2, nI_clamp, re_in, re_m3, re_m7, re_m28, re_m49, re_m4, re_m8, re_m84, nI_add, nI_1, re_a2, re_a3, re_a4, re_a5, re_a6, re_b336, re_b8, re_b0, forall_eq, true_and, and_true, not_false_eq_true, not_true_eq_false, false_implies, true_implies, implies_true]
    refine pk_le 28 i (fun _ => by omega) (fun _ => br_c (fun z => yes (Or.inl z)) (fun z => br_c (fun z2 => yes (Or.inr (Or.inl z2))) (fun z2 => br_c (fun z3 => ?_) (fun z3 => yes (Or.inr (Or.inr (by omega)))))))
    rw [re_cn_f (P := re_MR M) (fun w => by rcases w with w | w | w <;> omega)] at hc1
    exact hc1
theorem rx_settle {post : Int32 → SX → Prop} (hP : re_SP s T R K F) (hX : re_LX s K F kT kA kB cC cA cB cK) (hL : re_LK D M rm mk) (hO : re_PO s F ce po)
    (hA : ∀ f, f < F → re_PA s cD cU ce D M f → (∀ g, g < f → ¬ re_PA s cD cU ce D M g) → post (-7) (nI T, nI R, sl, dp, nI f, tu, nI K, nI F, 336, rn, qe, rq, kT, kA, kB, kP, cC, cA, cB, cK, cD, cU, ce, mo, rm, rl, mk, qu, po))
    (hB : (∀ f, f < F → ¬ re_PA s cD cU ce D M f) → ∀ i, i < 12 → re_PB rq ce 336 i → (∀ g, g < i → ¬ re_PB rq ce 336 g) → post (-8) (nI T, nI R, sl, dp, nI i, tu, nI K, nI F, 336, rn, qe, rq, kT, kA, kB, kP, cC, cA, cB, cK, cD, cU, ce, mo, rm, rl, mk, qu, po))
    (hC : (∀ f, f < F → ¬ re_PA s cD cU ce D M f) → (∀ i, i < 12 → ¬ re_PB rq ce 336 i) → ∀ k, k < K → re_PC s ce 336 k → (∀ g, g < k → ¬ re_PC s ce 336 g) → post (-9) (nI T, nI R, sl, dp, nI k, tu, nI K, nI F, 336, rn, qe, rq, kT, kA, kB, kP, cC, cA, cB, cK, cD, cU, ce, mo, rm, rl, mk, qu, po))
    (hD : (∀ f, f < F → ¬ re_PA s cD cU ce D M f) → (∀ i, i < 12 → ¬ re_PB rq ce 336 i) → (∀ k, k < K → ¬ re_PC s ce 336 k) → ∀ f, f < F → re_PD s ce (fun f => mo f = 0) 336 f → (∀ g, g < f → ¬ re_PD s ce (fun f => mo f = 0) 336 g) → post (-10) (nI T, nI R, sl, dp, nI f, tu, nI K, nI F, 336, rn, qe, rq, kT, kA, kB, kP, cC, cA, cB, cK, cD, cU, ce, mo, rm, rl, mk, qu, po))
    (hE : (∀ f, f < F → ¬ re_PA s cD cU ce D M f) → (∀ i, i < 12 → ¬ re_PB rq ce 336 i) → (∀ k, k < K → ¬ re_PC s ce 336 k) → (∀ f, f < F → ¬ re_PD s ce (fun f => mo f = 0) 336 f) → post 0 (nI T, nI R, sl, dp, cu, nI (re_cn (fun i => 0 < M i) 84), nI K, nI F, 336, rn, qe, rq, kT, kA, kB, kP, cC, cA, cB, cK, cD, cU, re_CP 84 336 0 ce, mo, rm, rl, mk, qu, po)) : wpX_settle post (nI T, nI R, sl, dp, cu, tu, nI K, nI F, 336, rn, qe, rq, kT, kA, kB, kP, cC, cA, cB, cK, cD, cU, ce, mo, rm, rl, mk, qu, po) := by
  have B := hP.1
  unfold wpX_settle
  refine rx_brokenRestrict hP hX hL hO (fun nA => br_t rfl ?_) (fun f hf a b => br_f (re_ne1 (by omega)) (hA f hf a b))
  refine rx_brokenRequired (fun nB => br_t rfl ?_) (fun f hf a b => br_f (re_ne1 (by omega)) (hB nA f hf a b))
  refine rx_brokenUnique hP hX (fun nC => br_t rfl ?_) (fun f hf a b => br_f (re_ne1 (by omega)) (hC nA nB f hf a b))
  refine rx_brokenForeign (b := 336) (x2 := 1) (L := fun f => mo f = 0) hP hX (fun f _ => ⟨Or.inr, fun z => z.elim (fun w => absurd w (by decide)) id⟩) (by omega) (fun nD => br_t rfl ?_) (fun f hf a b => br_f (re_ne1 (by omega)) (hD nA nB nC f hf a b))
  refine loop_0 (fun n i (c : Nat → Int32) => wX_settle_79 post (nI T) (nI R) sl dp cu tu (nI K) (nI F) 336 rn qe n (nI i) rq kT kA kB kP cC cA cB cK cD cU c mo rm rl mk qu po) (fun i c => c = re_CP i 336 0 ce) 84 ce re_CP_0 ?_ ?_
  · rintro n c rfl
    exact br_t (by decide) (rx_countMarkedCells hL.2 (hE nA nB nC nD))
  · rintro n i c hi rfl hc
    simp (disch := omega) only [wX_settle_79, nI_clamp, re_in, re_m3, re_m7, re_m28, re_m49, re_m4, re_m8, re_m84, nI_add, nI_1, re_a2, re_a3, re_a4, re_a5, re_a6, re_b336, re_b8, re_b0, forall_eq, true_and, and_true, not_false_eq_true, not_true_eq_false, false_implies, true_implies, implies_true]
    refine pk_le 84 i (fun h => absurd h (by omega)) (fun _ => hc _ ?_)
    have e := re_CP_s (n := 84) (i := i) (src := 336) (dst := 0) (a := ce) hi (by omega)
    rw [Nat.zero_add] at e
    exact e
end
end
section
/-! the component: the removed set -/
/-- removed, list and count fit, and lie below every set of the family -/
def re_RV (Q : (Nat → Prop) → Prop) (rm rl : Nat → Int32) (n : Nat) : Prop :=
  (∀ p, p < 28 → rm p = 0 ∨ rm p = 1) ∧ n = re_cn (fun p => ¬ rm p = 0) 28 ∧ (∀ j, j < n → ∃ p, p < 28 ∧ rl j = nI p ∧ ¬ rm p = 0) ∧
  (∀ p, p < 28 → ¬ rm p = 0 → ∃ j, j < n ∧ rl j = nI p) ∧ ∀ S, Q S → ∀ p, p < 28 → ¬ rm p = 0 → S p
def re_RG2 (rm rl : Nat → Int32) (n : Nat) (rm' rl' : Nat → Int32) (n' : Nat) : Prop :=
  n ≤ n' ∧ (∀ j, j < n → rl' j = rl j) ∧ ∀ p, p < 28 → ¬ rm p = 0 → ¬ rm' p = 0
theorem re_RG2_refl {rm rl : Nat → Int32} {n : Nat} : re_RG2 rm rl n rm rl n := ⟨Nat.le_refl _, fun _ _ => rfl, fun _ _ h => h⟩
theorem re_RG2_trans {a b : Nat → Int32} {n : Nat} {a' b' : Nat → Int32} {n' : Nat} {a2 b2 : Nat → Int32} {n2 : Nat} (h : re_RG2 a b n a' b' n') (h' : re_RG2 a' b' n' a2 b2 n2) : re_RG2 a b n a2 b2 n2 :=
  ⟨Nat.le_trans h.1 h'.1, fun j hj => (h'.2.1 j (Nat.lt_of_lt_of_le hj h.1)).trans (h.2.1 j hj), fun p hp z => h'.2.2 p hp (h.2.2 p hp z)⟩
section
variable {T R K F : Nat} {s : re_Sc} {sl dp cu tu rn qe : Int32} {rq kT kA kB kP cC cA cB cK cD cU ce mo rm rl mk qu po : Nat → Int32} {ks fs ym yr yk : Nat → Int32}
theorem rx_removeRow {post : SX → Prop} {Q : (Nat → Prop) → Prop} {n p : Nat} (hV : re_RV Q rm rl n) (hp : p < 28) (hS : ∀ S, Q S → S p)
    (h : ∀ rm' rl' n', re_RV Q rm' rl' n' → re_RG2 rm rl n rm' rl' n' → ¬ rm' p = 0 → post (nI T, nI R, sl, dp, cu, tu, nI K, nI F, 336, nI n', qe, rq, kT, kA, kB, kP, cC, cA, cB, cK, cD, cU, ce, mo, rm', rl', mk, qu, po)) : wpX_removeRow post (nI T, nI R, sl, dp, cu, tu, nI K, nI F, 336, nI n, qe, rq, kT, kA, kB, kP, cC, cA, cB, cK, cD, cU, ce, mo, rm, rl, mk, qu, po) (nI p) := by
  obtain ⟨v1, v2, v3, v4, v5⟩ := hV
  have hn : n ≤ 28 := by rw [v2]; exact re_cn_le _ _
  unfold wpX_removeRow
  dsimp only
  simp (disch := omega) only [re_nb1, nI_clamp, re_in, re_m3, re_m7, re_m28, re_m49, re_m4, re_m8, re_m84, nI_add, nI_1, re_a2, re_a3, re_a4, re_a5, re_a6, re_b336, re_b8, re_b0, forall_eq, true_and, and_true, not_false_eq_true, not_true_eq_false, false_implies, true_implies, implies_true]
  refine br_c (fun z => ?_) (fun z => h rm rl n ⟨v1, v2, v3, v4, v5⟩ re_RG2_refl z)
  have n1 : re_cn (fun q => ¬ upd rm p 1 q = 0) 28 = re_cn (fun q => ¬ rm q = 0) 28 + 1 := by
    rw [← re_cn_add (P := fun q => ¬ rm q = 0) (a := p) (fun w => w z) hp]
    refine re_cn_eq (fun k hk => ?_)
    rcases Nat.decEq k p with w | w
    · rw [pk_un w]
      exact ⟨Or.inl, fun q => q.elim id (fun e => absurd e w)⟩
    · rw [w, pk_us]
      exact ⟨fun _ => Or.inr rfl, fun _ => by decide⟩
  have n2 : n + 1 ≤ 28 := by rw [v2, ← n1]; exact re_cn_le _ _
  refine pk_le 28 n (fun _ => by omega) (fun _ => ?_)
  try simp (disch := omega) only [nI_clamp, re_in, re_m3, re_m7, re_m28, re_m49, re_m4, re_m8, re_m84, nI_add, nI_1, re_a2, re_a3, re_a4, re_a5, re_a6, re_b336, re_b8, re_b0, forall_eq, true_and, and_true, not_false_eq_true, not_true_eq_false, false_implies, true_implies, implies_true]
  have up : ∀ q, ¬ rm q = 0 → ¬ upd rm p 1 q = 0 := by
    intro q hq
    rcases Nat.decEq q p with w | w
    · rw [pk_un w]; exact hq
    · rw [w]; exact absurd (w ▸ z) hq
  refine h _ _ (n + 1) ⟨?_, ?_, ?_, ?_, ?_⟩ ⟨by omega, fun j hj => pk_un (by omega), fun q _ => up q⟩ (by rw [pk_us]; decide)
  · intro q hq
    rcases Nat.decEq q p with w | w
    · rw [pk_un w]; exact v1 q hq
    · rw [w, pk_us]; exact Or.inr rfl
  · rw [n1, ← v2]
  · intro j hj
    rcases Nat.lt_or_ge j n with w | w
    · obtain ⟨q, hq, e1, e2⟩ := v3 j w
      exact ⟨q, hq, by rw [pk_un (by omega)]; exact e1, up q e2⟩
    · have e : j = n := by omega
      subst e
      exact ⟨p, hp, pk_us, by rw [pk_us]; decide⟩
  · intro q hq hz
    rcases Nat.decEq q p with w | w
    · rw [pk_un w] at hz
      obtain ⟨j, hj, e⟩ := v4 q hq hz
      exact ⟨j, by omega, by rw [pk_un (by omega)]; exact e⟩
    · exact ⟨n, by omega, by rw [pk_us, w]⟩
  · intro S hQ q hq hz
    rcases Nat.decEq q p with w | w
    · rw [pk_un w] at hz
      exact v5 S hQ q hq hz
    · rw [w]; exact hS S hQ
theorem rx_removeReferrers {post : SX → Prop} {Q : (Nat → Prop) → Prop} {n f p : Nat} (hP : re_SP s T R K F) (hO : re_PO s F ce po) (hV : re_RV Q rm rl n) (hf : f < F) (hp : p < 28) (hS : ∀ S, Q S → ∀ c, re_RF s ce f c p → S c)
    (h : ∀ rm' rl' n', re_RV Q rm' rl' n' → re_RG2 rm rl n rm' rl' n' → (∀ c, re_RF s ce f c p → ¬ rm' c = 0) → post (nI T, nI R, sl, dp, cu, tu, nI K, nI F, 336, nI n', qe, rq, kT, kA, kB, kP, cC, cA, cB, cK, cD, cU, ce, mo, rm', rl', mk, qu, po)) : wpX_removeReferrers post (nI T, nI R, sl, dp, cu, tu, nI K, nI F, 336, nI n, qe, rq, kT, kA, kB, kP, cC, cA, cB, cK, cD, cU, ce, mo, rm, rl, mk, qu, po) (nI f) (nI p) := by
  have B := hP.1
  unfold wpX_removeReferrers
  refine loop_0 (fun m c (st : (Nat → Int32) × (Nat → Int32) × Nat) => wX_removeReferrers_2 post (nI f) (nI p) m (nI c) (nI T) (nI R) sl dp cu tu (nI K) (nI F) 336 (nI st.2.2) qe rq kT kA kB kP cC cA cB cK cD cU ce mo st.1 st.2.1 mk qu po) (fun c st => re_RV Q st.1 st.2.1 st.2.2 ∧ re_RG2 rm rl n st.1 st.2.1 st.2.2 ∧ ∀ d, d < c → re_RF s ce f d p → ¬ st.1 d = 0) 28 (rm, rl, n) ⟨hV, re_RG2_refl, lt_0⟩ ?_ ?_
  · rintro m ⟨r1, l1, n1⟩ ⟨k1, k2, k3⟩
    exact br_t (by decide) (h r1 l1 n1 k1 k2 (fun c hr => k3 c (re_RF_lt hP hf hr).1 hr))
  · rintro m c ⟨r1, l1, n1⟩ hc ⟨k1, k2, k3⟩ hk
    dsimp only at k1 k2 k3 ⊢
    simp (disch := omega) only [wX_removeReferrers_2, nI_clamp, re_in, re_m3, re_m7, re_m28, re_m49, re_m4, re_m8, re_m84, nI_add, nI_1, re_a2, re_a3, re_a4, re_a5, re_a6, re_b336, re_b8, re_b0, forall_eq, true_and, and_true, not_false_eq_true, not_true_eq_false, false_implies, true_implies, implies_true]
    refine pk_le 28 c (fun _ => by omega) (fun _ => ?_)
    rcases hO f c hf hc with ⟨e, hn⟩ | ⟨q, hq, e, hr, hu⟩
    · refine br_f (by rw [e]; exact fun w => re_ne1 (by omega) w.symm) (hk (r1, l1, n1) ⟨k1, k2, lt_s k3 (fun w => absurd w (hn p))⟩)
    · rw [e]
      refine pk_eq q p (fun w => ?_) (fun w => hk (r1, l1, n1) ⟨k1, k2, lt_s k3 (fun z => absurd (hu p z).symm w)⟩)
      subst w
      refine rx_removeRow k1 hc (fun S hs => hS S hs c hr) (fun r2 l2 n2 j1 j2 j3 => ?_)
      try simp (disch := omega) only [nI_clamp, re_in, re_m3, re_m7, re_m28, re_m49, re_m4, re_m8, re_m84, nI_add, nI_1, re_a2, re_a3, re_a4, re_a5, re_a6, re_b336, re_b8, re_b0, forall_eq, true_and, and_true, not_false_eq_true, not_true_eq_false, false_implies, true_implies, implies_true]
      exact hk (r2, l2, n2) ⟨j1, re_RG2_trans k2 j2, lt_s (fun d hd w => j2.2.2 d (by omega) (k3 d hd w)) (fun _ => j3)⟩
theorem rx_spreadRemoval {post : SX → Prop} {Q : (Nat → Prop) → Prop} {n : Nat} (hP : re_SP s T R K F) (hO : re_PO s F ce po) (hV : re_RV Q rm rl n) (hS : ∀ S, Q S → re_CD s F cD ce S)
    (h : ∀ rm' rl' n', re_RV Q rm' rl' n' → (∀ p, p < 28 → ¬ rm p = 0 → ¬ rm' p = 0) → re_CD s F cD ce (fun p => ¬ rm' p = 0) → post (nI T, nI R, sl, dp, cu, tu, nI K, nI F, 336, nI n', qe, rq, kT, kA, kB, kP, cC, cA, cB, cK, cD, cU, ce, mo, rm', rl', mk, qu, po)) : wpX_spreadRemoval post (nI T, nI R, sl, dp, cu, tu, nI K, nI F, 336, nI n, qe, rq, kT, kA, kB, kP, cC, cA, cB, cK, cD, cU, ce, mo, rm, rl, mk, qu, po) := by
  have B := hP.1
  unfold wpX_spreadRemoval
  have fin : ∀ i r1 l1 n1, re_RV Q r1 l1 n1 → re_RG2 rm rl n r1 l1 n1 → n1 ≤ i → (∀ j, j < i → ∀ p, p < 28 → l1 j = nI p → j < n1 → ∀ f c, f < F → cD f = 2 → re_RF s ce f c p → ¬ r1 c = 0) → post (nI T, nI R, sl, dp, cu, tu, nI K, nI F, 336, nI n1, qe, rq, kT, kA, kB, kP, cC, cA, cB, cK, cD, cU, ce, mo, r1, l1, mk, qu, po) := by
    intro i r1 l1 n1 k1 k2 hn k3
    refine h r1 l1 n1 k1 k2.2.2 ?_
    intro f c p hf h2 hr hp
    have hp28 := (re_RF_lt hP hf hr).2
    obtain ⟨j, hj, e⟩ := k1.2.2.2.1 p hp28 hp
    exact k3 j (by omega) p hp28 e hj f c hf h2 hr
  refine loop_0 (fun m i (st : (Nat → Int32) × (Nat → Int32) × Nat) => wX_spreadRemoval_2 post m (nI i) (nI T) (nI R) sl dp cu tu (nI K) (nI F) 336 (nI st.2.2) qe rq kT kA kB kP cC cA cB cK cD cU ce mo st.1 st.2.1 mk qu po) (fun i st => re_RV Q st.1 st.2.1 st.2.2 ∧ re_RG2 rm rl n st.1 st.2.1 st.2.2 ∧ ∀ j, j < i → ∀ p, p < 28 → st.2.1 j = nI p → j < st.2.2 → ∀ f c, f < F → cD f = 2 → re_RF s ce f c p → ¬ st.1 c = 0) 28 (rm, rl, n) ⟨hV, re_RG2_refl, lt_0⟩ ?_ ?_
  · rintro m ⟨r1, l1, n1⟩ ⟨k1, k2, k3⟩
    dsimp only at k1 k2 k3 ⊢
    have hn : n1 ≤ 28 := by rw [k1.2.1]; exact re_cn_le _ _
    exact br_t (by decide) (fin 28 r1 l1 n1 k1 k2 hn k3)
  · rintro m i ⟨r1, l1, n1⟩ hi ⟨k1, k2, k3⟩ hk
    dsimp only at k1 k2 k3 ⊢
    have hn : n1 ≤ 28 := by rw [k1.2.1]; exact re_cn_le _ _
    simp (disch := omega) only [wX_spreadRemoval_2, nI_clamp, re_in, re_m3, re_m7, re_m28, re_m49, re_m4, re_m8, re_m84, nI_add, nI_1, re_a2, re_a3, re_a4, re_a5, re_a6, re_b336, re_b8, re_b0, forall_eq, true_and, and_true, not_false_eq_true, not_true_eq_false, false_implies, true_implies, implies_true]
    refine pk_le 28 i (fun _ => by omega) (fun _ => pk_le n1 i (fun z => fin i r1 l1 n1 k1 k2 z k3) (fun z => ?_))
    obtain ⟨p, hp, e1, e2⟩ := k1.2.2.1 i z
    rw [e1]
    refine loop_0 (fun o f (st : (Nat → Int32) × (Nat → Int32) × Nat) => wX_spreadRemoval_25 post (wX_spreadRemoval_2 post m) (nI i) (nI p) o (nI f) (nI T) (nI R) sl dp cu tu (nI K) (nI F) 336 (nI st.2.2) qe rq kT kA kB kP cC cA cB cK cD cU ce mo st.1 st.2.1 mk qu po) (fun f st => re_RV Q st.1 st.2.1 st.2.2 ∧ re_RG2 r1 l1 n1 st.1 st.2.1 st.2.2 ∧ ∀ g, g < f → ∀ c, cD g = 2 → re_RF s ce g c p → ¬ st.1 c = 0) F (r1, l1, n1) ⟨k1, re_RG2_refl, lt_0⟩ ?_ ?_
    · rintro o ⟨r2, l2, n2⟩ ⟨j1, j2, j3⟩
      dsimp only at j1 j2 j3 ⊢
      have go : wX_spreadRemoval_2 post m (nI (i + 1)) (nI T) (nI R) sl dp cu tu (nI K) (nI F) 336 (nI n2) qe rq kT kA kB kP cC cA cB cK cD cU ce mo r2 l2 mk qu po := by
        refine hk (r2, l2, n2) ⟨j1, re_RG2_trans k2 j2, lt_s ?_ ?_⟩
        · intro j hj q hq e3 e4 f c hf h2 hr
          have hjn : j < n1 := by omega
          exact j2.2.2 c (re_RF_lt hP hf hr).1 (k3 j hj q hq ((j2.2.1 j hjn).symm.trans e3) hjn f c hf h2 hr)
        · intro q hq e3 e4 f c hf h2 hr
          have e5 : nI q = nI p := e3.symm.trans ((j2.2.1 i z).trans e1)
          rw [nI_eq (by omega) (by omega)] at e5
          subst e5
          exact j3 f hf c h2 hr
      simp (disch := omega) only [wX_spreadRemoval_25, nI_clamp, re_in, re_m3, re_m7, re_m28, re_m49, re_m4, re_m8, re_m84, nI_add, nI_1, re_a2, re_a3, re_a4, re_a5, re_a6, re_b336, re_b8, re_b0, forall_eq, true_and, and_true, not_false_eq_true, not_true_eq_false, false_implies, true_implies, implies_true]
      exact pk_le 8 F (fun _ => go) (fun _ => pk_le F F (fun _ => go) (fun w => by omega))
    · rintro o f ⟨r2, l2, n2⟩ hf ⟨j1, j2, j3⟩ hk2
      dsimp only at j1 j2 j3 ⊢
      simp (disch := omega) only [wX_spreadRemoval_25, nI_clamp, re_in, re_m3, re_m7, re_m28, re_m49, re_m4, re_m8, re_m84, nI_add, nI_1, re_a2, re_a3, re_a4, re_a5, re_a6, re_b336, re_b8, re_b0, forall_eq, true_and, and_true, not_false_eq_true, not_true_eq_false, false_implies, true_implies, implies_true]
      refine pk_le 8 f (fun _ => by omega) (fun _ => pk_le F f (fun _ => by omega) (fun _ => br_c (fun w => ?_) (fun w => hk2 (r2, l2, n2) ⟨j1, j2, lt_s j3 (fun c h2 _ => absurd h2 w)⟩)))
      refine rx_removeReferrers hP hO j1 hf hp (fun S hs c hr => hS S hs f c p hf w hr (j1.2.2.2.2 S hs p hp (j2.2.2 p hp e2))) (fun r3 l3 n3 i1 i2 i3 => ?_)
      try simp (disch := omega) only [nI_clamp, re_in, re_m3, re_m7, re_m28, re_m49, re_m4, re_m8, re_m84, nI_add, nI_1, re_a2, re_a3, re_a4, re_a5, re_a6, re_b336, re_b8, re_b0, forall_eq, true_and, and_true, not_false_eq_true, not_true_eq_false, false_implies, true_implies, implies_true]
      refine hk2 (r3, l3, n3) ⟨i1, re_RG2_trans j2 i2, lt_s ?_ (fun c _ hr => i3 c hr)⟩
      intro g hg c h2 hr
      exact i2.2.2 c (re_RF_lt hP (by omega) hr).1 (j3 g hg c h2 hr)
end
end
section
/-! the component: marks and their queue -/
def re_MI (mk : Nat → Int32) : Nat → Int := fun i => (mk i).toInt
def re_QV (D : Nat → Prop) (Q : (Nat → Int) → Prop) (mk qu : Nat → Int32) (e : Nat) : Prop :=
  (e : Int) ≤ re_sm (re_MI mk) 84 ∧ (∀ i, i < 84 → 0 ≤ re_MI mk i ∧ re_MI mk i ≤ 2) ∧ (∀ j, j < e → ∃ y, y < 84 ∧ qu j = nI y ∧ ¬ D (y / 3) ∧ 0 < re_MI mk y) ∧
  ∀ B, Q B → ∀ i, i < 84 → re_MI mk i ≤ B i
def re_GR (mk qu : Nat → Int32) (e : Nat) (mk' qu' : Nat → Int32) (e' : Nat) : Prop :=
  e ≤ e' ∧ (∀ j, j < e → qu' j = qu j) ∧ (∀ i, i < 84 → re_MI mk i ≤ re_MI mk' i) ∧ ∀ y, y < 84 → re_MI mk' y = re_MI mk y ∨ ∃ j, e ≤ j ∧ j < e' ∧ qu' j = nI y
theorem re_QV_le {D : Nat → Prop} {Q : (Nat → Int) → Prop} {mk qu : Nat → Int32} {e : Nat} (h : re_QV D Q mk qu e) : e ≤ 168 := by
  have a := re_sm_le 84 (fun i hi => (h.2.1 i hi).2)
  have b := h.1
  omega
theorem re_GR_refl {mk qu : Nat → Int32} {e : Nat} : re_GR mk qu e mk qu e := ⟨Nat.le_refl _, fun _ _ => rfl, fun _ _ => Int.le_refl _, fun _ _ => Or.inl rfl⟩
theorem re_GR_trans {a b : Nat → Int32} {n : Nat} {a' b' : Nat → Int32} {n' : Nat} {a2 b2 : Nat → Int32} {n2 : Nat} (h : re_GR a b n a' b' n') (h' : re_GR a' b' n' a2 b2 n2) : re_GR a b n a2 b2 n2 := by
  refine ⟨Nat.le_trans h.1 h'.1, fun j hj => (h'.2.1 j (Nat.lt_of_lt_of_le hj h.1)).trans (h.2.1 j hj), fun i hi => Int.le_trans (h.2.2.1 i hi) (h'.2.2.1 i hi), ?_⟩
  intro y hy
  have l1 := h.1
  have l2 := h'.1
  rcases h'.2.2.2 y hy with z | ⟨j, z1, z2, z3⟩
  · rcases h.2.2.2 y hy with w | ⟨j, w1, w2, w3⟩
    · exact Or.inl (z.trans w)
    · exact Or.inr ⟨j, w1, by omega, (h'.2.1 j w2).trans w3⟩
  · exact Or.inr ⟨j, by omega, z2, z3⟩
theorem re_NU_mono {s : re_Sc} {T R K F : Nat} {M M' : Nat → Int} {f c : Nat} (hP : re_SP s T R K F) (hf : f < F) (hc : c < 28) (h : ∀ i, i < 84 → M i ≤ M' i) (hn : re_NU s M f c) : re_NU s M' f c := by
  have G := hP.2.2 f hf
  have a := h (c * 3 + re_fa s f) (by omega)
  have b := h (c * 3 + (re_fb s f - 1)) (by omega)
  have n1 := hn.1
  exact ⟨by omega, fun z => by have := hn.2 z; omega⟩
def re_DN (s : re_Sc) (cD ce : Nat → Int32) (D : Nat → Prop) (M : Nat → Int) (f : Nat) : Prop := ∀ c p, re_RF s ce f c p → ¬ D c → D p → cD f = 3 → re_NU s M f c
/-- what f asks of the cell of place p in column q -/
def re_PF (s : re_Sc) (cU ce : Nat → Int32) (D : Nat → Prop) (M : Nat → Int) (p q f : Nat) : Prop := ∀ c, re_RF s ce f c p → ¬ D c →
  (cU f = 2 → (q = re_ka s (re_fk s f) → M (p * 3 + q) ≤ M (c * 3 + re_fa s f)) ∧ (q + 1 = re_kb s (re_fk s f) → M (p * 3 + q) ≤ M (c * 3 + (re_fb s f - 1)))) ∧
  (cU f = 3 → (q = re_ka s (re_fk s f) ∨ q + 1 = re_kb s (re_fk s f)) → 0 < M (p * 3 + q) → re_NU s M f c)
theorem re_PF_mono {s : re_Sc} {T R K F : Nat} {cU ce : Nat → Int32} {D : Nat → Prop} {M M' : Nat → Int} {p q f : Nat} (hP : re_SP s T R K F) (hf : f < F) (h : ∀ i, i < 84 → M i ≤ M' i) (he : M' (p * 3 + q) = M (p * 3 + q)) (hn : re_PF s cU ce D M p q f) : re_PF s cU ce D M' p q f := by
  intro c hr hc
  obtain ⟨i1, i2, i3, i4⟩ := re_RF_ix hP hf hr
  obtain ⟨a, b⟩ := hn c hr hc
  have h1 := h _ i1
  have h2 := h _ i2
  rw [he]
  refine ⟨fun z => ⟨fun w => Int.le_trans ((a z).1 w) h1, fun w => Int.le_trans ((a z).2 w) h2⟩, fun z w v => re_NU_mono hP hf (re_RF_lt hP hf hr).1 h (b z w v)⟩
theorem re_PF_cm {s : re_Sc} {T R K F : Nat} {cD cU ce : Nat → Int32} {D : Nat → Prop} {M : Nat → Int} (hP : re_SP s T R K F) (hN : ∀ f, f < F → re_DN s cD ce D M f) (hF : ∀ p q, p < 28 → q < 3 → ∀ f, f < F → re_PF s cU ce D M p q f) : re_CM s F cD cU ce D M := by
  intro f c p hf hr hc
  have G := hP.2.2 f hf
  have G2 := hP.2.1 _ G.2.2.2.2.1
  have hp := (re_RF_lt hP hf hr).2
  have A := hF p (re_ka s (re_fk s f)) hp (by omega) f hf c hr hc
  refine ⟨fun z => ?_, fun z1 z2 => ⟨(A.1 z2).1 rfl, fun w => ?_⟩⟩
  · rcases z with ⟨z1, z2⟩ | ⟨z1, z2, z3⟩
    · exact hN f hf c p hr hc z1 z2
    · rcases z3 with z3 | ⟨z3, z4⟩
      · exact A.2 z2 (Or.inl rfl) z3
      · have A2 := hF p (re_kb s (re_fk s f) - 1) hp (by omega) f hf c hr hc
        exact A2.2 z2 (Or.inr (by omega)) z4
  · have A2 := hF p (re_kb s (re_fk s f) - 1) hp (by omega) f hf c hr hc
    exact (A2.1 z2).2 (by omega)
section
variable {T R K F : Nat} {s : re_Sc} {sl dp cu tu rn qe : Int32} {rq kT kA kB kP cC cA cB cK cD cU ce mo rm rl mk qu po : Nat → Int32} {ks fs ym yr yk : Nat → Int32}
variable {D : Nat → Prop} {Q : (Nat → Int) → Prop}
theorem rx_raise {post : SX → Prop} {e p c : Nat} {m : Int32} (hD : ∀ p, p < 28 → (rm p = 0 ↔ ¬ D p)) (hV : re_QV D Q mk qu e) (hp : p < 28) (hc : c < 3) (hm : m.toInt ≤ 2) (hB : ¬ D p → ∀ B, Q B → m.toInt ≤ B (p * 3 + c))
    (h : ∀ mk' qu' e', re_QV D Q mk' qu' e' → re_GR mk qu e mk' qu' e' → (¬ D p → m.toInt ≤ re_MI mk' (p * 3 + c)) → post (nI T, nI R, sl, dp, cu, tu, nI K, nI F, 336, rn, nI e', rq, kT, kA, kB, kP, cC, cA, cB, cK, cD, cU, ce, mo, rm, rl, mk', qu', po)) : wpX_raise post (nI T, nI R, sl, dp, cu, tu, nI K, nI F, 336, rn, nI e, rq, kT, kA, kB, kP, cC, cA, cB, cK, cD, cU, ce, mo, rm, rl, mk, qu, po) (nI p) (nI c) m := by
  have he := re_QV_le hV
  have hd := hD p hp
  have hk : p * 3 + c < 84 := by omega
  unfold wpX_raise
  dsimp only
  try simp (disch := omega) only [nI_clamp, re_in, re_m3, re_m7, re_m28, re_m49, re_m4, re_m8, re_m84, nI_add, nI_1, re_a2, re_a3, re_a4, re_a5, re_a6, re_b336, re_b8, re_b0, forall_eq, true_and, and_true, not_false_eq_true, not_true_eq_false, false_implies, true_implies, implies_true]
  refine br_c (fun z => ?_) (fun z => h mk qu e hV re_GR_refl (fun w => absurd (hd.mpr w) z))
  by_cases z2 : m ≤ mk (p * 3 + c)
  · exact br_t z2 (h mk qu e hV re_GR_refl (fun _ => Int32.le_iff_toInt_le.mp z2))
  refine br_f z2 ?_
  rw [Int32.le_iff_toInt_le] at z2
  have z3 : re_MI mk (p * 3 + c) < m.toInt := by unfold re_MI; omega
  obtain ⟨v1, v2, v3, v4⟩ := hV
  have he2 : e < 168 := by
    have a := re_sm_lt hk (fun i hi => (v2 i hi).2) (by omega : re_MI mk (p * 3 + c) < 2)
    omega
  have u1 : re_MI (upd mk (p * 3 + c) m) (p * 3 + c) = m.toInt := by unfold re_MI; rw [pk_us]
  have u2 : ∀ i, i ≠ p * 3 + c → re_MI (upd mk (p * 3 + c) m) i = re_MI mk i := fun i hi => by unfold re_MI; rw [pk_un hi]
  have v0 := (v2 _ hk).1
  refine pk_le 168 e (fun _ => by omega) (fun _ => ?_)
  try simp (disch := omega) only [nI_clamp, re_in, re_m3, re_m7, re_m28, re_m49, re_m4, re_m8, re_m84, nI_add, nI_1, re_a2, re_a3, re_a4, re_a5, re_a6, re_b336, re_b8, re_b0, forall_eq, true_and, and_true, not_false_eq_true, not_true_eq_false, false_implies, true_implies, implies_true]
  refine h _ _ (e + 1) ⟨?_, ?_, ?_, ?_⟩ ⟨by omega, fun j hj => pk_un (by omega), ?_, ?_⟩ (fun _ => by rw [u1]; exact Int.le_refl _)
  · have a := re_sm_up (M := re_MI mk) (M' := re_MI (upd mk (p * 3 + c) m)) 84 hk (fun i _ hi => u2 i hi)
    rw [a, u1]
    omega
  · intro i hi
    rcases Nat.decEq i (p * 3 + c) with w | w
    · rw [u2 i w]; exact v2 i hi
    · rw [w, u1]; omega
  · intro j hj
    rcases Nat.lt_or_ge j e with w | w
    · obtain ⟨y, y1, y2, y3, y4⟩ := v3 j w
      refine ⟨y, y1, by rw [pk_un (by omega)]; exact y2, y3, ?_⟩
      rcases Nat.decEq y (p * 3 + c) with w2 | w2
      · rw [u2 y w2]; exact y4
      · rw [w2, u1]; omega
    · have ej : j = e := by omega
      subst ej
      refine ⟨p * 3 + c, hk, pk_us, ?_, by rw [u1]; omega⟩
      rw [show (p * 3 + c) / 3 = p by omega]
      exact hd.mp z
  · intro B hQ i hi
    rcases Nat.decEq i (p * 3 + c) with w | w
    · rw [u2 i w]; exact v4 B hQ i hi
    · rw [w, u1]; exact hB (hd.mp z) B hQ
  · intro i hi
    rcases Nat.decEq i (p * 3 + c) with w | w
    · rw [u2 i w]; exact Int.le_refl _
    · rw [w, u1]; omega
  · intro y hy
    rcases Nat.decEq y (p * 3 + c) with w | w
    · exact Or.inl (u2 y w)
    · exact Or.inr ⟨e, Nat.le_refl _, by omega, by rw [pk_us, w]⟩
theorem rx_nullForeign {post : SX → Prop} {e f c : Nat} (hP : re_SP s T R K F) (hX : re_LX s K F kT kA kB cC cA cB cK) (hD : ∀ p, p < 28 → (rm p = 0 ↔ ¬ D p)) (hV : re_QV D Q mk qu e) (hf : f < F) (hc : c < 28) (hB : ¬ D c → ∀ B, Q B → re_NU s B f c)
    (h : ∀ mk' qu' e', re_QV D Q mk' qu' e' → re_GR mk qu e mk' qu' e' → (¬ D c → re_NU s (re_MI mk') f c) → post (nI T, nI R, sl, dp, cu, tu, nI K, nI F, 336, rn, nI e', rq, kT, kA, kB, kP, cC, cA, cB, cK, cD, cU, ce, mo, rm, rl, mk', qu', po)) : wpX_nullForeign post (nI T, nI R, sl, dp, cu, tu, nI K, nI F, 336, rn, nI e, rq, kT, kA, kB, kP, cC, cA, cB, cK, cD, cU, ce, mo, rm, rl, mk, qu, po) (nI f) (nI c) := by
  have B := hP.1
  have G := hP.2.2 f hf
  have E := hX.2 f hf
  unfold wpX_nullForeign
  dsimp only
  simp (disch := omega) only [E.2.1, nI_clamp, re_in, re_m3, re_m7, re_m28, re_m49, re_m4, re_m8, re_m84, nI_add, nI_1, re_a2, re_a3, re_a4, re_a5, re_a6, re_b336, re_b8, re_b0, forall_eq, true_and, and_true, not_false_eq_true, not_true_eq_false, false_implies, true_implies, implies_true]
  refine rx_raise hD hV hc G.2.1 (by decide) (fun z B hQ => (hB z B hQ).1) (fun mk1 qu1 e1 hV1 hG1 hM1 => ?_)
  dsimp only
  try simp (disch := omega) only [nI_clamp, re_in, re_m3, re_m7, re_m28, re_m49, re_m4, re_m8, re_m84, nI_add, nI_1, re_a2, re_a3, re_a4, re_a5, re_a6, re_b336, re_b8, re_b0, forall_eq, true_and, and_true, not_false_eq_true, not_true_eq_false, false_implies, true_implies, implies_true]
  rcases Nat.eq_zero_or_pos (re_fb s f) with w | w
  · exact br_t (by rw [E.2.2.1, w]; decide) (h mk1 qu1 e1 hV1 hG1 (fun z => ⟨hM1 z, fun v => by omega⟩))
  · rw [E.2.2.1, re_ocS w]
    refine br_f (nI_pos (by omega)) ?_
    refine rx_raise hD hV1 hc (by omega) (by decide) (fun z B hQ => (hB z B hQ).2 w) (fun mk2 qu2 e2 hV2 hG2 hM2 => ?_)
    refine h mk2 qu2 e2 hV2 (re_GR_trans hG1 hG2) (fun z => ⟨Int.le_trans (hM1 z) (hG2.2.2.1 _ (by omega)), fun _ => hM2 z⟩)
theorem rx_nullRef {post : SX → Prop} {e : Nat} (hP : re_SP s T R K F) (hX : re_LX s K F kT kA kB cC cA cB cK) (hD : ∀ p, p < 28 → (rm p = 0 ↔ ¬ D p)) (hO : re_PO s F ce po) (hV : re_QV D Q mk qu e) (hB : ∀ B, Q B → re_CM s F cD cU ce D B)
    (h : ∀ mk' qu' e', re_QV D Q mk' qu' e' → re_GR mk qu e mk' qu' e' → (∀ f, f < F → re_DN s cD ce D (re_MI mk') f) → post (nI T, nI R, sl, dp, cu, tu, nI K, nI F, 336, rn, nI e', rq, kT, kA, kB, kP, cC, cA, cB, cK, cD, cU, ce, mo, rm, rl, mk', qu', po)) : wpX_nullReferrersOfRemoved post (nI T, nI R, sl, dp, cu, tu, nI K, nI F, 336, rn, nI e, rq, kT, kA, kB, kP, cC, cA, cB, cK, cD, cU, ce, mo, rm, rl, mk, qu, po) := by
  have Bd := hP.1
  unfold wpX_nullReferrersOfRemoved
  refine loop_0 (fun m f (st : (Nat → Int32) × (Nat → Int32) × Nat) => wX_nullReferrersOfRemoved_2 post m (nI f) (nI T) (nI R) sl dp cu tu (nI K) (nI F) 336 rn (nI st.2.2) rq kT kA kB kP cC cA cB cK cD cU ce mo rm rl st.1 st.2.1 po) (fun f st => re_QV D Q st.1 st.2.1 st.2.2 ∧ re_GR mk qu e st.1 st.2.1 st.2.2 ∧ ∀ g, g < f → re_DN s cD ce D (re_MI st.1) g) F (mk, qu, e) ⟨hV, re_GR_refl, lt_0⟩ ?_ ?_
  · rintro m ⟨m1, q1, e1⟩ ⟨k1, k2, k3⟩
    dsimp only at k1 k2 k3 ⊢
    have hp := h m1 q1 e1 k1 k2 k3
    simp only [wX_nullReferrersOfRemoved_2]
    exact pk_le 8 F (fun _ => hp) (fun _ => pk_le F F (fun _ => hp) (fun w => by omega))
  · rintro m f ⟨m1, q1, e1⟩ hf ⟨k1, k2, k3⟩ hk
    dsimp only at k1 k2 k3 ⊢
    simp (disch := omega) only [wX_nullReferrersOfRemoved_2, nI_clamp, re_in, re_m3, re_m7, re_m28, re_m49, re_m4, re_m8, re_m84, nI_add, nI_1, re_a2, re_a3, re_a4, re_a5, re_a6, re_b336, re_b8, re_b0, forall_eq, true_and, and_true, not_false_eq_true, not_true_eq_false, false_implies, true_implies, implies_true]
    refine pk_le 8 f (fun _ => by omega) (fun _ => pk_le F f (fun _ => by omega) (fun _ => br_c (fun w => ?_) (fun w => hk (m1, q1, e1) ⟨k1, k2, lt_s k3 (fun c p _ _ _ h3 => absurd h3 w)⟩)))
    refine loop_0 (fun o c (st : (Nat → Int32) × (Nat → Int32) × Nat) => wX_nullReferrersOfRemoved_28 post (wX_nullReferrersOfRemoved_2 post m) (nI f) o (nI c) (nI T) (nI R) sl dp cu tu (nI K) (nI F) 336 rn (nI st.2.2) rq kT kA kB kP cC cA cB cK cD cU ce mo rm rl st.1 st.2.1 po) (fun c st => re_QV D Q st.1 st.2.1 st.2.2 ∧ re_GR m1 q1 e1 st.1 st.2.1 st.2.2 ∧ ∀ d, d < c → ∀ p, re_RF s ce f d p → ¬ D d → D p → re_NU s (re_MI st.1) f d) 28 (m1, q1, e1) ⟨k1, re_GR_refl, lt_0⟩ ?_ ?_
    · rintro o ⟨m2, q2, e2⟩ ⟨j1, j2, j3⟩
      dsimp only at j1 j2 j3 ⊢
      simp (disch := omega) only [wX_nullReferrersOfRemoved_28, nI_clamp, re_in, re_m3, re_m7, re_m28, re_m49, re_m4, re_m8, re_m84, nI_add, nI_1, re_a2, re_a3, re_a4, re_a5, re_a6, re_b336, re_b8, re_b0, forall_eq, true_and, and_true, not_false_eq_true, not_true_eq_false, false_implies, true_implies, implies_true]
      refine br_t (by decide) (hk (m2, q2, e2) ⟨j1, re_GR_trans k2 j2, lt_s ?_ ?_⟩)
      · intro g hg c p hr a b d
        exact re_NU_mono hP (by omega) (re_RF_lt hP (by omega) hr).1 j2.2.2.1 (k3 g hg c p hr a b d)
      · intro c p hr a b _
        exact j3 c (re_RF_lt hP hf hr).1 p hr a b
    · rintro o c ⟨m2, q2, e2⟩ hc ⟨j1, j2, j3⟩ hk2
      dsimp only at j1 j2 j3 ⊢
      simp (disch := omega) only [wX_nullReferrersOfRemoved_28, nI_clamp, re_in, re_m3, re_m7, re_m28, re_m49, re_m4, re_m8, re_m84, nI_add, nI_1, re_a2, re_a3, re_a4, re_a5, re_a6, re_b336, re_b8, re_b0, forall_eq, true_and, and_true, not_false_eq_true, not_true_eq_false, false_implies, true_implies, implies_true]
      refine pk_le 28 c (fun _ => by omega) (fun _ => ?_)
      rcases hO f c hf hc with ⟨eo, hn⟩ | ⟨p, hp, eo, hr, hu⟩
      · rw [eo]
        exact br_t rfl (hk2 (m2, q2, e2) ⟨j1, j2, lt_s j3 (fun p hr => absurd hr (hn p))⟩)
      · rw [eo]
        have hd := hD p hp
        refine br_f (re_ne1 (by omega)) ?_
        try simp (disch := omega) only [nI_clamp, re_in, re_m3, re_m7, re_m28, re_m49, re_m4, re_m8, re_m84, nI_add, nI_1, re_a2, re_a3, re_a4, re_a5, re_a6, re_b336, re_b8, re_b0, forall_eq, true_and, and_true, not_false_eq_true, not_true_eq_false, false_implies, true_implies, implies_true]
        refine br_c (fun z => hk2 (m2, q2, e2) ⟨j1, j2, lt_s j3 (fun q hq _ hDq => ?_)⟩) (fun z => ?_)
        · rw [hu q hq] at hDq
          exact absurd hDq (hd.mp z)
        · have hDp : D p := Classical.byContradiction (fun v => z (hd.mpr v))
          refine rx_nullForeign hP hX hD j1 hf hc (fun a B hQ => ((hB B hQ) f c p hf hr a).1 (Or.inl ⟨hDp, w⟩)) (fun m3 q3 e3 i1 i2 i3 => ?_)
          try simp (disch := omega) only [nI_clamp, re_in, re_m3, re_m7, re_m28, re_m49, re_m4, re_m8, re_m84, nI_add, nI_1, re_a2, re_a3, re_a4, re_a5, re_a6, re_b336, re_b8, re_b0, forall_eq, true_and, and_true, not_false_eq_true, not_true_eq_false, false_implies, true_implies, implies_true]
          refine hk2 (m3, q3, e3) ⟨i1, re_GR_trans j2 i2, lt_s ?_ (fun q _ a _ => i3 a)⟩
          intro d hd q hq a b
          exact re_NU_mono hP hf (re_RF_lt hP hf hq).1 i2.2.2.1 (j3 d hd q hq a b)
/-- one loop over the referring rows: each is raised in one column, or nulled -/
theorem rx_along {post : SX → Prop} {e f p z : Nat} {m0 : Int32} (hP : re_SP s T R K F) (hX : re_LX s K F kT kA kB cC cA cB cK) (hD : ∀ p, p < 28 → (rm p = 0 ↔ ¬ D p)) (hO : re_PO s F ce po) (hV : re_QV D Q mk qu e) (hf : f < F) (hp : p < 28) (hz : z < 3) (hm : m0.toInt ≤ 2)
    (hB2 : cU f = 2 → ∀ c, re_RF s ce f c p → ¬ D c → ∀ B, Q B → m0.toInt ≤ B (c * 3 + z))
    (hB3 : ¬ cU f = 2 → ∀ c, re_RF s ce f c p → ¬ D c → ∀ B, Q B → re_NU s B f c)
    (h : ∀ mk' qu' e', re_QV D Q mk' qu' e' → re_GR mk qu e mk' qu' e' → (∀ c, re_RF s ce f c p → ¬ D c → (cU f = 2 → m0.toInt ≤ re_MI mk' (c * 3 + z)) ∧ (¬ cU f = 2 → re_NU s (re_MI mk') f c)) → post (nI T, nI R, sl, dp, cu, tu, nI K, nI F, 336, rn, nI e', rq, kT, kA, kB, kP, cC, cA, cB, cK, cD, cU, ce, mo, rm, rl, mk', qu', po)) : ∃ n74 : Nat, wX_spreadAlong_74 post (nI f) (nI p) (nI z) m0 n74 0 (nI T) (nI R) sl dp cu tu (nI K) (nI F) 336 rn (nI e) rq kT kA kB kP cC cA cB cK cD cU ce mo rm rl mk qu po := by
  have Bd := hP.1
  refine loop_0 (fun o c (st : (Nat → Int32) × (Nat → Int32) × Nat) => wX_spreadAlong_74 post (nI f) (nI p) (nI z) m0 o (nI c) (nI T) (nI R) sl dp cu tu (nI K) (nI F) 336 rn (nI st.2.2) rq kT kA kB kP cC cA cB cK cD cU ce mo rm rl st.1 st.2.1 po) (fun c st => re_QV D Q st.1 st.2.1 st.2.2 ∧ re_GR mk qu e st.1 st.2.1 st.2.2 ∧ ∀ d, d < c → re_RF s ce f d p → ¬ D d → (cU f = 2 → m0.toInt ≤ re_MI st.1 (d * 3 + z)) ∧ (¬ cU f = 2 → re_NU s (re_MI st.1) f d)) 28 (mk, qu, e) ⟨hV, re_GR_refl, lt_0⟩ ?_ ?_
  · rintro o ⟨m2, q2, e2⟩ ⟨j1, j2, j3⟩
    dsimp only at j1 j2 j3 ⊢
    exact br_t (by decide) (h m2 q2 e2 j1 j2 (fun c hr => j3 c (re_RF_lt hP hf hr).1 hr))
  · rintro o c ⟨m2, q2, e2⟩ hc ⟨j1, j2, j3⟩ hk2
    dsimp only at j1 j2 j3 ⊢
    have keep : ∀ m3 q3 e3, re_GR m2 q2 e2 m3 q3 e3 → ∀ d, d < c → re_RF s ce f d p → ¬ D d → (cU f = 2 → m0.toInt ≤ re_MI m3 (d * 3 + z)) ∧ (¬ cU f = 2 → re_NU s (re_MI m3) f d) := by
      intro m3 q3 e3 i2 d hd hq a
      obtain ⟨b1, b2⟩ := j3 d hd hq a
      exact ⟨fun w => Int.le_trans (b1 w) (i2.2.2.1 _ (by omega)), fun w => re_NU_mono hP hf (by omega) i2.2.2.1 (b2 w)⟩
    simp (disch := omega) only [wX_spreadAlong_74, nI_clamp, re_in, re_m3, re_m7, re_m28, re_m49, re_m4, re_m8, re_m84, nI_add, nI_1, re_a2, re_a3, re_a4, re_a5, re_a6, re_b336, re_b8, re_b0, forall_eq, true_and, and_true, not_false_eq_true, not_true_eq_false, false_implies, true_implies, implies_true]
    refine pk_le 28 c (fun _ => by omega) (fun _ => ?_)
    rcases hO f c hf hc with ⟨eo, hn⟩ | ⟨p', hp', eo, hr, hu⟩
    · exact br_f (by rw [eo]; exact fun w => re_ne1 (by omega) w.symm) (hk2 (m2, q2, e2) ⟨j1, j2, lt_s j3 (fun hr => absurd hr (hn p))⟩)
    · rw [eo]
      refine pk_eq p' p (fun w => ?_) (fun w => hk2 (m2, q2, e2) ⟨j1, j2, lt_s j3 (fun hr => absurd (hu p hr).symm w)⟩)
      subst w
      refine br_c (fun w => ?_) (fun w => ?_)
      · refine rx_raise hD j1 hc hz hm (fun a B hQ => hB2 w c hr a B hQ) (fun m3 q3 e3 i1 i2 i3 => ?_)
        try simp (disch := omega) only [nI_clamp, re_in, re_m3, re_m7, re_m28, re_m49, re_m4, re_m8, re_m84, nI_add, nI_1, re_a2, re_a3, re_a4, re_a5, re_a6, re_b336, re_b8, re_b0, forall_eq, true_and, and_true, not_false_eq_true, not_true_eq_false, false_implies, true_implies, implies_true]
        exact hk2 (m3, q3, e3) ⟨i1, re_GR_trans j2 i2, lt_s (keep m3 q3 e3 i2) (fun _ a => ⟨fun _ => i3 a, fun v => absurd w v⟩)⟩
      · refine rx_nullForeign hP hX hD j1 hf hc (fun a B hQ => hB3 w c hr a B hQ) (fun m3 q3 e3 i1 i2 i3 => ?_)
        try simp (disch := omega) only [nI_clamp, re_in, re_m3, re_m7, re_m28, re_m49, re_m4, re_m8, re_m84, nI_add, nI_1, re_a2, re_a3, re_a4, re_a5, re_a6, re_b336, re_b8, re_b0, forall_eq, true_and, and_true, not_false_eq_true, not_true_eq_false, false_implies, true_implies, implies_true]
        exact hk2 (m3, q3, e3) ⟨i1, re_GR_trans j2 i2, lt_s (keep m3 q3 e3 i2) (fun _ a => ⟨fun v => absurd v w, fun _ => i3 a⟩)⟩
theorem rx_spreadAlong {post : SX → Prop} {e f p q : Nat} (hP : re_SP s T R K F) (hX : re_LX s K F kT kA kB cC cA cB cK) (hD : ∀ p, p < 28 → (rm p = 0 ↔ ¬ D p)) (hO : re_PO s F ce po) (hV : re_QV D Q mk qu e) (hB : ∀ B, Q B → re_CM s F cD cU ce D B) (hf : f < F) (hp : p < 28) (hq : q < 3) (hDp : ¬ D p) (hpos : 0 < re_MI mk (p * 3 + q)) (hu : cU f = 2 ∨ cU f = 3)
    (h : ∀ mk' qu' e', re_QV D Q mk' qu' e' → re_GR mk qu e mk' qu' e' → (re_MI mk' (p * 3 + q) = re_MI mk (p * 3 + q) → re_PF s cU ce D (re_MI mk') p q f) → post (nI T, nI R, sl, dp, cu, tu, nI K, nI F, 336, rn, nI e', rq, kT, kA, kB, kP, cC, cA, cB, cK, cD, cU, ce, mo, rm, rl, mk', qu', po)) : wpX_spreadAlong post (nI T, nI R, sl, dp, cu, tu, nI K, nI F, 336, rn, nI e, rq, kT, kA, kB, kP, cC, cA, cB, cK, cD, cU, ce, mo, rm, rl, mk, qu, po) (nI f) (nI p) (nI q) := by
  have Bd := hP.1
  have G := hP.2.2 f hf
  have E := hX.2 f hf
  have hk : re_fk s f < K := G.2.2.2.2.1
  have E2 := hX.1 _ hk
  have G2 := hP.2.1 _ hk
  have mm := (hV.2.1 (p * 3 + q) (by omega)).2
  have hu3 : ¬ cU f = 2 → cU f = 3 := fun w => hu.resolve_left w
  have hn23 : cU f = 3 → ¬ cU f = 2 := fun w v => absurd (w.symm.trans v) (by decide)
  have nul : (q = re_ka s (re_fk s f) ∨ q + 1 = re_kb s (re_fk s f)) → ¬ cU f = 2 → ∀ c, re_RF s ce f c p → ¬ D c → ∀ B, Q B → re_NU s B f c := by
    intro hq2 w c hr a B hQ
    refine ((hB B hQ) f c p hf hr a).1 (Or.inr ⟨hDp, hu3 w, ?_⟩)
    have b1 := hV.2.2.2 B hQ (p * 3 + q) (by omega)
    rcases hq2 with v | v
    · exact Or.inl (by rw [← v]; omega)
    · exact Or.inr ⟨by omega, by rw [show re_kb s (re_fk s f) - 1 = q by omega]; omega⟩
  unfold wpX_spreadAlong
  dsimp only
  simp (disch := omega) only [E.2.2.2, E2.2.1, nI_clamp, re_in, re_m3, re_m7, re_m28, re_m49, re_m4, re_m8, re_m84, nI_add, nI_1, re_a2, re_a3, re_a4, re_a5, re_a6, re_b336, re_b8, re_b0, forall_eq, true_and, and_true, not_false_eq_true, not_true_eq_false, false_implies, true_implies, implies_true]
  refine pk_eq (re_ka s (re_fk s f)) q (fun w => ?_) (fun w => ?_)
  · unfold wX_spreadAlong_31 wX_spreadAlong_57
    simp (disch := omega) only [E2.2.1, E.2.1, nI_clamp, re_in, re_m3, re_m7, re_m28, re_m49, re_m4, re_m8, re_m84, nI_add, nI_1, re_a2, re_a3, re_a4, re_a5, re_a6, re_b336, re_b8, re_b0, forall_eq, true_and, and_true, not_false_eq_true, not_true_eq_false, false_implies, true_implies, implies_true]
    refine br_t (by rw [w]) ?_
    refine rx_along (z := re_fa s f) hP hX hD hO hV hf hp G.2.1 mm ?_ (nul (Or.inl w.symm)) (fun m1 q1 e1 k1 k2 k3 => h m1 q1 e1 k1 k2 (fun ev c hr a => ⟨fun v => ⟨fun _ => ?_, fun v2 => ?_⟩, fun v v2 v3 => (k3 c hr a).2 (hn23 v)⟩))
    · intro v c hr a B hQ
      have b1 := hV.2.2.2 B hQ (p * 3 + q) (by omega)
      have b2 := ((hB B hQ) f c p hf hr a).2 hDp v
      have b3 := b2.1
      rw [w] at b3
      exact Int.le_trans b1 b3
    · rw [ev]
      exact (k3 c hr a).1 v
    · omega
  · simp (disch := omega) only [E2.2.2, nI_clamp, re_in, re_m3, re_m7, re_m28, re_m49, re_m4, re_m8, re_m84, nI_add, nI_1, re_a2, re_a3, re_a4, re_a5, re_a6, re_b336, re_b8, re_b0, forall_eq, true_and, and_true, not_false_eq_true, not_true_eq_false, false_implies, true_implies, implies_true]
    rcases Nat.decEq (re_kb s (re_fk s f)) (q + 1) with w2 | w2
    · refine br_f ?_ (h mk qu e hV re_GR_refl (fun _ c hr a => ⟨fun v => ⟨fun v2 => absurd v2.symm w, fun v2 => absurd v2.symm w2⟩, fun v v2 => v2.elim (fun v3 => absurd v3.symm w) (fun v3 => absurd v3.symm w2)⟩))
      intro v
      rw [show nI q = re_oc (q + 1) from (re_ocS (b := q + 1) (by omega)).symm] at v
      exact w2 (re_oc_inj (by omega) (by omega) v)
    · have ek : re_oc (re_kb s (re_fk s f)) = nI q := by rw [w2]; exact re_ocS (b := q + 1) (by omega)
      have fpos : 0 < re_fb s f := by omega
      refine br_t ek ?_
      unfold wX_spreadAlong_31 wX_spreadAlong_57
      simp (disch := omega) only [E2.2.1, E.2.2.1, re_ocS fpos, nI_clamp, re_in, re_m3, re_m7, re_m28, re_m49, re_m4, re_m8, re_m84, nI_add, nI_1, re_a2, re_a3, re_a4, re_a5, re_a6, re_b336, re_b8, re_b0, forall_eq, true_and, and_true, not_false_eq_true, not_true_eq_false, false_implies, true_implies, implies_true]
      refine br_f (fun v => w ((nI_eq (by omega) (by omega)).mp v)) ?_
      refine rx_along (z := re_fb s f - 1) hP hX hD hO hV hf hp (by omega) mm ?_ (nul (Or.inr w2.symm)) (fun m1 q1 e1 k1 k2 k3 => h m1 q1 e1 k1 k2 (fun ev c hr a => ⟨fun v => ⟨fun v2 => absurd v2.symm w, fun _ => ?_⟩, fun v v2 v3 => (k3 c hr a).2 (hn23 v)⟩))
      · intro v c hr a B hQ
        have b1 := hV.2.2.2 B hQ (p * 3 + q) (by omega)
        have b2 := ((hB B hQ) f c p hf hr a).2 hDp v
        have b3 := b2.2 fpos
        rw [show re_kb s (re_fk s f) - 1 = q by omega] at b3
        exact Int.le_trans b1 b3
      · rw [ev]
        exact (k3 c hr a).1 v
/-- every cell is done, or it stands in the queue from i on -/
def re_WK (s : re_Sc) (F : Nat) (cU ce : Nat → Int32) (D : Nat → Prop) (mk qu : Nat → Int32) (i e : Nat) (p q : Nat) : Prop :=
  (∀ f, f < F → re_PF s cU ce D (re_MI mk) p q f) ∨ ∃ j, i ≤ j ∧ j < e ∧ qu j = nI (p * 3 + q)
theorem re_WK_keep {i e e' p q : Nat} {mk' qu' : Nat → Int32} (hP : re_SP s T R K F) (hG : re_GR mk qu e mk' qu' e') (hi : i ≤ e) (hp : p < 28) (hq : q < 3) (h : re_WK s F cU ce D mk qu i e p q) : re_WK s F cU ce D mk' qu' i e' p q := by
  rcases h with h | ⟨j, j1, j2, j3⟩
  · rcases hG.2.2.2 (p * 3 + q) (by omega) with z | ⟨j, j1, j2, j3⟩
    · exact Or.inl (fun f hf => re_PF_mono hP hf hG.2.2.1 z (h f hf))
    · exact Or.inr ⟨j, by omega, j2, j3⟩
  · have := hG.1
    exact Or.inr ⟨j, j1, by omega, (hG.2.1 j j2).trans j3⟩
theorem rx_spreadMarks {post : SX → Prop} {e : Nat} (hP : re_SP s T R K F) (hX : re_LX s K F kT kA kB cC cA cB cK) (hD : ∀ p, p < 28 → (rm p = 0 ↔ ¬ D p)) (hO : re_PO s F ce po) (hV : re_QV D Q mk qu e) (hB : ∀ B, Q B → re_CM s F cD cU ce D B) (hN : ∀ f, f < F → re_DN s cD ce D (re_MI mk) f)
    (h0 : ∀ y, y < 84 → re_MI mk y = 0 ∨ ∃ j, j < e ∧ qu j = nI y)
    (h : ∀ mk' qu' e', re_QV D Q mk' qu' e' → re_GR mk qu e mk' qu' e' → re_CM s F cD cU ce D (re_MI mk') → post (nI T, nI R, sl, dp, cu, tu, nI K, nI F, 336, rn, nI e', rq, kT, kA, kB, kP, cC, cA, cB, cK, cD, cU, ce, mo, rm, rl, mk', qu', po)) : wpX_spreadMarks post (nI T, nI R, sl, dp, cu, tu, nI K, nI F, 336, rn, nI e, rq, kT, kA, kB, kP, cC, cA, cB, cK, cD, cU, ce, mo, rm, rl, mk, qu, po) := by
  have Bd := hP.1
  have fin : ∀ i m1 q1 e1, re_QV D Q m1 q1 e1 → re_GR mk qu e m1 q1 e1 → e1 ≤ i → (∀ p q, p < 28 → q < 3 → re_WK s F cU ce D m1 q1 i e1 p q) → post (nI T, nI R, sl, dp, cu, tu, nI K, nI F, 336, rn, nI e1, rq, kT, kA, kB, kP, cC, cA, cB, cK, cD, cU, ce, mo, rm, rl, m1, q1, po) := by
    intro i m1 q1 e1 k1 k2 hi k3
    refine h m1 q1 e1 k1 k2 (re_PF_cm hP ?_ ?_)
    · intro f hf c p hr a b d
      exact re_NU_mono hP hf (re_RF_lt hP hf hr).1 k2.2.2.1 (hN f hf c p hr a b d)
    · intro p q hp hq
      rcases k3 p q hp hq with z | ⟨j, j1, j2, -⟩
      · exact z
      · omega
  unfold wpX_spreadMarks
  refine loop_0 (fun m i (st : (Nat → Int32) × (Nat → Int32) × Nat) => wX_spreadMarks_2 post m (nI i) (nI T) (nI R) sl dp cu tu (nI K) (nI F) 336 rn (nI st.2.2) rq kT kA kB kP cC cA cB cK cD cU ce mo rm rl st.1 st.2.1 po) (fun i st => re_QV D Q st.1 st.2.1 st.2.2 ∧ re_GR mk qu e st.1 st.2.1 st.2.2 ∧ ∀ p q, p < 28 → q < 3 → re_WK s F cU ce D st.1 st.2.1 i st.2.2 p q) 168 (mk, qu, e) ⟨hV, re_GR_refl, ?_⟩ ?_ ?_
  · intro p q hp hq
    rcases h0 (p * 3 + q) (by omega) with z | ⟨j, j1, j2⟩
    · refine Or.inl (fun f hf c hr a => ?_)
      obtain ⟨i1, i2, -, -⟩ := re_RF_ix hP hf hr
      have a1 := (hV.2.1 _ i1).1
      have a2 := (hV.2.1 _ i2).1
      dsimp only
      rw [z]
      exact ⟨fun _ => ⟨fun _ => a1, fun _ => a2⟩, fun _ _ w => by omega⟩
    · exact Or.inr ⟨j, by omega, j1, j2⟩
  · rintro m ⟨m1, q1, e1⟩ ⟨k1, k2, k3⟩
    dsimp only at k1 k2 k3 ⊢
    exact br_t (by decide) (fin 168 m1 q1 e1 k1 k2 (re_QV_le k1) k3)
  · rintro m i ⟨m1, q1, e1⟩ hi ⟨k1, k2, k3⟩ hk
    dsimp only at k1 k2 k3 ⊢
    have he1 := re_QV_le k1
    simp (disch := omega) only [wX_spreadMarks_2, nI_clamp, re_in, re_m3, re_m7, re_m28, re_m49, re_m4, re_m8, re_m84, nI_add, nI_1, re_a2, re_a3, re_a4, re_a5, re_a6, re_b336, re_b8, re_b0, forall_eq, true_and, and_true, not_false_eq_true, not_true_eq_false, false_implies, true_implies, implies_true]
    refine pk_le 168 i (fun _ => by omega) (fun _ => pk_le e1 i (fun z => fin i m1 q1 e1 k1 k2 z k3) (fun z => ?_))
    obtain ⟨y, y1, y2, y3, y4⟩ := k1.2.2.1 i z
    rw [y2]
    simp (disch := omega) only [↓re_r3, re_d3, re_z3, nI_clamp, re_in, re_m3, re_m7, re_m28, re_m49, re_m4, re_m8, re_m84, nI_add, nI_1, re_a2, re_a3, re_a4, re_a5, re_a6, re_b336, re_b8, re_b0, forall_eq, true_and, and_true, not_false_eq_true, not_true_eq_false, false_implies, true_implies, implies_true]
    have ey : y / 3 * 3 + y % 3 = y := by omega
    refine loop_0 (fun o f (st : (Nat → Int32) × (Nat → Int32) × Nat) => wX_spreadMarks_38 post (wX_spreadMarks_2 post m) (nI i) (nI (y / 3)) (nI (y % 3)) o (nI f) (nI T) (nI R) sl dp cu tu (nI K) (nI F) 336 rn (nI st.2.2) rq kT kA kB kP cC cA cB cK cD cU ce mo rm rl st.1 st.2.1 po) (fun f st => re_QV D Q st.1 st.2.1 st.2.2 ∧ re_GR m1 q1 e1 st.1 st.2.1 st.2.2 ∧ (∀ p q, p < 28 → q < 3 → p * 3 + q ≠ y → re_WK s F cU ce D st.1 st.2.1 (i + 1) st.2.2 p q) ∧ ((∀ g, g < f → re_PF s cU ce D (re_MI st.1) (y / 3) (y % 3) g) ∨ ∃ j, i + 1 ≤ j ∧ j < st.2.2 ∧ st.2.1 j = nI y)) F (m1, q1, e1) ⟨k1, re_GR_refl, ?_, Or.inl lt_0⟩ ?_ ?_
    · intro p q hp hq hne
      rcases k3 p q hp hq with w | ⟨j, j1, j2, j3⟩
      · exact Or.inl w
      · refine Or.inr ⟨j, ?_, j2, j3⟩
        rcases Nat.lt_or_ge i j with v | v
        · exact v
        · have : j = i := by omega
          subst this
          rw [y2, nI_eq (by omega) (by omega)] at j3
          omega
    · rintro o ⟨m2, q2, e2⟩ ⟨j1, j2, j3, j4⟩
      dsimp only at j1 j2 j3 j4 ⊢
      have go : wX_spreadMarks_2 post m (nI (i + 1)) (nI T) (nI R) sl dp cu tu (nI K) (nI F) 336 rn (nI e2) rq kT kA kB kP cC cA cB cK cD cU ce mo rm rl m2 q2 po := by
        refine hk (m2, q2, e2) ⟨j1, re_GR_trans k2 j2, fun p q hp hq => ?_⟩
        rcases Nat.decEq (p * 3 + q) y with v | v
        · exact j3 p q hp hq v
        · have v1 : p = y / 3 := by omega
          have v2 : q = y % 3 := by omega
          rcases j4 with j4 | j4
          · rw [v1, v2]; exact Or.inl j4
          · exact Or.inr (by rw [v]; exact j4)
      simp (disch := omega) only [wX_spreadMarks_38, nI_clamp, re_in, re_m3, re_m7, re_m28, re_m49, re_m4, re_m8, re_m84, nI_add, nI_1, re_a2, re_a3, re_a4, re_a5, re_a6, re_b336, re_b8, re_b0, forall_eq, true_and, and_true, not_false_eq_true, not_true_eq_false, false_implies, true_implies, implies_true]
      exact pk_le 8 F (fun _ => go) (fun _ => pk_le F F (fun _ => go) (fun w => by omega))
    · rintro o f ⟨m2, q2, e2⟩ hf ⟨j1, j2, j3, j4⟩ hk2
      dsimp only at j1 j2 j3 j4 ⊢
      have he12 := j2.1
      have yes : (cU f = 2 ∨ cU f = 3) → wX_spreadMarks_76 post (wX_spreadMarks_2 post m) (wX_spreadMarks_38 post (wX_spreadMarks_2 post m) (nI i) (nI (y / 3)) (nI (y % 3)) o) (nI i) (nI (y / 3)) (nI (y % 3)) (nI f) (nI T) (nI R) sl dp cu tu (nI K) (nI F) 336 rn (nI e2) rq kT kA kB kP cC cA cB cK cD cU ce mo rm rl m2 q2 po := by
        intro hu
        unfold wX_spreadMarks_76
        refine rx_spreadAlong hP hX hD hO j1 hB hf (by omega) (by omega) y3 ?_ hu (fun m3 q3 e3 i1 i2 i3 => ?_)
        · rw [ey]
          exact Int.lt_of_lt_of_le y4 (j2.2.2.1 y y1)
        · rw [ey] at i3
          try simp (disch := omega) only [nI_clamp, re_in, re_m3, re_m7, re_m28, re_m49, re_m4, re_m8, re_m84, nI_add, nI_1, re_a2, re_a3, re_a4, re_a5, re_a6, re_b336, re_b8, re_b0, forall_eq, true_and, and_true, not_false_eq_true, not_true_eq_false, false_implies, true_implies, implies_true]
          refine hk2 (m3, q3, e3) ⟨i1, re_GR_trans j2 i2, fun p q hp hq hne => re_WK_keep hP i2 (by omega) hp hq (j3 p q hp hq hne), ?_⟩
          have l3 := i2.1
          rcases j4 with j4 | ⟨j, a1, a2, a3⟩
          · rcases i2.2.2.2 y y1 with v | ⟨j, a1, a2, a3⟩
            · refine Or.inl (lt_s (fun g hg => re_PF_mono hP (by omega) i2.2.2.1 (by rw [ey]; exact v) (j4 g hg)) (i3 v))
            · exact Or.inr ⟨j, by omega, a2, a3⟩
          · exact Or.inr ⟨j, a1, by dsimp only; omega, (i2.2.1 j a2).trans a3⟩
      simp (disch := omega) only [wX_spreadMarks_38, nI_clamp, re_in, re_m3, re_m7, re_m28, re_m49, re_m4, re_m8, re_m84, nI_add, nI_1, re_a2, re_a3, re_a4, re_a5, re_a6, re_b336, re_b8, re_b0, forall_eq, true_and, and_true, not_false_eq_true, not_true_eq_false, false_implies, true_implies, implies_true]
      refine pk_le 8 f (fun _ => by omega) (fun _ => pk_le F f (fun _ => by omega) (fun _ => br_c (fun w => yes (Or.inl w)) (fun w => br_c (fun w2 => yes (Or.inr w2)) (fun w2 => ?_))))
      refine hk2 (m2, q2, e2) ⟨j1, j2, j3, ?_⟩
      rcases j4 with j4 | j4
      · exact Or.inl (lt_s j4 (fun c _ _ => ⟨fun v => absurd v w, fun v => absurd v w2⟩))
      · exact Or.inr j4
end
end
section
/-! the reference: opening, copies, the final checks -/
def re_LA (F : Nat) (cD cU fs : Nat → Int32) : Prop := ∀ f, f < F → fs (f * 7 + 4) = cD f ∧ fs (f * 7 + 5) = cU f
theorem re_flat (A : Nat → Nat → Nat → Prop) {n f i j : Nat} (h : ∀ m, m < n → ¬ A (m / 49) (m / 7 - m / 7 / 7 * 7) (m - m / 7 * 7)) (hi : i < 7) (hj : j < 7) (hn : f * 49 + i * 7 + j < n) : ¬ A f i j := by
  have a := h _ hn
  rw [show (f * 49 + i * 7 + j) / 49 = f by omega, show (f * 49 + i * 7 + j) / 7 - (f * 49 + i * 7 + j) / 7 / 7 * 7 = i by omega, show f * 49 + i * 7 + j - (f * 49 + i * 7 + j) / 7 * 7 = j by omega] at a
  exact a
section
variable {T R K F : Nat} {s : re_Sc} {sl dp cu tu rn qe : Int32} {rq kT kA kB kP cC cA cB cK cD cU ce mo rm rl mk qu po : Nat → Int32} {ks fs ym yr yk : Nat → Int32}
variable {D : Nat → Prop} {M : Nat → Int}
theorem ry_opens {post : Int32 → SY → Prop} (hs : sl = 0 ∨ sl = 1) (h : post sl (nI T, nI R, sl, nI K, nI F, dp, -1, 0, ks, fs, ce, ym, rq, re_Z 28 yr, re_Z 84 yk)) : wpY_opens post (nI T, nI R, sl, nI K, nI F, dp, cu, tu, ks, fs, ce, ym, rq, yr, yk) := by
  unfold wpY_opens
  refine loop_0 (fun n i (c : Nat → Int32) => wY_opens_12 post (nI T) (nI R) sl (nI K) (nI F) dp (-1) 0 n (nI i) ks fs ce ym rq c yk) (fun i c => c = re_Z i yr) 28 yr re_Z_0 ?_ ?_
  · rintro n c rfl
    refine br_t (by decide) ?_
    refine loop_0 (fun n i (c : Nat → Int32) => wY_opens_33 post (nI T) (nI R) sl (nI K) (nI F) dp (-1) 0 n (nI i) ks fs ce ym rq (re_Z 28 yr) c) (fun i c => c = re_Z i yk) 84 yk re_Z_0 ?_ ?_
    · rintro n c rfl
      refine br_t (by decide) ⟨?_, h⟩
      rcases hs with rfl | rfl <;> rfl
    · rintro n i c hi rfl hc
      simp (disch := omega) only [wY_opens_33, nI_clamp, re_in, re_m3, re_m7, re_m28, re_m49, re_m4, re_m8, re_m84, nI_add, nI_1, re_a2, re_a3, re_a4, re_a5, re_a6, re_b336, re_b8, re_b0, forall_eq, true_and, and_true, not_false_eq_true, not_true_eq_false, false_implies, true_implies, implies_true]
      exact pk_le 84 i (fun h => absurd h (by omega)) (fun _ => hc _ re_Z_s)
  · rintro n i c hi rfl hc
    simp (disch := omega) only [wY_opens_12, re_nb0, nI_clamp, re_in, re_m3, re_m7, re_m28, re_m49, re_m4, re_m8, re_m84, nI_add, nI_1, re_a2, re_a3, re_a4, re_a5, re_a6, re_b336, re_b8, re_b0, forall_eq, true_and, and_true, not_false_eq_true, not_true_eq_false, false_implies, true_implies, implies_true]
    exact pk_le 28 i (fun h => absurd h (by omega)) (fun _ => hc _ re_Z_s)
theorem ry_copy {post : SY → Prop} {a b : Nat} (ha : a ≤ 4) (hb : b ≤ 4) (hab : a ≠ b) (h : post (nI T, nI R, sl, nI K, nI F, dp, cu, tu, ks, fs, re_CP 84 (a * 84) (b * 84) ce, re_CP 8 (a * 8) (b * 8) ym, rq, yr, yk)) : wpY_copy post (nI T, nI R, sl, nI K, nI F, dp, cu, tu, ks, fs, ce, ym, rq, yr, yk) (nI a) (nI b) := by
  unfold wpY_copy
  refine loop_0 (fun n i (c : Nat → Int32) => wY_copy_2 post (nI a) (nI b) (nI T) (nI R) sl (nI K) (nI F) dp cu tu n (nI i) ks fs c ym rq yr yk) (fun i c => c = re_CP i (a * 84) (b * 84) ce) 84 ce re_CP_0 ?_ ?_
  · rintro n c rfl
    refine br_t (by decide) ?_
    refine loop_0 (fun n i (c : Nat → Int32) => wY_copy_38 post (nI a) (nI b) (nI T) (nI R) sl (nI K) (nI F) dp cu tu n (nI i) ks fs (re_CP 84 (a * 84) (b * 84) ce) c rq yr yk) (fun i c => c = re_CP i (a * 8) (b * 8) ym) 8 ym re_CP_0 ?_ ?_
    · rintro n c rfl
      exact br_t (by decide) h
    · rintro n i c hi rfl hc
      simp (disch := omega) only [wY_copy_38, nI_clamp, re_in, re_m3, re_m7, re_m28, re_m49, re_m4, re_m8, re_m84, nI_add, nI_1, re_a2, re_a3, re_a4, re_a5, re_a6, re_b336, re_b8, re_b0, forall_eq, true_and, and_true, not_false_eq_true, not_true_eq_false, false_implies, true_implies, implies_true]
      exact pk_le 8 i (fun h => absurd h (by omega)) (fun _ => hc _ (re_CP_s hi (by omega)))
  · rintro n i c hi rfl hc
    simp (disch := omega) only [wY_copy_2, nI_clamp, re_in, re_m3, re_m7, re_m28, re_m49, re_m4, re_m8, re_m84, nI_add, nI_1, re_a2, re_a3, re_a4, re_a5, re_a6, re_b336, re_b8, re_b0, forall_eq, true_and, and_true, not_false_eq_true, not_true_eq_false, false_implies, true_implies, implies_true]
    exact pk_le 84 i (fun h => absurd h (by omega)) (fun _ => hc _ (re_CP_s hi (by omega)))
theorem ry_keyMarked {post : Int32 → Prop} (hP : re_SP s T R K F) (hY : re_LY s K F ks fs) (hM : ∀ i, i < 84 → (yk i).toInt = M i) {f p : Nat} (hf : f < F) (hp : p < 28) (h1 : re_KM s M f p → post 1) (h0 : ¬ re_KM s M f p → post 0) : wpY_keyMarked post (nI T, nI R, sl, nI K, nI F, dp, cu, tu, ks, fs, ce, ym, rq, yr, yk) (nI f) (nI p) := by
  have B := hP.1
  have G := hP.2.2 f hf
  have E := hY.2 f hf
  have hk : re_fk s f < K := G.2.2.2.2.1
  have E2 := hY.1 _ hk
  have G2 := hP.2.1 _ hk
  have m1 := hM (p * 3 + re_ka s (re_fk s f)) (by omega)
  have m2 := hM (p * 3 + (re_kb s (re_fk s f) - 1)) (by omega)
  unfold wpY_keyMarked
  dsimp only
  simp (disch := omega) only [E.2.2.2, E2.2.1, E2.2.2, re_pos, re_le0, m1, nI_clamp, re_in, re_m3, re_m7, re_m28, re_m49, re_m4, re_m8, re_m84, nI_add, nI_1, re_a2, re_a3, re_a4, re_a5, re_a6, re_b336, re_b8, re_b0, forall_eq, true_and, and_true, not_false_eq_true, not_true_eq_false, false_implies, true_implies, implies_true]
  refine br_c (fun z => h1 (Or.inl z)) (fun z => ?_)
  rcases Nat.eq_zero_or_pos (re_kb s (re_fk s f)) with e | e
  · refine br_t (by rw [e]; decide) (h0 ?_)
    rintro (w | ⟨w, -⟩)
    · exact z w
    · omega
  · rw [re_ocS e]
    simp (disch := omega) only [m2, nI_clamp, re_in, re_m3, re_m7, re_m28, re_m49, re_m4, re_m8, re_m84, nI_add, nI_1, re_a2, re_a3, re_a4, re_a5, re_a6, re_b336, re_b8, re_b0, forall_eq, true_and, and_true, not_false_eq_true, not_true_eq_false, false_implies, true_implies, implies_true]
    refine br_f (nI_pos (by omega)) (br_c (fun z4 => h0 ?_) (fun z4 => h1 (Or.inr ⟨e, by omega⟩)))
    rintro (w | ⟨-, w⟩)
    · exact z w
    · omega
theorem ry_jE {post : Int32 → SY → Prop} (hM : ∀ i, i < 84 → (yk i).toInt = M i) (h : post 0 (nI T, nI R, sl, nI K, nI F, dp, cu, nI (re_cn (fun i => 0 < M i) 84), ks, fs, ce, ym, rq, yr, yk)) : ∃ n372 : Nat, wY_judge_372 post (nI T) (nI R) sl (nI K) (nI F) dp cu ks fs ce ym rq yr yk n372 0 0 := by
  refine loop_0 (fun n i (_ : Unit) => wY_judge_372 post (nI T) (nI R) sl (nI K) (nI F) dp cu ks fs ce ym rq yr yk n (nI i) (nI (re_cn (fun i => 0 < M i) i))) (fun i _ => True) 84 () trivial ?_ ?_
  · intro n _ _
    exact br_t (by decide) h
  · intro n i _ hi _ hc
    have hc1 := hc () trivial
    simp (disch := omega) only [wY_judge_372, re_le0, hM i hi, nI_clamp, re_in, re_m3, re_m7, re_m28, re_m49, re_m4, re_m8, re_m84, nI_add, nI_1, re_a2, re_a3, re_a4, re_a5, re_a6, re_b336, re_b8, re_b0, forall_eq, true_and, and_true, not_false_eq_true, not_true_eq_false, false_implies, true_implies, implies_true]
    refine pk_le 84 i (fun _ => by omega) (fun _ => br_c (fun z => ?_) (fun z => ?_))
    · rw [re_cn_f (P := fun i => 0 < M i) (show ¬ 0 < M i by omega)] at hc1
      exact hc1
    · rw [re_cn_t (P := fun i => 0 < M i) (show 0 < M i by omega)] at hc1
      exact hc1
theorem ry_jD {post : Int32 → SY → Prop} (hP : re_SP s T R K F) (hY : re_LY s K F ks fs) (hM : ∀ i, i < 84 → (yk i).toInt = M i) {L : Nat → Prop} (hLx : ∀ f, f < F → (L f ↔ ym f = 0))
    (h1 : ∀ f, f < F → re_PD s ce L 336 f → (∀ g, g < f → ¬ re_PD s ce L 336 g) → post (-10) (nI T, nI R, sl, nI K, nI F, dp, nI f, 0, ks, fs, ce, ym, rq, yr, yk))
    (h0 : (∀ f, f < F → ¬ re_PD s ce L 336 f) → post 0 (nI T, nI R, sl, nI K, nI F, dp, cu, nI (re_cn (fun i => 0 < M i) 84), ks, fs, re_CP 84 336 0 ce, re_CP 8 32 0 ym, rq, yr, yk)) : ∃ n324 : Nat, wY_judge_324 post (nI T) (nI R) sl (nI K) (nI F) dp cu 0 ks fs ce ym rq yr yk n324 0 := by
  have B := hP.1
  refine loop_0 (fun n f (_ : Unit) => wY_judge_324 post (nI T) (nI R) sl (nI K) (nI F) dp cu 0 ks fs ce ym rq yr yk n (nI f)) (fun f _ => ∀ g, g < f → ¬ re_PD s ce L 336 g) F () lt_0 ?_ ?_
  · intro n _ hI
    simp only [wY_judge_324]
    refine pk_le F F (fun _ => ?_) (fun z => by omega)
    exact ry_copy (a := 4) (b := 0) (by omega) (by omega) (by omega) (ry_jE hM (h0 hI))
  · intro n f _ hf hI hc
    have hl := hLx f hf
    simp (disch := omega) only [wY_judge_324, nI_clamp, re_in, re_m3, re_m7, re_m28, re_m49, re_m4, re_m8, re_m84, nI_add, nI_1, re_a2, re_a3, re_a4, re_a5, re_a6, re_b336, re_b8, re_b0, forall_eq, true_and, and_true, not_false_eq_true, not_true_eq_false, false_implies, true_implies, implies_true]
    refine pk_le F f (fun _ => by omega) (fun _ => br_c (fun z => ?_) (fun z => hc () (lt_s hI (fun w => z (hl.mp w.1)))))
    refine ry_danglers (st := 4) hP hY (by omega) hf ?_
    have cl := re_cn_le (re_DG s ce (4 * 84) f) 7
    try simp (disch := omega) only [nI_clamp, re_in, re_m3, re_m7, re_m28, re_m49, re_m4, re_m8, re_m84, nI_add, nI_1, re_a2, re_a3, re_a4, re_a5, re_a6, re_b336, re_b8, re_b0, forall_eq, true_and, and_true, not_false_eq_true, not_true_eq_false, false_implies, true_implies, implies_true]
    refine pk_le (re_cn (re_DG s ce (4 * 84) f) 7) 0 (fun w => hc () (lt_s hI (fun v => ?_))) (fun w => h1 f hf ⟨hl.mpr z, w⟩ hI)
    have v2 : 0 < re_cn (re_DG s ce (4 * 84) f) 7 := v.2
    omega
theorem ry_jC {post : Int32 → SY → Prop} (hP : re_SP s T R K F) (hY : re_LY s K F ks fs)
    (h1 : ∀ k, k < K → re_PC s ce 336 k → (∀ g, g < k → ¬ re_PC s ce 336 g) → post (-9) (nI T, nI R, sl, nI K, nI F, dp, nI k, tu, ks, fs, ce, ym, rq, yr, yk))
    (h0 : (∀ k, k < K → ¬ re_PC s ce 336 k) → ∃ n324 : Nat, wY_judge_324 post (nI T) (nI R) sl (nI K) (nI F) dp cu tu ks fs ce ym rq yr yk n324 0) : ∃ n204 : Nat, wY_judge_204 post (nI T) (nI R) sl (nI K) (nI F) dp cu tu ks fs ce ym rq yr yk n204 0 := by
  have B := hP.1
  refine loop_0 (fun n i (_ : Unit) => wY_judge_204 post (nI T) (nI R) sl (nI K) (nI F) dp cu tu ks fs ce ym rq yr yk n (nI i)) (fun n _ => ∀ m, m < n → ¬ (fun k i j => i ≠ j ∧ re_TW s ce 336 k i j) (m / 49) (m / 7 - m / 7 / 7 * 7) (m - m / 7 * 7)) (K * 49) () lt_0 ?_ ?_
  · intro n _ hI
    simp (disch := omega) only [wY_judge_204, re_m49]
    refine pk_le (K * 49) (K * 49) (fun _ => h0 ?_) (fun z => by omega)
    rintro k hk ⟨i, j, hi, hj, hne, ht⟩
    exact re_flat (fun k i j => i ≠ j ∧ re_TW s ce 336 k i j) hI hi hj (by omega) ⟨hne, ht⟩
  · intro n m _ hm hI hc
    have hk : m / 49 < K := by omega
    have E := hY.1 _ hk
    have G := hP.2.1 _ hk
    simp (disch := omega) only [wY_judge_204, re_d49, re_d7, re_z49, re_z7, pk_sub, E.1, E.2.1, E.2.2, nI_clamp, re_in, re_m3, re_m7, re_m28, re_m49, re_m4, re_m8, re_m84, nI_add, nI_1, re_a2, re_a3, re_a4, re_a5, re_a6, re_b336, re_b8, re_b0, forall_eq, true_and, and_true, not_false_eq_true, not_true_eq_false, false_implies, true_implies, implies_true]
    refine pk_le (K * 49) m (fun z => by omega) (fun _ => ?_)
    refine pk_eq (re_kt s (m / 49) * 7 + (m / 7 - m / 7 / 7 * 7)) (re_kt s (m / 49) * 7 + (m - m / 7 * 7)) (fun z => hc () (lt_s hI (fun w => w.1 (by omega)))) (fun z => ?_)
    refine ry_same (st := 4) (by omega) (by omega) (by omega) (by omega) (by omega) (by omega) (by omega) Iff.rfl (fun w => re_bq1 ?_) (fun w => re_bq0 (hc () (lt_s hI (fun v => w v.2))))
    refine h1 (m / 49) hk ⟨m / 7 - m / 7 / 7 * 7, m - m / 7 * 7, by omega, by omega, by omega, w⟩ ?_
    rintro g hg ⟨i, j, hi, hj, hne, ht⟩
    exact re_flat (fun k i j => i ≠ j ∧ re_TW s ce 336 k i j) hI hi hj (by omega) ⟨hne, ht⟩
theorem ry_jB {post : Int32 → SY → Prop}
    (h1 : ∀ i, i < 12 → re_PB rq ce 336 i → (∀ g, g < i → ¬ re_PB rq ce 336 g) → post (-8) (nI T, nI R, sl, nI K, nI F, dp, nI i, tu, ks, fs, ce, ym, rq, yr, yk))
    (h0 : (∀ i, i < 12 → ¬ re_PB rq ce 336 i) → ∃ n204 : Nat, wY_judge_204 post (nI T) (nI R) sl (nI K) (nI F) dp cu tu ks fs ce ym rq yr yk n204 0) : ∃ n140 : Nat, wY_judge_140 post (nI T) (nI R) sl (nI K) (nI F) dp cu tu ks fs ce ym rq yr yk n140 0 := by
  refine loop_0 (fun n i (_ : Unit) => wY_judge_140 post (nI T) (nI R) sl (nI K) (nI F) dp cu tu ks fs ce ym rq yr yk n (nI i)) (fun n _ => ∀ i r, r < 7 → i * 7 + r < n → ¬ (¬ rq i = 0 ∧ ce (336 + (i / 3 * 7 + r) * 3 + i % 3) = -1)) 84 () (fun i r _ h => by omega) ?_ ?_
  · intro n _ hI
    refine br_t (by decide) (h0 ?_)
    rintro i hi ⟨a, r, hr, e⟩
    exact hI i r hr (by omega) ⟨a, e⟩
  · intro n m _ hm hI hc
    have step : ¬ (¬ rq (m / 7) = 0 ∧ ce (336 + (m / 7 / 3 * 7 + (m - m / 7 * 7)) * 3 + m / 7 % 3) = -1) → ∀ i r, r < 7 → i * 7 + r < m + 1 → ¬ (¬ rq i = 0 ∧ ce (336 + (i / 3 * 7 + r) * 3 + i % 3) = -1) := by
      intro hz i r hr hlt
      rcases Nat.lt_or_ge (i * 7 + r) m with v | v
      · exact hI i r hr v
      · have e1 : i = m / 7 := by omega
        have e2 : r = m - m / 7 * 7 := by omega
        subst e2
        subst e1
        exact hz
    simp (disch := omega) only [wY_judge_140, re_d7, re_d21, re_d3, re_z7, re_z21, re_z3, pk_sub, nI_clamp, re_in, re_m3, re_m7, re_m28, re_m49, re_m4, re_m8, re_m84, nI_add, nI_1, re_a2, re_a3, re_a4, re_a5, re_a6, re_b336, re_b8, re_b0, forall_eq, true_and, and_true, not_false_eq_true, not_true_eq_false, false_implies, true_implies, implies_true]
    refine pk_le 84 m (fun z => by omega) (fun _ => br_c (fun z => hc () (step (fun w => w.1 z))) (fun z => ?_))
    refine ry_at (st := 4) (by omega) ?_
    have ex : 4 * 84 + (m / 21 * 7 + (m - m / 7 * 7)) * 3 + (m / 7 - m / 7 / 3 * 3) = 336 + (m / 7 / 3 * 7 + (m - m / 7 * 7)) * 3 + m / 7 % 3 := by omega
    rw [ex]
    refine br_c (fun w => h1 (m / 7) (by omega) ⟨z, m - m / 7 * 7, by omega, w⟩ ?_) (fun w => hc () (step (fun v => w v.2)))
    rintro g hg ⟨a, r, hr, e⟩
    exact hI g r hr (by omega) ⟨a, e⟩
theorem ry_judge {post : Int32 → SY → Prop} (hP : re_SP s T R K F) (hY : re_LY s K F ks fs) (hA' : re_LA F cD cU fs) (hL : re_LK D M yr yk) {L : Nat → Prop} (hLx : ∀ f, f < F → (L f ↔ ym f = 0))
    (hA : ∀ f, f < F → re_PA s cD cU ce D M f → (∀ g, g < f → ¬ re_PA s cD cU ce D M g) → post (-7) (nI T, nI R, sl, nI K, nI F, dp, nI f, 0, ks, fs, ce, ym, rq, yr, yk))
    (hB : (∀ f, f < F → ¬ re_PA s cD cU ce D M f) → ∀ i, i < 12 → re_PB rq ce 336 i → (∀ g, g < i → ¬ re_PB rq ce 336 g) → post (-8) (nI T, nI R, sl, nI K, nI F, dp, nI i, 0, ks, fs, ce, ym, rq, yr, yk))
    (hC : (∀ f, f < F → ¬ re_PA s cD cU ce D M f) → (∀ i, i < 12 → ¬ re_PB rq ce 336 i) → ∀ k, k < K → re_PC s ce 336 k → (∀ g, g < k → ¬ re_PC s ce 336 g) → post (-9) (nI T, nI R, sl, nI K, nI F, dp, nI k, 0, ks, fs, ce, ym, rq, yr, yk))
    (hD : (∀ f, f < F → ¬ re_PA s cD cU ce D M f) → (∀ i, i < 12 → ¬ re_PB rq ce 336 i) → (∀ k, k < K → ¬ re_PC s ce 336 k) → ∀ f, f < F → re_PD s ce L 336 f → (∀ g, g < f → ¬ re_PD s ce L 336 g) → post (-10) (nI T, nI R, sl, nI K, nI F, dp, nI f, 0, ks, fs, ce, ym, rq, yr, yk))
    (hE : (∀ f, f < F → ¬ re_PA s cD cU ce D M f) → (∀ i, i < 12 → ¬ re_PB rq ce 336 i) → (∀ k, k < K → ¬ re_PC s ce 336 k) → (∀ f, f < F → ¬ re_PD s ce L 336 f) → post 0 (nI T, nI R, sl, nI K, nI F, dp, cu, nI (re_cn (fun i => 0 < M i) 84), ks, fs, re_CP 84 336 0 ce, re_CP 8 32 0 ym, rq, yr, yk)) : wpY_judge post (nI T, nI R, sl, nI K, nI F, dp, cu, 0, ks, fs, ce, ym, rq, yr, yk) := by
  have B := hP.1
  have rest : (∀ f, f < F → ¬ re_PA s cD cU ce D M f) → ∃ n140 : Nat, wY_judge_140 post (nI T) (nI R) sl (nI K) (nI F) dp cu 0 ks fs ce ym rq yr yk n140 0 := fun nA =>
    ry_jB (hB nA) (fun nB => ry_jC hP hY (hC nA nB) (fun nC => ry_jD hP hY hL.2 hLx (hD nA nB nC) (hE nA nB nC)))
  unfold wpY_judge
  refine loop_0 (fun n i (_ : Unit) => wY_judge_2 post (nI T) (nI R) sl (nI K) (nI F) dp cu 0 ks fs ce ym rq yr yk n (nI i)) (fun n _ => ∀ m, m < n → ¬ (fun f i j => re_RB s ce 0 f i j ∧ re_ST s cD cU D M f (re_kt s (re_fk s f) * 7 + j)) (m / 49) (m / 7 - m / 7 / 7 * 7) (m - m / 7 * 7)) (F * 49) () lt_0 ?_ ?_
  · intro n _ hI
    simp (disch := omega) only [wY_judge_2, re_m49]
    refine pk_le (F * 49) (F * 49) (fun _ => rest ?_) (fun z => by omega)
    rintro f hf ⟨c, p, ⟨i, j, hi, hj, rfl, rfl, hr⟩, hs⟩
    exact re_flat (fun f i j => re_RB s ce 0 f i j ∧ re_ST s cD cU D M f (re_kt s (re_fk s f) * 7 + j)) hI hi hj (by omega) ⟨hr, hs⟩
  · intro n m _ hm hI hc
    have hf : m / 49 < F := by omega
    have G := hP.2.2 _ hf
    have E := hY.2 _ hf
    have G2 := hP.2.1 _ G.2.2.2.2.1
    have a4 := hA' _ hf
    have hi7 : m / 7 - m / 7 / 7 * 7 < 7 := by omega
    have hj7 : m - m / 7 * 7 < 7 := by omega
    have hpl : re_kt s (re_fk s (m / 49)) * 7 + (m - m / 7 * 7) < 28 := by omega
    have hd := hL.1 _ hpl
    have no : ¬ re_ST s cD cU D M (m / 49) (re_kt s (re_fk s (m / 49)) * 7 + (m - m / 7 * 7)) → wY_judge_105 post (wY_judge_2 post (nI T) (nI R) sl (nI K) (nI F) dp cu 0 ks fs ce ym rq yr yk n) (nI m) (nI (m / 49)) (nI (re_ct s (m / 49) * 7 + (m / 7 - m / 7 / 7 * 7))) (nI (re_kt s (re_fk s (m / 49)) * 7 + (m - m / 7 * 7))) 0 (nI T) (nI R) sl (nI K) (nI F) dp cu 0 ks fs ce ym rq yr yk := by
      intro hs
      unfold wY_judge_105
      refine br_t rfl ?_
      try simp (disch := omega) only [nI_clamp, re_in, re_m3, re_m7, re_m28, re_m49, re_m4, re_m8, re_m84, nI_add, nI_1, re_a2, re_a3, re_a4, re_a5, re_a6, re_b336, re_b8, re_b0, forall_eq, true_and, and_true, not_false_eq_true, not_true_eq_false, false_implies, true_implies, implies_true]
      exact hc () (lt_s hI (fun w => hs w.2))
    have yes : re_ST s cD cU D M (m / 49) (re_kt s (re_fk s (m / 49)) * 7 + (m - m / 7 * 7)) → wY_judge_105 post (wY_judge_2 post (nI T) (nI R) sl (nI K) (nI F) dp cu 0 ks fs ce ym rq yr yk n) (nI m) (nI (m / 49)) (nI (re_ct s (m / 49) * 7 + (m / 7 - m / 7 / 7 * 7))) (nI (re_kt s (re_fk s (m / 49)) * 7 + (m - m / 7 * 7))) 1 (nI T) (nI R) sl (nI K) (nI F) dp cu 0 ks fs ce ym rq yr yk := by
      intro hs
      unfold wY_judge_105
      refine br_f (by decide) ?_
      refine ry_refers (st := 0) hP hY (by omega) hf hi7 hj7 (fun w => re_bq1 ?_) (fun w => re_bq0 ?_)
      · refine hA (m / 49) hf ⟨_, _, ⟨_, _, hi7, hj7, rfl, rfl, ?_⟩, hs⟩ ?_
        · rw [Nat.zero_mul] at w
          exact w
        · rintro g hg ⟨c, p, ⟨i, j, hi, hj, rfl, rfl, hr⟩, hs⟩
          exact re_flat (fun f i j => re_RB s ce 0 f i j ∧ re_ST s cD cU D M f (re_kt s (re_fk s f) * 7 + j)) hI hi hj (by omega) ⟨hr, hs⟩
      · try simp (disch := omega) only [nI_clamp, re_in, re_m3, re_m7, re_m28, re_m49, re_m4, re_m8, re_m84, nI_add, nI_1, re_a2, re_a3, re_a4, re_a5, re_a6, re_b336, re_b8, re_b0, forall_eq, true_and, and_true, not_false_eq_true, not_true_eq_false, false_implies, true_implies, implies_true]
        refine hc () (lt_s hI (fun v => w ?_))
        rw [Nat.zero_mul]
        exact v.1
    simp (disch := omega) only [wY_judge_2, wY_judge_104, re_d49, re_d7, re_z49, re_z7, pk_sub, a4.1, a4.2, nI_clamp, re_in, re_m3, re_m7, re_m28, re_m49, re_m4, re_m8, re_m84, nI_add, nI_1, re_a2, re_a3, re_a4, re_a5, re_a6, re_b336, re_b8, re_b0, forall_eq, true_and, and_true, not_false_eq_true, not_true_eq_false, false_implies, true_implies, implies_true]
    refine pk_le (F * 49) m (fun z => by omega) (fun _ => ?_)
    refine ry_child hP hY hf (ry_parent hP hY hf ?_)
    simp (disch := omega) only [a4.1, a4.2, nI_clamp, re_in, re_m3, re_m7, re_m28, re_m49, re_m4, re_m8, re_m84, nI_add, nI_1, re_a2, re_a3, re_a4, re_a5, re_a6, re_b336, re_b8, re_b0, forall_eq, true_and, and_true, not_false_eq_true, not_true_eq_false, false_implies, true_implies, implies_true]
    refine br_c (fun z => br_c (fun z2 => ?_) (fun z2 => no ?_)) (fun z => br_c (fun z2 => yes (Or.inl ⟨Classical.byContradiction (fun w => z (hd.mpr w)), z2⟩)) (fun z2 => no ?_))
    · exact ry_keyMarked hP hY hL.2 hf hpl (fun w => re_bq1 (yes (Or.inr ⟨hd.mp z, z2, w⟩))) (fun w => re_bq0 (no (fun v => v.elim (fun v => hd.mp z v.1) (fun v => w v.2.2))))
    · exact fun v => v.elim (fun v => hd.mp z v.1) (fun v => z2 v.2.1)
    · exact fun v => v.elim (fun v => z2 v.2) (fun v => z (hd.mpr v.1))
end
end
section
/-! the reference: removal rounds, mark rounds, the new content, the count -/
theorem re_upd_same {a : Nat → Int32} {k : Nat} {x : Int32} (h : a k = x) : upd a k x = a := by
  funext j
  unfold upd
  rcases Nat.decEq j k with z | z
  · rw [if_neg z]
  · rw [if_pos z, z, h]
theorem re_upd2 {a : Nat → Int32} {k : Nat} {x y : Int32} : upd (upd a k x) k y = upd a k y := by
  funext j
  unfold upd
  rcases Nat.decEq j k with z | z
  · rw [if_neg z, if_neg z, if_neg z]
  · rw [if_pos z, if_pos z]
def re_BY (rm mk : Nat → Int32) (g : Int32 → Int32) (n : Nat) (ce : Nat → Int32) : Nat → Int32 := fun j => if 336 ≤ j ∧ j < 336 + n then re_NX rm mk ce g (j - 336) else re_CP 84 0 336 ce j
theorem re_BY_0 {rm mk ce : Nat → Int32} {g : Int32 → Int32} : re_CP 84 0 336 ce = re_BY rm mk g 0 ce := by
  funext j
  unfold re_BY
  rw [if_neg (by omega)]
theorem re_BY_s {rm mk ce : Nat → Int32} {g : Int32 → Int32} {i : Nat} {x : Int32} (h : x = re_NX rm mk ce g i) : upd (re_BY rm mk g i ce) (336 + i) x = re_BY rm mk g (i + 1) ce := by
  funext j
  unfold upd re_BY
  rcases Nat.decEq j (336 + i) with z | z
  · rw [if_neg z]
    rcases Classical.em (336 ≤ j ∧ j < 336 + i) with w | w
    · rw [if_pos w, if_pos (by omega)]
    · rw [if_neg w, if_neg (by omega)]
  · rw [if_pos z, if_pos (by omega), z, show 336 + i - 336 = i by omega, h]
theorem re_BY_k {rm mk ce : Nat → Int32} {g : Int32 → Int32} {i : Nat} (hi : i < 84) (h : ce i = re_NX rm mk ce g i) : re_BY rm mk g i ce = re_BY rm mk g (i + 1) ce := by
  have e : re_BY rm mk g i ce (336 + i) = ce i := by
    unfold re_BY
    rw [if_neg (by omega), re_CP_in hi, Nat.zero_add]
  rw [← re_BY_s h, re_upd_same e]
theorem re_BY_lo {rm mk ce : Nat → Int32} {g : Int32 → Int32} {n i : Nat} (hi : i < 84) : re_BY rm mk g n ce i = ce i := by
  unfold re_BY
  rw [if_neg (by omega), re_CP_out (by omega)]
theorem re_BY_BN {rm mk ce : Nat → Int32} {g : Int32 → Int32} : re_BY rm mk g 84 ce = re_BN rm mk g 84 ce := by
  funext j
  unfold re_BY re_BN
  rcases Classical.em (336 ≤ j ∧ j < 336 + 84) with w | w
  · rw [if_pos w, if_pos w]
  · rw [if_neg w, if_neg w, re_CP_out (by omega)]
theorem re_sum3 {a b c : Int32} (ha : 0 ≤ a.toInt ∧ a.toInt ≤ 2) (hb : 0 ≤ b.toInt ∧ b.toInt ≤ 2) (hc : 0 ≤ c.toInt ∧ c.toInt ≤ 2) : (a + b + c ≤ 0) ↔ a.toInt + b.toInt + c.toInt ≤ 0 := by
  have e1 : (a + b).toInt = a.toInt + b.toInt := by
    rw [Int32.toInt_add]
    exact Int.bmod_eq_of_le (by omega) (by omega)
  have e2 : (a + b + c).toInt = a.toInt + b.toInt + c.toInt := by
    rw [Int32.toInt_add, e1]
    exact Int.bmod_eq_of_le (by omega) (by omega)
  rw [re_le0, e2]
/-- the reference's marks within a round: since the round's start k0, with the flag g -/
def re_YV (Q : (Nat → Int) → Prop) (k0 : Nat → Int32) (g : Int32) (k : Nat → Int32) : Prop :=
  (∀ i, i < 84 → 0 ≤ re_MI k i ∧ re_MI k i ≤ 2) ∧ (∀ i, i < 84 → re_MI k0 i ≤ re_MI k i) ∧ (∀ B, Q B → ∀ i, i < 84 → re_MI k i ≤ B i) ∧
  ((g = 0 ∧ k = k0) ∨ (g = 1 ∧ re_sm (re_MI k0) 84 < re_sm (re_MI k) 84))
theorem re_YV_up {Q : (Nat → Int) → Prop} {k0 k : Nat → Int32} {g z : Int32} {o : Nat} (h : re_YV Q k0 g k) (ho : o < 84) (hz : z.toInt ≤ 2) (hB : ∀ B, Q B → z.toInt ≤ B o) (hn : ¬ z ≤ k o) : re_YV Q k0 1 (upd k o z) := by
  rw [Int32.le_iff_toInt_le] at hn
  have u1 : re_MI (upd k o z) o = z.toInt := by unfold re_MI; rw [pk_us]
  have u2 : ∀ i, i ≠ o → re_MI (upd k o z) i = re_MI k i := fun i hi => by unfold re_MI; rw [pk_un hi]
  have v0 := h.1 o ho
  have v1 : re_MI k o = (k o).toInt := rfl
  have v2 := h.2.1 o ho
  refine ⟨?_, ?_, ?_, Or.inr ⟨rfl, ?_⟩⟩
  · intro i hi
    rcases Nat.decEq i o with w | w
    · rw [u2 i w]; exact h.1 i hi
    · rw [w, u1]; omega
  · intro i hi
    rcases Nat.decEq i o with w | w
    · rw [u2 i w]; exact h.2.1 i hi
    · rw [w, u1]; omega
  · intro B hQ i hi
    rcases Nat.decEq i o with w | w
    · rw [u2 i w]; exact h.2.2.1 B hQ i hi
    · rw [w, u1]; exact hB B hQ
  · have a := re_sm_up (M := re_MI k) (M' := re_MI (upd k o z)) 84 ho (fun i _ hi => u2 i hi)
    have b := re_sm_mono 84 h.2.1
    rw [a, u1]
    omega
section
variable {T R K F : Nat} {s : re_Sc} {sl dp cu tu rn qe : Int32} {rq kT kA kB kP cC cA cB cK cD cU ce mo rm rl mk qu po : Nat → Int32} {ks fs ym yr yk : Nat → Int32}
variable {D : Nat → Prop} {M : Nat → Int}
theorem ry_count {post : Int32 → SY → Prop} {x1 x4 : Int32} (hL : re_LK D M yr yk) (hM2 : ∀ i, i < 84 → 0 ≤ M i ∧ M i ≤ 2) {P : Nat → Prop} (hPp : ∀ p, p < 28 → (P p ↔ ((x1 = 0 ∧ D p) ∨ (¬ x1 = 0 ∧ re_MR M p)))) (h1 : ¬ x4 = 0 → post x4 (nI T, nI R, sl, nI K, nI F, dp, cu, tu, ks, fs, ce, ym, rq, yr, yk)) (h0 : x4 = 0 → post (nI (re_cn P 28)) (nI T, nI R, sl, nI K, nI F, dp, cu, tu, ks, fs, ce, ym, rq, yr, yk)) : ∃ n577 : Nat, wY_carryOut_577 post x1 x4 (nI T) (nI R) sl (nI K) (nI F) dp cu tu ks fs ce ym rq yr yk n577 0 0 := by
  refine loop_0 (fun n i (_ : Unit) => wY_carryOut_577 post x1 x4 (nI T) (nI R) sl (nI K) (nI F) dp cu tu ks fs ce ym rq yr yk n (nI (re_cn P i)) (nI i)) (fun i _ => True) 28 () trivial ?_ ?_
  · intro n _ _
    exact br_t (by decide) (br_c h0 h1)
  · intro n i _ hi _ hc
    have hc1 := hc () trivial
    have hp := hPp i hi
    have hd := hL.1 i hi
    have yes : P i → wY_carryOut_577 post x1 x4 (nI T) (nI R) sl (nI K) (nI F) dp cu tu ks fs ce ym rq yr yk n (nI (re_cn P i + 1)) (nI (i + 1)) := by
      intro z
      rw [re_cn_t z] at hc1
      exact hc1
    have no : ¬ P i → wY_carryOut_577 post x1 x4 (nI T) (nI R) sl (nI K) (nI F) dp cu tu ks fs ce ym rq yr yk n (nI (re_cn P i)) (nI (i + 1)) := by
      intro z
      rw [re_cn_f z] at hc1
      exact hc1
    have m0 := hL.2 (i * 3) (by omega)
    have m1 := hL.2 (i * 3 + 1) (by omega)
    have m2 := hL.2 (i * 3 + 2) (by omega)
    have b0 := hM2 (i * 3) (by omega)
    have b1 := hM2 (i * 3 + 1) (by omega)
    have b2 := hM2 (i * 3 + 2) (by omega)
    have s3 := re_sum3 (a := yk (i * 3)) (b := yk (i * 3 + 1)) (c := yk (i * 3 + 2)) (by omega) (by omega) (by omega)
    rw [m0, m1, m2] at s3
    simp (disch := omega) only [wY_carryOut_577, s3, nI_clamp, re_in, re_m3, re_m7, re_m28, re_m49, re_m4, re_m8, re_m84, nI_add, nI_1, re_a2, re_a3, re_a4, re_a5, re_a6, re_b336, re_b8, re_b0, forall_eq, true_and, and_true, not_false_eq_true, not_true_eq_false, false_implies, true_implies, implies_true]
    refine pk_le 28 i (fun _ => by omega) (fun _ => br_c (fun z => br_c (fun w => no ?_) (fun w => yes (hp.mpr (Or.inl ⟨z, Classical.byContradiction (fun v => w (hd.mpr v))⟩)))) (fun z => br_c (fun w => no ?_) (fun w => yes (hp.mpr (Or.inr ⟨z, ?_⟩)))))
    · intro v
      rcases hp.mp v with ⟨-, v⟩ | ⟨v, -⟩
      · exact hd.mp w v
      · exact v z
    · intro v
      rcases hp.mp v with ⟨v, -⟩ | ⟨-, v⟩
      · exact z v
      · rcases v with v | v | v <;> omega
    · unfold re_MR
      omega
theorem ry_content {post : Int32 → SY → Prop} {x1 x2 : Int32} {g : Int32 → Int32} (hg : ∀ v, (x1 = 2 → g v = v + x2) ∧ (¬ x1 = 2 → g v = x2))
    (h : ∀ J : Int32 → SY → Prop, (∀ r cu' tu' ce' ym', (∃ n577 : Nat, wY_carryOut_577 post x1 r (nI T) (nI R) sl (nI K) (nI F) dp cu' tu' ks fs ce' ym' rq yr yk n577 0 0) → J r (nI T, nI R, sl, nI K, nI F, dp, cu', tu', ks, fs, ce', ym', rq, yr, yk)) → wpY_judge J (nI T, nI R, sl, nI K, nI F, dp, cu, tu, ks, fs, re_BN yr yk g 84 ce, re_CP 8 0 32 ym, rq, yr, yk)) : wY_carryOut_455 post x1 x2 (nI T) (nI R) sl (nI K) (nI F) dp cu tu ks fs ce ym rq yr yk := by
  unfold wY_carryOut_455
  refine ry_copy (a := 0) (b := 4) (by omega) (by omega) (by omega) ?_
  refine loop_0 (fun n i (c : Nat → Int32) => wY_carryOut_464 post x1 x2 (nI T) (nI R) sl (nI K) (nI F) dp cu tu n (nI i) ks fs c (re_CP 8 0 32 ym) rq yr yk) (fun i c => c = re_BY yr yk g i ce) 84 (re_CP 84 0 336 ce) re_BY_0 ?_ ?_
  · rintro n c rfl
    refine br_t (by decide) ?_
    rw [re_BY_BN]
    exact h _ (fun r cu' tu' ce' ym' hx => hx)
  · rintro n i c hi rfl hc
    have lo := re_BY_lo (rm := yr) (mk := yk) (ce := ce) (g := g) (n := i) hi
    have key : ∀ x, x = re_NX yr yk ce g i → wY_carryOut_464 post x1 x2 (nI T) (nI R) sl (nI K) (nI F) dp cu tu n (nI (i + 1)) ks fs (upd (re_BY yr yk g i ce) (336 + i) x) (re_CP 8 0 32 ym) rq yr yk := fun x hx => hc _ (re_BY_s hx)
    have keyR : ∀ x, ¬ yr (i / 3) = 0 → wY_carryOut_534 post (wY_carryOut_464 post x1 x2 (nI T) (nI R) sl (nI K) (nI F) dp cu tu n) x1 x2 (nI i) (nI T) (nI R) sl (nI K) (nI F) dp cu tu ks fs (upd (re_BY yr yk g i ce) (336 + i) x) (re_CP 8 0 32 ym) rq yr yk := by
      intro x hr
      unfold wY_carryOut_534
      simp (disch := omega) only [re_d3, re_z3, re_upd2, nI_clamp, re_in, re_m3, re_m7, re_m28, re_m49, re_m4, re_m8, re_m84, nI_add, nI_1, re_a2, re_a3, re_a4, re_a5, re_a6, re_b336, re_b8, re_b0, forall_eq, true_and, and_true, not_false_eq_true, not_true_eq_false, false_implies, true_implies, implies_true]
      exact br_f hr (key _ (by unfold re_NX; rw [if_neg hr]))
    have keyN : ∀ x, yr (i / 3) = 0 → x = re_NX yr yk ce g i → wY_carryOut_534 post (wY_carryOut_464 post x1 x2 (nI T) (nI R) sl (nI K) (nI F) dp cu tu n) x1 x2 (nI i) (nI T) (nI R) sl (nI K) (nI F) dp cu tu ks fs (upd (re_BY yr yk g i ce) (336 + i) x) (re_CP 8 0 32 ym) rq yr yk := by
      intro x hr hx
      unfold wY_carryOut_534
      simp (disch := omega) only [re_d3, re_z3, nI_clamp, re_in, re_m3, re_m7, re_m28, re_m49, re_m4, re_m8, re_m84, nI_add, nI_1, re_a2, re_a3, re_a4, re_a5, re_a6, re_b336, re_b8, re_b0, forall_eq, true_and, and_true, not_false_eq_true, not_true_eq_false, false_implies, true_implies, implies_true]
      exact br_t hr (key _ hx)
    have key2 : ∀ x, (yr (i / 3) = 0 → x = re_NX yr yk ce g i) → wY_carryOut_534 post (wY_carryOut_464 post x1 x2 (nI T) (nI R) sl (nI K) (nI F) dp cu tu n) x1 x2 (nI i) (nI T) (nI R) sl (nI K) (nI F) dp cu tu ks fs (upd (re_BY yr yk g i ce) (336 + i) x) (re_CP 8 0 32 ym) rq yr yk := by
      intro x hx
      by_cases hr : yr (i / 3) = 0
      · exact keyN x hr (hx hr)
      · exact keyR x hr
    simp (disch := omega) only [wY_carryOut_464, nI_clamp, re_in, re_m3, re_m7, re_m28, re_m49, re_m4, re_m8, re_m84, nI_add, nI_1, re_a2, re_a3, re_a4, re_a5, re_a6, re_b336, re_b8, re_b0, forall_eq, true_and, and_true, not_false_eq_true, not_true_eq_false, false_implies, true_implies, implies_true]
    refine pk_le 84 i (fun h => absurd h (by omega)) (fun _ => br_c (fun z => ?_) (fun z => ?_))
    · unfold wY_carryOut_494
      try simp (disch := omega) only [nI_clamp, re_in, re_m3, re_m7, re_m28, re_m49, re_m4, re_m8, re_m84, nI_add, nI_1, re_a2, re_a3, re_a4, re_a5, re_a6, re_b336, re_b8, re_b0, forall_eq, true_and, and_true, not_false_eq_true, not_true_eq_false, false_implies, true_implies, implies_true]
      refine br_f (fun w => absurd (z.symm.trans w) (by decide)) (key2 _ (fun hr => ?_))
      unfold re_NX
      rw [if_pos hr, if_pos z]
    · unfold wY_carryOut_494 wY_carryOut_533
      simp (disch := omega) only [lo, nI_clamp, re_in, re_m3, re_m7, re_m28, re_m49, re_m4, re_m8, re_m84, nI_add, nI_1, re_a2, re_a3, re_a4, re_a5, re_a6, re_b336, re_b8, re_b0, forall_eq, true_and, and_true, not_false_eq_true, not_true_eq_false, false_implies, true_implies, implies_true]
      refine br_c (fun w => br_c (fun v => key2 _ (fun hr => ?_)) (fun v => key2 _ (fun hr => ?_))) (fun w => ?_)
      · unfold re_NX
        rw [if_pos hr, if_neg z, if_pos w, (hg _).1 v]
      · unfold re_NX
        rw [if_pos hr, if_neg z, if_pos w, (hg _).2 v]
      · unfold wY_carryOut_534
        simp (disch := omega) only [re_d3, re_z3, nI_clamp, re_in, re_m3, re_m7, re_m28, re_m49, re_m4, re_m8, re_m84, nI_add, nI_1, re_a2, re_a3, re_a4, re_a5, re_a6, re_b336, re_b8, re_b0, forall_eq, true_and, and_true, not_false_eq_true, not_true_eq_false, false_implies, true_implies, implies_true]
        refine br_c (fun hr => hc _ (re_BY_k hi ?_)) (fun hr => key _ ?_)
        · unfold re_NX
          rw [if_pos hr, if_neg z, if_neg w]
        · unfold re_NX
          rw [if_neg hr]
theorem ry_part {J124 J141 J320 : Int32 → Int32 → (Nat → Int32) → (Nat → Int32) → (Nat → Int32) → (Nat → Int32) → (Nat → Int32) → (Nat → Int32) → (Nat → Int32) → Prop} {post : Int32 → SY → Prop} {Q : (Nat → Int) → Prop} {k0 : Nat → Int32} {x1 x2 g x4 x5 x6 x7 x8 x9 x10 z : Int32} {a o : Nat} (hV : re_YV Q k0 g yk) (ho : o < 84) (hz : z.toInt ≤ 2) (hB : ∀ B, Q B → z.toInt ≤ B o)
    (h : ∀ g' k', re_YV Q k0 g' k' → (g' = 0 → g = 0 ∧ z.toInt ≤ re_MI k0 o) → J320 g' (nI (a + 1)) ks fs ce ym rq yr k') : wY_carryOut_412 post J124 J141 J320 x1 x2 g x4 x5 x6 x7 x8 x9 x10 (nI a) (nI o) z (nI T) (nI R) sl (nI K) (nI F) dp cu tu ks fs ce ym rq yr yk := by
  unfold wY_carryOut_412
  try simp (disch := omega) only [nI_clamp, re_in, re_m3, re_m7, re_m28, re_m49, re_m4, re_m8, re_m84, nI_add, nI_1, re_a2, re_a3, re_a4, re_a5, re_a6, re_b336, re_b8, re_b0, forall_eq, true_and, and_true, not_false_eq_true, not_true_eq_false, false_implies, true_implies, implies_true]
  by_cases w : z ≤ yk o
  · refine br_t w (h g yk hV (fun e => ⟨e, ?_⟩))
    rcases hV.2.2.2 with ⟨-, e2⟩ | ⟨e2, -⟩
    · rw [← e2]
      exact Int32.le_iff_toInt_le.mp w
    · exact absurd (e.symm.trans e2) (by decide)
  · exact br_f w (h 1 _ (re_YV_up hV ho hz hB w) (fun e => absurd e (by decide)))
theorem ry_parts {J124 J141 : Int32 → Int32 → (Nat → Int32) → (Nat → Int32) → (Nat → Int32) → (Nat → Int32) → (Nat → Int32) → (Nat → Int32) → (Nat → Int32) → Prop} {post : Int32 → SY → Prop} {Q : (Nat → Int) → Prop} {k0 : Nat → Int32} {x1 x2 g x4 x9 x10 : Int32} {n f c p : Nat} (hP : re_SP s T R K F) (hY : re_LY s K F ks fs) (hV : re_YV Q k0 g yk) (hf : f < F) (hc : c < 28) (hp : p < 28)
    (hB9 : ¬ x9 = 0 → ∀ B, Q B → re_NU s B f c) (hB10 : x9 = 0 → ¬ x10 = 0 → ∀ B, Q B → re_FO s B f c p) (hB0 : ∀ B, Q B → ∀ i, i < 84 → 0 ≤ B i)
    (h : ∀ g' k', re_YV Q k0 g' k' → (g' = 0 → g = 0 ∧ (¬ x9 = 0 → re_NU s (re_MI k0) f c) ∧ (x9 = 0 → ¬ x10 = 0 → re_FO s (re_MI k0) f c p)) → J141 g' (nI (n + 1)) ks fs ce ym rq yr k') :
    ∃ n320 : Nat, wY_carryOut_320 post J124 J141 x1 x2 x4 (nI n) (nI f) (nI c) (nI p) x9 x10 (nI T) (nI R) sl (nI K) (nI F) dp cu tu n320 g 1 ks fs ce ym rq yr yk := by
  have Bd := hP.1
  have G := hP.2.2 f hf
  have E := hY.2 f hf
  have hk : re_fk s f < K := G.2.2.2.2.1
  have E2 := hY.1 _ hk
  have G2 := hP.2.1 _ hk
  have e0 : ∀ {g' : Int32} {k' : Nat → Int32}, re_YV Q k0 g' k' → g' = 0 → k' = k0 := fun hv e => by
    rcases hv.2.2.2 with ⟨-, e2⟩ | ⟨e2, -⟩
    · exact e2
    · exact absurd (e.symm.trans e2) (by decide)
  have o1 : c * 3 + re_fa s f < 84 := by omega
  have o2 : c * 3 + (re_fb s f - 1) < 84 := by omega
  have o3 : p * 3 + re_ka s (re_fk s f) < 84 := by omega
  have o4 : p * 3 + (re_kb s (re_fk s f) - 1) < 84 := by omega
  -- the end, behind the second part
  have fin : ∀ m g' k', re_YV Q k0 g' k' → (g' = 0 → g = 0 ∧ (¬ x9 = 0 → re_NU s (re_MI k0) f c) ∧ (x9 = 0 → ¬ x10 = 0 → re_FO s (re_MI k0) f c p)) → wY_carryOut_320 post J124 J141 x1 x2 x4 (nI n) (nI f) (nI c) (nI p) x9 x10 (nI T) (nI R) sl (nI K) (nI F) dp cu tu (m + 1) g' (nI 3) ks fs ce ym rq yr k' := by
    intro m g' k' hv hh
    refine br_t (by decide) ?_
    try simp (disch := omega) only [nI_clamp, re_in, re_m3, re_m7, re_m28, re_m49, re_m4, re_m8, re_m84, nI_add, nI_1, re_a2, re_a3, re_a4, re_a5, re_a6, re_b336, re_b8, re_b0, forall_eq, true_and, and_true, not_false_eq_true, not_true_eq_false, false_implies, true_implies, implies_true]
    exact h g' k' hv hh
  -- the second part
  have snd : ∀ m g' k', re_YV Q k0 g' k' → (g' = 0 → g = 0 ∧ (¬ x9 = 0 → 2 ≤ re_MI k0 (c * 3 + re_fa s f)) ∧ (x9 = 0 → ¬ x10 = 0 → re_MI k0 (p * 3 + re_ka s (re_fk s f)) ≤ re_MI k0 (c * 3 + re_fa s f))) → wY_carryOut_320 post J124 J141 x1 x2 x4 (nI n) (nI f) (nI c) (nI p) x9 x10 (nI T) (nI R) sl (nI K) (nI F) dp cu tu (m + 1 + 1) g' (nI 2) ks fs ce ym rq yr k' := by
    intro m g' k' hv hh
    refine br_f (by decide) ?_
    simp (disch := omega) only [E.2.2.1, nI_clamp, re_in, re_m3, re_m7, re_m28, re_m49, re_m4, re_m8, re_m84, nI_add, nI_1, re_a2, re_a3, re_a4, re_a5, re_a6, re_b336, re_b8, re_b0, forall_eq, true_and, and_true, not_false_eq_true, not_true_eq_false, false_implies, true_implies, implies_true]
    rcases Nat.eq_zero_or_pos (re_fb s f) with w | w
    · refine br_t (by rw [w]; decide) (h g' k' hv (fun e => ⟨(hh e).1, fun v => ⟨(hh e).2.1 v, fun u => by omega⟩, fun v v2 => ⟨(hh e).2.2 v v2, fun u => by omega⟩⟩))
    · rw [re_ocS w]
      have wk : 0 < re_kb s (re_fk s f) := by omega
      simp (disch := omega) only [E.2.2.2, E2.2.2, re_ocS wk, nI_clamp, re_in, re_m3, re_m7, re_m28, re_m49, re_m4, re_m8, re_m84, nI_add, nI_1, re_a2, re_a3, re_a4, re_a5, re_a6, re_b336, re_b8, re_b0, forall_eq, true_and, and_true, not_false_eq_true, not_true_eq_false, false_implies, true_implies, implies_true]
      refine br_f (nI_pos (by omega)) (br_c (fun v => br_c (fun v2 => ?_) (fun v2 => ?_)) (fun v => ?_))
      · refine ry_part (a := 2) hv o2 (by decide) (fun B hQ => hB0 B hQ _ o2) (fun g2 k2 hv2 hh2 => fin m g2 k2 hv2 (fun e => ?_))
        exact ⟨(hh (hh2 e).1).1, fun u => absurd v u, fun _ u => absurd v2 u⟩
      · refine ry_part (a := 2) hv o2 (hv.1 _ o4).2 (fun B hQ => Int.le_trans (hv.2.2.1 B hQ _ o4) ((hB10 v v2 B hQ).2 w)) (fun g2 k2 hv2 hh2 => fin m g2 k2 hv2 (fun e => ?_))
        have e1 := hh2 e
        have e2 := e0 hv e1.1
        have e3 := hh e1.1
        refine ⟨e3.1, fun u => absurd v u, fun _ _ => ⟨e3.2.2 v v2, fun _ => ?_⟩⟩
        have e4 := e1.2
        rw [e2] at e4
        exact e4
      · refine ry_part (a := 2) hv o2 (by decide) (fun B hQ => (hB9 v B hQ).2 w) (fun g2 k2 hv2 hh2 => fin m g2 k2 hv2 (fun e => ?_))
        exact ⟨(hh (hh2 e).1).1, fun u => ⟨(hh (hh2 e).1).2.1 u, fun _ => (hh2 e).2⟩, fun u => absurd u v⟩
  refine ⟨0 + 1 + 1 + 1, ?_⟩
  refine br_f (by decide) ?_
  simp (disch := omega) only [E.2.1, E.2.2.2, E2.2.1, nI_clamp, re_in, re_m3, re_m7, re_m28, re_m49, re_m4, re_m8, re_m84, nI_add, nI_1, re_a2, re_a3, re_a4, re_a5, re_a6, re_b336, re_b8, re_b0, forall_eq, true_and, and_true, not_false_eq_true, not_true_eq_false, false_implies, true_implies, implies_true]
  have i1 : vp_in (nI f * 7 + 1) 56 := by rw [re_m7, nI_1]; exact vp_in_nI (by omega) (by omega)
  refine br_f (nI_pos (by omega)) (br_c (fun v => br_c (fun v2 => ?_) (fun v2 => ?_)) (fun v => ?_))
  · refine ry_part (a := 1) hV o1 (by decide) (fun B hQ => hB0 B hQ _ o1) (fun g2 k2 hv2 hh2 => snd 0 g2 k2 hv2 (fun e => ?_))
    exact ⟨(hh2 e).1, fun u => absurd v u, fun _ u => absurd v2 u⟩
  · refine ry_part (a := 1) hV o1 (hV.1 _ o3).2 (fun B hQ => Int.le_trans (hV.2.2.1 B hQ _ o3) (hB10 v v2 B hQ).1) (fun g2 k2 hv2 hh2 => snd 0 g2 k2 hv2 (fun e => ?_))
    have e1 := hh2 e
    have e2 := e0 hV e1.1
    refine ⟨e1.1, fun u => absurd v u, fun _ _ => ?_⟩
    have e4 := e1.2
    rw [e2] at e4
    exact e4
  · refine ry_part (a := 1) hV o1 (by decide) (fun B hQ => (hB9 v B hQ).1) (fun g2 k2 hv2 hh2 => snd 0 g2 k2 hv2 (fun e => ?_))
    exact ⟨(hh2 e).1, fun _ => (hh2 e).2, fun u => absurd u v⟩
end
end
section
/-! the reference: the two fixed-point loops -/
section
variable {T R K F : Nat} {s : re_Sc} {sl dp cu tu rn qe : Int32} {rq kT kA kB kP cC cA cB cK cD cU ce mo rm rl mk qu po : Nat → Int32} {ks fs ym yr yk : Nat → Int32}
variable {D : Nat → Prop} {M : Nat → Int}
theorem ry_phase1 {post : Int32 → SY → Prop} {x1 x2 : Int32} (hP : re_SP s T R K F) (hY : re_LY s K F ks fs) (hA' : re_LA F cD cU fs) (h01 : ∀ p, p < 28 → yr p = 0 ∨ yr p = 1)
    (h : ∀ yr', (∀ p, p < 28 → yr' p = 0 ∨ yr' p = 1) → re_LD s F cD ce (fun p => ¬ yr p = 0) (fun p => ¬ yr' p = 0) → ∃ n124 : Nat, wY_carryOut_124 post x1 x2 (nI T) (nI R) sl (nI K) (nI F) dp cu tu n124 1 0 ks fs ce ym rq yr' yk) : wpY_carryOut post (nI T, nI R, sl, nI K, nI F, dp, cu, tu, ks, fs, ce, ym, rq, yr, yk) x1 x2 := by
  have Bd := hP.1
  unfold wpY_carryOut
  refine loop_0 (fun n r (st : Nat → Int32) => wY_carryOut_2 post x1 x2 (nI T) (nI R) sl (nI K) (nI F) dp cu tu n (nI r) ks fs ce ym rq st yk) (fun r st => (∀ p, p < 28 → st p = 0 ∨ st p = 1) ∧ (∀ p, p < 28 → ¬ yr p = 0 → ¬ st p = 0) ∧ (∀ S : Nat → Prop, re_CD s F cD ce S → (∀ p, p < 28 → ¬ yr p = 0 → S p) → ∀ p, p < 28 → ¬ st p = 0 → S p) ∧ (re_CD s F cD ce (fun p => ¬ st p = 0) ∨ r ≤ re_cn (fun p => ¬ st p = 0) 28)) 28 yr ⟨h01, fun _ _ z => z, fun S _ hs => hs, Or.inr (Nat.zero_le _)⟩ ?_ ?_
  · rintro n st ⟨k1, k2, k3, k4⟩
    refine br_t (by decide) (h st k1 ⟨k2, ?_, k3⟩)
    rcases k4 with k4 | k4
    · exact k4
    · intro f c p hf _ hr _
      exact re_cn_all k4 c (re_RF_lt hP hf hr).1
  · rintro n r st hr ⟨k1, k2, k3, k4⟩ hk
    simp only [wY_carryOut_2]
    refine pk_le 28 r (fun _ => by omega) (fun _ => ?_)
    refine loop_0 (fun o m (su : Nat → Int32) => wY_carryOut_11 post (wY_carryOut_2 post x1 x2 (nI T) (nI R) sl (nI K) (nI F) dp cu tu n) x1 x2 (nI r) (nI T) (nI R) sl (nI K) (nI F) dp cu tu o (nI m) ks fs ce ym rq su yk) (fun m su => (∀ p, p < 28 → su p = 0 ∨ su p = 1) ∧ (∀ p, p < 28 → ¬ yr p = 0 → ¬ su p = 0) ∧ (∀ S : Nat → Prop, re_CD s F cD ce S → (∀ p, p < 28 → ¬ yr p = 0 → S p) → ∀ p, p < 28 → ¬ su p = 0 → S p) ∧ ((su = st ∧ ∀ q, q < m → ¬ (fun f i j => cD f = 2 ∧ ¬ st (re_kt s (re_fk s f) * 7 + j) = 0 ∧ re_RB s ce 0 f i j ∧ st (re_ct s f * 7 + i) = 0) (q / 49) (q / 7 - q / 7 / 7 * 7) (q - q / 7 * 7)) ∨ re_cn (fun p => ¬ st p = 0) 28 < re_cn (fun p => ¬ su p = 0) 28)) (F * 49) st ⟨k1, k2, k3, Or.inl ⟨rfl, lt_0⟩⟩ ?_ ?_
    · rintro o su ⟨j1, j2, j3, j4⟩
      simp (disch := omega) only [wY_carryOut_11, nI_clamp, re_in, re_m3, re_m7, re_m28, re_m49, re_m4, re_m8, re_m84, nI_add, nI_1, re_a2, re_a3, re_a4, re_a5, re_a6, re_b336, re_b8, re_b0, forall_eq, true_and, and_true, not_false_eq_true, not_true_eq_false, false_implies, true_implies, implies_true]
      refine pk_le (F * 49) (F * 49) (fun _ => hk su ⟨j1, j2, j3, ?_⟩) (fun z => by omega)
      rcases j4 with ⟨e, j4⟩ | j4
      · rw [e]
        refine Or.inl ?_
        rintro f c p hf h2 ⟨i, j, hi, hj, rfl, rfl, hb⟩ hp hz
        exact re_flat (fun f i j => cD f = 2 ∧ ¬ st (re_kt s (re_fk s f) * 7 + j) = 0 ∧ re_RB s ce 0 f i j ∧ st (re_ct s f * 7 + i) = 0) j4 hi hj (by omega) ⟨h2, hp, hb, hz⟩
      · rcases k4 with k4 | k4
        · have a := re_cn_mono (N := 28) (fun p hp => j3 _ k4 k2 p hp)
          omega
        · exact Or.inr (by omega)
    · rintro o m su hm ⟨j1, j2, j3, j4⟩ hk2
      have hf : m / 49 < F := by omega
      have G := hP.2.2 _ hf
      have G2 := hP.2.1 _ G.2.2.2.2.1
      have a4 := hA' _ hf
      have hi7 : m / 7 - m / 7 / 7 * 7 < 7 := by omega
      have hj7 : m - m / 7 * 7 < 7 := by omega
      have keep : ¬ (cD (m / 49) = 2 ∧ ¬ su (re_kt s (re_fk s (m / 49)) * 7 + (m - m / 7 * 7)) = 0 ∧ re_RB s ce 0 (m / 49) (m / 7 - m / 7 / 7 * 7) (m - m / 7 * 7) ∧ su (re_ct s (m / 49) * 7 + (m / 7 - m / 7 / 7 * 7)) = 0) → wY_carryOut_11 post (wY_carryOut_2 post x1 x2 (nI T) (nI R) sl (nI K) (nI F) dp cu tu n) x1 x2 (nI r) (nI T) (nI R) sl (nI K) (nI F) dp cu tu o (nI (m + 1)) ks fs ce ym rq su yk := by
        intro hz
        refine hk2 su ⟨j1, j2, j3, ?_⟩
        rcases j4 with ⟨e, j4⟩ | j4
        · subst e
          exact Or.inl ⟨rfl, lt_s j4 hz⟩
        · exact Or.inr j4
      simp (disch := omega) only [wY_carryOut_11, re_d49, re_d7, re_z49, re_z7, pk_sub, a4.1, re_nb1, nI_clamp, re_in, re_m3, re_m7, re_m28, re_m49, re_m4, re_m8, re_m84, nI_add, nI_1, re_a2, re_a3, re_a4, re_a5, re_a6, re_b336, re_b8, re_b0, forall_eq, true_and, and_true, not_false_eq_true, not_true_eq_false, false_implies, true_implies, implies_true]
      refine pk_le (F * 49) m (fun z => by omega) (fun _ => ?_)
      refine ry_child hP hY hf (ry_parent hP hY hf ?_)
      try simp (disch := omega) only [nI_clamp, re_in, re_m3, re_m7, re_m28, re_m49, re_m4, re_m8, re_m84, nI_add, nI_1, re_a2, re_a3, re_a4, re_a5, re_a6, re_b336, re_b8, re_b0, forall_eq, true_and, and_true, not_false_eq_true, not_true_eq_false, false_implies, true_implies, implies_true]
      refine br_c (fun z => br_c (fun z2 => keep (fun w => w.2.1 z2)) (fun z2 => ?_)) (fun z => keep (fun w => z w.1))
      refine ry_refers (st := 0) hP hY (by omega) hf hi7 hj7 (fun w => re_bq1 ?_) (fun w => re_bq0 (keep (fun v => w ?_)))
      · rw [Nat.zero_mul] at w
        try simp (disch := omega) only [nI_clamp, re_in, re_m3, re_m7, re_m28, re_m49, re_m4, re_m8, re_m84, nI_add, nI_1, re_a2, re_a3, re_a4, re_a5, re_a6, re_b336, re_b8, re_b0, forall_eq, true_and, and_true, not_false_eq_true, not_true_eq_false, false_implies, true_implies, implies_true]
        rcases j1 (re_ct s (m / 49) * 7 + (m / 7 - m / 7 / 7 * 7)) (by omega) with hz | hz
        · refine hk2 _ ⟨?_, ?_, ?_, Or.inr ?_⟩
          · intro p hp
            rcases Nat.decEq p (re_ct s (m / 49) * 7 + (m / 7 - m / 7 / 7 * 7)) with v | v
            · rw [pk_un v]; exact j1 p hp
            · rw [v, pk_us]; exact Or.inr rfl
          · intro p hp hq
            rcases Nat.decEq p (re_ct s (m / 49) * 7 + (m / 7 - m / 7 / 7 * 7)) with v | v
            · rw [pk_un v]; exact j2 p hp hq
            · rw [v, pk_us]; decide
          · intro S hS hs p hp hq
            rcases Nat.decEq p (re_ct s (m / 49) * 7 + (m / 7 - m / 7 / 7 * 7)) with v | v
            · rw [pk_un v] at hq
              exact j3 S hS hs p hp hq
            · rw [v]
              exact hS (m / 49) _ (re_kt s (re_fk s (m / 49)) * 7 + (m - m / 7 * 7)) hf z ⟨_, _, hi7, hj7, rfl, rfl, w⟩ (j3 S hS hs _ (by omega) z2)
          · have a : re_cn (fun p => ¬ su p = 0) 28 < re_cn (fun p => ¬ upd su (re_ct s (m / 49) * 7 + (m / 7 - m / 7 / 7 * 7)) 1 p = 0) 28 := by
              refine re_cn_lt (a := re_ct s (m / 49) * 7 + (m / 7 - m / 7 / 7 * 7)) (fun v => v hz) (by rw [pk_us]; decide) (fun p _ hq => ?_) (by omega)
              rcases Nat.decEq p (re_ct s (m / 49) * 7 + (m / 7 - m / 7 / 7 * 7)) with v | v
              · rw [pk_un v]; exact hq
              · rw [v, pk_us]; decide
            rcases j4 with ⟨e, -⟩ | j4
            · subst e; exact a
            · omega
        · rw [re_upd_same hz]
          exact keep (fun v => absurd (hz.symm.trans v.2.2.2) (by decide))
      · rw [Nat.zero_mul]
        exact v.2.2.1
theorem ry_phase2 {post : Int32 → SY → Prop} {x1 x2 : Int32} (hP : re_SP s T R K F) (hY : re_LY s K F ks fs) (hA' : re_LA F cD cU fs) (hD : ∀ p, p < 28 → (yr p = 0 ↔ ¬ D p)) (hb : ∀ i, i < 84 → 0 ≤ re_MI yk i ∧ re_MI yk i ≤ 2)
    (h : ∀ yk', re_LM s F cD cU ce D (re_MI yk) (re_MI yk') → wY_carryOut_455 post x1 x2 (nI T) (nI R) sl (nI K) (nI F) dp cu tu ks fs ce ym rq yr yk') : ∃ n124 : Nat, wY_carryOut_124 post x1 x2 (nI T) (nI R) sl (nI K) (nI F) dp cu tu n124 1 0 ks fs ce ym rq yr yk := by
  have Bd := hP.1
  refine loop_0 (fun n r (st : Int32 × (Nat → Int32)) => wY_carryOut_124 post x1 x2 (nI T) (nI R) sl (nI K) (nI F) dp cu tu n st.1 (nI r) ks fs ce ym rq yr st.2) (fun r st => (∀ i, i < 84 → 0 ≤ re_MI st.2 i ∧ re_MI st.2 i ≤ 2) ∧ (∀ i, i < 84 → re_MI yk i ≤ re_MI st.2 i) ∧ (∀ B, re_BS s F cD cU ce D (re_MI yk) B → ∀ i, i < 84 → re_MI st.2 i ≤ B i) ∧ ((st.1 = 0 ∧ re_CM s F cD cU ce D (re_MI st.2)) ∨ (st.1 = 1 ∧ (r : Int) ≤ re_sm (re_MI st.2) 84))) 170 (1, yk) ⟨hb, fun _ _ => Int.le_refl _, fun B hB i hi => (hB.2 i hi).2, Or.inr ⟨rfl, ?_⟩⟩ ?_ ?_
  · have a := re_sm_mono (M := fun _ => 0) (M' := re_MI yk) 84 (fun i hi => (hb i hi).1)
    have b : ∀ n, re_sm (fun _ => 0) n = 0 := by
      intro n
      induction n with
      | zero => rfl
      | succ n ih => simp only [re_sm]; omega
    have c := b 84
    dsimp only
    omega
  · rintro n ⟨g, k⟩ ⟨k1, k2, k3, k4⟩
    dsimp only at k1 k2 k3 k4 ⊢
    refine br_t (by decide) (h k ⟨k1, k2, ?_, k3⟩)
    rcases k4 with k4 | k4
    · exact k4.2
    · have a := re_sm_le 84 (fun i hi => (k1 i hi).2)
      have b := k4.2
      omega
  · rintro n r ⟨g, k⟩ hr ⟨k1, k2, k3, k4⟩ hk
    dsimp only at k1 k2 k3 k4 ⊢
    simp only [wY_carryOut_124]
    refine pk_le 170 r (fun _ => by omega) (fun _ => ?_)
    rcases k4 with ⟨k4, k5⟩ | ⟨k4, k5⟩
    · exact br_t k4 (h k ⟨k1, k2, k5, k3⟩)
    refine br_f (by rw [k4]; decide) ?_
    refine loop_0 (fun o m (st : Int32 × (Nat → Int32)) => wY_carryOut_141 post (wY_carryOut_124 post x1 x2 (nI T) (nI R) sl (nI K) (nI F) dp cu tu n) x1 x2 (nI r) (nI T) (nI R) sl (nI K) (nI F) dp cu tu o st.1 (nI m) ks fs ce ym rq yr st.2) (fun m st => re_YV (re_BS s F cD cU ce D (re_MI yk)) k st.1 st.2 ∧ (st.1 = 0 → ∀ q, q < m → ¬ (fun f i j => ¬ (re_RB s ce 0 f i j → ¬ D (re_ct s f * 7 + i) → (re_NL s cD cU D (re_MI k) f (re_kt s (re_fk s f) * 7 + j) → re_NU s (re_MI k) f (re_ct s f * 7 + i)) ∧ (¬ D (re_kt s (re_fk s f) * 7 + j) → cU f = 2 → re_FO s (re_MI k) f (re_ct s f * 7 + i) (re_kt s (re_fk s f) * 7 + j)))) (q / 49) (q / 7 - q / 7 / 7 * 7) (q - q / 7 * 7))) (F * 49) (0, k) ⟨⟨k1, fun _ _ => Int.le_refl _, k3, Or.inl ⟨rfl, rfl⟩⟩, fun _ => lt_0⟩ ?_ ?_
    · rintro o ⟨g1, kk⟩ ⟨j1, j2⟩
      dsimp only at j1 j2 ⊢
      simp (disch := omega) only [wY_carryOut_141, nI_clamp, re_in, re_m3, re_m7, re_m28, re_m49, re_m4, re_m8, re_m84, nI_add, nI_1, re_a2, re_a3, re_a4, re_a5, re_a6, re_b336, re_b8, re_b0, forall_eq, true_and, and_true, not_false_eq_true, not_true_eq_false, false_implies, true_implies, implies_true]
      refine pk_le (F * 49) (F * 49) (fun _ => hk (g1, kk) ⟨j1.1, fun i hi => Int.le_trans (k2 i hi) (j1.2.1 i hi), j1.2.2.1, ?_⟩) (fun z => by omega)
      rcases j1.2.2.2 with ⟨e1, e2⟩ | ⟨e1, e2⟩
      · refine Or.inl ⟨e1, ?_⟩
        dsimp only
        rw [e2]
        rintro f c p hf ⟨i, j, hi, hj, rfl, rfl, hb⟩ hc
        exact Classical.byContradiction (fun w => re_flat (fun f i j => ¬ (re_RB s ce 0 f i j → ¬ D (re_ct s f * 7 + i) → (re_NL s cD cU D (re_MI k) f (re_kt s (re_fk s f) * 7 + j) → re_NU s (re_MI k) f (re_ct s f * 7 + i)) ∧ (¬ D (re_kt s (re_fk s f) * 7 + j) → cU f = 2 → re_FO s (re_MI k) f (re_ct s f * 7 + i) (re_kt s (re_fk s f) * 7 + j)))) (j2 e1) hi hj (by omega) (fun w2 => w (w2 hb hc)))
      · refine Or.inr ⟨e1, ?_⟩
        dsimp only
        omega
    · rintro o m ⟨g1, kk⟩ hm ⟨j1, j2⟩ hk2
      dsimp only at j1 j2 ⊢
      have hf : m / 49 < F := by omega
      have G := hP.2.2 _ hf
      have G2 := hP.2.1 _ G.2.2.2.2.1
      have a4 := hA' _ hf
      have hi7 : m / 7 - m / 7 / 7 * 7 < 7 := by omega
      have hj7 : m - m / 7 * 7 < 7 := by omega
      have hcl : re_ct s (m / 49) * 7 + (m / 7 - m / 7 / 7 * 7) < 28 := by omega
      have hpl : re_kt s (re_fk s (m / 49)) * 7 + (m - m / 7 * 7) < 28 := by omega
      have dc := hD _ hcl
      have dp' := hD _ hpl
      have e0 : g1 = 0 → kk = k := fun e => by
        rcases j1.2.2.2 with ⟨-, e2⟩ | ⟨e2, -⟩
        · exact e2
        · exact absurd (e.symm.trans e2) (by decide)
      have keep : (re_RB s ce 0 (m / 49) (m / 7 - m / 7 / 7 * 7) (m - m / 7 * 7) → ¬ D (re_ct s (m / 49) * 7 + (m / 7 - m / 7 / 7 * 7)) → False) → wY_carryOut_141 post (wY_carryOut_124 post x1 x2 (nI T) (nI R) sl (nI K) (nI F) dp cu tu n) x1 x2 (nI r) (nI T) (nI R) sl (nI K) (nI F) dp cu tu o g1 (nI (m + 1)) ks fs ce ym rq yr kk := fun hz =>
        hk2 (g1, kk) ⟨j1, fun e => lt_s (j2 e) (fun w => w (fun a b => (hz a b).elim))⟩
      have goP : ∀ x9 x10 : Int32, re_RB s ce 0 (m / 49) (m / 7 - m / 7 / 7 * 7) (m - m / 7 * 7) → ¬ D (re_ct s (m / 49) * 7 + (m / 7 - m / 7 / 7 * 7)) →
          ((¬ x9 = 0) ↔ re_NL s cD cU D (re_MI kk) (m / 49) (re_kt s (re_fk s (m / 49)) * 7 + (m - m / 7 * 7))) → ((¬ x10 = 0) ↔ (¬ D (re_kt s (re_fk s (m / 49)) * 7 + (m - m / 7 * 7)) ∧ cU (m / 49) = 2)) →
          ∃ n320 : Nat, wY_carryOut_320 post (wY_carryOut_124 post x1 x2 (nI T) (nI R) sl (nI K) (nI F) dp cu tu n) (wY_carryOut_141 post (wY_carryOut_124 post x1 x2 (nI T) (nI R) sl (nI K) (nI F) dp cu tu n) x1 x2 (nI r) (nI T) (nI R) sl (nI K) (nI F) dp cu tu o) x1 x2 (nI r) (nI m) (nI (m / 49)) (nI (re_ct s (m / 49) * 7 + (m / 7 - m / 7 / 7 * 7))) (nI (re_kt s (re_fk s (m / 49)) * 7 + (m - m / 7 * 7))) x9 x10 (nI T) (nI R) sl (nI K) (nI F) dp cu tu n320 g1 1 ks fs ce ym rq yr kk := by
        intro x9 x10 hr hc h9 h10
        have hrf : re_RF s ce (m / 49) (re_ct s (m / 49) * 7 + (m / 7 - m / 7 / 7 * 7)) (re_kt s (re_fk s (m / 49)) * 7 + (m - m / 7 * 7)) := ⟨_, _, hi7, hj7, rfl, rfl, hr⟩
        have i34 := re_RF_ix hP hf hrf
        refine ry_parts hP hY j1 hf hcl hpl ?_ ?_ (fun B hB i hi => (hB.2 i hi).1) (fun g' k' hv hh => hk2 (g', k') ⟨hv, fun e => lt_s (j2 (hh e).1) (fun w => w (fun a b => ?_))⟩)
        · intro w B hB
          refine (hB.1 (m / 49) _ _ hf hrf hc).1 ?_
          rcases h9.mp w with z | ⟨z1, z2, z3⟩
          · exact Or.inl z
          · refine Or.inr ⟨z1, z2, ?_⟩
            have b3 := j1.2.2.1 B hB _ i34.2.2.1
            have b4 := j1.2.2.1 B hB _ i34.2.2.2
            rcases z3 with z3 | ⟨z3, z4⟩
            · exact Or.inl (by omega)
            · exact Or.inr ⟨z3, by omega⟩
        · intro _ w B hB
          exact (hB.1 (m / 49) _ _ hf hrf hc).2 (h10.mp w).1 (h10.mp w).2
        · obtain ⟨e1, e2, e3⟩ := hh e
          have ek := e0 e1
          subst ek
          refine ⟨fun z => e2 (h9.mpr z), fun z1 z2 => e3 ?_ (h10.mpr ⟨z1, z2⟩)⟩
          refine Classical.byContradiction (fun v => ?_)
          rcases h9.mp v with u | u
          · exact z1 u.1
          · exact absurd (z2.symm.trans u.2.1) (by decide)
      have go9 : ∀ x9 : Int32, re_RB s ce 0 (m / 49) (m / 7 - m / 7 / 7 * 7) (m - m / 7 * 7) → ¬ D (re_ct s (m / 49) * 7 + (m / 7 - m / 7 / 7 * 7)) →
          ((¬ x9 = 0) ↔ re_NL s cD cU D (re_MI kk) (m / 49) (re_kt s (re_fk s (m / 49)) * 7 + (m - m / 7 * 7))) →
          wY_carryOut_282 post (wY_carryOut_124 post x1 x2 (nI T) (nI R) sl (nI K) (nI F) dp cu tu n) (wY_carryOut_141 post (wY_carryOut_124 post x1 x2 (nI T) (nI R) sl (nI K) (nI F) dp cu tu n) x1 x2 (nI r) (nI T) (nI R) sl (nI K) (nI F) dp cu tu o) x1 x2 g1 (nI r) (nI m) (nI (m / 49)) (nI (re_ct s (m / 49) * 7 + (m / 7 - m / 7 / 7 * 7))) (nI (re_kt s (re_fk s (m / 49)) * 7 + (m - m / 7 * 7))) x9 (nI T) (nI R) sl (nI K) (nI F) dp cu tu ks fs ce ym rq yr kk := by
        intro x9 hr hc h9
        unfold wY_carryOut_282
        simp (disch := omega) only [a4.2, nI_clamp, re_in, re_m3, re_m7, re_m28, re_m49, re_m4, re_m8, re_m84, nI_add, nI_1, re_a2, re_a3, re_a4, re_a5, re_a6, re_b336, re_b8, re_b0, forall_eq, true_and, and_true, not_false_eq_true, not_true_eq_false, false_implies, true_implies, implies_true]
        refine br_c (fun z => br_c (fun z2 => goP x9 1 hr hc h9 ⟨fun _ => ⟨dp'.mp z, z2⟩, fun _ => by decide⟩) (fun z2 => goP x9 0 hr hc h9 ⟨fun w => absurd rfl w, fun w => absurd w.2 z2⟩)) (fun z => goP x9 0 hr hc h9 ⟨fun w => absurd rfl w, fun w => absurd (dp'.mpr w.1) z⟩)
      simp (disch := omega) only [wY_carryOut_141, wY_carryOut_281, re_d49, re_d7, re_z49, re_z7, pk_sub, a4.1, a4.2, nI_clamp, re_in, re_m3, re_m7, re_m28, re_m49, re_m4, re_m8, re_m84, nI_add, nI_1, re_a2, re_a3, re_a4, re_a5, re_a6, re_b336, re_b8, re_b0, forall_eq, true_and, and_true, not_false_eq_true, not_true_eq_false, false_implies, true_implies, implies_true]
      refine pk_le (F * 49) m (fun z => by omega) (fun _ => ?_)
      refine ry_child hP hY hf (ry_parent hP hY hf ?_)
      simp (disch := omega) only [a4.1, a4.2, nI_clamp, re_in, re_m3, re_m7, re_m28, re_m49, re_m4, re_m8, re_m84, nI_add, nI_1, re_a2, re_a3, re_a4, re_a5, re_a6, re_b336, re_b8, re_b0, forall_eq, true_and, and_true, not_false_eq_true, not_true_eq_false, false_implies, true_implies, implies_true]
      refine br_c (fun z => ?_) (fun z => keep (fun _ w => z (dc.mpr w)))
      have hc := dc.mp z
      refine ry_refers (st := 0) hP hY (by omega) hf hi7 hj7 (fun w => re_bq1 ?_) (fun w => re_bq0 ?_)
      · rw [Nat.zero_mul] at w
        refine br_c (fun z2 => br_c (fun z3 => ?_) (fun z3 => go9 0 w hc ⟨fun v => absurd rfl v, fun v => v.elim (fun u => absurd u.1 (dp'.mp z2)) (fun u => absurd u.2.1 z3)⟩)) (fun z2 => br_c (fun z3 => go9 1 w hc ⟨fun _ => Or.inl ⟨Classical.byContradiction (fun v => z2 (dp'.mpr v)), z3⟩, fun _ => by decide⟩) (fun z3 => go9 0 w hc ⟨fun v => absurd rfl v, fun v => v.elim (fun u => absurd u.2 z3) (fun u => absurd (dp'.mpr u.1) z2)⟩))
        exact ry_keyMarked (M := re_MI kk) hP hY (fun i _ => rfl) hf hpl (fun v => re_bq1 (go9 1 w hc ⟨fun _ => Or.inr ⟨dp'.mp z2, z3, v⟩, fun _ => by decide⟩)) (fun v => re_bq0 (go9 0 w hc ⟨fun u => absurd rfl u, fun u => u.elim (fun u => absurd u.1 (dp'.mp z2)) (fun u => absurd u.2.2 v)⟩))
      · rw [Nat.zero_mul] at w
        exact keep (fun a _ => w a)
end
end
section
/-! the relation -/
def re_OK (T R K F D : Nat) (s : re_Sc) (sl : Int32) (kT kA kB kP cC cA cB cK cD cU ce mo ks fs ym : Nat → Int32) : Prop :=
  re_SP s T R K F ∧ re_LX s K F kT kA kB cC cA cB cK ∧ re_LY s K F ks fs ∧ re_LA F cD cU fs ∧
  ((∀ k, k < K → ks (k * 4 + 3) = kP k) ∧ (∀ f, f < F → fs (f * 7 + 6) = mo (8 + f)) ∧
   (∀ f, F ≤ f → f < 8 → fs (f * 7 + 4) = 0 ∧ fs (f * 7 + 5) = 0 ∧ fs (f * 7 + 6) = 0 ∧ ∀ a, a < 4 → mo (a * 8 + f) = 0) ∧ (∀ i, i < 32 → ym i = mo i)) ∧
  (∀ a, a < 4 → re_RG T R ce (a * 84) ∧ re_UQ s K ce (a * 84)) ∧ D ≤ 2 ∧ ((sl = 0 ∧ ∀ i, i < 336 → ce i = -2) ∨ sl = 1)
/-- the component and the reference hold the same schema, the same cells and modes, the same report -/
def i_Rel (_k : Nat) (u : SX) (v : SY) : Prop := ∃ T : Nat, ∃ R : Nat, ∃ K : Nat, ∃ F : Nat, ∃ D : Nat, ∃ s : re_Sc, ∃ sl : Int32, ∃ cu : Int32, ∃ tu : Int32, ∃ rn : Int32, ∃ qe : Int32, ∃ rq : Nat → Int32, ∃ kT : Nat → Int32, ∃ kA : Nat → Int32, ∃ kB : Nat → Int32, ∃ kP : Nat → Int32, ∃ cC : Nat → Int32, ∃ cA : Nat → Int32, ∃ cB : Nat → Int32, ∃ cK : Nat → Int32, ∃ cD : Nat → Int32, ∃ cU : Nat → Int32, ∃ ce : Nat → Int32, ∃ mo : Nat → Int32, ∃ rm : Nat → Int32, ∃ rl : Nat → Int32, ∃ mk : Nat → Int32, ∃ qu : Nat → Int32, ∃ po : Nat → Int32, ∃ ks : Nat → Int32, ∃ fs : Nat → Int32, ∃ ym : Nat → Int32, ∃ yr : Nat → Int32, ∃ yk : Nat → Int32,  u = (nI T, nI R, sl, nI D, cu, tu, nI K, nI F, 336, rn, qe, rq, kT, kA, kB, kP, cC, cA, cB, cK, cD, cU, ce, mo, rm, rl, mk, qu, po) ∧ v = (nI T, nI R, sl, nI K, nI F, nI D, cu, tu, ks, fs, ce, ym, rq, yr, yk) ∧ re_OK T R K F D s sl kT kA kB kP cC cA cB cK cD cU ce mo ks fs ym
theorem i_up {k : Nat} {u : SX} {v : SY} (h : i_Rel k u v) : i_Rel (k + 5) u v := h
theorem re_el {k : Nat} {u : SX} {v : SY} {P : SX → SY → Prop} (I : i_Rel k u v) (h : ∀ (T : Nat) (R : Nat) (K : Nat) (F : Nat) (D : Nat) (s : re_Sc) (sl : Int32) (cu : Int32) (tu : Int32) (rn : Int32) (qe : Int32) (rq : Nat → Int32) (kT : Nat → Int32) (kA : Nat → Int32) (kB : Nat → Int32) (kP : Nat → Int32) (cC : Nat → Int32) (cA : Nat → Int32) (cB : Nat → Int32) (cK : Nat → Int32) (cD : Nat → Int32) (cU : Nat → Int32) (ce : Nat → Int32) (mo : Nat → Int32) (rm : Nat → Int32) (rl : Nat → Int32) (mk : Nat → Int32) (qu : Nat → Int32) (po : Nat → Int32) (ks : Nat → Int32) (fs : Nat → Int32) (ym : Nat → Int32) (yr : Nat → Int32) (yk : Nat → Int32), re_OK T R K F D s sl kT kA kB kP cC cA cB cK cD cU ce mo ks fs ym → P (nI T, nI R, sl, nI D, cu, tu, nI K, nI F, 336, rn, qe, rq, kT, kA, kB, kP, cC, cA, cB, cK, cD, cU, ce, mo, rm, rl, mk, qu, po) (nI T, nI R, sl, nI K, nI F, nI D, cu, tu, ks, fs, ce, ym, rq, yr, yk)) : P u v :=
  Exists.elim I fun T I => Exists.elim I fun R I => Exists.elim I fun K I => Exists.elim I fun F I => Exists.elim I fun D I => Exists.elim I fun s I => Exists.elim I fun sl I => Exists.elim I fun cu I => Exists.elim I fun tu I => Exists.elim I fun rn I => Exists.elim I fun qe I => Exists.elim I fun rq I => Exists.elim I fun kT I => Exists.elim I fun kA I => Exists.elim I fun kB I => Exists.elim I fun kP I => Exists.elim I fun cC I => Exists.elim I fun cA I => Exists.elim I fun cB I => Exists.elim I fun cK I => Exists.elim I fun cD I => Exists.elim I fun cU I => Exists.elim I fun ce I => Exists.elim I fun mo I => Exists.elim I fun rm I => Exists.elim I fun rl I => Exists.elim I fun mk I => Exists.elim I fun qu I => Exists.elim I fun po I => Exists.elim I fun ks I => Exists.elim I fun fs I => Exists.elim I fun ym I => Exists.elim I fun yr I => Exists.elim I fun yk I => by
    rw [I.1, I.2.1]
    exact h T R K F D s sl cu tu rn qe rq kT kA kB kP cC cA cB cK cD cU ce mo rm rl mk qu po ks fs ym yr yk I.2.2
section
variable {T R K F : Nat} {s : re_Sc} {sl dp cu tu rn qe : Int32} {rq kT kA kB kP cC cA cB cK cD cU ce mo rm rl mk qu po : Nat → Int32} {ks fs ym yr yk : Nat → Int32}
variable {D : Nat}
theorem re_mk {k : Nat} (hO : re_OK T R K F D s sl kT kA kB kP cC cA cB cK cD cU ce mo ks fs ym) : i_Rel k (nI T, nI R, sl, nI D, cu, tu, nI K, nI F, 336, rn, qe, rq, kT, kA, kB, kP, cC, cA, cB, cK, cD, cU, ce, mo, rm, rl, mk, qu, po) (nI T, nI R, sl, nI K, nI F, nI D, cu, tu, ks, fs, ce, ym, rq, yr, yk) := ⟨T, R, K, F, D, s, sl, cu, tu, rn, qe, rq, kT, kA, kB, kP, cC, cA, cB, cK, cD, cU, ce, mo, rm, rl, mk, qu, po, ks, fs, ym, yr, yk, rfl, rfl, hO⟩
theorem re_cn_ext {P : Nat → Prop} {n : Nat} : ∀ {m : Nat}, n ≤ m → (∀ i, n ≤ i → i < m → ¬ P i) → re_cn P m = re_cn P n := by
  intro m
  induction m with
  | zero => intro h _; rw [show n = 0 by omega]
  | succ m ih =>
    intro h hp
    rcases Nat.lt_or_ge m n with z | z
    · rw [show n = m + 1 by omega]
    · rw [re_cn_f (hp m z (by omega))]
      exact ih z (fun i a b => hp i a (by omega))
theorem re_RG_abs {b p c : Nat} (h : re_RG T R ce b) (hp : p < 28) (hr : R ≤ p % 7) (hc : c < 3) : ce (b + p * 3 + c) = -2 := by
  rcases h p hp with z | ⟨-, z, -⟩
  · exact z c hc
  · omega
theorem re_RG_row {b p c d : Nat} (h : re_RG T R ce b) (hp : p < 28) (hc : c < 3) (hd : d < 3) (e : ce (b + p * 3 + c) = -2) : ce (b + p * 3 + d) = -2 := by
  rcases h p hp with z | ⟨-, -, z⟩
  · exact z d hd
  · have a := (z c hc).1
    rw [e] at a
    exact absurd a (by decide)
theorem re_a0 {sl : Int32} {P : Prop} (h : (sl = 0 ∧ P) ∨ sl = 1) : sl = 0 ∨ sl = 1 := h.elim (fun z => Or.inl z.1) Or.inr
theorem ry_cell {post : Int32 → Prop} {p0 p1 p2 p3 : Int32} (hP : re_SP s T R K F) (hD : D ≤ 2) (h1 : ∀ l t r c : Nat, l ≤ D + 1 → t < T → r < R → c < 3 → p0 + 1 = nI l → p1 = nI t → p2 = nI r → p3 = nI c → post (ce (l * 84 + (t * 7 + r) * 3 + c))) (h0 : ¬ (re_VR p0 (-1) D ∧ re_IN p1 T ∧ re_IN p2 R ∧ re_IN p3 3) → post (-4)) : wpY_cell post (nI T, nI R, sl, nI K, nI F, nI D, cu, tu, ks, fs, ce, ym, rq, yr, yk) p0 p1 p2 p3 := by
  have B := hP.1
  unfold wpY_cell
  have key := re_brV (p := p0) (lo := -1) (hi := nI D) (A := wpY_noCell (fun r_3 => (((r_3 = 0 → (wpY_at (fun r_20 => (post r_20)) (nI T, nI R, sl, nI K, nI F, nI D, cu, tu, ks, fs, ce, ym, rq, yr, yk) (p0 + 1) ((p1 * 7) + p2) p3)) ∧ (¬ r_3 = 0 → (post (-4)))))) (nI T, nI R, sl, nI K, nI F, nI D, cu, tu, ks, fs, ce, ym, rq, yr, yk) p1 p2 p3) (B := post (-4))
  rw [nI_toInt (by omega)] at key
  refine key (fun a => ?_) (fun a => h0 (fun z => a z.1))
  refine ry_noCell (by omega) (by omega) (fun b c d => re_bq0 ?_) (fun b => re_bq1 (h0 (fun z => b z.2)))
  obtain ⟨t, ht, rfl⟩ := b
  obtain ⟨r, hr, rfl⟩ := c
  obtain ⟨c, hc, rfl⟩ := d
  have a1 : -1 ≤ p0.toInt := a.1
  have a2 : p0.toInt ≤ D := a.2
  have e : (p0 + 1).toInt = p0.toInt + 1 := by
    rw [Int32.toInt_add, show ((1 : Int32)).toInt = 1 from by decide]
    exact Int.bmod_eq_of_le (by omega) (by omega)
  obtain ⟨l, hl, el⟩ := (re_IN_iff (p := p0 + 1) (n := D + 2) (by omega)).mpr (by rw [e]; omega)
  have hv := h1 l t r c (by omega) ht hr hc el rfl rfl rfl
  rw [el]
  try simp (disch := omega) only [nI_clamp, re_in, re_m3, re_m7, re_m28, re_m49, re_m4, re_m8, re_m84, nI_add, nI_1, re_a2, re_a3, re_a4, re_a5, re_a6, re_b336, re_b8, re_b0, forall_eq, true_and, and_true, not_false_eq_true, not_true_eq_false, false_implies, true_implies, implies_true]
  exact ry_at (by omega) hv
theorem rz_cell {k : Nat} (hO : re_OK T R K F D s sl kT kA kB kP cC cA cB cK cD cU ce mo ks fs ym) (v1 v2 v3 v4 : Int32) : wpX_cell (fun r => wpY_cell (fun r' => r' = r ∧ i_Rel k (nI T, nI R, sl, nI D, cu, tu, nI K, nI F, 336, rn, qe, rq, kT, kA, kB, kP, cC, cA, cB, cK, cD, cU, ce, mo, rm, rl, mk, qu, po) (nI T, nI R, sl, nI K, nI F, nI D, cu, tu, ks, fs, ce, ym, rq, yr, yk)) (nI T, nI R, sl, nI K, nI F, nI D, cu, tu, ks, fs, ce, ym, rq, yr, yk) v1 v2 v3 v4) (nI T, nI R, sl, nI D, cu, tu, nI K, nI F, 336, rn, qe, rq, kT, kA, kB, kP, cC, cA, cB, cK, cD, cU, ce, mo, rm, rl, mk, qu, po) v1 v2 v3 v4 := by
  have hP := hO.1
  have B := hP.1
  have hD := hO.2.2.2.2.2.2.1
  have I : i_Rel k (nI T, nI R, sl, nI D, cu, tu, nI K, nI F, 336, rn, qe, rq, kT, kA, kB, kP, cC, cA, cB, cK, cD, cU, ce, mo, rm, rl, mk, qu, po) (nI T, nI R, sl, nI K, nI F, nI D, cu, tu, ks, fs, ce, ym, rq, yr, yk) := re_mk hO
  have bad : ¬ (re_VR v1 (-1) D ∧ re_IN v2 T ∧ re_IN v3 R ∧ re_IN v4 3) → wpY_cell (fun r' => r' = -4 ∧ i_Rel k (nI T, nI R, sl, nI D, cu, tu, nI K, nI F, 336, rn, qe, rq, kT, kA, kB, kP, cC, cA, cB, cK, cD, cU, ce, mo, rm, rl, mk, qu, po) (nI T, nI R, sl, nI K, nI F, nI D, cu, tu, ks, fs, ce, ym, rq, yr, yk)) (nI T, nI R, sl, nI K, nI F, nI D, cu, tu, ks, fs, ce, ym, rq, yr, yk) v1 v2 v3 v4 := by
    intro hn
    refine ry_cell hP hD ?_ (fun _ => ⟨rfl, I⟩)
    intro l t r c hl ht hr hc e1 e2 e3 e4
    refine absurd ⟨?_, ⟨t, ht, e2⟩, ⟨r, hr, e3⟩, ⟨c, hc, e4⟩⟩ hn
    have e : (v1 + 1 - 1).toInt = (l : Int) - 1 := by
      rw [e1]
      exact pk_sub_toInt (b := 1) (by omega) (by omega)
    rw [Int32.add_sub_cancel] at e
    exact ⟨by omega, by omega⟩
  unfold wpX_cell
  refine rx_isLevel (by omega) (fun a => re_bq1 (rx_isTable (by omega) (fun b => re_bq1 (rx_isRow (by omega) (fun c => re_bq1 (rx_isColumn (fun d => re_bq1 ?_) (fun d => re_bq0 (bad (fun z => d z.2.2.2))))) (fun c => re_bq0 (bad (fun z => c z.2.2.1))))) (fun b => re_bq0 (bad (fun z => b z.2.1))))) (fun a => re_bq0 (bad (fun z => a z.1)))
  obtain ⟨t, ht, rfl⟩ := b
  obtain ⟨r, hr, rfl⟩ := c
  obtain ⟨c, hc, rfl⟩ := d
  have a1 : -1 ≤ v1.toInt := a.1
  have a2 : v1.toInt ≤ D := a.2
  have e : (v1 + 1).toInt = v1.toInt + 1 := by
    rw [Int32.toInt_add, show ((1 : Int32)).toInt = 1 from by decide]
    exact Int.bmod_eq_of_le (by omega) (by omega)
  obtain ⟨l, hl, el⟩ := (re_IN_iff (p := v1 + 1) (n := D + 2) (by omega)).mpr (by rw [e]; omega)
  unfold wpX_baseOf
  dsimp only
  rw [el]
  try simp (disch := omega) only [nI_clamp, re_in, re_m3, re_m7, re_m28, re_m49, re_m4, re_m8, re_m84, nI_add, nI_1, re_a2, re_a3, re_a4, re_a5, re_a6, re_b336, re_b8, re_b0, forall_eq, true_and, and_true, not_false_eq_true, not_true_eq_false, false_implies, true_implies, implies_true]
  refine ry_cell hP hD ?_ (fun hn => absurd ⟨a, ⟨t, ht, rfl⟩, ⟨r, hr, rfl⟩, ⟨c, hc, rfl⟩⟩ hn)
  intro l' t' r' c' hl' ht' hr' hc' e1 e2 e3 e4
  have e1' := el.symm.trans e1
  rw [nI_eq (by omega) (by omega)] at e1' e2 e3 e4
  subst e1' e2 e3 e4
  exact ⟨rfl, I⟩
theorem rz_mode {k : Nat} (hO : re_OK T R K F D s sl kT kA kB kP cC cA cB cK cD cU ce mo ks fs ym) (v1 v2 : Int32) : wpX_mode (fun r => wpY_mode (fun r' => r' = r ∧ i_Rel k (nI T, nI R, sl, nI D, cu, tu, nI K, nI F, 336, rn, qe, rq, kT, kA, kB, kP, cC, cA, cB, cK, cD, cU, ce, mo, rm, rl, mk, qu, po) (nI T, nI R, sl, nI K, nI F, nI D, cu, tu, ks, fs, ce, ym, rq, yr, yk)) (nI T, nI R, sl, nI K, nI F, nI D, cu, tu, ks, fs, ce, ym, rq, yr, yk) v1 v2) (nI T, nI R, sl, nI D, cu, tu, nI K, nI F, 336, rn, qe, rq, kT, kA, kB, kP, cC, cA, cB, cK, cD, cU, ce, mo, rm, rl, mk, qu, po) v1 v2 := by
  have hP := hO.1
  have B := hP.1
  have hD := hO.2.2.2.2.2.2.1
  have hM := hO.2.2.2.2.1.2.2.2
  have I : i_Rel k (nI T, nI R, sl, nI D, cu, tu, nI K, nI F, 336, rn, qe, rq, kT, kA, kB, kP, cC, cA, cB, cK, cD, cU, ce, mo, rm, rl, mk, qu, po) (nI T, nI R, sl, nI K, nI F, nI D, cu, tu, ks, fs, ce, ym, rq, yr, yk) := re_mk hO
  have key : ∀ {A B : Prop}, (re_VR v1 (-1) D → A) → (¬ re_VR v1 (-1) D → B) → ((v1 < -1 → B) ∧ (¬ v1 < -1 → ((nI D < v1 → B) ∧ (¬ nI D < v1 → A)))) := by
    intro A B h1 h0
    have z := re_brV (p := v1) (lo := -1) (hi := nI D) (A := A) (B := B)
    rw [nI_toInt (by omega)] at z
    exact z h1 h0
  unfold wpX_mode
  refine rx_isLevel (by omega) (fun a => re_bq1 (rx_isForeign (by omega) (fun b => re_bq1 ?_) (fun b => re_bq0 ?_))) (fun a => re_bq0 ?_)
  · obtain ⟨f, hf, rfl⟩ := b
    have a1 : -1 ≤ v1.toInt := a.1
    have a2 : v1.toInt ≤ D := a.2
    have e : (v1 + 1).toInt = v1.toInt + 1 := by
      rw [Int32.toInt_add, show ((1 : Int32)).toInt = 1 from by decide]
      exact Int.bmod_eq_of_le (by omega) (by omega)
    obtain ⟨l, hl, el⟩ := (re_IN_iff (p := v1 + 1) (n := D + 2) (by omega)).mpr (by rw [e]; omega)
    rw [el]
    try simp (disch := omega) only [nI_clamp, re_in, re_m3, re_m7, re_m28, re_m49, re_m4, re_m8, re_m84, nI_add, nI_1, re_a2, re_a3, re_a4, re_a5, re_a6, re_b336, re_b8, re_b0, forall_eq, true_and, and_true, not_false_eq_true, not_true_eq_false, false_implies, true_implies, implies_true]
    unfold wpY_mode
    refine key (fun _ => ry_noFk (by omega) (fun _ => re_bq0 ?_) (fun n => absurd ⟨f, hf, rfl⟩ n)) (fun n => absurd a n)
    rw [el]
    try simp (disch := omega) only [nI_clamp, re_in, re_m3, re_m7, re_m28, re_m49, re_m4, re_m8, re_m84, nI_add, nI_1, re_a2, re_a3, re_a4, re_a5, re_a6, re_b336, re_b8, re_b0, forall_eq, true_and, and_true, not_false_eq_true, not_true_eq_false, false_implies, true_implies, implies_true]
    exact ⟨hM _ (by omega), I⟩
  · unfold wpY_mode
    exact key (fun _ => ry_noFk (by omega) (fun n => absurd n b) (fun _ => re_bq1 ⟨rfl, I⟩)) (fun n => absurd a n)
  · unfold wpY_mode
    exact key (fun n => absurd n a) (fun _ => ⟨rfl, I⟩)
theorem rz_rows {k : Nat} (hO : re_OK T R K F D s sl kT kA kB kP cC cA cB cK cD cU ce mo ks fs ym) (v1 : Int32) : wpX_rows (fun r => wpY_rows (fun r' => r' = r ∧ i_Rel k (nI T, nI R, sl, nI D, cu, tu, nI K, nI F, 336, rn, qe, rq, kT, kA, kB, kP, cC, cA, cB, cK, cD, cU, ce, mo, rm, rl, mk, qu, po) (nI T, nI R, sl, nI K, nI F, nI D, cu, tu, ks, fs, ce, ym, rq, yr, yk)) (nI T, nI R, sl, nI K, nI F, nI D, cu, tu, ks, fs, ce, ym, rq, yr, yk) v1) (nI T, nI R, sl, nI D, cu, tu, nI K, nI F, 336, rn, qe, rq, kT, kA, kB, kP, cC, cA, cB, cK, cD, cU, ce, mo, rm, rl, mk, qu, po) v1 := by
  have hP := hO.1
  have B := hP.1
  have hG := (hO.2.2.2.2.2.1 0 (by omega)).1
  have I : i_Rel k (nI T, nI R, sl, nI D, cu, tu, nI K, nI F, 336, rn, qe, rq, kT, kA, kB, kP, cC, cA, cB, cK, cD, cU, ce, mo, rm, rl, mk, qu, po) (nI T, nI R, sl, nI K, nI F, nI D, cu, tu, ks, fs, ce, ym, rq, yr, yk) := re_mk hO
  have i0 : re_IN 0 R := ⟨0, by omega, rfl⟩
  have i3 : re_IN 0 3 := ⟨0, by omega, rfl⟩
  unfold wpX_rows
  refine rx_isTable (by omega) (fun a => re_bq1 ?_) (fun a => re_bq0 ?_)
  · obtain ⟨t, ht, rfl⟩ := a
    refine loop_0 (fun n i (_ : Unit) => wX_rows_15 _ (nI t) (nI T) (nI R) sl (nI D) cu tu (nI K) (nI F) 336 rn qe rq kT kA kB kP cC cA cB cK cD cU ce mo rm rl mk qu po n (nI (re_cn (fun r => ¬ ce ((t * 7 + r) * 3) = -2) i)) (nI i)) (fun i _ => True) 7 () trivial ?_ ?_
    · intro n _ _
      refine br_t (by decide) ?_
      rw [re_cn_ext (n := R) (m := 7) (by omega) (fun i h1 h2 => ?_)]
      · unfold wpY_rows
        refine ry_noCell (by omega) (by omega) (fun _ _ _ => re_bq0 ?_) (fun n => absurd ⟨⟨t, ht, rfl⟩, i0, i3⟩ n)
        refine loop_0 (fun n i (_ : Unit) => wY_rows_17 _ (nI t) (nI T) (nI R) sl (nI K) (nI F) (nI D) cu tu ks fs ce ym rq yr yk n (nI (re_cn (fun r => ¬ ce ((t * 7 + r) * 3) = -2) i)) (nI i)) (fun i _ => True) R () trivial ?_ ?_
        · intro n _ _
          exact pk_le R R (fun _ => ⟨rfl, I⟩) (fun z => by omega)
        · intro n i _ hi _ hc
          have hc1 := hc () trivial
          simp (disch := omega) only [wY_rows_17, nI_clamp, re_in, re_m3, re_m7, re_m28, re_m49, re_m4, re_m8, re_m84, nI_add, nI_1, re_a2, re_a3, re_a4, re_a5, re_a6, re_b336, re_b8, re_b0, forall_eq, true_and, and_true, not_false_eq_true, not_true_eq_false, false_implies, true_implies, implies_true]
          refine pk_le R i (fun _ => by omega) (fun _ => ?_)
          refine ry_at (st := 0) (c := 0) (by omega) ?_
          rw [show 0 * 84 + (t * 7 + i) * 3 + 0 = (t * 7 + i) * 3 by omega]
          refine br_c (fun z => ?_) (fun z => ?_)
          · rw [re_cn_f (P := fun r => ¬ ce ((t * 7 + r) * 3) = -2) (fun w => w z)] at hc1
            exact hc1
          · rw [re_cn_t (P := fun r => ¬ ce ((t * 7 + r) * 3) = -2) z] at hc1
            exact hc1
      · have e := re_RG_abs (p := t * 7 + i) (c := 0) hG (by omega) (by omega) (by omega)
        rw [show 0 * 84 + (t * 7 + i) * 3 + 0 = (t * 7 + i) * 3 by omega] at e
        exact fun w => w e
    · intro n i _ hi _ hc
      have hc1 := hc () trivial
      simp (disch := omega) only [wX_rows_15, nI_clamp, re_in, re_m3, re_m7, re_m28, re_m49, re_m4, re_m8, re_m84, nI_add, nI_1, re_a2, re_a3, re_a4, re_a5, re_a6, re_b336, re_b8, re_b0, forall_eq, true_and, and_true, not_false_eq_true, not_true_eq_false, false_implies, true_implies, implies_true]
      refine pk_le 7 i (fun _ => by omega) (fun _ => ?_)
      refine rx_isPresent (b := 0) (by omega) (fun z => re_bq0 ?_) (fun z => re_bq1 ?_)
      · rw [Nat.zero_add] at z
        rw [re_cn_f (P := fun r => ¬ ce ((t * 7 + r) * 3) = -2) (fun w => w z)] at hc1
        exact hc1
      · rw [Nat.zero_add] at z
        rw [re_cn_t (P := fun r => ¬ ce ((t * 7 + r) * 3) = -2) z] at hc1
        exact hc1
  · unfold wpY_rows
    exact ry_noCell (by omega) (by omega) (fun b _ _ => absurd b a) (fun _ => re_bq1 ⟨rfl, I⟩)
theorem rz_dangling {k : Nat} (hO : re_OK T R K F D s sl kT kA kB kP cC cA cB cK cD cU ce mo ks fs ym) (v1 : Int32) : wpX_dangling (fun r => wpY_dangling (fun r' => r' = r ∧ i_Rel k (nI T, nI R, sl, nI D, cu, tu, nI K, nI F, 336, rn, qe, rq, kT, kA, kB, kP, cC, cA, cB, cK, cD, cU, ce, mo, rm, rl, mk, qu, po) (nI T, nI R, sl, nI K, nI F, nI D, cu, tu, ks, fs, ce, ym, rq, yr, yk)) (nI T, nI R, sl, nI K, nI F, nI D, cu, tu, ks, fs, ce, ym, rq, yr, yk) v1) (nI T, nI R, sl, nI D, cu, tu, nI K, nI F, 336, rn, qe, rq, kT, kA, kB, kP, cC, cA, cB, cK, cD, cU, ce, mo, rm, rl, mk, qu, po) v1 := by
  have hP := hO.1
  have B := hP.1
  have I : i_Rel k (nI T, nI R, sl, nI D, cu, tu, nI K, nI F, 336, rn, qe, rq, kT, kA, kB, kP, cC, cA, cB, cK, cD, cU, ce, mo, rm, rl, mk, qu, po) (nI T, nI R, sl, nI K, nI F, nI D, cu, tu, ks, fs, ce, ym, rq, yr, yk) := re_mk hO
  unfold wpX_dangling
  refine rx_isForeign (by omega) (fun a => re_bq1 ?_) (fun a => re_bq0 ?_)
  · obtain ⟨f, hf, rfl⟩ := a
    refine rx_countDangling (b := 0) hP hO.2.1 (by omega) hf ?_
    unfold wpY_dangling
    refine ry_noFk (by omega) (fun _ => re_bq0 ?_) (fun n => absurd ⟨f, hf, rfl⟩ n)
    refine ry_danglers (st := 0) hP hO.2.2.1 (by omega) hf ?_
    rw [Nat.zero_mul]
    exact ⟨rfl, I⟩
  · unfold wpY_dangling
    exact ry_noFk (by omega) (fun b => absurd b a) (fun _ => re_bq1 ⟨rfl, I⟩)
end
end
section
/-! find, referrers, schema, status -/
section
variable {T R K F : Nat} {s : re_Sc} {sl dp cu tu rn qe : Int32} {rq kT kA kB kP cC cA cB cK cD cU ce mo rm rl mk qu po : Nat → Int32} {ks fs ym yr yk : Nat → Int32}
variable {D : Nat}
theorem re_VRK {p : Int32} (hK : K ≤ 6) : re_VR p ((0 : Int32)).toInt (nI K - 1).toInt ↔ re_IN p K := by
  rw [re_IN_iff (by omega), show ((0 : Int32)).toInt = 0 from by decide, show (nI K - 1).toInt = (K : Int) - 1 from pk_sub_toInt (b := 1) (by omega) (by omega)]
  unfold re_VR
  omega
theorem ry_findL {post : Int32 → Prop} (hP : re_SP s T R K F) (hY : re_LY s K F ks fs) {q : Nat} {a b : Int32} (hq : q < K) (h0 : (∀ r, r < R → ¬ re_FR s ce 0 q a b r) → post (-1)) (h1 : ∀ r, r < R → re_FR s ce 0 q a b r → (∀ g, g < r → ¬ re_FR s ce 0 q a b g) → post (nI r)) : ∃ n95 : Nat, wY_find_95 post a b (nI (re_kt s q * 7)) (nI (re_ka s q)) (re_oc (re_kb s q)) (nI T) (nI R) sl (nI K) (nI F) dp cu tu ks fs ce ym rq yr yk n95 0 := by
  have B := hP.1
  have G := hP.2.1 q hq
  refine loop_0 (fun n i (_ : Unit) => wY_find_95 post a b (nI (re_kt s q * 7)) (nI (re_ka s q)) (re_oc (re_kb s q)) (nI T) (nI R) sl (nI K) (nI F) dp cu tu ks fs ce ym rq yr yk n (nI i)) (fun i _ => ∀ g, g < i → ¬ re_FR s ce 0 q a b g) R () lt_0 ?_ ?_
  · intro n _ hI
    exact pk_le R R (fun _ => h0 hI) (fun z => by omega)
  · intro n i _ hi hI hc
    simp (disch := omega) only [wY_find_95, nI_clamp, re_in, re_m3, re_m7, re_m28, re_m49, re_m4, re_m8, re_m84, nI_add, nI_1, re_a2, re_a3, re_a4, re_a5, re_a6, re_b336, re_b8, re_b0, forall_eq, true_and, and_true, not_false_eq_true, not_true_eq_false, false_implies, true_implies, implies_true]
    refine pk_le R i (fun _ => by omega) (fun _ => ?_)
    refine ry_at (st := 0) (by omega) ?_
    rw [Nat.zero_mul]
    refine br_c (fun z => ?_) (fun z => hc () (lt_s hI (fun w => z w.1)))
    rcases Nat.eq_zero_or_pos (re_kb s q) with e | e
    · exact br_t (by rw [e]; decide) (h1 i hi ⟨z, Or.inl e⟩ hI)
    · rw [re_ocS e]
      refine br_f (nI_pos (by omega)) (ry_at (st := 0) (by omega) ?_)
      rw [Nat.zero_mul]
      have e2 := re_ocS e
      refine br_c (fun w => h1 i hi ⟨z, Or.inr w⟩ hI) (fun w => ?_)
      have hc1 := hc () (lt_s hI (fun v => w (v.2.resolve_left (by omega))))
      rw [e2] at hc1
      exact hc1
theorem ry_find {post : Int32 → Prop} {p0 a b : Int32} (hP : re_SP s T R K F) (hY : re_LY s K F ks fs) (h4 : ¬ re_IN p0 K → post (-4)) (h5 : ∀ q, q < K → p0 = nI q → ¬ (re_VR a 0 99 ∧ (re_kb s q = 0 → b = -1) ∧ (0 < re_kb s q → re_VR b 0 99)) → post (-5))
    (hk : ∀ q, q < K → p0 = nI q → re_VR a 0 99 → (re_kb s q = 0 → b = -1) → (0 < re_kb s q → re_VR b 0 99) → ∃ n95 : Nat, wY_find_95 post a b (nI (re_kt s q * 7)) (nI (re_ka s q)) (re_oc (re_kb s q)) (nI T) (nI R) sl (nI K) (nI F) dp cu tu ks fs ce ym rq yr yk n95 0) : wpY_find post (nI T, nI R, sl, nI K, nI F, dp, cu, tu, ks, fs, ce, ym, rq, yr, yk) p0 a b := by
  have B := hP.1
  unfold wpY_find
  dsimp only
  by_cases hi : re_IN p0 K
  · obtain ⟨q, hq, rfl⟩ := hi
    have G := hP.2.1 q hq
    have E := hY.1 q hq
    refine br_f (nI_pos (by omega)) (br_t (nI_lt hq (by omega)) ?_)
    simp (disch := omega) only [E.1, E.2.1, E.2.2, nI_clamp, re_in, re_m3, re_m7, re_m28, re_m49, re_m4, re_m8, re_m84, nI_add, nI_1, re_a2, re_a3, re_a4, re_a5, re_a6, re_b336, re_b8, re_b0, forall_eq, true_and, and_true, not_false_eq_true, not_true_eq_false, false_implies, true_implies, implies_true]
    refine ry_in (fun va => re_bq1 ?_) (fun va => re_bq0 (h5 q hq rfl (fun z => va z.1)))
    rcases Nat.eq_zero_or_pos (re_kb s q) with e | e
    · refine br_f (by rw [e]; decide) (br_c (fun z => ?_) (fun z => h5 q hq rfl (fun w => z (w.2.1 e))))
      exact br_t (by rw [e]; decide) (hk q hq rfl va (fun _ => z) (fun w => by omega))
    · refine br_t (by rw [re_ocS e]; exact nI_pos' (by omega)) ?_
      refine br_f (by rw [re_ocS e]; exact nI_pos (by omega)) ?_
      exact ry_in (fun vb => re_bq1 (hk q hq rfl va (fun w => by omega) (fun _ => vb))) (fun vb => re_bq0 (h5 q hq rfl (fun z => vb (z.2.2 e))))
  · have hn := hi
    rw [re_IN_iff (by omega)] at hi
    refine br_c (fun _ => h4 hn) (fun z => br_c (fun w => ?_) (fun _ => h4 hn))
    rw [Int32.lt_iff_toInt_lt] at z w
    rw [nI_toInt (by omega)] at w
    rw [show ((0 : Int32)).toInt = 0 from by decide] at z
    omega
theorem rz_find {k : Nat} (hO : re_OK T R K F D s sl kT kA kB kP cC cA cB cK cD cU ce mo ks fs ym) (v1 v2 v3 : Int32) : wpX_find (fun r => wpY_find (fun r' => r' = r ∧ i_Rel k (nI T, nI R, sl, nI D, cu, tu, nI K, nI F, 336, rn, qe, rq, kT, kA, kB, kP, cC, cA, cB, cK, cD, cU, ce, mo, rm, rl, mk, qu, po) (nI T, nI R, sl, nI K, nI F, nI D, cu, tu, ks, fs, ce, ym, rq, yr, yk)) (nI T, nI R, sl, nI K, nI F, nI D, cu, tu, ks, fs, ce, ym, rq, yr, yk) v1 v2 v3) (nI T, nI R, sl, nI D, cu, tu, nI K, nI F, 336, rn, qe, rq, kT, kA, kB, kP, cC, cA, cB, cK, cD, cU, ce, mo, rm, rl, mk, qu, po) v1 v2 v3 := by
  have hP := hO.1
  have B := hP.1
  have hX := hO.2.1
  have hY := hO.2.2.1
  have hG := (hO.2.2.2.2.2.1 0 (by omega)).1
  have I : i_Rel k (nI T, nI R, sl, nI D, cu, tu, nI K, nI F, 336, rn, qe, rq, kT, kA, kB, kP, cC, cA, cB, cK, cD, cU, ce, mo, rm, rl, mk, qu, po) (nI T, nI R, sl, nI K, nI F, nI D, cu, tu, ks, fs, ce, ym, rq, yr, yk) := re_mk hO
  unfold wpX_find
  refine rx_isKey (by omega) (fun a => re_bq1 ?_) (fun a => re_bq0 (ry_find hP hY (fun _ => ⟨rfl, I⟩) (fun q hq e => absurd ⟨q, hq, e⟩ a) (fun q hq e => absurd ⟨q, hq, e⟩ a)))
  obtain ⟨q, hq, rfl⟩ := a
  have E := hX.1 q hq
  have G := hP.2.1 q hq
  have inj : ∀ q', q' < K → nI q = nI q' → q = q' := fun q' h e => by rwa [nI_eq (by omega) (by omega)] at e
  have bad : ¬ (re_VR v2 0 99 ∧ (re_kb s q = 0 → v3 = -1) ∧ (0 < re_kb s q → re_VR v3 0 99)) → wpY_find (fun r' => r' = -5 ∧ i_Rel k (nI T, nI R, sl, nI D, cu, tu, nI K, nI F, 336, rn, qe, rq, kT, kA, kB, kP, cC, cA, cB, cK, cD, cU, ce, mo, rm, rl, mk, qu, po) (nI T, nI R, sl, nI K, nI F, nI D, cu, tu, ks, fs, ce, ym, rq, yr, yk)) (nI T, nI R, sl, nI K, nI F, nI D, cu, tu, ks, fs, ce, ym, rq, yr, yk) (nI q) v2 v3 := by
    intro hn
    refine ry_find hP hY (fun h => absurd ⟨q, hq, rfl⟩ h) (fun _ _ _ _ => ⟨rfl, I⟩) (fun q' hq' e a b c => ?_)
    have e2 := inj q' hq' e
    subst e2
    exact absurd ⟨a, b, c⟩ hn
  have good : re_VR v2 0 99 → (re_kb s q = 0 → v3 = -1) → (0 < re_kb s q → re_VR v3 0 99) → wX_find_56 (fun r => wpY_find (fun r' => r' = r ∧ i_Rel k (nI T, nI R, sl, nI D, cu, tu, nI K, nI F, 336, rn, qe, rq, kT, kA, kB, kP, cC, cA, cB, cK, cD, cU, ce, mo, rm, rl, mk, qu, po) (nI T, nI R, sl, nI K, nI F, nI D, cu, tu, ks, fs, ce, ym, rq, yr, yk)) (nI T, nI R, sl, nI K, nI F, nI D, cu, tu, ks, fs, ce, ym, rq, yr, yk) (nI q) v2 v3) (nI q) v2 v3 (nI T) (nI R) sl (nI D) cu tu (nI K) (nI F) 336 rn qe rq kT kA kB kP cC cA cB cK cD cU ce mo rm rl mk qu po := by
    intro va vb vc
    have hr : ∀ r, r < 7 → re_FR s ce 0 q v2 v3 r → r < R := by
      intro r h7 hf
      refine Classical.byContradiction (fun z => ?_)
      have e := re_RG_abs (p := re_kt s q * 7 + r) (c := re_ka s q) hG (by omega) (by omega) (by omega)
      rw [Nat.zero_mul] at e
      have e2 := hf.1.symm.trans e
      have e3 := va.1
      rw [e2] at e3
      exact absurd e3 (by decide)
    have nin : ∀ {post : Int32 → Prop}, (∃ n95 : Nat, wY_find_95 post v2 v3 (nI (re_kt s q * 7)) (nI (re_ka s q)) (re_oc (re_kb s q)) (nI T) (nI R) sl (nI K) (nI F) (nI D) cu tu ks fs ce ym rq yr yk n95 0) → wpY_find post (nI T, nI R, sl, nI K, nI F, nI D, cu, tu, ks, fs, ce, ym, rq, yr, yk) (nI q) v2 v3 := by
      intro post h
      refine ry_find hP hY (fun z => absurd ⟨q, hq, rfl⟩ z) (fun q' hq' e z => ?_) (fun q' hq' e a b c => ?_)
      · have e2 := inj q' hq' e
        subst e2
        exact absurd ⟨va, vb, vc⟩ z
      · have e2 := inj q' hq' e
        subst e2
        exact h
    unfold wX_find_56
    refine rx_findRow (b := 0) hP hX (by omega) hq (fun hn => nin (ry_findL hP hY hq (fun _ => ⟨rfl, I⟩) (fun r h hf _ => absurd hf (hn r (by omega))))) (fun r h7 hf hg => nin (ry_findL hP hY hq (fun hn => absurd hf (hn r (hr r h7 hf))) (fun r' h' hf' hg' => ⟨?_, I⟩)))
    rcases Nat.lt_trichotomy r r' with z | z | z
    · exact absurd hf (hg' r z)
    · rw [z]
    · exact absurd hf' (hg r' z)
  refine rx_inRange (fun va => re_bq1 ?_) (fun va => re_bq0 (bad (fun z => va z.1)))
  simp (disch := omega) only [E.2.2, nI_clamp, re_in, re_m3, re_m7, re_m28, re_m49, re_m4, re_m8, re_m84, nI_add, nI_1, re_a2, re_a3, re_a4, re_a5, re_a6, re_b336, re_b8, re_b0, forall_eq, true_and, and_true, not_false_eq_true, not_true_eq_false, false_implies, true_implies, implies_true]
  rcases Nat.eq_zero_or_pos (re_kb s q) with e | e
  · exact br_f (by rw [e]; decide) (br_c (fun z => good va (fun _ => z) (fun w => by omega)) (fun z => bad (fun w => z (w.2.1 e))))
  · refine br_t (by rw [re_ocS e]; exact nI_pos' (by omega)) ?_
    exact rx_inRange (fun vb => re_bq1 (good va (fun w => by omega) (fun _ => vb))) (fun vb => re_bq0 (bad (fun z => vb (z.2.2 e))))
theorem rz_referrers {k : Nat} (hO : re_OK T R K F D s sl kT kA kB kP cC cA cB cK cD cU ce mo ks fs ym) (v1 v2 : Int32) : wpX_referrers (fun r => wpY_referrers (fun r' => r' = r ∧ i_Rel k (nI T, nI R, sl, nI D, cu, tu, nI K, nI F, 336, rn, qe, rq, kT, kA, kB, kP, cC, cA, cB, cK, cD, cU, ce, mo, rm, rl, mk, qu, po) (nI T, nI R, sl, nI K, nI F, nI D, cu, tu, ks, fs, ce, ym, rq, yr, yk)) (nI T, nI R, sl, nI K, nI F, nI D, cu, tu, ks, fs, ce, ym, rq, yr, yk) v1 v2) (nI T, nI R, sl, nI D, cu, tu, nI K, nI F, 336, rn, qe, rq, kT, kA, kB, kP, cC, cA, cB, cK, cD, cU, ce, mo, rm, rl, mk, qu, po) v1 v2 := by
  have hP := hO.1
  have B := hP.1
  have hX := hO.2.1
  have hY := hO.2.2.1
  have hG := (hO.2.2.2.2.2.1 0 (by omega)).1
  have hU := (hO.2.2.2.2.2.1 0 (by omega)).2
  rw [Nat.zero_mul] at hG hU
  have I : i_Rel k (nI T, nI R, sl, nI D, cu, tu, nI K, nI F, 336, rn, qe, rq, kT, kA, kB, kP, cC, cA, cB, cK, cD, cU, ce, mo, rm, rl, mk, qu, po) (nI T, nI R, sl, nI K, nI F, nI D, cu, tu, ks, fs, ce, ym, rq, yr, yk) := re_mk hO
  have ybad : ¬ (re_IN v1 F ∧ re_IN v2 R) → wpY_referrers (fun r' => r' = -4 ∧ i_Rel k (nI T, nI R, sl, nI D, cu, tu, nI K, nI F, 336, rn, qe, rq, kT, kA, kB, kP, cC, cA, cB, cK, cD, cU, ce, mo, rm, rl, mk, qu, po) (nI T, nI R, sl, nI K, nI F, nI D, cu, tu, ks, fs, ce, ym, rq, yr, yk)) (nI T, nI R, sl, nI K, nI F, nI D, cu, tu, ks, fs, ce, ym, rq, yr, yk) v1 v2 := by
    intro hn
    unfold wpY_referrers
    refine ry_noFk (by omega) (fun a => re_bq0 ?_) (fun _ => re_bq1 ⟨rfl, I⟩)
    refine br_c (fun _ => ⟨rfl, I⟩) (fun z => br_c (fun w => absurd ⟨a, ?_⟩ hn) (fun _ => ⟨rfl, I⟩))
    rw [re_IN_iff (by omega)]
    rw [Int32.lt_iff_toInt_lt] at z w
    rw [nI_toInt (by omega)] at w
    rw [show ((0 : Int32)).toInt = 0 from by decide] at z
    omega
  unfold wpX_referrers
  refine rx_isForeign (by omega) (fun a => re_bq1 (rx_isRow (by omega) (fun b => re_bq1 ?_) (fun b => re_bq0 (ybad (fun z => b z.2))))) (fun a => re_bq0 (ybad (fun z => a z.1)))
  obtain ⟨f, hf, rfl⟩ := a
  obtain ⟨r, hr, rfl⟩ := b
  have E := hX.2 f hf
  have G := hP.2.2 f hf
  have E2 := hX.1 _ G.2.2.2.2.1
  have G2 := hP.2.1 _ G.2.2.2.2.1
  have yok : ∀ {post : Int32 → Prop}, (ce ((re_kt s (re_fk s f) * 7 + r) * 3) = -2 → post (-2)) → (¬ ce ((re_kt s (re_fk s f) * 7 + r) * 3) = -2 → ∃ n59 : Nat, wY_referrers_59 post (nI f) (nI (re_kt s (re_fk s f) * 7 + r)) (nI (re_ct s f * 7)) (nI T) (nI R) sl (nI K) (nI F) (nI D) cu tu ks fs ce ym rq yr yk n59 0 0) → wpY_referrers post (nI T, nI R, sl, nI K, nI F, nI D, cu, tu, ks, fs, ce, ym, rq, yr, yk) (nI f) (nI r) := by
    intro post h2 hk
    unfold wpY_referrers
    refine ry_noFk (by omega) (fun _ => re_bq0 ?_) (fun n => absurd ⟨f, hf, rfl⟩ n)
    refine br_f (nI_pos (by omega)) (br_t (nI_lt hr (by omega)) ?_)
    refine ry_parent hP hY hf (ry_child (i := 0) hP hY hf (ry_at (st := 0) (c := 0) (by omega) ?_))
    rw [show 0 * 84 + (re_kt s (re_fk s f) * 7 + r) * 3 + 0 = (re_kt s (re_fk s f) * 7 + r) * 3 by omega, Nat.add_zero]
    exact br_c h2 hk
  simp (disch := omega) only [E.2.2.2, E2.1, nI_clamp, re_in, re_m3, re_m7, re_m28, re_m49, re_m4, re_m8, re_m84, nI_add, nI_1, re_a2, re_a3, re_a4, re_a5, re_a6, re_b336, re_b8, re_b0, forall_eq, true_and, and_true, not_false_eq_true, not_true_eq_false, false_implies, true_implies, implies_true]
  refine rx_isPresent (b := 0) (by omega) (fun z => re_bq0 (yok (fun _ => ⟨rfl, I⟩) (fun w => ?_))) (fun z => re_bq1 ?_)
  · rw [Nat.zero_add] at z
    exact absurd z w
  · rw [Nat.zero_add] at z
    refine loop_0 (fun n i (_ : Unit) => wX_referrers_54 _ (nI f) (nI (re_kt s (re_fk s f) * 7 + r)) (nI T) (nI R) sl (nI D) cu tu (nI K) (nI F) 336 rn qe rq kT kA kB kP cC cA cB cK cD cU ce mo rm rl mk qu po n (nI (re_cn (fun i => re_RB s ce 0 f i r) i)) (nI i)) (fun i _ => True) 7 () trivial ?_ ?_
    · intro n _ _
      refine br_t (by decide) ?_
      rw [re_cn_ext (n := R) (m := 7) (by omega) (fun i h1 h2 => ?_)]
      · refine yok (fun w => absurd w z) (fun _ => ?_)
        refine loop_0 (fun n i (_ : Unit) => wY_referrers_59 _ (nI f) (nI (re_kt s (re_fk s f) * 7 + r)) (nI (re_ct s f * 7)) (nI T) (nI R) sl (nI K) (nI F) (nI D) cu tu ks fs ce ym rq yr yk n (nI (re_cn (fun i => re_RB s ce 0 f i r) i)) (nI i)) (fun i _ => True) R () trivial ?_ ?_
        · intro n _ _
          exact pk_le R R (fun _ => ⟨rfl, I⟩) (fun z => by omega)
        · intro n i _ hi _ hc
          have hc1 := hc () trivial
          simp (disch := omega) only [wY_referrers_59, nI_clamp, re_in, re_m3, re_m7, re_m28, re_m49, re_m4, re_m8, re_m84, nI_add, nI_1, re_a2, re_a3, re_a4, re_a5, re_a6, re_b336, re_b8, re_b0, forall_eq, true_and, and_true, not_false_eq_true, not_true_eq_false, false_implies, true_implies, implies_true]
          refine pk_le R i (fun _ => by omega) (fun _ => ?_)
          refine ry_refers (st := 0) hP hY (by omega) hf (by omega) (by omega) (fun w => re_bq1 ?_) (fun w => re_bq0 ?_)
          · rw [Nat.zero_mul] at w
            rw [re_cn_t (P := fun i => re_RB s ce 0 f i r) w] at hc1
            exact hc1
          · rw [Nat.zero_mul] at w
            rw [re_cn_f (P := fun i => re_RB s ce 0 f i r) w] at hc1
            exact hc1
      · have e := re_RG_abs (p := re_ct s f * 7 + i) (c := re_fa s f) hG (by omega) (by omega) (by omega)
        intro w
        exact w.1 (by rw [e]; decide)
    · intro n i _ hi _ hc
      have hc1 := hc () trivial
      simp (disch := omega) only [wX_referrers_54, E.1, nI_clamp, re_in, re_m3, re_m7, re_m28, re_m49, re_m4, re_m8, re_m84, nI_add, nI_1, re_a2, re_a3, re_a4, re_a5, re_a6, re_b336, re_b8, re_b0, forall_eq, true_and, and_true, not_false_eq_true, not_true_eq_false, false_implies, true_implies, implies_true]
      refine pk_le 7 i (fun _ => by omega) (fun _ => ?_)
      refine rx_parentPlace (b := 0) hP hX (by omega) hf hi (fun hn => ?_) (fun j hj hrb hq => ?_)
      · rw [re_cn_f (P := fun i => re_RB s ce 0 f i r) (hn r (by omega))] at hc1
        exact br_f (fun w => re_ne1 (by omega) w.symm) hc1
      · refine pk_eq (re_kt s (re_fk s f) * 7 + j) (re_kt s (re_fk s f) * 7 + r) (fun w => ?_) (fun w => ?_)
        · have ej : j = r := by omega
          subst ej
          rw [re_cn_t (P := fun i => re_RB s ce 0 f i j) hrb] at hc1
          exact hc1
        · rw [re_cn_f (P := fun i => re_RB s ce 0 f i r) (fun v => w (by rw [re_RB_uq hP hU hf hj (by omega) hrb v]))] at hc1
          exact hc1
theorem rz_status {k : Nat} (hO : re_OK T R K F D s sl kT kA kB kP cC cA cB cK cD cU ce mo ks fs ym) (v1 : Int32) : wpX_status (fun r => wpY_status (fun r' => r' = r ∧ i_Rel k (nI T, nI R, sl, nI D, cu, tu, nI K, nI F, 336, rn, qe, rq, kT, kA, kB, kP, cC, cA, cB, cK, cD, cU, ce, mo, rm, rl, mk, qu, po) (nI T, nI R, sl, nI K, nI F, nI D, cu, tu, ks, fs, ce, ym, rq, yr, yk)) (nI T, nI R, sl, nI K, nI F, nI D, cu, tu, ks, fs, ce, ym, rq, yr, yk) v1) (nI T, nI R, sl, nI D, cu, tu, nI K, nI F, 336, rn, qe, rq, kT, kA, kB, kP, cC, cA, cB, cK, cD, cU, ce, mo, rm, rl, mk, qu, po) v1 := by
  have I : i_Rel k (nI T, nI R, sl, nI D, cu, tu, nI K, nI F, 336, rn, qe, rq, kT, kA, kB, kP, cC, cA, cB, cK, cD, cU, ce, mo, rm, rl, mk, qu, po) (nI T, nI R, sl, nI K, nI F, nI D, cu, tu, ks, fs, ce, ym, rq, yr, yk) := re_mk hO
  unfold wpX_status wpY_status
  dsimp only
  by_cases h0 : v1 = 0
  · subst h0
    refine br_f (by decide) (br_f (by decide) (br_t rfl ?_))
    exact br_c (fun z => br_t rfl (br_t z ⟨rfl, I⟩)) (fun z => br_t rfl (br_f z ⟨rfl, I⟩))
  by_cases h1 : v1 = 1
  · subst h1
    exact br_f (by decide) (br_f (by decide) (br_f (by decide) (br_t rfl (br_f (by decide) (br_t rfl ⟨rfl, I⟩)))))
  by_cases h2 : v1 = 2
  · subst h2
    exact br_f (by decide) (br_f (by decide) (br_f (by decide) (br_f (by decide) (br_t rfl (br_f (by decide) (br_f (by decide) (br_t rfl ⟨rfl, I⟩)))))))
  by_cases h3 : v1 = 3
  · subst h3
    exact br_f (by decide) (br_f (by decide) (br_f (by decide) (br_f (by decide) (br_f (by decide) (br_t rfl (br_f (by decide) (br_f (by decide) (br_f (by decide) (br_t rfl ⟨rfl, I⟩)))))))))
  by_cases h4 : v1 = 4
  · subst h4
    exact br_f (by decide) (br_f (by decide) (br_f (by decide) (br_f (by decide) (br_f (by decide) (br_f (by decide) (br_t rfl (br_f (by decide) (br_f (by decide) (br_f (by decide) (br_f (by decide) (br_t rfl ⟨rfl, I⟩)))))))))))
  by_cases h5 : v1 = 5
  · subst h5
    exact br_f (by decide) (br_f (by decide) (br_f (by decide) (br_f (by decide) (br_f (by decide) (br_f (by decide) (br_f (by decide) (br_t rfl (br_f (by decide) (br_f (by decide) (br_f (by decide) (br_f (by decide) (br_f (by decide) (br_t rfl ⟨rfl, I⟩)))))))))))))
  by_cases h6 : v1 = 6
  · subst h6
    exact br_f (by decide) (br_f (by decide) (br_f (by decide) (br_f (by decide) (br_f (by decide) (br_f (by decide) (br_f (by decide) (br_f (by decide) (br_t rfl (br_f (by decide) (br_f (by decide) (br_f (by decide) (br_f (by decide) (br_f (by decide) (br_f (by decide) (br_t rfl ⟨rfl, I⟩)))))))))))))))
  by_cases h7 : v1 = 7
  · subst h7
    exact br_f (by decide) (br_f (by decide) (br_f (by decide) (br_f (by decide) (br_f (by decide) (br_f (by decide) (br_f (by decide) (br_f (by decide) (br_f (by decide) (br_t rfl (br_f (by decide) (br_f (by decide) (br_f (by decide) (br_f (by decide) (br_f (by decide) (br_f (by decide) (br_f (by decide) (br_t rfl ⟨rfl, I⟩)))))))))))))))))
  · refine br_c (fun _ => br_f h0 (br_f h1 (br_f h2 (br_f h3 (br_f h4 (br_f h5 (br_f h6 (br_f h7 ⟨rfl, I⟩)))))))) (fun a => br_c (fun _ => br_f h0 (br_f h1 (br_f h2 (br_f h3 (br_f h4 (br_f h5 (br_f h6 (br_f h7 ⟨rfl, I⟩)))))))) (fun b => ?_))
    exact br_f h0 (br_f h1 (br_f h2 (br_f h3 (br_f h4 (br_f h5 (br_f h6 (br_f h7 trivial)))))))
end
end
section
/-! schema, require, seal, setActions -/
theorem re_VRN {p hi : Int32} {n : Nat} (hn : n < 1000) (hh : hi.toInt = (n : Int)) : re_VR p ((0 : Int32)).toInt hi.toInt ↔ re_IN p (n + 1) := by
  rw [re_IN_iff (by omega), show ((0 : Int32)).toInt = 0 from by decide, hh]
  unfold re_VR
  omega
section
variable {T R K F : Nat} {s : re_Sc} {sl dp cu tu rn qe : Int32} {rq kT kA kB kP cC cA cB cK cD cU ce mo rm rl mk qu po : Nat → Int32} {ks fs ym yr yk : Nat → Int32}
variable {D : Nat}
def re_kp (kT kA kB kP : Nat → Int32) (q : Nat) : Nat → Int32
  | 0 => kT q
  | 1 => kA q
  | 2 => kB q
  | _ + 3 => kP q
def re_fp (cC cA cB cK cD cU mo : Nat → Int32) (f : Nat) : Nat → Int32
  | 0 => cC f
  | 1 => cA f
  | 2 => cB f
  | 3 => cK f
  | 4 => cD f
  | 5 => cU f
  | _ + 6 => mo (8 + f)
theorem rx_keyPart {post : Int32 → Prop} {q : Nat} {p : Int32} (hq : q < 6) (h1 : ∀ j, j < 4 → p = nI j → post (re_kp kT kA kB kP q j)) (h4 : ¬ re_IN p 4 → post (-4)) : wpX_keyPart post (nI T, nI R, sl, dp, cu, tu, nI K, nI F, 336, rn, qe, rq, kT, kA, kB, kP, cC, cA, cB, cK, cD, cU, ce, mo, rm, rl, mk, qu, po) (nI q) p := by
  unfold wpX_keyPart
  dsimp only
  simp (disch := omega) only [nI_clamp, re_in, re_m3, re_m7, re_m28, re_m49, re_m4, re_m8, re_m84, nI_add, nI_1, re_a2, re_a3, re_a4, re_a5, re_a6, re_b336, re_b8, re_b0, forall_eq, true_and, and_true, not_false_eq_true, not_true_eq_false, false_implies, true_implies, implies_true]
  refine re_brV (lo := 0) (hi := 3) (fun a => ?_) (fun a => h4 (fun z => a ((re_VRN (n := 3) (by omega) (by decide)).mpr z)))
  obtain ⟨j, hj, rfl⟩ := (re_VRN (n := 3) (by omega) (by decide)).mp a
  have h := h1 j hj rfl
  rcases (by omega : j = 0 ∨ j = 1 ∨ j = 2 ∨ j = 3) with rfl | rfl | rfl | rfl
  · exact br_t rfl h
  · exact br_f (by decide) (br_t rfl h)
  · exact br_f (by decide) (br_f (by decide) (br_t rfl h))
  · exact br_f (by decide) (br_f (by decide) (br_f (by decide) (fun _ => h)))
theorem rx_foreignPart {post : Int32 → Prop} {f : Nat} {p : Int32} (hf : f < 8) (h1 : ∀ j, j < 7 → p = nI j → post (re_fp cC cA cB cK cD cU mo f j)) (h4 : ¬ re_IN p 7 → post (-4)) : wpX_foreignPart post (nI T, nI R, sl, dp, cu, tu, nI K, nI F, 336, rn, qe, rq, kT, kA, kB, kP, cC, cA, cB, cK, cD, cU, ce, mo, rm, rl, mk, qu, po) (nI f) p := by
  unfold wpX_foreignPart
  dsimp only
  simp (disch := omega) only [nI_clamp, re_in, re_m3, re_m7, re_m28, re_m49, re_m4, re_m8, re_m84, nI_add, nI_1, re_a2, re_a3, re_a4, re_a5, re_a6, re_b336, re_b8, re_b0, forall_eq, true_and, and_true, not_false_eq_true, not_true_eq_false, false_implies, true_implies, implies_true]
  refine re_brV (lo := 0) (hi := 6) (fun a => ?_) (fun a => h4 (fun z => a ((re_VRN (n := 6) (by omega) (by decide)).mpr z)))
  obtain ⟨j, hj, rfl⟩ := (re_VRN (n := 6) (by omega) (by decide)).mp a
  have h := h1 j hj rfl
  rcases (by omega : j = 0 ∨ j = 1 ∨ j = 2 ∨ j = 3 ∨ j = 4 ∨ j = 5 ∨ j = 6) with rfl | rfl | rfl | rfl | rfl | rfl | rfl
  · exact br_t rfl h
  · exact br_f (by decide) (br_t rfl h)
  · exact br_f (by decide) (br_f (by decide) (br_t rfl h))
  · exact br_f (by decide) (br_f (by decide) (br_f (by decide) (br_t rfl h)))
  · exact br_f (by decide) (br_f (by decide) (br_f (by decide) (br_f (by decide) (br_t rfl h))))
  · exact br_f (by decide) (br_f (by decide) (br_f (by decide) (br_f (by decide) (br_f (by decide) (br_t rfl h)))))
  · exact br_f (by decide) (br_f (by decide) (br_f (by decide) (br_f (by decide) (br_f (by decide) (br_f (by decide) (fun _ => h))))))
theorem rx_schema {post : Int32 → Prop} {p0 p1 p2 : Int32} (hP : re_SP s T R K F)
    (h0 : p0 = 0 → ∀ t c, t < T → c < 3 → p1 = nI t → p2 = nI c → (rq (t * 3 + c) = 0 → post 0) ∧ (¬ rq (t * 3 + c) = 0 → post 1))
    (h1 : p0 = 1 → ∀ q j, q < K → j < 4 → p1 = nI q → p2 = nI j → post (re_kp kT kA kB kP q j))
    (h2 : p0 = 2 → ∀ f j, f < F → j < 7 → p1 = nI f → p2 = nI j → post (re_fp cC cA cB cK cD cU mo f j))
    (h4 : ¬ (p0 = 0 ∧ re_IN p1 T ∧ re_IN p2 3) → ¬ (p0 = 1 ∧ re_IN p1 K ∧ re_IN p2 4) → ¬ (p0 = 2 ∧ re_IN p1 F ∧ re_IN p2 7) → post (-4)) : wpX_schema post (nI T, nI R, sl, dp, cu, tu, nI K, nI F, 336, rn, qe, rq, kT, kA, kB, kP, cC, cA, cB, cK, cD, cU, ce, mo, rm, rl, mk, qu, po) p0 p1 p2 := by
  have B := hP.1
  have s59 : (¬ (p0 = 0 ∧ re_IN p1 T ∧ re_IN p2 3)) → (¬ (p0 = 1 ∧ re_IN p1 K ∧ re_IN p2 4)) → wX_schema_59 post p0 p1 p2 (nI T) (nI R) sl dp cu tu (nI K) (nI F) 336 rn qe rq kT kA kB kP cC cA cB cK cD cU ce mo rm rl mk qu po := by
    intro n0 n1
    unfold wX_schema_59
    refine br_c (fun e => ?_) (fun e => h4 n0 n1 (fun z => e z.1))
    refine rx_isForeign (by omega) (fun a => re_bq1 ?_) (fun a => re_bq0 (h4 n0 n1 (fun z => a z.2.1)))
    obtain ⟨f, hf, rfl⟩ := a
    exact rx_foreignPart (by omega) (fun j hj ej => h2 e f j hf hj rfl ej) (fun b => h4 n0 n1 (fun z => b z.2.2))
  have s39 : (¬ (p0 = 0 ∧ re_IN p1 T ∧ re_IN p2 3)) → wX_schema_39 post p0 p1 p2 (nI T) (nI R) sl dp cu tu (nI K) (nI F) 336 rn qe rq kT kA kB kP cC cA cB cK cD cU ce mo rm rl mk qu po := by
    intro n0
    unfold wX_schema_39
    refine br_c (fun e => ?_) (fun e => s59 n0 (fun z => e z.1))
    refine rx_isKey (by omega) (fun a => re_bq1 ?_) (fun a => re_bq0 (s59 n0 (fun z => a z.2.1)))
    obtain ⟨q, hq, rfl⟩ := a
    refine rx_keyPart (by omega) (fun j hj ej => h1 e q j hq hj rfl ej) (fun b => h4 n0 (fun z => b z.2.2) (fun z => ?_))
    exact absurd (e.symm.trans z.1) (by decide)
  unfold wpX_schema
  dsimp only
  refine br_c (fun e => ?_) (fun e => s39 (fun z => e z.1))
  refine rx_isTable (by omega) (fun a => re_bq1 (rx_isColumn (fun b => re_bq1 ?_) (fun b => re_bq0 (s39 (fun z => b z.2.2))))) (fun a => re_bq0 (s39 (fun z => a z.2.1)))
  obtain ⟨t, ht, rfl⟩ := a
  obtain ⟨c, hc, rfl⟩ := b
  simp (disch := omega) only [nI_clamp, re_in, re_m3, re_m7, re_m28, re_m49, re_m4, re_m8, re_m84, nI_add, nI_1, re_a2, re_a3, re_a4, re_a5, re_a6, re_b336, re_b8, re_b0, forall_eq, true_and, and_true, not_false_eq_true, not_true_eq_false, false_implies, true_implies, implies_true]
  exact h0 e t c ht hc rfl rfl
theorem ry_schema {post : Int32 → Prop} {p0 p1 p2 : Int32} (hP : re_SP s T R K F)
    (h0 : p0 = 0 → ∀ t c, t < T → c < 3 → p1 = nI t → p2 = nI c → (rq (t * 3 + c) = 0 → post 0) ∧ (¬ rq (t * 3 + c) = 0 → post 1))
    (h1 : p0 = 1 → ∀ q j, q < K → j < 4 → p1 = nI q → p2 = nI j → post (ks (q * 4 + j)))
    (h2 : p0 = 2 → ∀ f j, f < F → j < 7 → p1 = nI f → p2 = nI j → post (fs (f * 7 + j)))
    (h4 : ¬ (p0 = 0 ∧ re_IN p1 T ∧ re_IN p2 3) → ¬ (p0 = 1 ∧ re_IN p1 K ∧ re_IN p2 4) → ¬ (p0 = 2 ∧ re_IN p1 F ∧ re_IN p2 7) → post (-4)) : wpY_schema post (nI T, nI R, sl, nI K, nI F, dp, cu, tu, ks, fs, ce, ym, rq, yr, yk) p0 p1 p2 := by
  have B := hP.1
  have i0 : re_IN 0 R := ⟨0, by omega, rfl⟩
  have s74 : (¬ (p0 = 0 ∧ re_IN p1 T ∧ re_IN p2 3)) → (¬ (p0 = 1 ∧ re_IN p1 K ∧ re_IN p2 4)) → wY_schema_74 post p0 p1 p2 (nI T) (nI R) sl (nI K) (nI F) dp cu tu ks fs ce ym rq yr yk := by
    intro n0 n1
    unfold wY_schema_74
    refine br_c (fun e => ?_) (fun e => h4 n0 n1 (fun z => e z.1))
    refine ry_noFk (by omega) (fun a => re_bq0 ?_) (fun a => re_bq1 (h4 n0 n1 (fun z => a z.2.1)))
    refine ry_in (fun b => re_bq1 ?_) (fun b => re_bq0 (h4 n0 n1 (fun z => b ((re_VRN (n := 6) (by omega) (by decide)).mpr z.2.2))))
    obtain ⟨f, hf, rfl⟩ := a
    obtain ⟨j, hj, rfl⟩ := (re_VRN (n := 6) (by omega) (by decide)).mp b
    simp (disch := omega) only [nI_clamp, re_in, re_m3, re_m7, re_m28, re_m49, re_m4, re_m8, re_m84, nI_add, nI_1, re_a2, re_a3, re_a4, re_a5, re_a6, re_b336, re_b8, re_b0, forall_eq, true_and, and_true, not_false_eq_true, not_true_eq_false, false_implies, true_implies, implies_true]
    exact h2 e f j hf hj rfl rfl
  have s33 : (¬ (p0 = 0 ∧ re_IN p1 T ∧ re_IN p2 3)) → wY_schema_33 post p0 p1 p2 (nI T) (nI R) sl (nI K) (nI F) dp cu tu ks fs ce ym rq yr yk := by
    intro n0
    unfold wY_schema_33
    refine br_c (fun e => ?_) (fun e => s74 n0 (fun z => e z.1))
    refine ry_in (fun a => re_bq1 ?_) (fun a => re_bq0 (s74 n0 (fun z => a ((re_VRK (by omega)).mpr z.2.1))))
    refine ry_in (fun b => re_bq1 ?_) (fun b => re_bq0 (s74 n0 (fun z => b ((re_VRN (n := 3) (by omega) (by decide)).mpr z.2.2))))
    obtain ⟨q, hq, rfl⟩ := (re_VRK (by omega)).mp a
    obtain ⟨j, hj, rfl⟩ := (re_VRN (n := 3) (by omega) (by decide)).mp b
    simp (disch := omega) only [nI_clamp, re_in, re_m3, re_m7, re_m28, re_m49, re_m4, re_m8, re_m84, nI_add, nI_1, re_a2, re_a3, re_a4, re_a5, re_a6, re_b336, re_b8, re_b0, forall_eq, true_and, and_true, not_false_eq_true, not_true_eq_false, false_implies, true_implies, implies_true]
    exact h1 e q j hq hj rfl rfl
  unfold wpY_schema
  dsimp only
  refine br_c (fun e => ?_) (fun e => s33 (fun z => e z.1))
  refine ry_noCell (by omega) (by omega) (fun a _ b => re_bq0 ?_) (fun a => re_bq1 (s33 (fun z => a ⟨z.2.1, i0, z.2.2⟩)))
  obtain ⟨t, ht, rfl⟩ := a
  obtain ⟨c, hc, rfl⟩ := b
  simp (disch := omega) only [nI_clamp, re_in, re_m3, re_m7, re_m28, re_m49, re_m4, re_m8, re_m84, nI_add, nI_1, re_a2, re_a3, re_a4, re_a5, re_a6, re_b336, re_b8, re_b0, forall_eq, true_and, and_true, not_false_eq_true, not_true_eq_false, false_implies, true_implies, implies_true]
  exact h0 e t c ht hc rfl rfl
theorem rz_schema {k : Nat} (hO : re_OK T R K F D s sl kT kA kB kP cC cA cB cK cD cU ce mo ks fs ym) (v1 v2 v3 : Int32) : wpX_schema (fun r => wpY_schema (fun r' => r' = r ∧ i_Rel k (nI T, nI R, sl, nI D, cu, tu, nI K, nI F, 336, rn, qe, rq, kT, kA, kB, kP, cC, cA, cB, cK, cD, cU, ce, mo, rm, rl, mk, qu, po) (nI T, nI R, sl, nI K, nI F, nI D, cu, tu, ks, fs, ce, ym, rq, yr, yk)) (nI T, nI R, sl, nI K, nI F, nI D, cu, tu, ks, fs, ce, ym, rq, yr, yk) v1 v2 v3) (nI T, nI R, sl, nI D, cu, tu, nI K, nI F, 336, rn, qe, rq, kT, kA, kB, kP, cC, cA, cB, cK, cD, cU, ce, mo, rm, rl, mk, qu, po) v1 v2 v3 := by
  have hP := hO.1
  have B := hP.1
  have hX := hO.2.1
  have hY := hO.2.2.1
  have hA := hO.2.2.2.1
  have hZ := hO.2.2.2.2.1
  have I : i_Rel k (nI T, nI R, sl, nI D, cu, tu, nI K, nI F, 336, rn, qe, rq, kT, kA, kB, kP, cC, cA, cB, cK, cD, cU, ce, mo, rm, rl, mk, qu, po) (nI T, nI R, sl, nI K, nI F, nI D, cu, tu, ks, fs, ce, ym, rq, yr, yk) := re_mk hO
  have inj : ∀ {a b : Nat}, a < 100 → b < 100 → nI a = nI b → a = b := fun ha hb e => by rwa [nI_eq (by omega) (by omega)] at e
  refine rx_schema hP (fun e t c ht hc e1 e2 => ?_) (fun e q j hq hj e1 e2 => ?_) (fun e f j hf hj e1 e2 => ?_) (fun n0 n1 n2 => ?_)
  · subst e e1 e2
    have yk' : ∀ {post : Int32 → Prop}, ((rq (t * 3 + c) = 0 → post 0) ∧ (¬ rq (t * 3 + c) = 0 → post 1)) → wpY_schema post (nI T, nI R, sl, nI K, nI F, nI D, cu, tu, ks, fs, ce, ym, rq, yr, yk) 0 (nI t) (nI c) := by
      intro post h
      refine ry_schema hP (fun _ t' c' ht' hc' e1 e2 => ?_) (fun z => absurd z (by decide)) (fun z => absurd z (by decide)) (fun z => absurd ⟨rfl, ⟨t, ht, rfl⟩, ⟨c, hc, rfl⟩⟩ z)
      have a1 := inj (by omega) (by omega) e1
      have a2 := inj (by omega) (by omega) e2
      subst a1 a2
      exact h
    exact br_c (fun z => yk' (br_t z ⟨rfl, I⟩)) (fun z => yk' (br_f z ⟨rfl, I⟩))
  · subst e e1 e2
    refine ry_schema hP (fun z => absurd z (by decide)) (fun _ q' j' hq' hj' e1 e2 => ?_) (fun z => absurd z (by decide)) (fun _ z => absurd ⟨rfl, ⟨q, hq, rfl⟩, ⟨j, hj, rfl⟩⟩ z)
    have a1 := inj (by omega) (by omega) e1
    have a2 := inj (by omega) (by omega) e2
    subst a1 a2
    refine ⟨?_, I⟩
    have E := hX.1 q hq
    have E' := hY.1 q hq
    rcases (by omega : j = 0 ∨ j = 1 ∨ j = 2 ∨ j = 3) with rfl | rfl | rfl | rfl
    · exact E'.1.trans E.1.symm
    · exact E'.2.1.trans E.2.1.symm
    · exact E'.2.2.trans E.2.2.symm
    · exact hZ.1 q hq
  · subst e e1 e2
    refine ry_schema hP (fun z => absurd z (by decide)) (fun z => absurd z (by decide)) (fun _ q' j' hq' hj' e1 e2 => ?_) (fun _ _ z => absurd ⟨rfl, ⟨f, hf, rfl⟩, ⟨j, hj, rfl⟩⟩ z)
    have a1 := inj (by omega) (by omega) e1
    have a2 := inj (by omega) (by omega) e2
    subst a1 a2
    refine ⟨?_, I⟩
    have E := hX.2 f hf
    have E' := hY.2 f hf
    rcases (by omega : j = 0 ∨ j = 1 ∨ j = 2 ∨ j = 3 ∨ j = 4 ∨ j = 5 ∨ j = 6) with rfl | rfl | rfl | rfl | rfl | rfl | rfl
    · exact E'.1.trans E.1.symm
    · exact E'.2.1.trans E.2.1.symm
    · exact E'.2.2.1.trans E.2.2.1.symm
    · exact E'.2.2.2.trans E.2.2.2.symm
    · exact (hA f hf).1
    · exact (hA f hf).2
    · exact hZ.2.1 f hf
  · exact ry_schema hP (fun z t c ht hc e1 e2 => absurd ⟨z, ⟨t, ht, e1⟩, ⟨c, hc, e2⟩⟩ n0) (fun z t c ht hc e1 e2 => absurd ⟨z, ⟨t, ht, e1⟩, ⟨c, hc, e2⟩⟩ n1) (fun z t c ht hc e1 e2 => absurd ⟨z, ⟨t, ht, e1⟩, ⟨c, hc, e2⟩⟩ n2) (fun _ _ _ => ⟨rfl, I⟩)
theorem rz_seal {k : Nat} (hO : re_OK T R K F D s sl kT kA kB kP cC cA cB cK cD cU ce mo ks fs ym) : wpX_seal (fun r u' => wpY_seal (fun r' v' => r' = r ∧ i_Rel k u' v') (nI T, nI R, sl, nI K, nI F, nI D, cu, tu, ks, fs, ce, ym, rq, yr, yk)) (nI T, nI R, sl, nI D, cu, tu, nI K, nI F, 336, rn, qe, rq, kT, kA, kB, kP, cC, cA, cB, cK, cD, cU, ce, mo, rm, rl, mk, qu, po) := by
  unfold wpX_seal wpY_seal
  refine br_c (fun z => br_t z ⟨rfl, re_mk (s := s) ?_⟩) (fun z => br_f z ⟨rfl, re_mk hO⟩)
  exact ⟨hO.1, hO.2.1, hO.2.2.1, hO.2.2.2.1, hO.2.2.2.2.1, hO.2.2.2.2.2.1, hO.2.2.2.2.2.2.1, Or.inr rfl⟩
theorem rz_require {k : Nat} (hO : re_OK T R K F D s sl kT kA kB kP cC cA cB cK cD cU ce mo ks fs ym) (v1 v2 : Int32) : wpX_require (fun r u' => wpY_require (fun r' v' => r' = r ∧ i_Rel k u' v') (nI T, nI R, sl, nI K, nI F, nI D, cu, tu, ks, fs, ce, ym, rq, yr, yk) v1 v2) (nI T, nI R, sl, nI D, cu, tu, nI K, nI F, 336, rn, qe, rq, kT, kA, kB, kP, cC, cA, cB, cK, cD, cU, ce, mo, rm, rl, mk, qu, po) v1 v2 := by
  have hP := hO.1
  have B := hP.1
  have i0 : re_IN 0 R := ⟨0, by omega, rfl⟩
  have I : i_Rel k (nI T, nI R, sl, nI D, cu, tu, nI K, nI F, 336, rn, qe, rq, kT, kA, kB, kP, cC, cA, cB, cK, cD, cU, ce, mo, rm, rl, mk, qu, po) (nI T, nI R, sl, nI K, nI F, nI D, cu, tu, ks, fs, ce, ym, rq, yr, yk) := re_mk hO
  unfold wpX_require
  refine br_c (fun z => ?_) (fun z => ?_)
  · have bad : ¬ (re_IN v1 T ∧ re_IN v2 3) → wpY_require (fun r' v' => r' = -4 ∧ i_Rel k (nI T, nI R, sl, nI D, cu, tu, nI K, nI F, 336, rn, qe, rq, kT, kA, kB, kP, cC, cA, cB, cK, cD, cU, ce, mo, rm, rl, mk, qu, po) v') (nI T, nI R, sl, nI K, nI F, nI D, cu, tu, ks, fs, ce, ym, rq, yr, yk) v1 v2 := by
      intro n
      unfold wpY_require
      exact br_t z (ry_noCell (by omega) (by omega) (fun a _ b => absurd ⟨a, b⟩ n) (fun _ => re_bq1 ⟨rfl, I⟩))
    refine rx_isTable (by omega) (fun a => re_bq1 (rx_isColumn (fun b => re_bq1 ?_) (fun b => re_bq0 (bad (fun w => b w.2))))) (fun a => re_bq0 (bad (fun w => a w.1)))
    obtain ⟨t, ht, rfl⟩ := a
    obtain ⟨c, hc, rfl⟩ := b
    simp (disch := omega) only [nI_clamp, re_in, re_m3, re_m7, re_m28, re_m49, re_m4, re_m8, re_m84, nI_add, nI_1, re_a2, re_a3, re_a4, re_a5, re_a6, re_b336, re_b8, re_b0, forall_eq, true_and, and_true, not_false_eq_true, not_true_eq_false, false_implies, true_implies, implies_true]
    unfold wpY_require
    refine br_t z (ry_noCell (by omega) (by omega) (fun a _ b => re_bq0 ?_) (fun n => absurd ⟨⟨t, ht, rfl⟩, i0, ⟨c, hc, rfl⟩⟩ n))
    simp (disch := omega) only [nI_clamp, re_in, re_m3, re_m7, re_m28, re_m49, re_m4, re_m8, re_m84, nI_add, nI_1, re_a2, re_a3, re_a4, re_a5, re_a6, re_b336, re_b8, re_b0, forall_eq, true_and, and_true, not_false_eq_true, not_true_eq_false, false_implies, true_implies, implies_true]
    exact re_mk hO
  · unfold wpY_require
    exact br_f z ⟨rfl, I⟩
theorem re_in3 {p : Int32} {n : Nat} {v : Int32} {b c : Nat} {fs : Nat → Int32} (h : b ≠ c) : upd fs b v c = fs c := pk_un (fun e => h e.symm)
theorem ry_setActions {post : Int32 → SY → Prop} {p0 p1 p2 p3 : Int32} (hP : re_SP s T R K F) (h3 : ¬ sl = 0 → post (-3) (nI T, nI R, sl, nI K, nI F, dp, cu, tu, ks, fs, ce, ym, rq, yr, yk)) (h4 : sl = 0 → ¬ re_IN p0 F → post (-4) (nI T, nI R, sl, nI K, nI F, dp, cu, tu, ks, fs, ce, ym, rq, yr, yk)) (h5 : sl = 0 → re_IN p0 F → ¬ (re_VR p1 0 3 ∧ re_VR p2 0 3 ∧ re_VR p3 0 1) → post (-5) (nI T, nI R, sl, nI K, nI F, dp, cu, tu, ks, fs, ce, ym, rq, yr, yk))
    (hk : sl = 0 → ∀ f, f < F → p0 = nI f → re_VR p1 0 3 → re_VR p2 0 3 → re_VR p3 0 1 → post 0 (nI T, nI R, sl, nI K, nI F, dp, cu, tu, ks, upd (upd (upd fs (f * 7 + 4) p1) (f * 7 + 5) p2) (f * 7 + 6) p3, ce, upd (upd ym f p3) (8 + f) p3, rq, yr, yk)) : wpY_setActions post (nI T, nI R, sl, nI K, nI F, dp, cu, tu, ks, fs, ce, ym, rq, yr, yk) p0 p1 p2 p3 := by
  have B := hP.1
  unfold wpY_setActions
  refine br_c (fun z => ?_) h3
  refine ry_noFk (by omega) (fun a => re_bq0 ?_) (fun a => re_bq1 (h4 z a))
  refine ry_in (fun b => re_bq1 (ry_in (fun c => re_bq1 (ry_in (fun d => re_bq1 ?_) (fun d => re_bq0 (h5 z a (fun w => d w.2.2))))) (fun c => re_bq0 (h5 z a (fun w => c w.2.1))))) (fun b => re_bq0 (h5 z a (fun w => b w.1)))
  obtain ⟨f, hf, rfl⟩ := a
  simp (disch := omega) only [nI_clamp, re_in, re_m3, re_m7, re_m28, re_m49, re_m4, re_m8, re_m84, nI_add, nI_1, re_a2, re_a3, re_a4, re_a5, re_a6, re_b336, re_b8, re_b0, forall_eq, true_and, and_true, not_false_eq_true, not_true_eq_false, false_implies, true_implies, implies_true]
  exact hk z f hf rfl b c d
theorem rx_describeForeign {post : SX → Prop} {f : Nat} {a b c : Int32} (hf : f < 8) (h : post (nI T, nI R, sl, dp, cu, tu, nI K, nI F, 336, rn, qe, rq, kT, kA, kB, kP, cC, cA, cB, cK, upd cD f a, upd cU f b, ce, upd (upd mo f c) (8 + f) c, rm, rl, mk, qu, po)) : wpX_describeForeign post (nI T, nI R, sl, dp, cu, tu, nI K, nI F, 336, rn, qe, rq, kT, kA, kB, kP, cC, cA, cB, cK, cD, cU, ce, mo, rm, rl, mk, qu, po) (nI f) a b c := by
  unfold wpX_describeForeign
  dsimp only
  simp (disch := omega) only [nI_clamp, re_in, re_m3, re_m7, re_m28, re_m49, re_m4, re_m8, re_m84, nI_add, nI_1, re_a2, re_a3, re_a4, re_a5, re_a6, re_b336, re_b8, re_b0, forall_eq, true_and, and_true, not_false_eq_true, not_true_eq_false, false_implies, true_implies, implies_true]
  exact h
theorem rx_setActions {post : Int32 → SX → Prop} {p0 p1 p2 p3 : Int32} (hP : re_SP s T R K F) (h3 : ¬ sl = 0 → post (-3) (nI T, nI R, sl, dp, cu, tu, nI K, nI F, 336, rn, qe, rq, kT, kA, kB, kP, cC, cA, cB, cK, cD, cU, ce, mo, rm, rl, mk, qu, po)) (h4 : sl = 0 → ¬ re_IN p0 F → post (-4) (nI T, nI R, sl, dp, cu, tu, nI K, nI F, 336, rn, qe, rq, kT, kA, kB, kP, cC, cA, cB, cK, cD, cU, ce, mo, rm, rl, mk, qu, po)) (h5 : sl = 0 → re_IN p0 F → ¬ (re_VR p1 0 3 ∧ re_VR p2 0 3 ∧ re_VR p3 0 1) → post (-5) (nI T, nI R, sl, dp, cu, tu, nI K, nI F, 336, rn, qe, rq, kT, kA, kB, kP, cC, cA, cB, cK, cD, cU, ce, mo, rm, rl, mk, qu, po))
    (hk : sl = 0 → ∀ f, f < F → p0 = nI f → re_VR p1 0 3 → re_VR p2 0 3 → re_VR p3 0 1 → post 0 (nI T, nI R, sl, dp, cu, tu, nI K, nI F, 336, rn, qe, rq, kT, kA, kB, kP, cC, cA, cB, cK, upd cD f p1, upd cU f p2, ce, upd (upd mo f p3) (8 + f) p3, rm, rl, mk, qu, po)) : wpX_setActions post (nI T, nI R, sl, dp, cu, tu, nI K, nI F, 336, rn, qe, rq, kT, kA, kB, kP, cC, cA, cB, cK, cD, cU, ce, mo, rm, rl, mk, qu, po) p0 p1 p2 p3 := by
  have B := hP.1
  unfold wpX_setActions
  refine br_c (fun z => ?_) h3
  refine rx_isForeign (by omega) (fun a => re_bq1 ?_) (fun a => re_bq0 (h4 z a))
  refine rx_isAction (fun b => re_bq1 (rx_isAction (fun c => re_bq1 (rx_isMode (fun d => re_bq1 ?_) (fun d => re_bq0 (h5 z a (fun w => d w.2.2))))) (fun c => re_bq0 (h5 z a (fun w => c w.2.1))))) (fun b => re_bq0 (h5 z a (fun w => b w.1)))
  obtain ⟨f, hf, rfl⟩ := a
  exact rx_describeForeign (by omega) (hk z f hf rfl b c d)
theorem rz_setActions {k : Nat} (hO : re_OK T R K F D s sl kT kA kB kP cC cA cB cK cD cU ce mo ks fs ym) (v1 v2 v3 v4 : Int32) : wpX_setActions (fun r u' => wpY_setActions (fun r' v' => r' = r ∧ i_Rel k u' v') (nI T, nI R, sl, nI K, nI F, nI D, cu, tu, ks, fs, ce, ym, rq, yr, yk) v1 v2 v3 v4) (nI T, nI R, sl, nI D, cu, tu, nI K, nI F, 336, rn, qe, rq, kT, kA, kB, kP, cC, cA, cB, cK, cD, cU, ce, mo, rm, rl, mk, qu, po) v1 v2 v3 v4 := by
  have hP := hO.1
  have B := hP.1
  have hA := hO.2.2.2.1
  have hY := hO.2.2.1
  have hZ := hO.2.2.2.2.1
  have I : i_Rel k (nI T, nI R, sl, nI D, cu, tu, nI K, nI F, 336, rn, qe, rq, kT, kA, kB, kP, cC, cA, cB, cK, cD, cU, ce, mo, rm, rl, mk, qu, po) (nI T, nI R, sl, nI K, nI F, nI D, cu, tu, ks, fs, ce, ym, rq, yr, yk) := re_mk hO
  refine rx_setActions hP (fun a => ry_setActions hP (fun _ => ⟨rfl, I⟩) (fun z => absurd z a) (fun z => absurd z a) (fun z => absurd z a)) (fun a b => ry_setActions hP (fun z => absurd a z) (fun _ _ => ⟨rfl, I⟩) (fun _ z => absurd z b) (fun _ f hf e => absurd ⟨f, hf, e⟩ b)) (fun a b c => ry_setActions hP (fun z => absurd a z) (fun _ z => absurd b z) (fun _ _ _ => ⟨rfl, I⟩) (fun _ f hf e u v w => absurd ⟨u, v, w⟩ c)) ?_
  intro a f hf e u v w
  subst e
  refine ry_setActions hP (fun z => absurd a z) (fun _ z => absurd ⟨f, hf, rfl⟩ z) (fun _ _ z => absurd ⟨u, v, w⟩ z) ?_
  intro _ f' hf' e _ _ _
  rw [nI_eq (by omega) (by omega)] at e
  subst e
  refine ⟨rfl, re_mk ⟨hP, hO.2.1, ⟨hY.1, fun g hg => ?_⟩, fun g hg => ?_, ⟨hZ.1, fun g hg => ?_, fun g h1 h2 => ?_, fun i hi => ?_⟩, hO.2.2.2.2.2⟩⟩
  · have E := hY.2 g hg
    rw [pk_un (by omega), pk_un (by omega), pk_un (by omega), pk_un (by omega), pk_un (by omega), pk_un (by omega), pk_un (by omega), pk_un (by omega), pk_un (by omega), pk_un (by omega), pk_un (by omega), pk_un (by omega)]
    exact E
  · have E := hA g hg
    rcases Nat.decEq g f with n | n
    · refine ⟨?_, ?_⟩
      · rw [pk_un (by omega), pk_un (by omega), pk_un (by omega), pk_un n]; exact E.1
      · rw [pk_un (by omega), pk_un (by omega), pk_un (by omega), pk_un n]; exact E.2
    · subst n
      refine ⟨?_, ?_⟩
      · rw [pk_un (by omega), pk_un (by omega), pk_us, pk_us]
      · rw [pk_un (by omega), pk_us, pk_us]
  · have E := hZ.2.1 g hg
    rcases Nat.decEq g f with n | n
    · rw [pk_un (by omega), pk_un (by omega), pk_un (by omega), pk_un (by omega), pk_un (by omega)]
      exact E
    · subst n
      rw [pk_us, pk_us]
  · have E := hZ.2.2.1 g h1 h2
    rw [pk_un (by omega), pk_un (by omega), pk_un (by omega), pk_un (by omega), pk_un (by omega), pk_un (by omega), pk_un (by omega), pk_un (by omega), pk_un (by omega)]
    refine ⟨E.1, E.2.1, E.2.2.1, fun a ha => ?_⟩
    rw [pk_un (by omega), pk_un (by omega)]
    exact E.2.2.2 a ha
  · have E := hZ.2.2.2 i hi
    rcases Nat.decEq i (8 + f) with n | n
    · rw [pk_un n, pk_un n]
      rcases Nat.decEq i f with n2 | n2
      · rw [pk_un n2, pk_un n2]; exact E
      · rw [n2, pk_us, pk_us]
    · rw [n, pk_us, pk_us]
end
end
section
/-! addKey, addForeign -/
def re_pt (g : Nat → Nat) (n v : Nat) : Nat → Nat := fun q => if q = n then v else g q
theorem re_pt_s {g : Nat → Nat} {n v : Nat} : re_pt g n v n = v := if_pos rfl
theorem re_pt_n {g : Nat → Nat} {n v q : Nat} (h : q ≠ n) : re_pt g n v q = g q := if_neg h
def re_sk (s : re_Sc) (K t a bb : Nat) : re_Sc := (re_pt (re_kt s) K t, re_pt (re_ka s) K a, re_pt (re_kb s) K bb, re_ct s, re_fa s, re_fb s, re_fk s)
def re_sf (s : re_Sc) (F t a bb q : Nat) : re_Sc := (re_kt s, re_ka s, re_kb s, re_pt (re_ct s) F t, re_pt (re_fa s) F a, re_pt (re_fb s) F bb, re_pt (re_fk s) F q)
def re_RQ (rq : Nat → Int32) (p3 : Int32) (i j bb : Nat) : Nat → Int32 := if p3 = 1 then (if bb = 0 then upd rq i 1 else upd (upd rq i 1) j 1) else rq
def re_HA (K : Nat) (kT kP : Nat → Int32) (p : Int32) : Prop := ∃ q, q < K ∧ kT q = p ∧ kP q = 1
theorem re_VRo {p : Int32} (h : re_VR p (-1) 2) : ∃ bb, bb ≤ 3 ∧ p = re_oc bb := by
  have h1 : -1 ≤ p.toInt := h.1
  have h2 : p.toInt ≤ 2 := h.2
  rcases Int.lt_or_le p.toInt 0 with z | z
  · refine ⟨0, by omega, Int32.toInt_inj.mp ?_⟩
    rw [re_oc0, show ((-1 : Int32)).toInt = -1 from by decide]
    omega
  · obtain ⟨j, hj, rfl⟩ := (re_IN_iff (p := p) (n := 3) (by omega)).mpr ⟨z, by omega⟩
    exact ⟨j + 1, by omega, (re_ocS (b := j + 1) (by omega)).symm⟩
section
variable {T R K F : Nat} {s : re_Sc} {sl dp cu tu rn qe : Int32} {rq kT kA kB kP cC cA cB cK cD cU ce mo rm rl mk qu po : Nat → Int32} {ks fs ym yr yk : Nat → Int32}
variable {D : Nat}
theorem rx_hasPrimary {post : Int32 → Prop} {p : Int32} (hP : re_SP s T R K F) (h1 : re_HA K kT kP p → post 1) (h0 : ¬ re_HA K kT kP p → post 0) : wpX_hasPrimary post (nI T, nI R, sl, dp, cu, tu, nI K, nI F, 336, rn, qe, rq, kT, kA, kB, kP, cC, cA, cB, cK, cD, cU, ce, mo, rm, rl, mk, qu, po) p := by
  have B := hP.1
  unfold wpX_hasPrimary
  refine loop_0 (fun n i (_ : Unit) => wX_hasPrimary_2 post p (nI T) (nI R) sl dp cu tu (nI K) (nI F) 336 rn qe rq kT kA kB kP cC cA cB cK cD cU ce mo rm rl mk qu po n (nI i)) (fun i _ => ∀ q, q < i → ¬ (kT q = p ∧ kP q = 1)) K () lt_0 ?_ ?_
  · intro n _ hI
    have hp := h0 (fun z => by obtain ⟨q, hq, z⟩ := z; exact hI q hq z)
    simp only [wX_hasPrimary_2]
    exact pk_le 6 K (fun _ => hp) (fun _ => pk_le K K (fun _ => hp) (fun z => by omega))
  · intro n i _ hi hI hc
    simp (disch := omega) only [wX_hasPrimary_2, nI_clamp, re_in, re_m3, re_m7, re_m28, re_m49, re_m4, re_m8, re_m84, nI_add, nI_1, re_a2, re_a3, re_a4, re_a5, re_a6, re_b336, re_b8, re_b0, forall_eq, true_and, and_true, not_false_eq_true, not_true_eq_false, false_implies, true_implies, implies_true]
    exact pk_le 6 i (fun _ => by omega) (fun _ => pk_le K i (fun _ => by omega) (fun _ => br_c (fun z => br_c (fun w => h1 ⟨i, hi, z, w⟩) (fun w => hc () (lt_s hI (fun v => w v.2)))) (fun z => hc () (lt_s hI (fun v => z v.1)))))
theorem rx_addKey {post : Int32 → SX → Prop} {p0 p1 p2 p3 : Int32} (hP : re_SP s T R K F) (h3 : ¬ sl = 0 → post (-3) (nI T, nI R, sl, dp, cu, tu, nI K, nI F, 336, rn, qe, rq, kT, kA, kB, kP, cC, cA, cB, cK, cD, cU, ce, mo, rm, rl, mk, qu, po)) (h4 : sl = 0 → ¬ (re_IN p0 T ∧ re_IN p1 3 ∧ re_VR p2 (-1) 2) → post (-4) (nI T, nI R, sl, dp, cu, tu, nI K, nI F, 336, rn, qe, rq, kT, kA, kB, kP, cC, cA, cB, cK, cD, cU, ce, mo, rm, rl, mk, qu, po))
    (h5 : sl = 0 → re_IN p0 T → re_IN p1 3 → re_VR p2 (-1) 2 → (p2 = p1 ∨ ¬ re_VR p3 0 1 ∨ (p3 = 1 ∧ re_HA K kT kP p0)) → post (-5) (nI T, nI R, sl, dp, cu, tu, nI K, nI F, 336, rn, qe, rq, kT, kA, kB, kP, cC, cA, cB, cK, cD, cU, ce, mo, rm, rl, mk, qu, po))
    (h6 : sl = 0 → re_IN p0 T → re_IN p1 3 → re_VR p2 (-1) 2 → ¬ (p2 = p1 ∨ ¬ re_VR p3 0 1 ∨ (p3 = 1 ∧ re_HA K kT kP p0)) → K = 6 → post (-6) (nI T, nI R, sl, dp, cu, tu, nI K, nI F, 336, rn, qe, rq, kT, kA, kB, kP, cC, cA, cB, cK, cD, cU, ce, mo, rm, rl, mk, qu, po))
    (hk : sl = 0 → ∀ t a bb, t < T → a < 3 → bb ≤ 3 → p0 = nI t → p1 = nI a → p2 = re_oc bb → ¬ (p2 = p1 ∨ ¬ re_VR p3 0 1 ∨ (p3 = 1 ∧ re_HA K kT kP p0)) → ¬ K = 6 → post (nI K) (nI T, nI R, sl, dp, cu, tu, nI (K + 1), nI F, 336, rn, qe, re_RQ rq p3 (t * 3 + a) (t * 3 + (bb - 1)) bb, upd kT K p0, upd kA K p1, upd kB K p2, upd kP K p3, cC, cA, cB, cK, cD, cU, ce, mo, rm, rl, mk, qu, po)) : wpX_addKey post (nI T, nI R, sl, dp, cu, tu, nI K, nI F, 336, rn, qe, rq, kT, kA, kB, kP, cC, cA, cB, cK, cD, cU, ce, mo, rm, rl, mk, qu, po) p0 p1 p2 p3 := by
  have B := hP.1
  unfold wpX_addKey
  refine br_c (fun z => ?_) h3
  refine rx_isTable (by omega) (fun a => re_bq1 (rx_isColumn (fun b => re_bq1 (rx_isColumnOrNone (fun c => re_bq1 ?_) (fun c => re_bq0 (h4 z (fun w => c w.2.2))))) (fun b => re_bq0 (h4 z (fun w => b w.2.1))))) (fun a => re_bq0 (h4 z (fun w => a w.1)))
  refine br_c (fun e => h5 z a b c (Or.inl e)) (fun e => ?_)
  have fin : ¬ (p2 = p1 ∨ ¬ re_VR p3 0 1 ∨ (p3 = 1 ∧ re_HA K kT kP p0)) → wX_addKey_76 post p0 p1 p2 p3 (nI T) (nI R) sl dp cu tu (nI K) (nI F) 336 rn qe rq kT kA kB kP cC cA cB cK cD cU ce mo rm rl mk qu po := by
    intro hn
    unfold wX_addKey_76
    refine pk_lt K 6 (fun hK => ?_) (fun hK => h6 z a b c hn (by omega))
    obtain ⟨t, ht, rfl⟩ := a
    obtain ⟨a, ha, rfl⟩ := b
    obtain ⟨bb, hb, rfl⟩ := re_VRo c
    have hk := hk z t a bb ht ha hb rfl rfl rfl hn (by omega)
    simp (disch := omega) only [re_nb1, nI_clamp, re_in, re_m3, re_m7, re_m28, re_m49, re_m4, re_m8, re_m84, nI_add, nI_1, re_a2, re_a3, re_a4, re_a5, re_a6, re_b336, re_b8, re_b0, forall_eq, true_and, and_true, not_false_eq_true, not_true_eq_false, false_implies, true_implies, implies_true]
    by_cases e1 : p3 = 1
    · refine br_t e1 ?_
      unfold re_RQ at hk
      rw [if_pos e1] at hk
      rcases Nat.eq_zero_or_pos bb with w | w
      · subst w
        rw [if_pos rfl] at hk
        exact br_t (by decide) hk
      · rw [if_neg (by omega)] at hk
        rw [re_ocS w] at hk ⊢
        simp (disch := omega) only [nI_clamp, re_in, re_m3, re_m7, re_m28, re_m49, re_m4, re_m8, re_m84, nI_add, nI_1, re_a2, re_a3, re_a4, re_a5, re_a6, re_b336, re_b8, re_b0, forall_eq, true_and, and_true, not_false_eq_true, not_true_eq_false, false_implies, true_implies, implies_true]
        exact br_f (nI_pos (by omega)) hk
    · refine br_f e1 ?_
      unfold re_RQ at hk
      rw [if_neg e1] at hk
      exact hk
  have mid : re_VR p3 0 1 → wX_addKey_59 post p0 p1 p2 p3 (nI T) (nI R) sl dp cu tu (nI K) (nI F) 336 rn qe rq kT kA kB kP cC cA cB cK cD cU ce mo rm rl mk qu po := by
    intro hv
    unfold wX_addKey_59
    refine br_c (fun e1 => rx_hasPrimary hP (fun w => re_bq1 (h5 z a b c (Or.inr (Or.inr ⟨e1, w⟩)))) (fun w => re_bq0 (fin (fun v => v.elim e (fun v => v.elim (fun v => v hv) (fun v => w v.2)))))) (fun e1 => fin (fun v => v.elim e (fun v => v.elim (fun v => v hv) (fun v => e1 v.1))))
  exact br_c (fun w => mid (re_VR01.mpr (Or.inl w))) (fun w => br_c (fun v => mid (re_VR01.mpr (Or.inr v))) (fun v => h5 z a b c (Or.inr (Or.inl (fun u => (re_VR01.mp u).elim w v)))))
theorem ry_addKey {post : Int32 → SY → Prop} {p0 p1 p2 p3 : Int32} (hP : re_SP s T R K F) (hK : ∀ q, q < K → ks (q * 4) = kT q ∧ ks (q * 4 + 3) = kP q) (h3 : ¬ sl = 0 → post (-3) (nI T, nI R, sl, nI K, nI F, dp, cu, tu, ks, fs, ce, ym, rq, yr, yk)) (h4 : sl = 0 → ¬ (re_IN p0 T ∧ re_IN p1 3 ∧ re_VR p2 (-1) 2) → post (-4) (nI T, nI R, sl, nI K, nI F, dp, cu, tu, ks, fs, ce, ym, rq, yr, yk))
    (h5 : sl = 0 → re_IN p0 T → re_IN p1 3 → re_VR p2 (-1) 2 → (p2 = p1 ∨ ¬ re_VR p3 0 1 ∨ (p3 = 1 ∧ re_HA K kT kP p0)) → post (-5) (nI T, nI R, sl, nI K, nI F, dp, cu, tu, ks, fs, ce, ym, rq, yr, yk))
    (h6 : sl = 0 → re_IN p0 T → re_IN p1 3 → re_VR p2 (-1) 2 → ¬ (p2 = p1 ∨ ¬ re_VR p3 0 1 ∨ (p3 = 1 ∧ re_HA K kT kP p0)) → K = 6 → post (-6) (nI T, nI R, sl, nI K, nI F, dp, cu, tu, ks, fs, ce, ym, rq, yr, yk))
    (hk : sl = 0 → ∀ t a bb, t < T → a < 3 → bb ≤ 3 → p0 = nI t → p1 = nI a → p2 = re_oc bb → ¬ (p2 = p1 ∨ ¬ re_VR p3 0 1 ∨ (p3 = 1 ∧ re_HA K kT kP p0)) → ¬ K = 6 → post (nI K) (nI T, nI R, sl, nI (K + 1), nI F, dp, cu, tu, upd (upd (upd (upd ks (K * 4) p0) (K * 4 + 1) p1) (K * 4 + 2) p2) (K * 4 + 3) p3, fs, ce, ym, re_RQ rq p3 (t * 3 + a) (t * 3 + (bb - 1)) bb, yr, yk)) : wpY_addKey post (nI T, nI R, sl, nI K, nI F, dp, cu, tu, ks, fs, ce, ym, rq, yr, yk) p0 p1 p2 p3 := by
  have B := hP.1
  have i0 : re_IN 0 R := ⟨0, by omega, rfl⟩
  unfold wpY_addKey
  refine br_c (fun z => ?_) h3
  refine ry_noCell (by omega) (by omega) (fun a _ b => re_bq0 ?_) (fun n => re_bq1 (h4 z (fun w => n ⟨w.1, i0, w.2.1⟩)))
  have key : ∀ {A B : Prop}, (re_VR p2 (-1) 2 → A) → (¬ re_VR p2 (-1) 2 → B) → ((p2 < -1 → B) ∧ (¬ p2 < -1 → ((p2 ≤ 2 → A) ∧ (¬ p2 ≤ 2 → B)))) := by
    intro A B h1 h0
    unfold re_VR at h1 h0
    rw [Int32.lt_iff_toInt_lt, Int32.le_iff_toInt_le, show ((-1 : Int32)).toInt = -1 from by decide, show ((2 : Int32)).toInt = 2 from by decide]
    exact ⟨fun a => h0 (by omega), fun a => ⟨fun c => h1 (by omega), fun c => h0 (by omega)⟩⟩
  have key3 : ∀ {A B : Prop}, (re_VR p3 0 1 → A) → (¬ re_VR p3 0 1 → B) → ((p3 < 0 → B) ∧ (¬ p3 < 0 → ((p3 ≤ 1 → A) ∧ (¬ p3 ≤ 1 → B)))) := by
    intro A B h1 h0
    unfold re_VR at h1 h0
    rw [Int32.lt_iff_toInt_lt, Int32.le_iff_toInt_le, show ((0 : Int32)).toInt = 0 from by decide, show ((1 : Int32)).toInt = 1 from by decide]
    exact ⟨fun a => h0 (by omega), fun a => ⟨fun c => h1 (by omega), fun c => h0 (by omega)⟩⟩
  refine key (fun c => ?_) (fun c => h4 z (fun w => c w.2.2))
  refine br_c (fun e => h5 z a b c (Or.inl e)) (fun e => ?_)
  refine key3 (fun hv => ?_) (fun hv => h5 z a b c (Or.inr (Or.inl hv)))
  refine loop_0 (fun n i (_ : Unit) => wY_addKey_55 post p0 p1 p2 p3 (nI T) (nI R) sl (nI K) (nI F) dp cu tu ks fs ce ym rq yr yk n (nI i)) (fun i _ => ∀ q, q < i → ¬ (p3 = 1 ∧ kT q = p0 ∧ kP q = 1)) K () lt_0 ?_ ?_
  · intro n _ hI
    have hn : ¬ (p2 = p1 ∨ ¬ re_VR p3 0 1 ∨ (p3 = 1 ∧ re_HA K kT kP p0)) := by
      rintro (w | w | ⟨w, q, hq, w2⟩)
      · exact e w
      · exact w hv
      · exact hI q hq ⟨w, w2⟩
    simp only [wY_addKey_55]
    refine pk_le K K (fun _ => ?_) (fun z => by omega)
    refine pk_eq K 6 (fun e6 => h6 z a b c hn e6) (fun e6 => ?_)
    obtain ⟨t, ht, rfl⟩ := a
    obtain ⟨a, ha, rfl⟩ := b
    obtain ⟨bb, hb, rfl⟩ := re_VRo c
    have hk := hk z t a bb ht ha hb rfl rfl rfl hn e6
    simp (disch := omega) only [re_nb1, wY_addKey_183, wY_addKey_204, nI_pred, nI_clamp, re_in, re_m3, re_m7, re_m28, re_m49, re_m4, re_m8, re_m84, nI_add, nI_1, re_a2, re_a3, re_a4, re_a5, re_a6, re_b336, re_b8, re_b0, forall_eq, true_and, and_true, not_false_eq_true, not_true_eq_false, false_implies, true_implies, implies_true]
    by_cases e1 : p3 = 1
    · refine br_t e1 (br_t e1 ?_)
      unfold re_RQ at hk
      rw [if_pos e1] at hk
      rcases Nat.eq_zero_or_pos bb with w | w
      · subst w
        rw [if_pos rfl] at hk
        exact br_t (by decide) hk
      · rw [if_neg (by omega)] at hk
        rw [re_ocS w] at hk ⊢
        simp (disch := omega) only [nI_clamp, re_in, re_m3, re_m7, re_m28, re_m49, re_m4, re_m8, re_m84, nI_add, nI_1, re_a2, re_a3, re_a4, re_a5, re_a6, re_b336, re_b8, re_b0, forall_eq, true_and, and_true, not_false_eq_true, not_true_eq_false, false_implies, true_implies, implies_true]
        exact br_f (nI_pos (by omega)) hk
    · refine br_f e1 (br_f e1 ?_)
      unfold re_RQ at hk
      rw [if_neg e1] at hk
      exact hk
  · intro n i _ hi hI hc
    have E := hK i hi
    simp (disch := omega) only [wY_addKey_55, E.1, E.2, nI_clamp, re_in, re_m3, re_m7, re_m28, re_m49, re_m4, re_m8, re_m84, nI_add, nI_1, re_a2, re_a3, re_a4, re_a5, re_a6, re_b336, re_b8, re_b0, forall_eq, true_and, and_true, not_false_eq_true, not_true_eq_false, false_implies, true_implies, implies_true]
    exact pk_le K i (fun _ => by omega) (fun _ => br_c (fun w0 => br_c (fun z1 => br_c (fun w => h5 z a b c (Or.inr (Or.inr ⟨w0, i, hi, z1, w⟩))) (fun w => hc () (lt_s hI (fun v => w v.2.2)))) (fun z1 => hc () (lt_s hI (fun v => z1 v.2.1)))) (fun w0 => hc () (lt_s hI (fun v => w0 v.1))))
theorem re_abs_TW {k i j : Nat} {b : Nat} (h : ce (b + (re_kt s k * 7 + i) * 3 + re_ka s k) = -2) : ¬ re_TW s ce b k i j := fun z => z.1 (by rw [h]; decide)
theorem re_OK_key {t a bb : Nat} {p0 p1 p2 p3 : Int32} (hO : re_OK T R K F D s sl kT kA kB kP cC cA cB cK cD cU ce mo ks fs ym) (hs : sl = 0) (ht : t < T) (ha : a < 3) (hb : bb ≤ 3) (e0 : p0 = nI t) (e1 : p1 = nI a) (e2 : p2 = re_oc bb) (hne : ¬ p2 = p1) (hK : ¬ K = 6) :
    re_OK T R (K + 1) F D (re_sk s K t a bb) sl (upd kT K p0) (upd kA K p1) (upd kB K p2) (upd kP K p3) cC cA cB cK cD cU ce mo (upd (upd (upd (upd ks (K * 4) p0) (K * 4 + 1) p1) (K * 4 + 2) p2) (K * 4 + 3) p3) fs ym := by
  have hP := hO.1
  have B := hP.1
  have hX := hO.2.1
  have hY := hO.2.2.1
  have hZ := hO.2.2.2.2.1
  have hba : bb ≠ a + 1 := by
    intro e
    apply hne
    rw [e2, e1, e]
    exact re_ocS (b := a + 1) (by omega)
  have habs : ∀ i, i < 336 → ce i = -2 := by
    rcases hO.2.2.2.2.2.2.2 with z | z
    · exact z.2
    · rw [hs] at z
      exact absurd z (by decide)
  have kt1 : ∀ q, q ≠ K → re_kt (re_sk s K t a bb) q = re_kt s q := fun q h => re_pt_n h
  have ka1 : ∀ q, q ≠ K → re_ka (re_sk s K t a bb) q = re_ka s q := fun q h => re_pt_n h
  have kb1 : ∀ q, q ≠ K → re_kb (re_sk s K t a bb) q = re_kb s q := fun q h => re_pt_n h
  have kt2 : re_kt (re_sk s K t a bb) K = t := re_pt_s
  have ka2 : re_ka (re_sk s K t a bb) K = a := re_pt_s
  have kb2 : re_kb (re_sk s K t a bb) K = bb := re_pt_s
  refine ⟨⟨by omega, fun q hq => ?_, fun f hf => ?_⟩, ⟨fun q hq => ?_, hX.2⟩, ⟨fun q hq => ?_, hY.2⟩, hO.2.2.2.1, ⟨fun q hq => ?_, hZ.2⟩, fun A hA => ⟨(hO.2.2.2.2.2.1 A hA).1, ?_⟩, hO.2.2.2.2.2.2⟩
  · rcases Nat.decEq q K with n | n
    · rw [kt1 q n, ka1 q n, kb1 q n]
      exact hP.2.1 q (by omega)
    · rw [n, kt2, ka2, kb2]
      exact ⟨ht, ha, hb, hba⟩
  · have G := hP.2.2 f hf
    have hn : re_fk s f ≠ K := by omega
    refine ⟨G.1, G.2.1, G.2.2.1, G.2.2.2.1, Nat.lt_succ_of_lt G.2.2.2.2.1, ?_⟩
    show re_fb s f = 0 ↔ re_kb (re_sk s K t a bb) (re_fk s f) = 0
    rw [kb1 _ hn]
    exact G.2.2.2.2.2
  · rcases Nat.decEq q K with n | n
    · rw [kt1 q n, ka1 q n, kb1 q n, pk_un n, pk_un n, pk_un n]
      exact hX.1 q (by omega)
    · rw [n, kt2, ka2, kb2, pk_us, pk_us, pk_us]
      exact ⟨e0, e1, e2⟩
  · rcases Nat.decEq q K with n | n
    · rw [kt1 q n, ka1 q n, kb1 q n]
      refine ⟨?_, ?_, ?_⟩
      · rw [pk_un (by omega), pk_un (by omega), pk_un (by omega), pk_un (by omega)]; exact (hY.1 q (by omega)).1
      · rw [pk_un (by omega), pk_un (by omega), pk_un (by omega), pk_un (by omega)]; exact (hY.1 q (by omega)).2.1
      · rw [pk_un (by omega), pk_un (by omega), pk_un (by omega), pk_un (by omega)]; exact (hY.1 q (by omega)).2.2
    · rw [n, kt2, ka2, kb2]
      refine ⟨?_, ?_, ?_⟩
      · rw [pk_un (by omega), pk_un (by omega), pk_un (by omega), pk_us]; exact e0
      · rw [pk_un (by omega), pk_un (by omega), pk_us]; exact e1
      · rw [pk_un (by omega), pk_us]; exact e2
  · rcases Nat.decEq q K with n | n
    · rw [pk_un (by omega), pk_un (by omega), pk_un (by omega), pk_un (by omega), pk_un n]
      exact hZ.1 q (by omega)
    · rw [n, pk_us, pk_us]
  · intro q hq i j hi hj hne' hT
    refine re_abs_TW ?_ hT
    refine habs _ ?_
    have a1 : re_kt (re_sk s K t a bb) q < 4 ∧ re_ka (re_sk s K t a bb) q < 3 := by
      rcases Nat.decEq q K with n | n
      · rw [kt1 q n, ka1 q n]
        have := hP.2.1 q (by omega)
        omega
      · rw [n, kt2, ka2]
        omega
    omega
theorem rz_addKey {k : Nat} (hO : re_OK T R K F D s sl kT kA kB kP cC cA cB cK cD cU ce mo ks fs ym) (v1 v2 v3 v4 : Int32) : wpX_addKey (fun r u' => wpY_addKey (fun r' v' => r' = r ∧ i_Rel k u' v') (nI T, nI R, sl, nI K, nI F, nI D, cu, tu, ks, fs, ce, ym, rq, yr, yk) v1 v2 v3 v4) (nI T, nI R, sl, nI D, cu, tu, nI K, nI F, 336, rn, qe, rq, kT, kA, kB, kP, cC, cA, cB, cK, cD, cU, ce, mo, rm, rl, mk, qu, po) v1 v2 v3 v4 := by
  have hP := hO.1
  have B := hP.1
  have I : i_Rel k (nI T, nI R, sl, nI D, cu, tu, nI K, nI F, 336, rn, qe, rq, kT, kA, kB, kP, cC, cA, cB, cK, cD, cU, ce, mo, rm, rl, mk, qu, po) (nI T, nI R, sl, nI K, nI F, nI D, cu, tu, ks, fs, ce, ym, rq, yr, yk) := re_mk hO
  have hK : ∀ q, q < K → ks (q * 4) = kT q ∧ ks (q * 4 + 3) = kP q := fun q hq => ⟨(hO.2.2.1.1 q hq).1.trans (hO.2.1.1 q hq).1.symm, hO.2.2.2.2.1.1 q hq⟩
  refine rx_addKey hP (fun a => ry_addKey hP hK (fun _ => ⟨rfl, I⟩) (fun z => absurd z a) (fun z => absurd z a) (fun z => absurd z a) (fun z => absurd z a))
    (fun a b => ry_addKey hP hK (fun z => absurd a z) (fun _ _ => ⟨rfl, I⟩) (fun _ x y w => absurd ⟨x, y, w⟩ b) (fun _ x y w => absurd ⟨x, y, w⟩ b) ?_)
    (fun a b c d e => ry_addKey hP hK (fun z => absurd a z) (fun _ w => absurd ⟨b, c, d⟩ w) (fun _ _ _ _ _ => ⟨rfl, I⟩) (fun _ _ _ _ w => absurd e w) (fun _ _ _ _ _ _ _ _ _ _ w => absurd e w))
    (fun a b c d e f => ry_addKey hP hK (fun z => absurd a z) (fun _ w => absurd ⟨b, c, d⟩ w) (fun _ _ _ _ w => absurd w e) (fun _ _ _ _ _ _ => ⟨rfl, I⟩) (fun _ _ _ _ _ _ _ _ _ _ _ w => absurd f w)) ?_
  · intro _ t c bb ht hc hb e0 e1 e2
    refine absurd ⟨⟨t, ht, e0⟩, ⟨c, hc, e1⟩, ?_⟩ b
    rw [e2]
    rcases Nat.eq_zero_or_pos bb with w | w
    · rw [w, re_oc0]; exact ⟨by decide, by decide⟩
    · rw [re_ocS w]
      unfold re_VR
      rw [nI_toInt (by omega)]
      omega
  · intro a t c bb ht hc hb e0 e1 e2 e3 e4
    have vr : re_VR v3 (-1) 2 := by
      rw [e2]
      rcases Nat.eq_zero_or_pos bb with w | w
      · rw [w, re_oc0]; exact ⟨by decide, by decide⟩
      · rw [re_ocS w]
        unfold re_VR
        rw [nI_toInt (by omega)]
        omega
    refine ry_addKey hP hK (fun z => absurd a z) (fun _ w => absurd ⟨⟨t, ht, e0⟩, ⟨c, hc, e1⟩, vr⟩ w) (fun _ _ _ _ w => absurd w e3) (fun _ _ _ _ _ w => absurd w e4) ?_
    intro _ t' c' bb' ht' hc' hb' e0' e1' e2' _ _
    have x1 := e0.symm.trans e0'
    have x2 := e1.symm.trans e1'
    have x3 := re_oc_inj hb hb' (e2.symm.trans e2')
    rw [nI_eq (by omega) (by omega)] at x1 x2
    subst x1 x2 x3
    exact ⟨rfl, re_mk (re_OK_key hO a ht hc hb e0 e1 e2 (fun w => e3 (Or.inl w)) e4)⟩
end
end
section
/-! addForeign -/
theorem re_VR_oc {bb : Nat} (hb : bb ≤ 3) : re_VR (re_oc bb) (-1) 2 := by
  rcases Nat.eq_zero_or_pos bb with w | w
  · rw [w, re_oc0]; exact ⟨by decide, by decide⟩
  · rw [re_ocS w]
    unfold re_VR
    rw [nI_toInt (by omega)]
    omega
theorem re_oc_ge {A B : Prop} {bb : Nat} (hb : bb ≤ 3) (h1 : 0 < bb → A) (h0 : bb = 0 → B) : (0 ≤ re_oc bb → A) ∧ (¬ 0 ≤ re_oc bb → B) := by
  rcases Nat.eq_zero_or_pos bb with w | w
  · exact br_f (by rw [w]; decide) (h0 w)
  · exact br_t (by rw [re_ocS w]; exact nI_pos' (by omega)) (h1 w)
section
variable {T R K F : Nat} {s : re_Sc} {sl dp cu tu rn qe : Int32} {rq kT kA kB kP cC cA cB cK cD cU ce mo rm rl mk qu po : Nat → Int32} {ks fs ym yr yk : Nat → Int32}
variable {D : Nat}
theorem rx_addForeign {post : Int32 → SX → Prop} {p0 p1 p2 p3 : Int32} (hP : re_SP s T R K F) (hX : re_LX s K F kT kA kB cC cA cB cK) (h3 : ¬ sl = 0 → post (-3) (nI T, nI R, sl, dp, cu, tu, nI K, nI F, 336, rn, qe, rq, kT, kA, kB, kP, cC, cA, cB, cK, cD, cU, ce, mo, rm, rl, mk, qu, po)) (h4 : sl = 0 → ¬ (re_IN p0 T ∧ re_IN p1 3 ∧ re_VR p2 (-1) 2 ∧ re_IN p3 K) → post (-4) (nI T, nI R, sl, dp, cu, tu, nI K, nI F, 336, rn, qe, rq, kT, kA, kB, kP, cC, cA, cB, cK, cD, cU, ce, mo, rm, rl, mk, qu, po))
    (h5 : sl = 0 → ∀ t a bb q, t < T → a < 3 → bb ≤ 3 → q < K → p0 = nI t → p1 = nI a → p2 = re_oc bb → p3 = nI q → (bb = a + 1 ∨ ¬ (bb = 0 ↔ re_kb s q = 0)) → post (-5) (nI T, nI R, sl, dp, cu, tu, nI K, nI F, 336, rn, qe, rq, kT, kA, kB, kP, cC, cA, cB, cK, cD, cU, ce, mo, rm, rl, mk, qu, po))
    (h6 : sl = 0 → ∀ t a bb q, t < T → a < 3 → bb ≤ 3 → q < K → p0 = nI t → p1 = nI a → p2 = re_oc bb → p3 = nI q → ¬ (bb = a + 1 ∨ ¬ (bb = 0 ↔ re_kb s q = 0)) → F = 8 → post (-6) (nI T, nI R, sl, dp, cu, tu, nI K, nI F, 336, rn, qe, rq, kT, kA, kB, kP, cC, cA, cB, cK, cD, cU, ce, mo, rm, rl, mk, qu, po))
    (hk : sl = 0 → ∀ t a bb q, t < T → a < 3 → bb ≤ 3 → q < K → p0 = nI t → p1 = nI a → p2 = re_oc bb → p3 = nI q → ¬ (bb = a + 1 ∨ ¬ (bb = 0 ↔ re_kb s q = 0)) → ¬ F = 8 → post (nI F) (nI T, nI R, sl, dp, cu, tu, nI K, nI (F + 1), 336, rn, qe, rq, kT, kA, kB, kP, upd cC F p0, upd cA F p1, upd cB F p2, upd cK F p3, upd cD F 0, upd cU F 0, ce, upd (upd mo F 0) (8 + F) 0, rm, rl, mk, qu, po)) : wpX_addForeign post (nI T, nI R, sl, dp, cu, tu, nI K, nI F, 336, rn, qe, rq, kT, kA, kB, kP, cC, cA, cB, cK, cD, cU, ce, mo, rm, rl, mk, qu, po) p0 p1 p2 p3 := by
  have B := hP.1
  unfold wpX_addForeign
  refine br_c (fun z => ?_) h3
  refine rx_isTable (by omega) (fun a => re_bq1 (rx_isColumn (fun b => re_bq1 (rx_isColumnOrNone (fun c => re_bq1 (rx_isKey (by omega) (fun d => re_bq1 ?_) (fun d => re_bq0 (h4 z (fun w => d w.2.2.2))))) (fun c => re_bq0 (h4 z (fun w => c w.2.2.1))))) (fun b => re_bq0 (h4 z (fun w => b w.2.1))))) (fun a => re_bq0 (h4 z (fun w => a w.1)))
  obtain ⟨t, ht, rfl⟩ := a
  obtain ⟨a, ha, rfl⟩ := b
  obtain ⟨bb, hb, rfl⟩ := re_VRo c
  obtain ⟨q, hq, rfl⟩ := d
  have G := hP.2.1 q hq
  have E := hX.1 q hq
  have eab : re_oc bb = nI a ↔ bb = a + 1 := by
    rw [show nI a = re_oc (a + 1) from (re_ocS (b := a + 1) (by omega)).symm]
    exact ⟨re_oc_inj hb (by omega), fun e => by rw [e]⟩
  have h5 := h5 z t a bb q ht ha hb hq rfl rfl rfl rfl
  have h6 := h6 z t a bb q ht ha hb hq rfl rfl rfl rfl
  have hk := hk z t a bb q ht ha hb hq rfl rfl rfl rfl
  refine br_c (fun e => h5 (Or.inl (eab.mp e))) (fun e => ?_)
  have bad : ∀ z0 z1 : Int32, ¬ z1 = z0 → ¬ (bb = 0 ↔ re_kb s q = 0) → wX_addForeign_78 post (nI t) (nI a) (re_oc bb) (nI q) z0 z1 (nI T) (nI R) sl dp cu tu (nI K) (nI F) 336 rn qe rq kT kA kB kP cC cA cB cK cD cU ce mo rm rl mk qu po := by
    intro z0 z1 hz hn
    unfold wX_addForeign_78
    exact br_f hz (h5 (Or.inr hn))
  have good : ∀ z0 z1 : Int32, z1 = z0 → (bb = 0 ↔ re_kb s q = 0) → wX_addForeign_78 post (nI t) (nI a) (re_oc bb) (nI q) z0 z1 (nI T) (nI R) sl dp cu tu (nI K) (nI F) 336 rn qe rq kT kA kB kP cC cA cB cK cD cU ce mo rm rl mk qu po := by
    intro z0 z1 hz hn
    have hno : ¬ (bb = a + 1 ∨ ¬ (bb = 0 ↔ re_kb s q = 0)) := fun v => v.elim (fun v => e (eab.mpr v)) (fun v => v hn)
    unfold wX_addForeign_78
    refine br_t hz (pk_lt F 8 (fun hF => ?_) (fun hF => h6 hno (by omega)))
    have hk := hk hno (by omega)
    simp (disch := omega) only [nI_clamp, re_in, re_m3, re_m7, re_m28, re_m49, re_m4, re_m8, re_m84, nI_add, nI_1, re_a2, re_a3, re_a4, re_a5, re_a6, re_b336, re_b8, re_b0, forall_eq, true_and, and_true, not_false_eq_true, not_true_eq_false, false_implies, true_implies, implies_true]
    exact rx_describeForeign (by omega) hk
  refine re_oc_ge hb (fun w => ?_) (fun w => ?_)
  · unfold wX_addForeign_63
    simp (disch := omega) only [E.2.2, nI_clamp, re_in, re_m3, re_m7, re_m28, re_m49, re_m4, re_m8, re_m84, nI_add, nI_1, re_a2, re_a3, re_a4, re_a5, re_a6, re_b336, re_b8, re_b0, forall_eq, true_and, and_true, not_false_eq_true, not_true_eq_false, false_implies, true_implies, implies_true]
    exact re_oc_ge G.2.2.1 (fun v => good 0 0 rfl (by omega)) (fun v => bad 1 0 (by decide) (by omega))
  · unfold wX_addForeign_63
    simp (disch := omega) only [E.2.2, nI_clamp, re_in, re_m3, re_m7, re_m28, re_m49, re_m4, re_m8, re_m84, nI_add, nI_1, re_a2, re_a3, re_a4, re_a5, re_a6, re_b336, re_b8, re_b0, forall_eq, true_and, and_true, not_false_eq_true, not_true_eq_false, false_implies, true_implies, implies_true]
    exact re_oc_ge G.2.2.1 (fun v => bad 0 1 (by decide) (by omega)) (fun v => good 1 1 rfl (by omega))
theorem ry_addForeign {post : Int32 → SY → Prop} {p0 p1 p2 p3 : Int32} (hP : re_SP s T R K F) (hY : re_LY s K F ks fs) (h3 : ¬ sl = 0 → post (-3) (nI T, nI R, sl, nI K, nI F, dp, cu, tu, ks, fs, ce, ym, rq, yr, yk)) (h4 : sl = 0 → ¬ (re_IN p0 T ∧ re_IN p1 3 ∧ re_VR p2 (-1) 2 ∧ re_IN p3 K) → post (-4) (nI T, nI R, sl, nI K, nI F, dp, cu, tu, ks, fs, ce, ym, rq, yr, yk))
    (h5 : sl = 0 → ∀ t a bb q, t < T → a < 3 → bb ≤ 3 → q < K → p0 = nI t → p1 = nI a → p2 = re_oc bb → p3 = nI q → (bb = a + 1 ∨ ¬ (bb = 0 ↔ re_kb s q = 0)) → post (-5) (nI T, nI R, sl, nI K, nI F, dp, cu, tu, ks, fs, ce, ym, rq, yr, yk))
    (h6 : sl = 0 → ∀ t a bb q, t < T → a < 3 → bb ≤ 3 → q < K → p0 = nI t → p1 = nI a → p2 = re_oc bb → p3 = nI q → ¬ (bb = a + 1 ∨ ¬ (bb = 0 ↔ re_kb s q = 0)) → F = 8 → post (-6) (nI T, nI R, sl, nI K, nI F, dp, cu, tu, ks, fs, ce, ym, rq, yr, yk))
    (hk : sl = 0 → ∀ t a bb q, t < T → a < 3 → bb ≤ 3 → q < K → p0 = nI t → p1 = nI a → p2 = re_oc bb → p3 = nI q → ¬ (bb = a + 1 ∨ ¬ (bb = 0 ↔ re_kb s q = 0)) → ¬ F = 8 → post (nI F) (nI T, nI R, sl, nI K, nI (F + 1), dp, cu, tu, ks, upd (upd (upd (upd fs (F * 7) p0) (F * 7 + 1) p1) (F * 7 + 2) p2) (F * 7 + 3) p3, ce, ym, rq, yr, yk)) : wpY_addForeign post (nI T, nI R, sl, nI K, nI F, dp, cu, tu, ks, fs, ce, ym, rq, yr, yk) p0 p1 p2 p3 := by
  have B := hP.1
  have i0 : re_IN 0 R := ⟨0, by omega, rfl⟩
  unfold wpY_addForeign
  refine br_c (fun z => ?_) h3
  refine ry_noCell (by omega) (by omega) (fun a _ b => re_bq0 ?_) (fun n => re_bq1 (h4 z (fun w => n ⟨w.1, i0, w.2.1⟩)))
  refine re_brV (lo := -1) (hi := 2) (fun c => ?_) (fun c => h4 z (fun w => c w.2.2.1))
  have key : ∀ {A B : Prop}, (re_IN p3 K → A) → (¬ re_IN p3 K → B) → ((p3 < 0 → B) ∧ (¬ p3 < 0 → ((p3 < nI K → A) ∧ (¬ p3 < nI K → B)))) := by
    intro A B h1 h0
    rw [re_IN_iff (by omega)] at h1 h0
    rw [Int32.lt_iff_toInt_lt, Int32.lt_iff_toInt_lt, nI_toInt (by omega), show ((0 : Int32)).toInt = 0 from by decide]
    exact ⟨fun a => h0 (by omega), fun a => ⟨fun c => h1 (by omega), fun c => h0 (by omega)⟩⟩
  refine key (fun d => ?_) (fun d => h4 z (fun w => d w.2.2.2))
  obtain ⟨t, ht, rfl⟩ := a
  obtain ⟨a, ha, rfl⟩ := b
  obtain ⟨bb, hb, rfl⟩ := re_VRo c
  obtain ⟨q, hq, rfl⟩ := d
  have G := hP.2.1 q hq
  have E := hY.1 q hq
  have eab : re_oc bb = nI a ↔ bb = a + 1 := by
    rw [show nI a = re_oc (a + 1) from (re_ocS (b := a + 1) (by omega)).symm]
    exact ⟨re_oc_inj hb (by omega), fun e => by rw [e]⟩
  have h5 := h5 z t a bb q ht ha hb hq rfl rfl rfl rfl
  have h6 := h6 z t a bb q ht ha hb hq rfl rfl rfl rfl
  have hk := hk z t a bb q ht ha hb hq rfl rfl rfl rfl
  refine br_c (fun e => h5 (Or.inl (eab.mp e))) (fun e => ?_)
  have bad : ∀ z0 z1 : Int32, ¬ z1 = z0 → ¬ (bb = 0 ↔ re_kb s q = 0) → wY_addForeign_80 post (nI t) (nI a) (re_oc bb) (nI q) z0 z1 (nI T) (nI R) sl (nI K) (nI F) dp cu tu ks fs ce ym rq yr yk := by
    intro z0 z1 hz hn
    unfold wY_addForeign_80
    exact br_f hz (h5 (Or.inr hn))
  have good : ∀ z0 z1 : Int32, z1 = z0 → (bb = 0 ↔ re_kb s q = 0) → wY_addForeign_80 post (nI t) (nI a) (re_oc bb) (nI q) z0 z1 (nI T) (nI R) sl (nI K) (nI F) dp cu tu ks fs ce ym rq yr yk := by
    intro z0 z1 hz hn
    have hno : ¬ (bb = a + 1 ∨ ¬ (bb = 0 ↔ re_kb s q = 0)) := fun v => v.elim (fun v => e (eab.mpr v)) (fun v => v hn)
    unfold wY_addForeign_80
    refine br_t hz (pk_eq F 8 (fun hF => h6 hno hF) (fun hF => ?_))
    have hk := hk hno hF
    simp (disch := omega) only [nI_pred, nI_clamp, re_in, re_m3, re_m7, re_m28, re_m49, re_m4, re_m8, re_m84, nI_add, nI_1, re_a2, re_a3, re_a4, re_a5, re_a6, re_b336, re_b8, re_b0, forall_eq, true_and, and_true, not_false_eq_true, not_true_eq_false, false_implies, true_implies, implies_true]
    exact hk
  refine re_oc_ge hb (fun w => ?_) (fun w => ?_)
  · unfold wY_addForeign_61
    simp (disch := omega) only [E.2.2, nI_clamp, re_in, re_m3, re_m7, re_m28, re_m49, re_m4, re_m8, re_m84, nI_add, nI_1, re_a2, re_a3, re_a4, re_a5, re_a6, re_b336, re_b8, re_b0, forall_eq, true_and, and_true, not_false_eq_true, not_true_eq_false, false_implies, true_implies, implies_true]
    exact re_oc_ge G.2.2.1 (fun v => good 0 0 rfl (by omega)) (fun v => bad 1 0 (by decide) (by omega))
  · unfold wY_addForeign_61
    simp (disch := omega) only [E.2.2, nI_clamp, re_in, re_m3, re_m7, re_m28, re_m49, re_m4, re_m8, re_m84, nI_add, nI_1, re_a2, re_a3, re_a4, re_a5, re_a6, re_b336, re_b8, re_b0, forall_eq, true_and, and_true, not_false_eq_true, not_true_eq_false, false_implies, true_implies, implies_true]
    exact re_oc_ge G.2.2.1 (fun v => bad 0 1 (by decide) (by omega)) (fun v => good 1 1 rfl (by omega))
theorem re_OK_fk {t a bb q : Nat} {p0 p1 p2 p3 : Int32} (hO : re_OK T R K F D s sl kT kA kB kP cC cA cB cK cD cU ce mo ks fs ym) (ht : t < T) (ha : a < 3) (hb : bb ≤ 3) (hq : q < K) (e0 : p0 = nI t) (e1 : p1 = nI a) (e2 : p2 = re_oc bb) (e3 : p3 = nI q) (hne : ¬ (bb = a + 1 ∨ ¬ (bb = 0 ↔ re_kb s q = 0))) (hF : ¬ F = 8) :
    re_OK T R K (F + 1) D (re_sf s F t a bb q) sl kT kA kB kP (upd cC F p0) (upd cA F p1) (upd cB F p2) (upd cK F p3) (upd cD F 0) (upd cU F 0) ce (upd (upd mo F 0) (8 + F) 0) ks (upd (upd (upd (upd fs (F * 7) p0) (F * 7 + 1) p1) (F * 7 + 2) p2) (F * 7 + 3) p3) ym := by
  have hP := hO.1
  have B := hP.1
  have hX := hO.2.1
  have hY := hO.2.2.1
  have hA := hO.2.2.2.1
  have hZ := hO.2.2.2.2.1
  have z0 := hZ.2.2.1 F (Nat.le_refl _) (by omega)
  have moF : mo F = 0 := by have := z0.2.2.2 0 (by omega); rwa [Nat.zero_mul, Nat.zero_add] at this
  have mo8 : mo (8 + F) = 0 := by have := z0.2.2.2 1 (by omega); rwa [Nat.one_mul] at this
  have emo : upd (upd mo F 0) (8 + F) 0 = mo := by rw [re_upd_same moF, re_upd_same mo8]
  rw [emo]
  have ct1 : ∀ f, f ≠ F → re_ct (re_sf s F t a bb q) f = re_ct s f := fun f h => re_pt_n h
  have fa1 : ∀ f, f ≠ F → re_fa (re_sf s F t a bb q) f = re_fa s f := fun f h => re_pt_n h
  have fb1 : ∀ f, f ≠ F → re_fb (re_sf s F t a bb q) f = re_fb s f := fun f h => re_pt_n h
  have fk1 : ∀ f, f ≠ F → re_fk (re_sf s F t a bb q) f = re_fk s f := fun f h => re_pt_n h
  have ct2 : re_ct (re_sf s F t a bb q) F = t := re_pt_s
  have fa2 : re_fa (re_sf s F t a bb q) F = a := re_pt_s
  have fb2 : re_fb (re_sf s F t a bb q) F = bb := re_pt_s
  have fk2 : re_fk (re_sf s F t a bb q) F = q := re_pt_s
  refine ⟨⟨by omega, hP.2.1, fun f hf => ?_⟩, ⟨hX.1, fun f hf => ?_⟩, ⟨hY.1, fun f hf => ?_⟩, fun f hf => ?_, ⟨hZ.1, fun f hf => ?_, fun f h1 h2 => ?_, hZ.2.2.2⟩, hO.2.2.2.2.2⟩
  · rcases Nat.decEq f F with n | n
    · rw [ct1 f n, fa1 f n, fb1 f n, fk1 f n]
      exact hP.2.2 f (by omega)
    · rw [n, ct2, fa2, fb2, fk2]
      refine ⟨ht, ha, hb, fun w => hne (Or.inl w), hq, ?_⟩
      exact Classical.byContradiction (fun w => hne (Or.inr w))
  · rcases Nat.decEq f F with n | n
    · rw [ct1 f n, fa1 f n, fb1 f n, fk1 f n, pk_un n, pk_un n, pk_un n, pk_un n]
      exact hX.2 f (by omega)
    · rw [n, ct2, fa2, fb2, fk2, pk_us, pk_us, pk_us, pk_us]
      exact ⟨e0, e1, e2, e3⟩
  · rcases Nat.decEq f F with n | n
    · rw [ct1 f n, fa1 f n, fb1 f n, fk1 f n]
      have Y := hY.2 f (by omega)
      refine ⟨?_, ?_, ?_, ?_⟩
      · rw [pk_un (by omega), pk_un (by omega), pk_un (by omega), pk_un (by omega)]; exact Y.1
      · rw [pk_un (by omega), pk_un (by omega), pk_un (by omega), pk_un (by omega)]; exact Y.2.1
      · rw [pk_un (by omega), pk_un (by omega), pk_un (by omega), pk_un (by omega)]; exact Y.2.2.1
      · rw [pk_un (by omega), pk_un (by omega), pk_un (by omega), pk_un (by omega)]; exact Y.2.2.2
    · rw [n, ct2, fa2, fb2, fk2]
      refine ⟨?_, ?_, ?_, ?_⟩
      · rw [pk_un (by omega), pk_un (by omega), pk_un (by omega), pk_us]; exact e0
      · rw [pk_un (by omega), pk_un (by omega), pk_us]; exact e1
      · rw [pk_un (by omega), pk_us]; exact e2
      · rw [pk_us]; exact e3
  · rcases Nat.decEq f F with n | n
    · have Y := hA f (by omega)
      rw [pk_un n, pk_un n]
      refine ⟨?_, ?_⟩
      · rw [pk_un (by omega), pk_un (by omega), pk_un (by omega), pk_un (by omega)]; exact Y.1
      · rw [pk_un (by omega), pk_un (by omega), pk_un (by omega), pk_un (by omega)]; exact Y.2
    · rw [n, pk_us, pk_us]
      refine ⟨?_, ?_⟩
      · rw [pk_un (by omega), pk_un (by omega), pk_un (by omega), pk_un (by omega)]; exact z0.1
      · rw [pk_un (by omega), pk_un (by omega), pk_un (by omega), pk_un (by omega)]; exact z0.2.1
  · rw [pk_un (by omega), pk_un (by omega), pk_un (by omega), pk_un (by omega)]
    rcases Nat.decEq f F with n | n
    · exact hZ.2.1 f (by omega)
    · rw [n, mo8]; exact z0.2.2.1
  · have Y := hZ.2.2.1 f (by omega) h2
    refine ⟨?_, ?_, ?_, Y.2.2.2⟩
    · rw [pk_un (by omega), pk_un (by omega), pk_un (by omega), pk_un (by omega)]; exact Y.1
    · rw [pk_un (by omega), pk_un (by omega), pk_un (by omega), pk_un (by omega)]; exact Y.2.1
    · rw [pk_un (by omega), pk_un (by omega), pk_un (by omega), pk_un (by omega)]; exact Y.2.2.1
theorem rz_addForeign {k : Nat} (hO : re_OK T R K F D s sl kT kA kB kP cC cA cB cK cD cU ce mo ks fs ym) (v1 v2 v3 v4 : Int32) : wpX_addForeign (fun r u' => wpY_addForeign (fun r' v' => r' = r ∧ i_Rel k u' v') (nI T, nI R, sl, nI K, nI F, nI D, cu, tu, ks, fs, ce, ym, rq, yr, yk) v1 v2 v3 v4) (nI T, nI R, sl, nI D, cu, tu, nI K, nI F, 336, rn, qe, rq, kT, kA, kB, kP, cC, cA, cB, cK, cD, cU, ce, mo, rm, rl, mk, qu, po) v1 v2 v3 v4 := by
  have hP := hO.1
  have B := hP.1
  have hX := hO.2.1
  have hY := hO.2.2.1
  have I : i_Rel k (nI T, nI R, sl, nI D, cu, tu, nI K, nI F, 336, rn, qe, rq, kT, kA, kB, kP, cC, cA, cB, cK, cD, cU, ce, mo, rm, rl, mk, qu, po) (nI T, nI R, sl, nI K, nI F, nI D, cu, tu, ks, fs, ce, ym, rq, yr, yk) := re_mk hO
  have mkC : ∀ {t a bb q : Nat}, t < T → a < 3 → bb ≤ 3 → q < K → v1 = nI t → v2 = nI a → v3 = re_oc bb → v4 = nI q → (re_IN v1 T ∧ re_IN v2 3 ∧ re_VR v3 (-1) 2 ∧ re_IN v4 K) := fun ht ha hb hq e0 e1 e2 e3 => ⟨⟨_, ht, e0⟩, ⟨_, ha, e1⟩, by rw [e2]; exact re_VR_oc hb, ⟨_, hq, e3⟩⟩
  have same : ∀ {t a bb q t' a' bb' q' : Nat}, t < T → a < 3 → bb ≤ 3 → q < K → t' < T → a' < 3 → bb' ≤ 3 → q' < K → v1 = nI t → v2 = nI a → v3 = re_oc bb → v4 = nI q → v1 = nI t' → v2 = nI a' → v3 = re_oc bb' → v4 = nI q' → t = t' ∧ a = a' ∧ bb = bb' ∧ q = q' := by
    intro t a bb q t' a' bb' q' ht ha hb hq ht' ha' hb' hq' e0 e1 e2 e3 f0 f1 f2 f3
    have x0 := e0.symm.trans f0
    have x1 := e1.symm.trans f1
    have x3 := e3.symm.trans f3
    rw [nI_eq (by omega) (by omega)] at x0 x1 x3
    exact ⟨x0, x1, re_oc_inj hb hb' (e2.symm.trans f2), x3⟩
  refine rx_addForeign hP hX (fun a => ry_addForeign hP hY (fun _ => ⟨rfl, I⟩) (fun z => absurd z a) (fun z => absurd z a) (fun z => absurd z a) (fun z => absurd z a))
    (fun a b => ry_addForeign hP hY (fun z => absurd a z) (fun _ _ => ⟨rfl, I⟩) (fun _ t c bb q h1 h2 h3 h4 e0 e1 e2 e3 => absurd (mkC h1 h2 h3 h4 e0 e1 e2 e3) b) (fun _ t c bb q h1 h2 h3 h4 e0 e1 e2 e3 => absurd (mkC h1 h2 h3 h4 e0 e1 e2 e3) b) (fun _ t c bb q h1 h2 h3 h4 e0 e1 e2 e3 => absurd (mkC h1 h2 h3 h4 e0 e1 e2 e3) b)) ?_ ?_ ?_
  · intro a t c bb q h1 h2 h3 h4 e0 e1 e2 e3 e5
    refine ry_addForeign hP hY (fun z => absurd a z) (fun _ z => absurd (mkC h1 h2 h3 h4 e0 e1 e2 e3) z) (fun _ _ _ _ _ _ _ _ _ _ _ _ _ _ => ⟨rfl, I⟩) ?_ ?_
    · intro _ t' c' bb' q' g1 g2 g3 g4 f0 f1 f2 f3 f5
      obtain ⟨rfl, rfl, rfl, rfl⟩ := same h1 h2 h3 h4 g1 g2 g3 g4 e0 e1 e2 e3 f0 f1 f2 f3
      exact absurd e5 f5
    · intro _ t' c' bb' q' g1 g2 g3 g4 f0 f1 f2 f3 f5
      obtain ⟨rfl, rfl, rfl, rfl⟩ := same h1 h2 h3 h4 g1 g2 g3 g4 e0 e1 e2 e3 f0 f1 f2 f3
      exact absurd e5 f5
  · intro a t c bb q h1 h2 h3 h4 e0 e1 e2 e3 e5 e6
    refine ry_addForeign hP hY (fun z => absurd a z) (fun _ z => absurd (mkC h1 h2 h3 h4 e0 e1 e2 e3) z) ?_ (fun _ _ _ _ _ _ _ _ _ _ _ _ _ _ _ => ⟨rfl, I⟩) (fun _ _ _ _ _ _ _ _ _ _ _ _ _ _ z => absurd e6 z)
    intro _ t' c' bb' q' g1 g2 g3 g4 f0 f1 f2 f3 f5
    obtain ⟨rfl, rfl, rfl, rfl⟩ := same h1 h2 h3 h4 g1 g2 g3 g4 e0 e1 e2 e3 f0 f1 f2 f3
    exact absurd f5 e5
  · intro a t c bb q h1 h2 h3 h4 e0 e1 e2 e3 e5 e6
    refine ry_addForeign hP hY (fun z => absurd a z) (fun _ z => absurd (mkC h1 h2 h3 h4 e0 e1 e2 e3) z) ?_ (fun _ _ _ _ _ _ _ _ _ _ _ _ _ _ z => absurd z e6) ?_
    · intro _ t' c' bb' q' g1 g2 g3 g4 f0 f1 f2 f3 f5
      obtain ⟨rfl, rfl, rfl, rfl⟩ := same h1 h2 h3 h4 g1 g2 g3 g4 e0 e1 e2 e3 f0 f1 f2 f3
      exact absurd f5 e5
    · intro _ t' c' bb' q' g1 g2 g3 g4 f0 f1 f2 f3 _ _
      obtain ⟨rfl, rfl, rfl, rfl⟩ := same h1 h2 h3 h4 g1 g2 g3 g4 e0 e1 e2 e3 f0 f1 f2 f3
      exact ⟨rfl, re_mk (re_OK_fk hO h1 h2 h3 h4 e0 e1 e2 e3 e5 e6)⟩
end
end
section
/-! setMode, savepoint, rollbackTo, rollback, commit -/
theorem re_RG_cong {T R : Nat} {ce ce' : Nat → Int32} {b b' : Nat} (h : ∀ i, i < 84 → ce' (b' + i) = ce (b + i)) (hG : re_RG T R ce b) : re_RG T R ce' b' := by
  intro p hp
  have e : ∀ c, c < 3 → ce' (b' + p * 3 + c) = ce (b + p * 3 + c) := fun c hc => by
    rw [Nat.add_assoc, Nat.add_assoc]
    exact h _ (by omega)
  rcases hG p hp with z | ⟨z1, z2, z3⟩
  · exact Or.inl (fun c hc => (e c hc).trans (z c hc))
  · refine Or.inr ⟨z1, z2, fun c hc => ?_⟩
    rw [e c hc]
    exact z3 c hc
theorem re_UQ_cong {s : re_Sc} {T R K F : Nat} {ce ce' : Nat → Int32} {b b' : Nat} (hP : re_SP s T R K F) (h : ∀ i, i < 84 → ce' (b' + i) = ce (b + i)) (hU : re_UQ s K ce b) : re_UQ s K ce' b' := by
  intro k hk i j hi hj hne ht
  have B := hP.1
  have G := hP.2.1 k hk
  have e : ∀ p c, p < 28 → c < 3 → ce' (b' + p * 3 + c) = ce (b + p * 3 + c) := fun p c hp hc => by
    rw [Nat.add_assoc, Nat.add_assoc]
    exact h _ (by omega)
  refine hU k hk i j hi hj hne ?_
  unfold re_TW re_SM at ht ⊢
  rcases Nat.eq_zero_or_pos (re_kb s k) with w | w
  · rw [e _ _ (by omega) (by omega), e _ _ (by omega) (by omega)] at ht
    exact ⟨ht.1, ht.2.1, Or.inl w⟩
  · rw [e _ _ (by omega) (by omega), e _ _ (by omega) (by omega), e _ _ (by omega) (by omega), e _ _ (by omega) (by omega)] at ht
    exact ht
def re_YM (fs : Nat → Int32) (n : Nat) (ym : Nat → Int32) : Nat → Int32 := fun j => if j < n then fs (j * 7 + 6) else ym j
theorem re_YM_0 {fs ym : Nat → Int32} : ym = re_YM fs 0 ym := by
  funext j
  unfold re_YM
  rw [if_neg (by omega)]
theorem re_YM_s {fs ym : Nat → Int32} {i : Nat} : upd (re_YM fs i ym) i (fs (i * 7 + 6)) = re_YM fs (i + 1) ym := by
  funext j
  unfold upd re_YM
  rcases Nat.decEq j i with z | z
  · rw [if_neg z]
    rcases Nat.decLt j i with w | w
    · rw [if_neg w, if_neg (by omega)]
    · rw [if_pos w, if_pos (by omega)]
  · rw [if_pos z, if_pos (by omega), z]
section
variable {T R K F : Nat} {s : re_Sc} {sl dp cu tu rn qe : Int32} {rq kT kA kB kP cC cA cB cK cD cU ce mo rm rl mk qu po : Nat → Int32} {ks fs ym yr yk : Nat → Int32}
variable {D : Nat}
theorem re_OK_cp {a b D' : Nat} (hO : re_OK T R K F D s sl kT kA kB kP cC cA cB cK cD cU ce mo ks fs ym) (ha : a < 4) (hb : b < 4) (hab : a ≠ b) (hb1 : b ≠ 1) (hD : D' ≤ 2) (hs : sl = 1) :
    re_OK T R K F D' s sl kT kA kB kP cC cA cB cK cD cU (re_CP 84 (a * 84) (b * 84) ce) (re_CP 8 (a * 8) (b * 8) mo) ks fs (re_CP 8 (a * 8) (b * 8) ym) := by
  have hP := hO.1
  have B := hP.1
  have hZ := hO.2.2.2.2.1
  have hC := hO.2.2.2.2.2.1
  have ec : ∀ c, c < 4 → ∃ d, d < 4 ∧ ∀ i, i < 84 → re_CP 84 (a * 84) (b * 84) ce (c * 84 + i) = ce (d * 84 + i) := by
    intro c hc
    rcases Nat.decEq c b with n | n
    · exact ⟨c, hc, fun i hi => re_CP_out (by omega)⟩
    · exact ⟨a, ha, fun i hi => by rw [n, re_CP_in hi]⟩
  refine ⟨hP, hO.2.1, hO.2.2.1, hO.2.2.2.1, ⟨hZ.1, fun f hf => ?_, fun f h1 h2 => ?_, fun i hi => ?_⟩, fun c hc => ?_, hD, Or.inr hs⟩
  · rw [re_CP_out (by omega)]
    exact hZ.2.1 f hf
  · have Z := hZ.2.2.1 f h1 h2
    refine ⟨Z.1, Z.2.1, Z.2.2.1, fun c hc => ?_⟩
    rcases Nat.decEq c b with n | n
    · rw [re_CP_out (by omega)]; exact Z.2.2.2 c hc
    · rw [n, re_CP_in h2]; exact Z.2.2.2 a ha
  · rcases Classical.em (b * 8 ≤ i ∧ i < b * 8 + 8) with w | w
    · obtain ⟨j, rfl⟩ : ∃ j, i = b * 8 + j := ⟨i - b * 8, by omega⟩
      rw [re_CP_in (by omega), re_CP_in (by omega)]
      exact hZ.2.2.2 _ (by omega)
    · rw [re_CP_out (by omega), re_CP_out (by omega)]
      exact hZ.2.2.2 i hi
  · obtain ⟨d, hd, e⟩ := ec c hc
    exact ⟨re_RG_cong e (hC d hd).1, re_UQ_cong hP e (hC d hd).2⟩
theorem re_sl1 (hO : re_OK T R K F D s sl kT kA kB kP cC cA cB cK cD cU ce mo ks fs ym) (h : ¬ sl = 0) : sl = 1 := by
  rcases hO.2.2.2.2.2.2.2 with z | z
  · exact absurd z.1 h
  · exact z
theorem rz_savepoint {k : Nat} (hO : re_OK T R K F D s sl kT kA kB kP cC cA cB cK cD cU ce mo ks fs ym) : wpX_savepoint (fun r u' => wpY_savepoint (fun r' v' => r' = r ∧ i_Rel k u' v') (nI T, nI R, sl, nI K, nI F, nI D, cu, tu, ks, fs, ce, ym, rq, yr, yk)) (nI T, nI R, sl, nI D, cu, tu, nI K, nI F, 336, rn, qe, rq, kT, kA, kB, kP, cC, cA, cB, cK, cD, cU, ce, mo, rm, rl, mk, qu, po) := by
  have hD := hO.2.2.2.2.2.2.1
  have I : i_Rel k (nI T, nI R, sl, nI D, cu, tu, nI K, nI F, 336, rn, qe, rq, kT, kA, kB, kP, cC, cA, cB, cK, cD, cU, ce, mo, rm, rl, mk, qu, po) (nI T, nI R, sl, nI K, nI F, nI D, cu, tu, ks, fs, ce, ym, rq, yr, yk) := re_mk hO
  unfold wpX_savepoint
  refine br_c (fun z => ?_) (fun z => ?_)
  · unfold wpY_savepoint
    exact br_t z ⟨rfl, I⟩
  · refine pk_lt D 2 (fun h2 => ?_) (fun h2 => ?_)
    · simp (disch := omega) only [nI_clamp, re_in, re_m3, re_m7, re_m28, re_m49, re_m4, re_m8, re_m84, nI_add, nI_1, re_a2, re_a3, re_a4, re_a5, re_a6, re_b336, re_b8, re_b0, forall_eq, true_and, and_true, not_false_eq_true, not_true_eq_false, false_implies, true_implies, implies_true]
      refine rx_copyRows (src := 0 * 84) (dst := (D + 2) * 84) (by decide) (by rw [nI_1, re_m84]) (by omega) (by omega) (by omega) ?_
      refine rx_copyModes (src := 0 * 8) (dst := (D + 2) * 8) (by decide) (by rw [nI_1, re_m8]) (by omega) (by omega) (by omega) ?_
      unfold wpY_savepoint
      refine br_f z (br_f (fun e => ?_) ?_)
      · have e' : nI D = nI 2 := e
        rw [nI_eq (by omega) (by omega)] at e'
        omega
      · simp (disch := omega) only [nI_clamp, re_in, re_m3, re_m7, re_m28, re_m49, re_m4, re_m8, re_m84, nI_add, nI_1, re_a2, re_a3, re_a4, re_a5, re_a6, re_b336, re_b8, re_b0, forall_eq, true_and, and_true, not_false_eq_true, not_true_eq_false, false_implies, true_implies, implies_true]
        refine ry_copy (a := 0) (b := D + 2) (by omega) (by omega) (by omega) ?_
        exact ⟨rfl, re_mk (re_OK_cp hO (by omega) (by omega) (by omega) (by omega) (by omega) (re_sl1 hO z))⟩
    · unfold wpY_savepoint
      refine br_f z (br_t ?_ ⟨rfl, I⟩)
      rw [show D = 2 by omega]
      rfl
theorem rz_rollbackTo {k : Nat} (hO : re_OK T R K F D s sl kT kA kB kP cC cA cB cK cD cU ce mo ks fs ym) (v1 : Int32) : wpX_rollbackTo (fun r u' => wpY_rollbackTo (fun r' v' => r' = r ∧ i_Rel k u' v') (nI T, nI R, sl, nI K, nI F, nI D, cu, tu, ks, fs, ce, ym, rq, yr, yk) v1) (nI T, nI R, sl, nI D, cu, tu, nI K, nI F, 336, rn, qe, rq, kT, kA, kB, kP, cC, cA, cB, cK, cD, cU, ce, mo, rm, rl, mk, qu, po) v1 := by
  have hD := hO.2.2.2.2.2.2.1
  have I : i_Rel k (nI T, nI R, sl, nI D, cu, tu, nI K, nI F, 336, rn, qe, rq, kT, kA, kB, kP, cC, cA, cB, cK, cD, cU, ce, mo, rm, rl, mk, qu, po) (nI T, nI R, sl, nI K, nI F, nI D, cu, tu, ks, fs, ce, ym, rq, yr, yk) := re_mk hO
  have key : ∀ {A B : Prop}, (re_VR v1 ((1 : Int32)).toInt (nI D).toInt → A) → (¬ re_VR v1 ((1 : Int32)).toInt (nI D).toInt → B) → ((v1 < 1 → B) ∧ (¬ v1 < 1 → ((v1 ≤ nI D → A) ∧ (¬ v1 ≤ nI D → B)))) := by
    intro A B h1 h0
    unfold re_VR at h1 h0
    rw [Int32.lt_iff_toInt_lt, Int32.le_iff_toInt_le]
    exact ⟨fun a => h0 (by omega), fun a => ⟨fun c => h1 (by omega), fun c => h0 (by omega)⟩⟩
  unfold wpX_rollbackTo
  refine br_c (fun z => ?_) (fun z => ?_)
  · unfold wpY_rollbackTo
    exact br_t z ⟨rfl, I⟩
  · refine rx_inRange (fun a => re_bq1 ?_) (fun a => re_bq0 ?_)
    · have a1 := a.1
      have a2 := a.2
      rw [nI_toInt (by omega)] at a2
      rw [show ((1 : Int32)).toInt = 1 from by decide] at a1
      obtain ⟨l, hl, rfl⟩ := (re_IN_iff (p := v1) (n := 3) (by omega)).mpr (by omega)
      rw [nI_toInt (by omega)] at a1 a2
      refine rx_restore (src := (l + 1) * 84) (sm := (l + 1) * 8) (by rw [nI_1, re_m84]) (by rw [nI_1, re_m8]) (by omega) (by omega) (by omega) (by omega) ?_
      unfold wpY_rollbackTo
      refine br_f z (key (fun _ => ?_) (fun n => absurd a n))
      rw [nI_1]
      refine ry_copy (a := l + 1) (b := 0) (by omega) (by omega) (by omega) ?_
      exact ⟨rfl, re_mk (re_OK_cp (b := 0) hO (by omega) (by omega) (by omega) (by omega) (by omega) (re_sl1 hO z))⟩
    · unfold wpY_rollbackTo
      exact br_f z (key (fun n => absurd n a) (fun _ => ⟨rfl, I⟩))
theorem rz_rollback {k : Nat} (hO : re_OK T R K F D s sl kT kA kB kP cC cA cB cK cD cU ce mo ks fs ym) : wpX_rollback (fun r u' => wpY_rollback (fun r' v' => r' = r ∧ i_Rel k u' v') (nI T, nI R, sl, nI K, nI F, nI D, cu, tu, ks, fs, ce, ym, rq, yr, yk)) (nI T, nI R, sl, nI D, cu, tu, nI K, nI F, 336, rn, qe, rq, kT, kA, kB, kP, cC, cA, cB, cK, cD, cU, ce, mo, rm, rl, mk, qu, po) := by
  have I : i_Rel k (nI T, nI R, sl, nI D, cu, tu, nI K, nI F, 336, rn, qe, rq, kT, kA, kB, kP, cC, cA, cB, cK, cD, cU, ce, mo, rm, rl, mk, qu, po) (nI T, nI R, sl, nI K, nI F, nI D, cu, tu, ks, fs, ce, ym, rq, yr, yk) := re_mk hO
  unfold wpX_rollback
  refine br_c (fun z => ?_) (fun z => ?_)
  · unfold wpY_rollback
    exact br_t z ⟨rfl, I⟩
  · refine rx_restore (src := 1 * 84) (sm := 1 * 8) (by decide) (by decide) (by omega) (by omega) (by omega) (by omega) ?_
    unfold wpY_rollback
    refine br_f z (ry_copy (a := 1) (b := 0) (by omega) (by omega) (by omega) ?_)
    exact ⟨rfl, re_mk (D := 0) (re_OK_cp (b := 0) hO (by omega) (by omega) (by omega) (by omega) (by omega) (re_sl1 hO z))⟩
theorem rz_setMode {k : Nat} (hO : re_OK T R K F D s sl kT kA kB kP cC cA cB cK cD cU ce mo ks fs ym) (v1 v2 : Int32) : wpX_setMode (fun r u' => wpY_setMode (fun r' v' => r' = r ∧ i_Rel k u' v') (nI T, nI R, sl, nI K, nI F, nI D, cu, tu, ks, fs, ce, ym, rq, yr, yk) v1 v2) (nI T, nI R, sl, nI D, cu, tu, nI K, nI F, 336, rn, qe, rq, kT, kA, kB, kP, cC, cA, cB, cK, cD, cU, ce, mo, rm, rl, mk, qu, po) v1 v2 := by
  have hP := hO.1
  have B := hP.1
  have hZ := hO.2.2.2.2.1
  have I : ∀ cu' yr' yk', i_Rel k (nI T, nI R, sl, nI D, cu', 0, nI K, nI F, 336, rn, qe, rq, kT, kA, kB, kP, cC, cA, cB, cK, cD, cU, ce, mo, rm, rl, mk, qu, po) (nI T, nI R, sl, nI K, nI F, nI D, cu', 0, ks, fs, ce, ym, rq, yr', yk') := fun cu' yr' yk' => re_mk hO
  have hs := re_a0 hO.2.2.2.2.2.2.2
  have okm : ∀ f, f < F → re_OK T R K F D s sl kT kA kB kP cC cA cB cK cD cU ce (upd mo f v2) ks fs (upd ym f v2) := by
    intro f hf
    refine ⟨hP, hO.2.1, hO.2.2.1, hO.2.2.2.1, ⟨hZ.1, fun g hg => ?_, fun g h1 h2 => ?_, fun i hi => ?_⟩, hO.2.2.2.2.2⟩
    · rw [pk_un (by omega)]
      exact hZ.2.1 g hg
    · have Z := hZ.2.2.1 g h1 h2
      refine ⟨Z.1, Z.2.1, Z.2.2.1, fun c hc => ?_⟩
      rw [pk_un (by omega)]
      exact Z.2.2.2 c hc
    · rcases Nat.decEq i f with n | n
      · rw [pk_un n, pk_un n]; exact hZ.2.2.2 i hi
      · rw [n, pk_us, pk_us]
  unfold wpX_setMode wpX_clearReport
  refine br_c (fun z => ?_) (fun z => ?_)
  · unfold wpY_setMode
    exact ry_opens hs (br_t z ⟨rfl, I _ _ _⟩)
  · refine rx_isForeign (by omega) (fun a => re_bq1 (rx_isMode (fun b => re_bq1 ?_) (fun b => re_bq0 ?_))) (fun a => re_bq0 ?_)
    · obtain ⟨f, hf, rfl⟩ := a
      have yok : ∀ {post : Int32 → SY → Prop}, ((v2 = 0 → 0 < re_cn (re_DG s ce 0 f) 7 → post (-10) (nI T, nI R, sl, nI K, nI F, nI D, nI f, 0, ks, fs, ce, ym, rq, re_Z 28 yr, re_Z 84 yk)) ∧ (¬ (v2 = 0 ∧ 0 < re_cn (re_DG s ce 0 f) 7) → post 0 (nI T, nI R, sl, nI K, nI F, nI D, -1, 0, ks, fs, ce, upd ym f v2, rq, re_Z 28 yr, re_Z 84 yk))) → wpY_setMode post (nI T, nI R, sl, nI K, nI F, nI D, cu, tu, ks, fs, ce, ym, rq, yr, yk) (nI f) v2 := by
        intro post h
        have cl := re_cn_le (re_DG s ce 0 f) 7
        unfold wpY_setMode
        refine ry_opens hs (br_f z (ry_noFk (by omega) (fun _ => re_bq0 (ry_in (fun _ => re_bq1 ?_) (fun n => absurd b n))) (fun n => absurd ⟨f, hf, rfl⟩ n)))
        simp (disch := omega) only [nI_clamp, re_in, re_m3, re_m7, re_m28, re_m49, re_m4, re_m8, re_m84, nI_add, nI_1, re_a2, re_a3, re_a4, re_a5, re_a6, re_b336, re_b8, re_b0, forall_eq, true_and, and_true, not_false_eq_true, not_true_eq_false, false_implies, true_implies, implies_true]
        refine br_c (fun e => ?_) (fun e => h.2 (fun w => e w.1))
        refine ry_danglers (st := 0) hP hO.2.2.1 (by omega) hf ?_
        rw [Nat.zero_mul]
        exact pk_le (re_cn (re_DG s ce 0 f) 7) 0 (fun w => h.2 (fun v => by have := v.2; omega)) (fun w => h.1 e w)
      have cl := re_cn_le (re_DG s ce 0 f) 7
      simp (disch := omega) only [nI_clamp, re_in, re_m3, re_m7, re_m28, re_m49, re_m4, re_m8, re_m84, nI_add, nI_1, re_a2, re_a3, re_a4, re_a5, re_a6, re_b336, re_b8, re_b0, forall_eq, true_and, and_true, not_false_eq_true, not_true_eq_false, false_implies, true_implies, implies_true]
      refine br_c (fun e => ?_) (fun e => ?_)
      · refine rx_countDangling (b := 0) hP hO.2.1 (by omega) hf ?_
        refine pk_le (re_cn (re_DG s ce 0 f) 7) 0 (fun w => ?_) (fun w => ?_)
        · exact yok ⟨fun _ v => by omega, fun _ => ⟨rfl, re_mk (okm f hf)⟩⟩
        · unfold wpX_refuse
          exact yok ⟨fun _ _ => ⟨rfl, I _ _ _⟩, fun v => absurd ⟨e, w⟩ v⟩
      · exact yok ⟨fun v => absurd v e, fun _ => ⟨rfl, re_mk (okm f hf)⟩⟩
    · unfold wpY_setMode
      exact ry_opens hs (br_f z (ry_noFk (by omega) (fun _ => re_bq0 (ry_in (fun n => absurd n b) (fun _ => re_bq0 ⟨rfl, I _ _ _⟩))) (fun n => absurd a n)))
    · unfold wpY_setMode
      exact ry_opens hs (br_f z (ry_noFk (by omega) (fun n => absurd n a) (fun _ => re_bq1 ⟨rfl, I _ _ _⟩)))
theorem ry_commitL {post : Int32 → SY → Prop} (hP : re_SP s T R K F) (hY : re_LY s K F ks fs) {L : Nat → Prop} (hL : ∀ f, L f)
    (h1 : ∀ f, f < F → re_PD s ce L 0 f → (∀ g, g < f → ¬ re_PD s ce L 0 g) → post (-10) (nI T, nI R, sl, nI K, nI F, 0, nI f, tu, ks, fs, re_CP 84 (1 * 84) (0 * 84) ce, re_CP 8 (1 * 8) (0 * 8) ym, rq, yr, yk))
    (h0 : (∀ f, f < F → ¬ re_PD s ce L 0 f) → post 0 (nI T, nI R, sl, nI K, nI F, 0, cu, tu, ks, fs, re_CP 84 (0 * 84) (1 * 84) ce, re_CP 8 (0 * 8) (1 * 8) (re_YM fs F ym), rq, yr, yk)) : ∃ n12 : Nat, wY_commit_12 post (nI T) (nI R) sl (nI K) (nI F) dp cu tu ks fs ce ym rq yr yk n12 0 := by
  have B := hP.1
  refine loop_0 (fun n f (_ : Unit) => wY_commit_12 post (nI T) (nI R) sl (nI K) (nI F) dp cu tu ks fs ce ym rq yr yk n (nI f)) (fun f _ => ∀ g, g < f → ¬ re_PD s ce L 0 g) F () lt_0 ?_ ?_
  · intro n _ hI
    simp only [wY_commit_12]
    refine pk_le F F (fun _ => ?_) (fun z => by omega)
    refine loop_0 (fun n i (c : Nat → Int32) => wY_commit_56 post (nI T) (nI R) sl (nI K) (nI F) dp cu tu n (nI i) ks fs ce c rq yr yk) (fun i c => c = re_YM fs i ym) F ym re_YM_0 ?_ ?_
    · rintro n c rfl
      refine pk_le F F (fun _ => ?_) (fun z => by omega)
      exact ry_copy (a := 0) (b := 1) (by omega) (by omega) (by omega) (h0 hI)
    · rintro n i c hi rfl hc
      simp (disch := omega) only [wY_commit_56, nI_clamp, re_in, re_m3, re_m7, re_m28, re_m49, re_m4, re_m8, re_m84, nI_add, nI_1, re_a2, re_a3, re_a4, re_a5, re_a6, re_b336, re_b8, re_b0, forall_eq, true_and, and_true, not_false_eq_true, not_true_eq_false, false_implies, true_implies, implies_true]
      exact pk_le F i (fun _ => by omega) (fun _ => hc _ re_YM_s)
  · intro n f _ hf hI hc
    have cl := re_cn_le (re_DG s ce 0 f) 7
    simp (disch := omega) only [wY_commit_12, nI_clamp, re_in, re_m3, re_m7, re_m28, re_m49, re_m4, re_m8, re_m84, nI_add, nI_1, re_a2, re_a3, re_a4, re_a5, re_a6, re_b336, re_b8, re_b0, forall_eq, true_and, and_true, not_false_eq_true, not_true_eq_false, false_implies, true_implies, implies_true]
    refine pk_le F f (fun _ => by omega) (fun _ => ?_)
    refine ry_danglers (st := 0) hP hY (by omega) hf ?_
    rw [Nat.zero_mul]
    refine pk_le (re_cn (re_DG s ce 0 f) 7) 0 (fun w => hc () (lt_s hI (fun v => by have := v.2; omega))) (fun w => ?_)
    exact ry_copy (a := 1) (b := 0) (by omega) (by omega) (by omega) (h1 f hf ⟨hL f, w⟩ hI)
theorem re_OK_commit (hO : re_OK T R K F D s sl kT kA kB kP cC cA cB cK cD cU ce mo ks fs ym) (hs : sl = 1) : re_OK T R K F 0 s sl kT kA kB kP cC cA cB cK cD cU (re_CP 84 (0 * 84) (1 * 84) ce) (re_CP 8 (1 * 8) (0 * 8) mo) ks fs (re_CP 8 (0 * 8) (1 * 8) (re_YM fs F ym)) := by
  have hP := hO.1
  have B := hP.1
  have hZ := hO.2.2.2.2.1
  have hC := hO.2.2.2.2.2.1
  have ec : ∀ c, c < 4 → ∃ d, d < 4 ∧ ∀ i, i < 84 → re_CP 84 (0 * 84) (1 * 84) ce (c * 84 + i) = ce (d * 84 + i) := by
    intro c hc
    rcases Nat.decEq c 1 with n | n
    · exact ⟨c, hc, fun i hi => re_CP_out (by omega)⟩
    · exact ⟨0, by omega, fun i hi => by rw [n, re_CP_in hi]⟩
  have ymF : ∀ f, f < 8 → re_YM fs F ym f = mo (8 + f) := by
    intro f hf
    unfold re_YM
    rcases Nat.decLt f F with w | w
    · rw [if_neg w, hZ.2.2.2 f (by omega)]
      have Z := (hZ.2.2.1 f (by omega) hf).2.2.2
      have a := Z 0 (by omega)
      have b := Z 1 (by omega)
      rw [Nat.zero_mul, Nat.zero_add] at a
      rw [Nat.one_mul] at b
      rw [a, b]
    · rw [if_pos w]
      exact hZ.2.1 f w
  refine ⟨hP, hO.2.1, hO.2.2.1, hO.2.2.2.1, ⟨hZ.1, fun f hf => ?_, fun f h1 h2 => ?_, fun i hi => ?_⟩, fun c hc => ?_, by omega, Or.inr hs⟩
  · rw [re_CP_out (by omega)]
    exact hZ.2.1 f hf
  · have Z := hZ.2.2.1 f h1 h2
    refine ⟨Z.1, Z.2.1, Z.2.2.1, fun c hc => ?_⟩
    rcases Nat.decEq c 0 with n | n
    · rw [re_CP_out (by omega)]; exact Z.2.2.2 c hc
    · rw [n, re_CP_in h2]; exact Z.2.2.2 1 (by omega)
  · rcases (by omega : i < 8 ∨ (8 ≤ i ∧ i < 16) ∨ 16 ≤ i) with w | w | w
    · rw [re_CP_out (by omega), ymF i w]
      have e := re_CP_in (n := 8) (src := 1 * 8) (dst := 0 * 8) (a := mo) w
      rw [Nat.zero_mul, Nat.zero_add] at e
      rw [Nat.zero_mul, e]
    · obtain ⟨j, rfl⟩ : ∃ j, i = 1 * 8 + j := ⟨i - 8, by omega⟩
      rw [re_CP_in (by omega), re_CP_out (by omega), Nat.zero_mul, Nat.zero_add, ymF j (by omega)]
    · rw [re_CP_out (by omega), re_CP_out (by omega)]
      unfold re_YM
      rw [if_neg (by omega)]
      exact hZ.2.2.2 i hi
  · obtain ⟨d, hd, e⟩ := ec c hc
    exact ⟨re_RG_cong e (hC d hd).1, re_UQ_cong hP e (hC d hd).2⟩
theorem rz_commit {k : Nat} (hO : re_OK T R K F D s sl kT kA kB kP cC cA cB cK cD cU ce mo ks fs ym) : wpX_commit (fun r u' => wpY_commit (fun r' v' => r' = r ∧ i_Rel k u' v') (nI T, nI R, sl, nI K, nI F, nI D, cu, tu, ks, fs, ce, ym, rq, yr, yk)) (nI T, nI R, sl, nI D, cu, tu, nI K, nI F, 336, rn, qe, rq, kT, kA, kB, kP, cC, cA, cB, cK, cD, cU, ce, mo, rm, rl, mk, qu, po) := by
  have hP := hO.1
  have B := hP.1
  have hs := re_a0 hO.2.2.2.2.2.2.2
  unfold wpX_commit wpX_clearReport
  refine br_c (fun z => ?_) (fun z => ?_)
  · unfold wpY_commit
    exact ry_opens hs (br_t z ⟨rfl, re_mk hO⟩)
  · have hs1 := re_sl1 hO z
    refine rx_brokenForeign (b := 0) (L := fun _ => True) hP hO.2.1 (fun f _ => ⟨fun _ => Or.inl rfl, fun _ => trivial⟩) (by omega) (fun nD => br_t rfl ?_) (fun f hf a b => br_f (re_ne1 (by omega)) ?_)
    · refine rx_copyRows (src := 0 * 84) (dst := 1 * 84) (by decide) (by decide) (by omega) (by omega) (by omega) ?_
      refine rx_copyModes (src := 1 * 8) (dst := 0 * 8) (by decide) (by decide) (by omega) (by omega) (by omega) ?_
      unfold wpY_commit
      refine ry_opens hs (br_f z (ry_commitL (L := fun _ => True) hP hO.2.2.1 (fun _ => trivial) (fun f hf a => absurd a (nD f hf)) (fun _ => ⟨rfl, ?_⟩)))
      exact re_mk (D := 0) (re_OK_commit hO hs1)
    · refine rx_restore (src := 1 * 84) (sm := 1 * 8) (by decide) (by decide) (by omega) (by omega) (by omega) (by omega) ?_
      unfold wpX_refuse
      dsimp only
      unfold wpY_commit
      refine ry_opens hs (br_f z (ry_commitL (L := fun _ => True) hP hO.2.2.1 (fun _ => trivial) (fun g hg a' b' => ?_) (fun n => absurd a (n f hf))))
      have e : g = f := by
        rcases Nat.lt_trichotomy g f with w | w | w
        · exact absurd a' (b g w)
        · exact w
        · exact absurd a (b' f w)
      subst e
      exact ⟨rfl, re_mk (D := 0) (re_OK_cp (b := 0) hO (by omega) (by omega) (by omega) (by omega) (by omega) hs1)⟩
end
end
section
/-! both sides' final checks give one answer; the new content is valid -/
theorem re_least {P : Nat → Prop} {N : Nat} (h : ∃ f, f < N ∧ P f) : ∃ f, f < N ∧ P f ∧ ∀ g, g < f → ¬ P g := by
  obtain ⟨f, hf, hp⟩ := h
  have key : ∀ n f, f < n → f < N → P f → ∃ f, f < N ∧ P f ∧ ∀ g, g < f → ¬ P g := by
    intro n
    induction n with
    | zero => intro f h; omega
    | succ n ih =>
      intro f h1 h2 h3
      rcases Classical.em (∃ g, g < f ∧ P g) with ⟨g, hg, hq⟩ | z
      · exact ih g (by omega) (by omega) hq
      · exact ⟨f, h2, h3, fun g hg hq => z ⟨g, hg, hq⟩⟩
  exact key (f + 1) f (by omega) hf hp
theorem re_first {P : Nat → Prop} {f g : Nat} (a : P f) (b : ∀ h, h < f → ¬ P h) (c : P g) (d : ∀ h, h < g → ¬ P h) : f = g := by
  rcases Nat.lt_trichotomy f g with w | w | w
  · exact absurd a (d f w)
  · exact w
  · exact absurd c (b g w)
theorem re_RF_cong {s : re_Sc} {T R K F : Nat} {ce ce' : Nat → Int32} {f c p : Nat} (hP : re_SP s T R K F) (hf : f < F) (h : ∀ i, i < 84 → ce' i = ce i) (hr : re_RF s ce f c p) : re_RF s ce' f c p := by
  have B := hP.1
  have G := hP.2.2 f hf
  have G2 := hP.2.1 _ G.2.2.2.2.1
  obtain ⟨i, j, hi, hj, e1, e2, h1, h2, h3⟩ := hr
  refine ⟨i, j, hi, hj, e1, e2, ?_⟩
  unfold re_RB re_SM
  rw [h _ (by omega), h (0 + (re_kt s (re_fk s f) * 7 + j) * 3 + re_ka s (re_fk s f)) (by omega)]
  refine ⟨h1, h2, ?_⟩
  rcases h3 with h3 | h3
  · exact Or.inl h3
  · rw [h (0 + (re_ct s f * 7 + i) * 3 + (re_fb s f - 1)) (by omega), h (0 + (re_kt s (re_fk s f) * 7 + j) * 3 + (re_kb s (re_fk s f) - 1)) (by omega)]
    exact Or.inr h3
theorem re_PO_cong {s : re_Sc} {T R K F : Nat} {ce ce' po : Nat → Int32} (hP : re_SP s T R K F) (h : ∀ i, i < 84 → ce' i = ce i) (hO : re_PO s F ce po) : re_PO s F ce' po := by
  intro f c hf hc
  have h' : ∀ i, i < 84 → ce i = ce' i := fun i hi => (h i hi).symm
  rcases hO f c hf hc with ⟨e, hn⟩ | ⟨p, hp, e, hr, hu⟩
  · exact Or.inl ⟨e, fun p hr => hn p (re_RF_cong hP hf h' hr)⟩
  · exact Or.inr ⟨p, hp, e, re_RF_cong hP hf h hr, fun q hq => hu q (re_RF_cong hP hf h' hq)⟩
theorem re_BN_cong2 {rm mk yr yk ce : Nat → Int32} {g g' : Int32 → Int32} (h1 : ∀ p, p < 28 → (rm p = 0 ↔ yr p = 0)) (h2 : ∀ i, i < 84 → mk i = yk i) (h3 : ∀ i, i < 84 → mk i = 1 → g (ce i) = g' (ce i)) : re_BN rm mk g 84 ce = re_BN yr yk g' 84 ce := by
  funext j
  unfold re_BN
  rcases Classical.em (336 ≤ j ∧ j < 336 + 84) with w | w
  · rw [if_pos w, if_pos w]
    unfold re_NX
    rw [← h2 (j - 336) (by omega)]
    have e := h1 ((j - 336) / 3) (by omega)
    have e3 := h3 (j - 336) (by omega)
    rcases Classical.em (rm ((j - 336) / 3) = 0) with v | v
    · rw [if_pos v, if_pos (e.mp v)]
      rcases Classical.em (mk (j - 336) = 1) with u | u
      · have n2 : ¬ mk (j - 336) = 2 := fun q => absurd (q.symm.trans u) (by decide)
        rw [if_neg n2, if_neg n2, if_pos u, if_pos u, e3 u]
      · rw [if_neg u, if_neg u]
    · rw [if_neg v, if_neg (fun q => v (e.mpr q))]
  · rw [if_neg w, if_neg w]
theorem re_BN_zero {rm mk ce : Nat → Int32} {g : Int32 → Int32} (h1 : ∀ p, p < 28 → rm p = 0) (h2 : ∀ i, i < 84 → mk i = 0) : re_BN rm mk g 84 ce = re_CP 84 0 336 ce := by
  funext j
  unfold re_BN re_CP
  rcases Classical.em (336 ≤ j ∧ j < 336 + 84) with w | w
  · rw [if_pos w, if_pos w]
    unfold re_NX
    rw [if_pos (h1 _ (by omega)), h2 _ (by omega), if_neg (by decide), if_neg (by decide), Nat.zero_add]
  · rw [if_neg w, if_neg w]
theorem re_RG_BN {T R : Nat} {rm mk ce : Nat → Int32} {g : Int32 → Int32} (hG : re_RG T R ce 0) (hp : ∀ i, i < 84 → ce i = -2 → mk i = 0) (hg : ∀ i, i < 84 → mk i = 1 → -1 ≤ (g (ce i)).toInt ∧ (g (ce i)).toInt ≤ 99) : re_RG T R (re_BN rm mk g 84 ce) 336 := by
  intro p h28
  have e : ∀ c, c < 3 → re_BN rm mk g 84 ce (336 + p * 3 + c) = re_NX rm mk ce g (p * 3 + c) := fun c hc => by
    rw [Nat.add_assoc]
    exact re_BN_in (by omega)
  have d : ∀ c, c < 3 → (p * 3 + c) / 3 = p := fun c hc => by omega
  by_cases hr : rm p = 0
  · have n0 : ∀ c, c < 3 → re_BN rm mk g 84 ce (336 + p * 3 + c) = (if mk (p * 3 + c) = 2 then -1 else if mk (p * 3 + c) = 1 then g (ce (p * 3 + c)) else ce (p * 3 + c)) := fun c hc => by
      rw [e c hc]
      unfold re_NX
      rw [d c hc, if_pos hr]
    rcases hG p h28 with z | ⟨z1, z2, z3⟩
    · refine Or.inl (fun c hc => ?_)
      have zc := z c hc
      rw [Nat.zero_add] at zc
      rw [n0 c hc, hp _ (by omega) zc, if_neg (by decide), if_neg (by decide), zc]
    · refine Or.inr ⟨z1, z2, fun c hc => ?_⟩
      have zc := z3 c hc
      rw [Nat.zero_add] at zc
      rw [n0 c hc]
      by_cases m2 : mk (p * 3 + c) = 2
      · rw [if_pos m2]; decide
      · rw [if_neg m2]
        by_cases m1 : mk (p * 3 + c) = 1
        · rw [if_pos m1]; exact hg _ (by omega) m1
        · rw [if_neg m1]; exact zc
  · refine Or.inl (fun c hc => ?_)
    rw [e c hc]
    unfold re_NX
    rw [d c hc, if_neg hr]
section
variable {T R K F : Nat} {s : re_Sc} {sl dp cu tu rn qe : Int32} {rq kT kA kB kP cC cA cB cK cD cU ce mo rm rl mk qu po : Nat → Int32} {ks fs ym yr yk : Nat → Int32}
variable {D : Nat}
theorem re_OK_ch {c1 ym1 : Nat → Int32} (hO : re_OK T R K F D s sl kT kA kB kP cC cA cB cK cD cU ce mo ks fs ym) (hs : sl = 1) (hc : ∀ i, 84 ≤ i → i < 336 → c1 i = ce i) (h0 : re_RG T R c1 0 ∧ re_UQ s K c1 0) (hy : ∀ i, i < 32 → ym1 i = ym i) : re_OK T R K F D s sl kT kA kB kP cC cA cB cK cD cU c1 mo ks fs ym1 := by
  have hP := hO.1
  have hZ := hO.2.2.2.2.1
  refine ⟨hP, hO.2.1, hO.2.2.1, hO.2.2.2.1, ⟨hZ.1, hZ.2.1, hZ.2.2.1, fun i hi => (hy i hi).trans (hZ.2.2.2 i hi)⟩, fun a ha => ?_, hO.2.2.2.2.2.2.1, Or.inr hs⟩
  rcases Nat.eq_zero_or_pos a with w | w
  · rw [w, Nat.zero_mul]
    exact h0
  · have e : ∀ i, i < 84 → c1 (a * 84 + i) = ce (a * 84 + i) := fun i hi => hc _ (by omega) (by omega)
    exact ⟨re_RG_cong e (hO.2.2.2.2.2.1 a ha).1, re_UQ_cong hP e (hO.2.2.2.2.2.1 a ha).2⟩
theorem re_fin {c1 : Nat → Int32} {DD : Nat → Prop} {M : Nat → Int} (hO : re_OK T R K F D s sl kT kA kB kP cC cA cB cK cD cU ce mo ks fs ym) (hs : sl = 1) (hlo : ∀ i, i < 336 → c1 i = ce i) (hG : re_RG T R c1 336) (hPO : re_PO s F ce po) (hLx : re_LK DD M rm mk) :
    ∃ r c2 cu2 tu2 ym2, re_OK T R K F D s sl kT kA kB kP cC cA cB cK cD cU c2 mo ks fs ym2 ∧
      (∀ post : Int32 → SX → Prop, post r (nI T, nI R, sl, nI D, cu2, tu2, nI K, nI F, 336, rn, qe, rq, kT, kA, kB, kP, cC, cA, cB, cK, cD, cU, c2, mo, rm, rl, mk, qu, po) → wpX_settle post (nI T, nI R, sl, nI D, cu, 0, nI K, nI F, 336, rn, qe, rq, kT, kA, kB, kP, cC, cA, cB, cK, cD, cU, c1, mo, rm, rl, mk, qu, po)) ∧
      (∀ (yr yk : Nat → Int32), re_LK DD M yr yk → ∀ post : Int32 → SY → Prop, post r (nI T, nI R, sl, nI K, nI F, nI D, cu2, tu2, ks, fs, c2, ym2, rq, yr, yk) → wpY_judge post (nI T, nI R, sl, nI K, nI F, nI D, cu, 0, ks, fs, c1, re_CP 8 0 32 ym, rq, yr, yk)) := by
  have hP := hO.1
  have B := hP.1
  have hX := hO.2.1
  have hY := hO.2.2.1
  have hA' := hO.2.2.2.1
  have hZ := hO.2.2.2.2.1
  have h00 := hO.2.2.2.2.2.1 0 (by omega)
  rw [Nat.zero_mul] at h00
  have hPO1 : re_PO s F c1 po := re_PO_cong hP (fun i hi => hlo i (by omega)) hPO
  have ym1 : ∀ i, i < 32 → re_CP 8 0 32 ym i = ym i := fun i hi => re_CP_out (by omega)
  have hLf : ∀ f, f < F → ((fun f => mo f = 0) f ↔ re_CP 8 0 32 ym f = 0) := fun f hf => by
    rw [ym1 f (by omega), hZ.2.2.2 f (by omega)]
  have e0 : ∀ i, i < 84 → c1 (0 + i) = ce (0 + i) := fun i hi => hlo _ (by omega)
  have ok1 : re_OK T R K F D s sl kT kA kB kP cC cA cB cK cD cU c1 mo ks fs (re_CP 8 0 32 ym) := re_OK_ch hO hs (fun i _ hi => hlo i hi) ⟨re_RG_cong e0 h00.1, re_UQ_cong hP e0 h00.2⟩ ym1
  rcases Classical.em (∃ f, f < F ∧ re_PA s cD cU c1 DD M f) with hA | hA
  · obtain ⟨f0, a1, a2, a3⟩ := re_least hA
    refine ⟨-7, c1, nI f0, 0, _, ok1, fun post h => ?_, fun yr yk hLy post h => ?_⟩
    · refine rx_settle hP hX hLx hPO1 (fun f hf p q => ?_) (fun n => absurd a2 (n f0 a1)) (fun n => absurd a2 (n f0 a1)) (fun n => absurd a2 (n f0 a1)) (fun n => absurd a2 (n f0 a1))
      rw [← re_first a2 a3 p q]
      exact h
    · refine ry_judge hP hY hA' hLy hLf (fun f hf p q => ?_) (fun n => absurd a2 (n f0 a1)) (fun n => absurd a2 (n f0 a1)) (fun n => absurd a2 (n f0 a1)) (fun n => absurd a2 (n f0 a1))
      rw [← re_first a2 a3 p q]
      exact h
  have nA : ∀ f, f < F → ¬ re_PA s cD cU c1 DD M f := fun f hf p => hA ⟨f, hf, p⟩
  rcases Classical.em (∃ f, f < 12 ∧ re_PB rq c1 336 f) with hB | hB
  · obtain ⟨f0, a1, a2, a3⟩ := re_least hB
    refine ⟨-8, c1, nI f0, 0, _, ok1, fun post h => ?_, fun yr yk hLy post h => ?_⟩
    · refine rx_settle hP hX hLx hPO1 (fun f hf p => absurd p (nA f hf)) (fun _ f hf p q => ?_) (fun _ n => absurd a2 (n f0 a1)) (fun _ n => absurd a2 (n f0 a1)) (fun _ n => absurd a2 (n f0 a1))
      rw [← re_first a2 a3 p q]
      exact h
    · refine ry_judge hP hY hA' hLy hLf (fun f hf p => absurd p (nA f hf)) (fun _ f hf p q => ?_) (fun _ n => absurd a2 (n f0 a1)) (fun _ n => absurd a2 (n f0 a1)) (fun _ n => absurd a2 (n f0 a1))
      rw [← re_first a2 a3 p q]
      exact h
  have nB : ∀ f, f < 12 → ¬ re_PB rq c1 336 f := fun f hf p => hB ⟨f, hf, p⟩
  rcases Classical.em (∃ f, f < K ∧ re_PC s c1 336 f) with hC | hC
  · obtain ⟨f0, a1, a2, a3⟩ := re_least hC
    refine ⟨-9, c1, nI f0, 0, _, ok1, fun post h => ?_, fun yr yk hLy post h => ?_⟩
    · refine rx_settle hP hX hLx hPO1 (fun f hf p => absurd p (nA f hf)) (fun _ f hf p => absurd p (nB f hf)) (fun _ _ f hf p q => ?_) (fun _ _ n => absurd a2 (n f0 a1)) (fun _ _ n => absurd a2 (n f0 a1))
      rw [← re_first a2 a3 p q]
      exact h
    · refine ry_judge hP hY hA' hLy hLf (fun f hf p => absurd p (nA f hf)) (fun _ f hf p => absurd p (nB f hf)) (fun _ _ f hf p q => ?_) (fun _ _ n => absurd a2 (n f0 a1)) (fun _ _ n => absurd a2 (n f0 a1))
      rw [← re_first a2 a3 p q]
      exact h
  have nC : ∀ f, f < K → ¬ re_PC s c1 336 f := fun f hf p => hC ⟨f, hf, p⟩
  rcases Classical.em (∃ f, f < F ∧ re_PD s c1 (fun f => mo f = 0) 336 f) with hD | hD
  · obtain ⟨f0, a1, a2, a3⟩ := re_least hD
    refine ⟨-10, c1, nI f0, 0, _, ok1, fun post h => ?_, fun yr yk hLy post h => ?_⟩
    · refine rx_settle hP hX hLx hPO1 (fun f hf p => absurd p (nA f hf)) (fun _ f hf p => absurd p (nB f hf)) (fun _ _ f hf p => absurd p (nC f hf)) (fun _ _ _ f hf p q => ?_) (fun _ _ _ n => absurd a2 (n f0 a1))
      rw [← re_first a2 a3 p q]
      exact h
    · refine ry_judge hP hY hA' hLy hLf (fun f hf p => absurd p (nA f hf)) (fun _ f hf p => absurd p (nB f hf)) (fun _ _ f hf p => absurd p (nC f hf)) (fun _ _ _ f hf p q => ?_) (fun _ _ _ n => absurd a2 (n f0 a1))
      rw [← re_first a2 a3 p q]
      exact h
  have nD : ∀ f, f < F → ¬ re_PD s c1 (fun f => mo f = 0) 336 f := fun f hf p => hD ⟨f, hf, p⟩
  refine ⟨0, re_CP 84 336 0 c1, cu, nI (re_cn (fun i => 0 < M i) 84), re_CP 8 32 0 (re_CP 8 0 32 ym), ?_, fun post h => ?_, fun yr yk hLy post h => ?_⟩
  · refine re_OK_ch hO hs (fun i h1 h2 => ?_) ⟨?_, ?_⟩ (fun i hi => ?_)
    · rw [re_CP_out (by omega)]; exact hlo i h2
    · exact re_RG_cong (fun i hi => re_CP_in hi) hG
    · refine re_UQ_cong hP (b := 336) (fun i hi => re_CP_in hi) ?_
      intro k hk i j hi hj hne ht
      exact nC k hk ⟨i, j, hi, hj, hne, ht⟩
    · rcases Nat.lt_or_ge i 8 with w | w
      · have e := re_CP_in (n := 8) (src := 32) (dst := 0) (a := re_CP 8 0 32 ym) w
        rw [Nat.zero_add] at e
        rw [e, re_CP_in w, Nat.zero_add]
      · rw [re_CP_out (by omega)]; exact ym1 i hi
  · exact rx_settle hP hX hLx hPO1 (fun f hf p => absurd p (nA f hf)) (fun _ f hf p => absurd p (nB f hf)) (fun _ _ f hf p => absurd p (nC f hf)) (fun _ _ _ f hf p => absurd p (nD f hf)) (fun _ _ _ _ => h)
  · exact ry_judge hP hY hA' hLy hLf (fun f hf p => absurd p (nA f hf)) (fun _ f hf p => absurd p (nB f hf)) (fun _ _ f hf p => absurd p (nC f hf)) (fun _ _ _ f hf p => absurd p (nD f hf)) (fun _ _ _ _ => h)
end
end
section
/-! insert -/
def re_AB (ce : Nat → Int32) (t r : Nat) : Prop := ce ((t * 7 + r) * 3) = -2
def re_I3 (ce : Nat → Int32) (k : Nat) (a b c : Int32) : Nat → Int32 := upd (upd (upd ce k a) (k + 1) b) (k + 2) c
theorem re_neg1 : ((0 : Int32) ≤ -1) = False := eq_false (by decide)
section
variable {T R K F : Nat} {s : re_Sc} {sl dp cu tu rn qe : Int32} {rq kT kA kB kP cC cA cB cK cD cU ce mo rm rl mk qu po : Nat → Int32} {ks fs ym yr yk : Nat → Int32}
variable {D : Nat}
theorem rx_lowestAbsentRow {post : Int32 → Prop} {t : Nat} (hP : re_SP s T R K F) (ht : t < T) (h0 : (∀ r, r < R → ¬ re_AB ce t r) → post (-1)) (h1 : ∀ r, r < R → re_AB ce t r → (∀ q, q < r → ¬ re_AB ce t q) → post (nI r)) : wpX_lowestAbsentRow post (nI T, nI R, sl, dp, cu, tu, nI K, nI F, 336, rn, qe, rq, kT, kA, kB, kP, cC, cA, cB, cK, cD, cU, ce, mo, rm, rl, mk, qu, po) (nI t) := by
  have B := hP.1
  unfold wpX_lowestAbsentRow
  refine loop_0 (fun n i (_ : Unit) => wX_lowestAbsentRow_2 post (nI t) (nI T) (nI R) sl dp cu tu (nI K) (nI F) 336 rn qe rq kT kA kB kP cC cA cB cK cD cU ce mo rm rl mk qu po n (nI i)) (fun i _ => ∀ q, q < i → ¬ re_AB ce t q) R () lt_0 ?_ ?_
  · intro n _ hI
    simp only [wX_lowestAbsentRow_2]
    exact pk_le 7 R (fun _ => h0 hI) (fun _ => pk_le R R (fun _ => h0 hI) (fun z => by omega))
  · intro n i _ hi hI hc
    simp (disch := omega) only [wX_lowestAbsentRow_2, nI_clamp, re_in, re_m3, re_m7, re_m28, re_m49, re_m4, re_m8, re_m84, nI_add, nI_1, re_a2, re_a3, re_a4, re_a5, re_a6, re_b336, re_b8, re_b0, forall_eq, true_and, and_true, not_false_eq_true, not_true_eq_false, false_implies, true_implies, implies_true]
    refine pk_le 7 i (fun _ => by omega) (fun _ => pk_le R i (fun _ => by omega) (fun _ => ?_))
    refine rx_isPresent (b := 0) (by omega) (fun z => re_bq0 (h1 i hi ?_ hI)) (fun z => re_bq1 (hc () (lt_s hI (fun w => z ?_))))
    · rw [Nat.zero_add] at z; exact z
    · rw [Nat.zero_add]; exact w
theorem ry_insertL {post : Int32 → SY → Prop} {t : Nat} {p1 p2 p3 : Int32} (hP : re_SP s T R K F) (ht : t < T) (h0 : (∀ r, r < R → ¬ re_AB ce t r) → post (-6) (nI T, nI R, sl, nI K, nI F, dp, cu, tu, ks, fs, ce, ym, rq, yr, yk))
    (h1 : ∀ r, r < R → re_AB ce t r → (∀ q, q < r → ¬ re_AB ce t q) → ∀ J : Int32 → SY → Prop, (∀ a cu' tu' ce' ym', ((a = 0 → post (nI r) (nI T, nI R, sl, nI K, nI F, dp, cu', tu', ks, fs, ce', ym', rq, yr, yk)) ∧ (¬ a = 0 → post a (nI T, nI R, sl, nI K, nI F, dp, cu', tu', ks, fs, ce', ym', rq, yr, yk))) → J a (nI T, nI R, sl, nI K, nI F, dp, cu', tu', ks, fs, ce', ym', rq, yr, yk)) → wpY_judge J (nI T, nI R, sl, nI K, nI F, dp, cu, tu, ks, fs, re_I3 (re_CP 84 0 336 ce) (336 + (t * 7 + r) * 3) p1 p2 p3, re_CP 8 0 32 ym, rq, yr, yk)) : ∃ n71 : Nat, wY_insert_71 post (nI t) p1 p2 p3 (nI T) (nI R) sl (nI K) (nI F) dp cu tu ks fs ce ym rq yr yk n71 (-1) (nI R - 1) := by
  have B := hP.1
  refine loop_0 (fun n d (x5 : Int32) => wY_insert_71 post (nI t) p1 p2 p3 (nI T) (nI R) sl (nI K) (nI F) dp cu tu ks fs ce ym rq yr yk n x5 (nI (R - d) - 1)) (fun d x5 => (x5 = -1 ∧ ∀ r, R - d ≤ r → r < R → ¬ re_AB ce t r) ∨ ∃ r, R - d ≤ r ∧ r < R ∧ x5 = nI r ∧ re_AB ce t r ∧ ∀ q, R - d ≤ q → q < r → ¬ re_AB ce t q) R (-1) (Or.inl ⟨rfl, fun r h1 h2 => by omega⟩) ?_ ?_
  · rintro n x5 hI
    rw [Nat.sub_self] at hI ⊢
    refine br_t (by decide) ?_
    rcases hI with ⟨e, hI⟩ | ⟨r, -, hr, e, ha, hq⟩
    · rw [e]
      exact br_f (by decide) (h0 (fun r hr => hI r (by omega) hr))
    · rw [e]
      refine br_t (nI_pos' (by omega)) ?_
      refine ry_copy (a := 0) (b := 4) (by omega) (by omega) (by omega) ?_
      try simp (disch := omega) only [nI_clamp, re_in, re_m3, re_m7, re_m28, re_m49, re_m4, re_m8, re_m84, nI_add, nI_1, re_a2, re_a3, re_a4, re_a5, re_a6, re_b336, re_b8, re_b0, forall_eq, true_and, and_true, not_false_eq_true, not_true_eq_false, false_implies, true_implies, implies_true]
      exact h1 r hr ha (fun q hq' => hq q (by omega) hq') _ (fun a cu' tu' ce' ym' hx => hx)
  · rintro n d x5 hd hI hc
    have e1 : nI (R - d) - 1 = nI (R - (d + 1)) := by
      rw [show R - d = (R - (d + 1)) + 1 by omega]
      exact nI_pred _
    have e2 : nI (R - (d + 1)) + (-1) = nI (R - (d + 1)) - 1 := (Int32.sub_eq_add_neg _ _).symm
    rw [e1]
    simp (disch := omega) only [wY_insert_71, e2, nI_clamp, re_in, re_m3, re_m7, re_m28, re_m49, re_m4, re_m8, re_m84, nI_add, nI_1, re_a2, re_a3, re_a4, re_a5, re_a6, re_b336, re_b8, re_b0, forall_eq, true_and, and_true, not_false_eq_true, not_true_eq_false, false_implies, true_implies, implies_true]
    refine br_f (nI_pos (by omega)) ?_
    refine ry_at (st := 0) (c := 0) (by omega) ?_
    rw [show 0 * 84 + (t * 7 + (R - (d + 1))) * 3 + 0 = (t * 7 + (R - (d + 1))) * 3 by omega]
    refine br_c (fun z => hc _ (Or.inr ⟨R - (d + 1), Nat.le_refl _, by omega, rfl, z, fun q a b => by omega⟩)) (fun z => hc _ ?_)
    rcases hI with ⟨e, hI⟩ | ⟨r, h1, hr, e, ha, hq⟩
    · refine Or.inl ⟨e, fun r a b => ?_⟩
      rcases Nat.decEq r (R - (d + 1)) with w | w
      · exact hI r (by omega) b
      · rw [w]; exact z
    · refine Or.inr ⟨r, by omega, hr, e, ha, fun q a b => ?_⟩
      rcases Nat.decEq q (R - (d + 1)) with w | w
      · exact hq q (by omega) b
      · rw [w]; exact z
theorem re_I3_out {k i : Nat} {a b c : Int32} (h : i < k ∨ k + 3 ≤ i) : re_I3 ce k a b c i = ce i := by
  unfold re_I3
  rw [pk_un (by omega), pk_un (by omega), pk_un (by omega)]
theorem re_RG_I3 {t r : Nat} {a b c : Int32} (hG : re_RG T R ce 0) (ht : t < T) (hT : T ≤ 4) (hr : r < R) (hR : R ≤ 7) (ha : re_VR a (-1) 99) (hb : re_VR b (-1) 99) (hc : re_VR c (-1) 99) : re_RG T R (re_I3 (re_CP 84 0 336 ce) (336 + (t * 7 + r) * 3) a b c) 336 := by
  intro p hp
  rcases Nat.decEq p (t * 7 + r) with w | w
  · have e : ∀ d, d < 3 → re_I3 (re_CP 84 0 336 ce) (336 + (t * 7 + r) * 3) a b c (336 + p * 3 + d) = ce (0 + p * 3 + d) := by
      intro d hd
      rw [re_I3_out (by omega), Nat.add_assoc, re_CP_in (by omega), Nat.add_assoc]
    rcases hG p hp with z | ⟨z1, z2, z3⟩
    · exact Or.inl (fun d hd => (e d hd).trans (z d hd))
    · refine Or.inr ⟨z1, z2, fun d hd => ?_⟩
      rw [e d hd]
      exact z3 d hd
  · subst w
    refine Or.inr ⟨by omega, by omega, fun d hd => ?_⟩
    unfold re_I3
    rcases (by omega : d = 0 ∨ d = 1 ∨ d = 2) with rfl | rfl | rfl
    · rw [pk_un (by omega), pk_un (by omega), Nat.add_zero, pk_us]; exact ha
    · rw [pk_un (by omega), pk_us]; exact hb
    · rw [pk_us]; exact hc
theorem re_LK0 : re_LK (fun _ => False) (fun _ => 0) (re_Z 28 rm) (re_Z 84 mk) :=
  ⟨fun p hp => ⟨fun _ z => z, fun _ => re_Z_in hp⟩, fun i hi => by rw [re_Z_in hi]; exact (by decide : ((0 : Int32)).toInt = 0)⟩
theorem rz_insert {k : Nat} (hO : re_OK T R K F D s sl kT kA kB kP cC cA cB cK cD cU ce mo ks fs ym) (v1 v2 v3 v4 : Int32) : wpX_insert (fun r u' => wpY_insert (fun r' v' => r' = r ∧ i_Rel k u' v') (nI T, nI R, sl, nI K, nI F, nI D, cu, tu, ks, fs, ce, ym, rq, yr, yk) v1 v2 v3 v4) (nI T, nI R, sl, nI D, cu, tu, nI K, nI F, 336, rn, qe, rq, kT, kA, kB, kP, cC, cA, cB, cK, cD, cU, ce, mo, rm, rl, mk, qu, po) v1 v2 v3 v4 := by
  have hP := hO.1
  have B := hP.1
  have hX := hO.2.1
  have hs := re_a0 hO.2.2.2.2.2.2.2
  have h00 := hO.2.2.2.2.2.1 0 (by omega)
  rw [Nat.zero_mul] at h00
  have i0 : re_IN 0 R := ⟨0, by omega, rfl⟩
  have i3 : re_IN 0 3 := ⟨0, by omega, rfl⟩
  unfold wpX_insert wpX_clearReport
  refine br_c (fun z => ?_) (fun z => ?_)
  · unfold wpY_insert
    exact ry_opens hs (br_t z ⟨rfl, re_mk hO⟩)
  · have bad4 : ¬ re_IN v1 T → wpY_insert (fun r' v' => r' = -4 ∧ i_Rel k (nI T, nI R, sl, nI D, -1, 0, nI K, nI F, 336, rn, qe, rq, kT, kA, kB, kP, cC, cA, cB, cK, cD, cU, ce, mo, rm, rl, mk, qu, po) v') (nI T, nI R, sl, nI K, nI F, nI D, cu, tu, ks, fs, ce, ym, rq, yr, yk) v1 v2 v3 v4 := by
      intro n
      unfold wpY_insert
      exact ry_opens hs (br_f z (ry_noCell (by omega) (by omega) (fun a => absurd a n) (fun _ => re_bq1 ⟨rfl, re_mk hO⟩)))
    have bad5 : re_IN v1 T → ¬ (re_VR v2 (-1) 99 ∧ re_VR v3 (-1) 99 ∧ re_VR v4 (-1) 99) → wpY_insert (fun r' v' => r' = -5 ∧ i_Rel k (nI T, nI R, sl, nI D, -1, 0, nI K, nI F, 336, rn, qe, rq, kT, kA, kB, kP, cC, cA, cB, cK, cD, cU, ce, mo, rm, rl, mk, qu, po) v') (nI T, nI R, sl, nI K, nI F, nI D, cu, tu, ks, fs, ce, ym, rq, yr, yk) v1 v2 v3 v4 := by
      intro a n
      unfold wpY_insert
      refine ry_opens hs (br_f z (ry_noCell (by omega) (by omega) (fun _ _ _ => re_bq0 ?_) (fun m => absurd ⟨a, i0, i3⟩ m)))
      exact ry_in (fun x => re_bq1 (ry_in (fun y => re_bq1 (ry_in (fun w => absurd ⟨x, y, w⟩ n) (fun _ => re_bq0 ⟨rfl, re_mk hO⟩))) (fun _ => re_bq0 ⟨rfl, re_mk hO⟩))) (fun _ => re_bq0 ⟨rfl, re_mk hO⟩)
    refine rx_isTable (by omega) (fun a => re_bq1 ?_) (fun a => re_bq0 (bad4 a))
    refine rx_isCellValue (fun x => re_bq1 (rx_isCellValue (fun y => re_bq1 (rx_isCellValue (fun w => re_bq1 ?_) (fun w => re_bq0 (bad5 a (fun v => w v.2.2))))) (fun y => re_bq0 (bad5 a (fun v => y v.2.1))))) (fun x => re_bq0 (bad5 a (fun v => x v.1)))
    obtain ⟨t, ht, rfl⟩ := a
    have yok : ∀ {post : Int32 → SY → Prop}, (∃ n71 : Nat, wY_insert_71 post (nI t) v2 v3 v4 (nI T) (nI R) sl (nI K) (nI F) (nI D) (-1) 0 ks fs ce ym rq (re_Z 28 yr) (re_Z 84 yk) n71 (-1) (nI R - 1)) → wpY_insert post (nI T, nI R, sl, nI K, nI F, nI D, cu, tu, ks, fs, ce, ym, rq, yr, yk) (nI t) v2 v3 v4 := by
      intro post h
      unfold wpY_insert
      refine ry_opens hs (br_f z (ry_noCell (by omega) (by omega) (fun _ _ _ => re_bq0 ?_) (fun m => absurd ⟨⟨t, ht, rfl⟩, i0, i3⟩ m)))
      exact ry_in (fun _ => re_bq1 (ry_in (fun _ => re_bq1 (ry_in (fun _ => re_bq1 (nm_e h)) (fun n => absurd w n))) (fun n => absurd y n))) (fun n => absurd x n)
    refine rx_lowestAbsentRow hP ht (fun hn => br_t rfl ?_) (fun r hr ha hq => br_f (re_ne1 (by omega)) ?_)
    · exact yok (ry_insertL hP ht (fun _ => ⟨rfl, re_mk hO⟩) (fun r hr ha => absurd ha (hn r hr)))
    · refine rx_startStatement hP hX h00.2 (fun po' hPO => ?_)
      refine rx_buildNext (g := fun _ => 0) (fun v => ⟨fun _ => rfl, fun n => absurd rfl n⟩) ?_
      rw [re_BN_zero (fun p hp => re_Z_in hp) (fun i hi => re_Z_in hi)]
      try simp (disch := omega) only [nI_clamp, re_in, re_m3, re_m7, re_m28, re_m49, re_m4, re_m8, re_m84, nI_add, nI_1, re_a2, re_a3, re_a4, re_a5, re_a6, re_b336, re_b8, re_b0, forall_eq, true_and, and_true, not_false_eq_true, not_true_eq_false, false_implies, true_implies, implies_true]
      obtain ⟨r1, c2, cu2, tu2, ym2, ok, hXs, hYs⟩ := re_fin (c1 := re_I3 (re_CP 84 0 336 ce) (336 + (t * 7 + r) * 3) v2 v3 v4) (cu := -1) (po := po') (rm := re_Z 28 rm) (mk := re_Z 84 mk) (rn := 0) (qe := 0) (rq := rq) (rl := rl) (qu := qu) hO (re_sl1 hO z) (fun i hi => by rw [re_I3_out (by omega), re_CP_out (by omega)]) (re_RG_I3 h00.1 ht (by omega) hr (by omega) x y w) hPO re_LK0
      refine hXs _ ?_
      by_cases e0 : r1 = 0
      · refine br_t e0 (yok (ry_insertL hP ht (fun hn => absurd ha (hn r hr)) (fun r' hr' ha' hq' J hJ => ?_)))
        rw [← re_first ha hq ha' hq'] at hJ ⊢
        exact hYs _ _ re_LK0 J (hJ r1 cu2 tu2 c2 ym2 (br_t e0 ⟨rfl, re_mk ok⟩))
      · refine br_f e0 (yok (ry_insertL hP ht (fun hn => absurd ha (hn r hr)) (fun r' hr' ha' hq' J hJ => ?_)))
        rw [← re_first ha hq ha' hq'] at hJ ⊢
        exact hYs _ _ re_LK0 J (hJ r1 cu2 tu2 c2 ym2 (br_f e0 ⟨rfl, re_mk ok⟩))
end
end
section
/-! the joint end of delete, setCell and shift; delete -/
theorem re_LD_cong {s : re_Sc} {F : Nat} {cD ce : Nat → Int32} {Sd Sd' D : Nat → Prop} (h : ∀ p, p < 28 → (Sd p ↔ Sd' p)) (hL : re_LD s F cD ce Sd D) : re_LD s F cD ce Sd' D :=
  ⟨fun p hp z => hL.1 p hp ((h p hp).mpr z), hL.2.1, fun S hS hs => hL.2.2 S hS (fun p hp z => hs p hp ((h p hp).mp z))⟩
theorem re_LM_seed {s : re_Sc} {F : Nat} {cD cU ce : Nat → Int32} {D : Nat → Prop} {Sd Sd' M : Nat → Int} (h : ∀ i, i < 84 → Sd i = Sd' i) (hL : re_LM s F cD cU ce D Sd M) : re_LM s F cD cU ce D Sd' M :=
  ⟨hL.1, fun i hi => by rw [← h i hi]; exact hL.2.1 i hi, hL.2.2.1, fun B hB => hL.2.2.2 B ⟨hB.1, fun i hi => by rw [h i hi]; exact hB.2 i hi⟩⟩
theorem re_QV0 {D : Nat → Prop} {Q : (Nat → Int) → Prop} {mk qu : Nat → Int32} (hQ : ∀ B, Q B → ∀ i, i < 84 → 0 ≤ B i) : re_QV D Q (re_Z 84 mk) qu 0 := by
  have e : ∀ i, i < 84 → re_MI (re_Z 84 mk) i = 0 := fun i hi => by
    unfold re_MI
    rw [re_Z_in hi]
    exact (by decide : ((0 : Int32)).toInt = 0)
  have a := re_sm_mono (M := fun _ => 0) (M' := re_MI (re_Z 84 mk)) 84 (fun i hi => by rw [e i hi]; exact Int.le_refl _)
  have b : ∀ n, re_sm (fun _ => 0) n = 0 := by
    intro n
    induction n with
    | zero => rfl
    | succ n ih => simp only [re_sm]; omega
  have c := b 84
  refine ⟨by omega, fun i hi => by rw [e i hi]; omega, fun j hj => by omega, fun B hB i hi => by rw [e i hi]; exact hQ B hB i hi⟩
theorem re_MI0 {mk : Nat → Int32} {i : Nat} (hi : i < 84) : re_MI (re_Z 84 mk) i = 0 := by
  unfold re_MI
  rw [re_Z_in hi]
  exact (by decide : ((0 : Int32)).toInt = 0)
section
variable {T R K F : Nat} {s : re_Sc} {sl dp cu tu rn qe : Int32} {rq kT kA kB kP cC cA cB cK cD cU ce mo rm rl mk qu po : Nat → Int32} {ks fs ym yr yk : Nat → Int32}
variable {D : Nat}
theorem ry_carryOut {post : Int32 → SY → Prop} {x1 x2 : Int32} (hP : re_SP s T R K F) (hY : re_LY s K F ks fs) (hA' : re_LA F cD cU fs) (h01 : ∀ p, p < 28 → yr p = 0 ∨ yr p = 1) (hb : ∀ i, i < 84 → 0 ≤ re_MI yk i ∧ re_MI yk i ≤ 2)
    (h : ∀ yr' yk', re_LD s F cD ce (fun p => ¬ yr p = 0) (fun p => ¬ yr' p = 0) → re_LM s F cD cU ce (fun p => ¬ yr' p = 0) (re_MI yk) (re_MI yk') → wY_carryOut_455 post x1 x2 (nI T) (nI R) sl (nI K) (nI F) dp cu tu ks fs ce ym rq yr' yk') : wpY_carryOut post (nI T, nI R, sl, nI K, nI F, dp, cu, tu, ks, fs, ce, ym, rq, yr, yk) x1 x2 :=
  ry_phase1 hP hY hA' h01 (fun yr' _ a => ry_phase2 (D := fun p => ¬ yr' p = 0) hP hY hA' (fun p hp => ⟨fun z w => w z, fun z => Classical.byContradiction z⟩) hb (fun yk' c => h yr' yk' a c))
theorem re_join {gx gy : Int32 → Int32} {y1 y2 : Int32} {DD Sd : Nat → Prop} {Sm : Nat → Int} (hO : re_OK T R K F D s sl kT kA kB kP cC cA cB cK cD cU ce mo ks fs ym) (hs : sl = 1) (hPO : re_PO s F ce po)
    (hD : ∀ p, p < 28 → (rm p = 0 ↔ ¬ DD p)) (hLD : re_LD s F cD ce Sd DD) (hLM : re_LM s F cD cU ce DD Sm (re_MI mk))
    (hpres : ∀ i, i < 84 → ce i = -2 → re_MI mk i = 0) (hone : ∀ i, i < 84 → re_MI mk i = 1 → gx (ce i) = gy (ce i) ∧ -1 ≤ (gx (ce i)).toInt ∧ (gx (ce i)).toInt ≤ 99)
    (hgy : ∀ v, (y1 = 2 → gy v = v + y2) ∧ (¬ y1 = 2 → gy v = y2)) :
    ∃ r c2 cu2 tu2 ym2, re_OK T R K F D s sl kT kA kB kP cC cA cB cK cD cU c2 mo ks fs ym2 ∧
      (∀ post : Int32 → SX → Prop, post r (nI T, nI R, sl, nI D, cu2, tu2, nI K, nI F, 336, rn, qe, rq, kT, kA, kB, kP, cC, cA, cB, cK, cD, cU, c2, mo, rm, rl, mk, qu, po) → wpX_settle post (nI T, nI R, sl, nI D, cu, 0, nI K, nI F, 336, rn, qe, rq, kT, kA, kB, kP, cC, cA, cB, cK, cD, cU, re_BN rm mk gx 84 ce, mo, rm, rl, mk, qu, po)) ∧
      (∀ (yr0 yk0 : Nat → Int32), (∀ p, p < 28 → yr0 p = 0 ∨ yr0 p = 1) → (∀ p, p < 28 → (¬ yr0 p = 0 ↔ Sd p)) → (∀ i, i < 84 → re_MI yk0 i = Sm i) → (∀ i, i < 84 → 0 ≤ re_MI yk0 i ∧ re_MI yk0 i ≤ 2) → ∀ (P : Nat → Prop), (∀ p, p < 28 → (P p ↔ ((y1 = 0 ∧ DD p) ∨ (¬ y1 = 0 ∧ re_MR (re_MI mk) p)))) → ∀ post : Int32 → SY → Prop,
        (¬ r = 0 → ∀ yr' yk', post r (nI T, nI R, sl, nI K, nI F, nI D, cu2, tu2, ks, fs, c2, ym2, rq, yr', yk')) → (r = 0 → ∀ yr' yk', post (nI (re_cn P 28)) (nI T, nI R, sl, nI K, nI F, nI D, cu2, tu2, ks, fs, c2, ym2, rq, yr', yk')) →
        wpY_carryOut post (nI T, nI R, sl, nI K, nI F, nI D, cu, 0, ks, fs, ce, ym, rq, yr0, yk0) y1 y2) := by
  have hP := hO.1
  have h00 := hO.2.2.2.2.2.1 0 (by omega)
  rw [Nat.zero_mul] at h00
  have m0 : ∀ i, i < 84 → re_MI mk i = 0 → mk i = 0 := fun i hi e => Int32.toInt_inj.mp (e.trans (by decide : (0 : Int) = ((0 : Int32)).toInt))
  have m1 : ∀ i, i < 84 → mk i = 1 → re_MI mk i = 1 := fun i hi e => by unfold re_MI; rw [e]; exact (by decide : ((1 : Int32)).toInt = 1)
  obtain ⟨r, c2, cu2, tu2, ym2, ok, hXs, hYs⟩ := re_fin (c1 := re_BN rm mk gx 84 ce) (cu := cu) (po := po) (rm := rm) (mk := mk) (rn := rn) (qe := qe) (rq := rq) (rl := rl) (qu := qu) (DD := DD) (M := re_MI mk) hO hs (fun i hi => re_BN_lo hi) (re_RG_BN h00.1 (fun i hi e => m0 i hi (hpres i hi e)) (fun i hi e => (hone i hi (m1 i hi e)).2)) hPO ⟨hD, fun i _ => rfl⟩
  refine ⟨r, c2, cu2, tu2, ym2, ok, hXs, ?_⟩
  intro yr0 yk0 hr0 hr1 hk0 hk1 P hPp post h1 h0
  refine ry_carryOut hP hO.2.2.1 hO.2.2.2.1 hr0 hk1 (fun yr' yk' hl hm => ?_)
  have dd : ∀ p, p < 28 → (¬ yr' p = 0 ↔ DD p) := re_LD_uq (re_LD_cong (fun p hp => hr1 p hp) hl) hLD
  have mm : ∀ i, i < 84 → re_MI yk' i = re_MI mk i := re_LM_uq (re_LM_cong hP dd (re_LM_seed hk0 hm)) hLM
  have lk : re_LK DD (re_MI mk) yr' yk' := ⟨fun p hp => ⟨fun e z => (dd p hp).mpr z e, fun z => Classical.byContradiction (fun w => z ((dd p hp).mp w))⟩, mm⟩
  have me : ∀ i, i < 84 → mk i = yk' i := fun i hi => Int32.toInt_inj.mp (mm i hi).symm
  have eb : re_BN rm mk gx 84 ce = re_BN yr' yk' gy 84 ce := re_BN_cong2 (fun p hp => (hD p hp).trans (lk.1 p hp).symm) me (fun i hi e => (hone i hi (m1 i hi e)).1)
  rw [eb] at hYs
  refine ry_content hgy (fun J hJ => hYs yr' yk' lk J (hJ r cu2 tu2 c2 ym2 ?_))
  exact ry_count lk hLM.1 hPp (fun e => h1 e yr' yk') (fun e => h0 e yr' yk')
theorem rz_delete {k : Nat} (hO : re_OK T R K F D s sl kT kA kB kP cC cA cB cK cD cU ce mo ks fs ym) (v1 v2 v3 : Int32) : wpX_delete (fun r u' => wpY_delete (fun r' v' => r' = r ∧ i_Rel k u' v') (nI T, nI R, sl, nI K, nI F, nI D, cu, tu, ks, fs, ce, ym, rq, yr, yk) v1 v2 v3) (nI T, nI R, sl, nI D, cu, tu, nI K, nI F, 336, rn, qe, rq, kT, kA, kB, kP, cC, cA, cB, cK, cD, cU, ce, mo, rm, rl, mk, qu, po) v1 v2 v3 := by
  have hP := hO.1
  have B := hP.1
  have hX := hO.2.1
  have hs := re_a0 hO.2.2.2.2.2.2.2
  have h00 := hO.2.2.2.2.2.1 0 (by omega)
  rw [Nat.zero_mul] at h00
  have i0 : re_IN 0 R := ⟨0, by omega, rfl⟩
  unfold wpX_delete wpX_clearReport
  refine br_c (fun z => ?_) (fun z => ?_)
  · unfold wpY_delete
    exact ry_opens hs (br_t z ⟨rfl, re_mk hO⟩)
  · have bad4 : ¬ (re_IN v1 T ∧ re_IN v2 3) → wpY_delete (fun r' v' => r' = -4 ∧ i_Rel k (nI T, nI R, sl, nI D, -1, 0, nI K, nI F, 336, rn, qe, rq, kT, kA, kB, kP, cC, cA, cB, cK, cD, cU, ce, mo, rm, rl, mk, qu, po) v') (nI T, nI R, sl, nI K, nI F, nI D, cu, tu, ks, fs, ce, ym, rq, yr, yk) v1 v2 v3 := by
      intro n
      unfold wpY_delete
      exact ry_opens hs (br_f z (ry_noCell (by omega) (by omega) (fun a _ b => absurd ⟨a, b⟩ n) (fun _ => re_bq1 ⟨rfl, re_mk hO⟩)))
    refine rx_isTable (by omega) (fun a => re_bq1 (rx_isColumn (fun b => re_bq1 (rx_isCellValue (fun x => re_bq1 ?_) (fun x => re_bq0 ?_))) (fun b => re_bq0 (bad4 (fun w => b w.2))))) (fun a => re_bq0 (bad4 (fun w => a w.1)))
    · obtain ⟨t, ht, rfl⟩ := a
      obtain ⟨c, hc, rfl⟩ := b
      -- the reference up to the seeds
      have yok : ∀ {post : Int32 → SY → Prop}, (∀ yr0, (∀ p, p < 28 → yr0 p = 0 ∨ yr0 p = 1) → (∀ p, p < 28 → (¬ yr0 p = 0 ↔ ∃ r, r < 7 ∧ p = t * 7 + r ∧ ce (p * 3 + c) = v3)) → ∀ J : Int32 → SY → Prop, (∀ r cu' tu' ce' ym' yr' yk', post r (nI T, nI R, sl, nI K, nI F, nI D, cu', tu', ks, fs, ce', ym', rq, yr', yk') → J r (nI T, nI R, sl, nI K, nI F, nI D, cu', tu', ks, fs, ce', ym', rq, yr', yk')) → wpY_carryOut J (nI T, nI R, sl, nI K, nI F, nI D, -1, 0, ks, fs, ce, ym, rq, yr0, re_Z 84 yk) 0 0) → wpY_delete post (nI T, nI R, sl, nI K, nI F, nI D, cu, tu, ks, fs, ce, ym, rq, yr, yk) (nI t) (nI c) v3 := by
        intro post h
        unfold wpY_delete
        refine ry_opens hs (br_f z (ry_noCell (by omega) (by omega) (fun _ _ _ => re_bq0 (ry_in (fun _ => re_bq1 ?_) (fun n => absurd x n))) (fun m => absurd ⟨⟨t, ht, rfl⟩, i0, ⟨c, hc, rfl⟩⟩ m)))
        refine loop_0 (fun n i (st : Nat → Int32) => wY_delete_40 post (nI t) (nI c) v3 (nI T) (nI R) sl (nI K) (nI F) (nI D) (-1) 0 n (nI i) ks fs ce ym rq st (re_Z 84 yk)) (fun i st => (∀ p, p < 28 → st p = 0 ∨ st p = 1) ∧ ∀ p, p < 28 → (¬ st p = 0 ↔ ∃ r, r < i ∧ p = t * 7 + r ∧ ce (p * 3 + c) = v3)) R (re_Z 28 yr) ⟨fun p hp => Or.inl (re_Z_in hp), fun p hp => ⟨fun n => absurd (re_Z_in hp) n, fun ⟨r, hr, _⟩ => by omega⟩⟩ ?_ ?_
        · rintro n st ⟨k1, k2⟩
          refine pk_le R R (fun _ => ?_) (fun w => by omega)
          refine h st k1 (fun p hp => ?_) _ (fun r cu' tu' ce' ym' yr' yk' hx => hx)
          rw [k2 p hp]
          constructor
          · rintro ⟨r, hr, e1, e2⟩
            exact ⟨r, by omega, e1, e2⟩
          · rintro ⟨r, hr, e1, e2⟩
            refine ⟨r, ?_, e1, e2⟩
            refine Classical.byContradiction (fun w => ?_)
            have e := re_RG_abs (p := p) (c := c) h00.1 hp (by omega) hc
            rw [Nat.zero_add, e2] at e
            have x1 := x.1
            rw [e] at x1
            exact absurd x1 (by decide)
        · rintro n i st hi ⟨k1, k2⟩ hk
          simp (disch := omega) only [wY_delete_40, re_nb1, nI_clamp, re_in, re_m3, re_m7, re_m28, re_m49, re_m4, re_m8, re_m84, nI_add, nI_1, re_a2, re_a3, re_a4, re_a5, re_a6, re_b336, re_b8, re_b0, forall_eq, true_and, and_true, not_false_eq_true, not_true_eq_false, false_implies, true_implies, implies_true]
          refine pk_le R i (fun _ => by omega) (fun _ => ?_)
          refine ry_at (st := 0) (by omega) ?_
          rw [show 0 * 84 + (t * 7 + i) * 3 + c = (t * 7 + i) * 3 + c by omega]
          refine br_c (fun e => hk _ ⟨fun p hp => ?_, fun p hp => ?_⟩) (fun e => hk _ ⟨k1, fun p hp => ?_⟩)
          · rcases Nat.decEq p (t * 7 + i) with w | w
            · rw [pk_un w]; exact k1 p hp
            · rw [w, pk_us]; exact Or.inr rfl
          · rcases Nat.decEq p (t * 7 + i) with w | w
            · rw [pk_un w, k2 p hp]
              constructor
              · rintro ⟨r, hr, e1, e2⟩
                exact ⟨r, by omega, e1, e2⟩
              · rintro ⟨r, hr, e1, e2⟩
                exact ⟨r, by omega, e1, e2⟩
            · rw [w, pk_us]
              exact ⟨fun _ => ⟨i, by omega, rfl, e⟩, fun _ => by decide⟩
          · rw [k2 p hp]
            constructor
            · rintro ⟨r, hr, e1, e2⟩
              exact ⟨r, by omega, e1, e2⟩
            · rintro ⟨r, hr, e1, e2⟩
              rcases Nat.decEq r i with w | w
              · exact ⟨r, by omega, e1, e2⟩
              · rw [e1, w] at e2
                exact absurd e2 e
      refine rx_startStatement hP hX h00.2 (fun po' hPO => ?_)
      refine loop_0 (fun n i (st : (Nat → Int32) × (Nat → Int32) × Nat) => wX_delete_51 _ (nI t) (nI c) v3 n (nI i) (nI T) (nI R) sl (nI D) (-1) 0 (nI K) (nI F) 336 (nI st.2.2) 0 rq kT kA kB kP cC cA cB cK cD cU ce mo st.1 st.2.1 (re_Z 84 mk) qu po') (fun i st => re_RV (fun S => re_CD s F cD ce S ∧ ∀ p, p < 28 → (∃ r, r < 7 ∧ p = t * 7 + r ∧ ce (p * 3 + c) = v3) → S p) st.1 st.2.1 st.2.2 ∧ ∀ r, r < i → ce ((t * 7 + r) * 3 + c) = v3 → ¬ st.1 (t * 7 + r) = 0) 7 (re_Z 28 rm, rl, 0) ⟨⟨fun p hp => Or.inl (re_Z_in hp), (re_cn_0 (fun p hp n => n (re_Z_in hp))).symm, fun j hj => absurd hj (Nat.not_lt_zero j), fun p hp n => absurd (re_Z_in hp) n, fun S _ p hp n => absurd (re_Z_in hp) n⟩, lt_0⟩ ?_ ?_
      · rintro n ⟨r1, l1, n1⟩ ⟨k1, k2⟩
        dsimp only at k1 k2 ⊢
        refine br_t (by decide) ?_
        refine rx_spreadRemoval hP hPO k1 (fun S hS => hS.1) (fun r2 l2 n2 j1 j2 j3 => ?_)
        have hD2 : ∀ p, p < 28 → (r2 p = 0 ↔ ¬ (fun p => ¬ r2 p = 0) p) := fun p hp => ⟨fun e w => w e, fun w => Classical.byContradiction w⟩
        have hLD : re_LD s F cD ce (fun p => ∃ r, r < 7 ∧ p = t * 7 + r ∧ ce (p * 3 + c) = v3) (fun p => ¬ r2 p = 0) := by
          refine ⟨?_, j3, fun S hS hsd p hp => j1.2.2.2.2 S ⟨hS, hsd⟩ p hp⟩
          rintro p hp ⟨r, hr, e1, e2⟩
          rw [e1]
          rw [e1] at e2 hp
          exact j2 _ hp (k2 r hr e2)
        refine rx_nullRef (e := 0) (D := fun p => ¬ r2 p = 0) (Q := re_BS s F cD cU ce (fun p => ¬ r2 p = 0) (fun _ => 0)) hP hX hD2 hPO (re_QV0 (fun B hB i hi => (hB.2 i hi).1)) (fun B hB => hB.1) (fun m1 q1 e1 i1 i2 i3 => ?_)
        refine rx_spreadMarks hP hX hD2 hPO i1 (fun B hB => hB.1) i3 (fun y hy => ?_) (fun m2 q2 e2 g1 g2 g3 => ?_)
        · rcases i2.2.2.2 y hy with w | ⟨j, _, w2, w3⟩
          · exact Or.inl (w.trans (re_MI0 hy))
          · exact Or.inr ⟨j, w2, w3⟩
        have hLM : re_LM s F cD cU ce (fun p => ¬ r2 p = 0) (fun _ => 0) (re_MI m2) := ⟨g1.2.1, fun i hi => (g1.2.1 i hi).1, g3, g1.2.2.2⟩
        have hone : ∀ i, i < 84 → re_MI m2 i = 1 → False := re_LM_one (good := fun _ => False) hP hLM (fun i hi e => absurd e (by decide)) (fun i hi => Or.inl (Int.le_refl _))
        refine rx_buildNext (g := fun _ => -1) (fun v => ⟨fun _ => rfl, fun w => absurd rfl w⟩) ?_
        obtain ⟨r, c2, cu2, tu2, ym2, ok, hXs, hYs⟩ := re_join (gx := fun _ => -1) (gy := fun _ => 0) (y1 := 0) (y2 := 0) (cu := -1) (rn := nI n2) (qe := nI e2) (rq := rq) (rl := l2) (qu := q2) (po := po') (rm := r2) (mk := m2) hO (re_sl1 hO z) hPO hD2 hLD hLM (re_LM_pres hP hLM (fun _ _ _ => Int.le_refl _)) (fun i hi e => (hone i hi e).elim) (fun v => ⟨fun w => absurd w (by decide), fun _ => rfl⟩)
        refine hXs _ ?_
        have en : nI n2 = nI (re_cn (fun p => ¬ r2 p = 0) 28) := by rw [← j1.2.1]
        by_cases e0 : r = 0
        · refine br_t e0 (yok (fun yr0 ha hb J hJ => ?_))
          exact hYs yr0 (re_Z 84 yk) ha hb (fun i hi => re_MI0 hi) (fun i hi => by rw [re_MI0 hi]; omega) (fun p => ¬ r2 p = 0) (fun p hp => ⟨fun w => Or.inl ⟨rfl, w⟩, fun w => w.elim (fun w => w.2) (fun w => absurd rfl w.1)⟩) J (fun e => absurd e0 e) (fun _ yr' yk' => hJ _ cu2 tu2 c2 ym2 yr' yk' ⟨en.symm, re_mk ok⟩)
        · refine br_f e0 (yok (fun yr0 ha hb J hJ => ?_))
          exact hYs yr0 (re_Z 84 yk) ha hb (fun i hi => re_MI0 hi) (fun i hi => by rw [re_MI0 hi]; omega) (fun p => ¬ r2 p = 0) (fun p hp => ⟨fun w => Or.inl ⟨rfl, w⟩, fun w => w.elim (fun w => w.2) (fun w => absurd rfl w.1)⟩) J (fun _ yr' yk' => hJ _ cu2 tu2 c2 ym2 yr' yk' ⟨rfl, re_mk ok⟩) (fun e => absurd e e0)
      · rintro n i ⟨r1, l1, n1⟩ hi ⟨k1, k2⟩ hk
        dsimp only at k1 k2 ⊢
        simp (disch := omega) only [wX_delete_51, nI_clamp, re_in, re_m3, re_m7, re_m28, re_m49, re_m4, re_m8, re_m84, nI_add, nI_1, re_a2, re_a3, re_a4, re_a5, re_a6, re_b336, re_b8, re_b0, forall_eq, true_and, and_true, not_false_eq_true, not_true_eq_false, false_implies, true_implies, implies_true]
        refine pk_le 7 i (fun _ => by omega) (fun _ => br_c (fun e => ?_) (fun e => hk (r1, l1, n1) ⟨k1, lt_s k2 (fun w => absurd w e)⟩))
        refine rx_removeRow k1 (by omega) (fun S hS => hS.2 _ (by omega) ⟨i, hi, rfl, e⟩) (fun r2 l2 n2 j1 j2 j3 => ?_)
        try simp (disch := omega) only [nI_clamp, re_in, re_m3, re_m7, re_m28, re_m49, re_m4, re_m8, re_m84, nI_add, nI_1, re_a2, re_a3, re_a4, re_a5, re_a6, re_b336, re_b8, re_b0, forall_eq, true_and, and_true, not_false_eq_true, not_true_eq_false, false_implies, true_implies, implies_true]
        exact hk (r2, l2, n2) ⟨j1, lt_s (fun r hr w => j2.2.2 _ (by omega) (k2 r hr w)) (fun _ => j3)⟩
    · unfold wpY_delete
      exact ry_opens hs (br_f z (ry_noCell (by omega) (by omega) (fun _ _ _ => re_bq0 (ry_in (fun n => absurd n x) (fun _ => re_bq0 ⟨rfl, re_mk hO⟩))) (fun m => absurd ⟨a, i0, b⟩ m)))
end
end
section
/-! setCell, shift -/
section
variable {T R K F : Nat} {s : re_Sc} {sl dp cu tu rn qe : Int32} {rq kT kA kB kP cC cA cB cK cD cU ce mo rm rl mk qu po : Nat → Int32} {ks fs ym yr yk : Nat → Int32}
variable {D : Nat}
theorem rx_spreadLM {post : SX → Prop} {e1 : Nat} {Sm : Nat → Int} {mk1 qu1 : Nat → Int32} (hP : re_SP s T R K F) (hX : re_LX s K F kT kA kB cC cA cB cK) (hPO : re_PO s F ce po) (hV : re_QV (fun _ => False) (re_BS s F cD cU ce (fun _ => False) Sm) mk1 qu1 e1) (hG : re_GR (re_Z 84 mk) qu 0 mk1 qu1 e1) (hS : ∀ i, i < 84 → Sm i ≤ re_MI mk1 i)
    (h : ∀ mk' qu' e', re_LM s F cD cU ce (fun _ => False) Sm (re_MI mk') → post (nI T, nI R, sl, dp, cu, tu, nI K, nI F, 336, rn, nI e', rq, kT, kA, kB, kP, cC, cA, cB, cK, cD, cU, ce, mo, re_Z 28 rm, rl, mk', qu', po)) : wpX_spreadMarks post (nI T, nI R, sl, dp, cu, tu, nI K, nI F, 336, rn, nI e1, rq, kT, kA, kB, kP, cC, cA, cB, cK, cD, cU, ce, mo, re_Z 28 rm, rl, mk1, qu1, po) := by
  refine rx_spreadMarks (D := fun _ => False) hP hX (fun p hp => ⟨fun _ z => z, fun _ => re_Z_in hp⟩) hPO hV (fun B hB => hB.1) (fun f hf c p _ _ z => z.elim) (fun y hy => ?_) (fun m2 q2 e2 g1 g2 g3 => h m2 q2 e2 ⟨g1.2.1, fun i hi => Int.le_trans (hS i hi) (g2.2.2.1 i hi), g3, g1.2.2.2⟩)
  rcases hG.2.2.2 y hy with w | ⟨j, _, w2, w3⟩
  · exact Or.inl (w.trans (re_MI0 hy))
  · exact Or.inr ⟨j, w2, w3⟩
theorem re_LD0 : re_LD s F cD ce (fun _ => False) (fun _ => False) := ⟨fun _ _ z => z, fun _ _ _ _ _ _ z => z, fun _ _ _ _ _ z => z.elim⟩
theorem rz_setCell {k : Nat} (hO : re_OK T R K F D s sl kT kA kB kP cC cA cB cK cD cU ce mo ks fs ym) (v1 v2 v3 v4 : Int32) : wpX_setCell (fun r u' => wpY_setCell (fun r' v' => r' = r ∧ i_Rel k u' v') (nI T, nI R, sl, nI K, nI F, nI D, cu, tu, ks, fs, ce, ym, rq, yr, yk) v1 v2 v3 v4) (nI T, nI R, sl, nI D, cu, tu, nI K, nI F, 336, rn, qe, rq, kT, kA, kB, kP, cC, cA, cB, cK, cD, cU, ce, mo, rm, rl, mk, qu, po) v1 v2 v3 v4 := by
  have hP := hO.1
  have B := hP.1
  have hX := hO.2.1
  have hs := re_a0 hO.2.2.2.2.2.2.2
  have h00 := hO.2.2.2.2.2.1 0 (by omega)
  rw [Nat.zero_mul] at h00
  unfold wpX_setCell wpX_clearReport
  refine br_c (fun z => ?_) (fun z => ?_)
  · unfold wpY_setCell
    exact ry_opens hs (br_t z ⟨rfl, re_mk hO⟩)
  · have bad4 : ¬ (re_IN v1 T ∧ re_IN v2 R ∧ re_IN v3 3) → wpY_setCell (fun r' v' => r' = -4 ∧ i_Rel k (nI T, nI R, sl, nI D, -1, 0, nI K, nI F, 336, rn, qe, rq, kT, kA, kB, kP, cC, cA, cB, cK, cD, cU, ce, mo, rm, rl, mk, qu, po) v') (nI T, nI R, sl, nI K, nI F, nI D, cu, tu, ks, fs, ce, ym, rq, yr, yk) v1 v2 v3 v4 := by
      intro n
      unfold wpY_setCell
      exact ry_opens hs (br_f z (ry_noCell (by omega) (by omega) (fun a b c => absurd ⟨a, b, c⟩ n) (fun _ => re_bq1 ⟨rfl, re_mk hO⟩)))
    refine rx_isTable (by omega) (fun a => re_bq1 (rx_isRow (by omega) (fun b => re_bq1 (rx_isColumn (fun c => re_bq1 (rx_isCellValue (fun x => re_bq1 ?_) (fun x => re_bq0 ?_))) (fun c => re_bq0 (bad4 (fun w => c w.2.2))))) (fun b => re_bq0 (bad4 (fun w => b w.2.1))))) (fun a => re_bq0 (bad4 (fun w => a w.1)))
    · obtain ⟨t, ht, rfl⟩ := a
      obtain ⟨r, hr, rfl⟩ := b
      obtain ⟨c, hc, rfl⟩ := c
      have hpl : t * 7 + r < 28 := by omega
      have hix : (t * 7 + r) * 3 + c < 84 := by omega
      have yok : ∀ {post : Int32 → SY → Prop}, (ce ((t * 7 + r) * 3 + c) = -2 → post (-2) (nI T, nI R, sl, nI K, nI F, nI D, -1, 0, ks, fs, ce, ym, rq, re_Z 28 yr, re_Z 84 yk)) →
          (¬ ce ((t * 7 + r) * 3 + c) = -2 → ∀ yk0, (ce ((t * 7 + r) * 3 + c) = v4 → yk0 = re_Z 84 yk) → (¬ ce ((t * 7 + r) * 3 + c) = v4 → v4 = -1 → yk0 = upd (re_Z 84 yk) ((t * 7 + r) * 3 + c) 2) → (¬ ce ((t * 7 + r) * 3 + c) = v4 → ¬ v4 = -1 → yk0 = upd (re_Z 84 yk) ((t * 7 + r) * 3 + c) 1) → ∀ J : Int32 → SY → Prop, (∀ r cu' tu' ce' ym' yr' yk', post r (nI T, nI R, sl, nI K, nI F, nI D, cu', tu', ks, fs, ce', ym', rq, yr', yk') → J r (nI T, nI R, sl, nI K, nI F, nI D, cu', tu', ks, fs, ce', ym', rq, yr', yk')) → wpY_carryOut J (nI T, nI R, sl, nI K, nI F, nI D, -1, 0, ks, fs, ce, ym, rq, re_Z 28 yr, yk0) 1 v4) → wpY_setCell post (nI T, nI R, sl, nI K, nI F, nI D, cu, tu, ks, fs, ce, ym, rq, yr, yk) (nI t) (nI r) (nI c) v4 := by
        intro post h2 hk
        unfold wpY_setCell
        refine ry_opens hs (br_f z (ry_noCell (by omega) (by omega) (fun _ _ _ => re_bq0 (ry_in (fun _ => re_bq1 ?_) (fun n => absurd x n))) (fun m => absurd ⟨⟨t, ht, rfl⟩, ⟨r, hr, rfl⟩, ⟨c, hc, rfl⟩⟩ m)))
        simp (disch := omega) only [nI_clamp, re_in, re_m3, re_m7, re_m28, re_m49, re_m4, re_m8, re_m84, nI_add, nI_1, re_a2, re_a3, re_a4, re_a5, re_a6, re_b336, re_b8, re_b0, forall_eq, true_and, and_true, not_false_eq_true, not_true_eq_false, false_implies, true_implies, implies_true]
        refine ry_at (st := 0) (by omega) ?_
        rw [show 0 * 84 + (t * 7 + r) * 3 + c = (t * 7 + r) * 3 + c by omega]
        refine br_c h2 (fun w => br_c (fun e => ?_) (fun e => br_c (fun e2 => ?_) (fun e2 => ?_)))
        · exact hk w _ (fun _ => rfl) (fun n => absurd e n) (fun n => absurd e n) _ (fun r cu' tu' ce' ym' yr' yk' hx => hx)
        · unfold wY_setCell_94
          simp (disch := omega) only [nI_clamp, re_in, re_m3, re_m7, re_m28, re_m49, re_m4, re_m8, re_m84, nI_add, nI_1, re_a2, re_a3, re_a4, re_a5, re_a6, re_b336, re_b8, re_b0, forall_eq, true_and, and_true, not_false_eq_true, not_true_eq_false, false_implies, true_implies, implies_true]
          exact hk w _ (fun n => absurd n e) (fun _ _ => rfl) (fun _ n => absurd e2 n) _ (fun r cu' tu' ce' ym' yr' yk' hx => hx)
        · unfold wY_setCell_94
          simp (disch := omega) only [nI_clamp, re_in, re_m3, re_m7, re_m28, re_m49, re_m4, re_m8, re_m84, nI_add, nI_1, re_a2, re_a3, re_a4, re_a5, re_a6, re_b336, re_b8, re_b0, forall_eq, true_and, and_true, not_false_eq_true, not_true_eq_false, false_implies, true_implies, implies_true]
          exact hk w _ (fun n => absurd n e) (fun _ n => absurd n e2) (fun _ _ => rfl) _ (fun r cu' tu' ce' ym' yr' yk' hx => hx)
      simp (disch := omega) only [nI_clamp, re_in, re_m3, re_m7, re_m28, re_m49, re_m4, re_m8, re_m84, nI_add, nI_1, re_a2, re_a3, re_a4, re_a5, re_a6, re_b336, re_b8, re_b0, forall_eq, true_and, and_true, not_false_eq_true, not_true_eq_false, false_implies, true_implies, implies_true]
      refine rx_isPresent (b := 0) (by omega) (fun w => re_bq0 ?_) (fun w => re_bq1 ?_)
      · have e := re_RG_row (c := 0) (d := c) h00.1 hpl (by omega) hc (by rw [Nat.add_zero]; exact w)
        rw [Nat.zero_add] at e
        exact yok (fun _ => ⟨rfl, re_mk hO⟩) (fun n => absurd e n)
      · have hpr : ¬ ce ((t * 7 + r) * 3 + c) = -2 := by
          intro e
          have e2 := re_RG_row (c := c) (d := 0) h00.1 hpl hc (by omega) (by rw [Nat.zero_add]; exact e)
          rw [Nat.add_zero] at e2
          exact w e2
        refine rx_startStatement hP hX h00.2 (fun po' hPO => ?_)
        have key : ∀ (Sm : Nat → Int) (m1 q1 : Nat → Int32) (e1 : Nat) (yk0 : Nat → Int32), re_QV (fun _ => False) (re_BS s F cD cU ce (fun _ => False) Sm) m1 q1 e1 → re_GR (re_Z 84 mk) qu 0 m1 q1 e1 → (∀ i, i < 84 → Sm i ≤ re_MI m1 i) → (∀ i, i < 84 → ce i = -2 → Sm i ≤ 0) → (∀ i, i < 84 → re_MI yk0 i = Sm i) → (∀ i, i < 84 → 0 ≤ re_MI yk0 i ∧ re_MI yk0 i ≤ 2) →
            (ce ((t * 7 + r) * 3 + c) = v4 → yk0 = re_Z 84 yk) → (¬ ce ((t * 7 + r) * 3 + c) = v4 → v4 = -1 → yk0 = upd (re_Z 84 yk) ((t * 7 + r) * 3 + c) 2) → (¬ ce ((t * 7 + r) * 3 + c) = v4 → ¬ v4 = -1 → yk0 = upd (re_Z 84 yk) ((t * 7 + r) * 3 + c) 1) →
            wX_setCell_116 (fun r' u' => wpY_setCell (fun r'' v' => r'' = r' ∧ i_Rel k u' v') (nI T, nI R, sl, nI K, nI F, nI D, cu, tu, ks, fs, ce, ym, rq, yr, yk) (nI t) (nI r) (nI c) v4) v4 (nI T) (nI R) sl (nI D) (-1) 0 (nI K) (nI F) 336 0 (nI e1) rq kT kA kB kP cC cA cB cK cD cU ce mo (re_Z 28 rm) rl m1 q1 po' := by
          intro Sm m1 q1 e1 yk0 hV hG hS hp0 hk0 hk1 y1 y2 y3
          unfold wX_setCell_116
          refine rx_spreadLM hP hX hPO hV hG hS (fun m2 q2 e2 hLM => ?_)
          refine rx_buildNext (g := fun _ => v4) (fun v => ⟨fun _ => rfl, fun n => absurd rfl n⟩) ?_
          obtain ⟨r1, c2, cu2, tu2, ym2, ok, hXs, hYs⟩ := re_join (gx := fun _ => v4) (gy := fun _ => v4) (y1 := 1) (y2 := v4) (DD := fun _ => False) (Sd := fun _ => False) (cu := -1) (rn := 0) (qe := nI e2) (rq := rq) (rl := rl) (qu := q2) (po := po') (rm := re_Z 28 rm) (mk := m2) hO (re_sl1 hO z) hPO (fun p hp => ⟨fun _ z => z, fun _ => re_Z_in hp⟩) re_LD0 hLM (re_LM_pres hP hLM hp0) (fun i hi e => ⟨rfl, x⟩) (fun v => ⟨fun n => absurd n (by decide), fun _ => rfl⟩)
          have hYd := hYs (re_Z 28 yr) yk0 (fun p hp => Or.inl (re_Z_in hp)) (fun p hp => ⟨fun n => absurd (re_Z_in hp) n, fun n => n.elim⟩) hk0 hk1 (re_MR (re_MI m2)) (fun p hp => ⟨fun n => Or.inr ⟨by decide, n⟩, fun n => n.elim (fun n => absurd n.1 (by decide)) (fun n => n.2)⟩)
          refine hXs _ ?_
          by_cases e0 : r1 = 0
          · refine br_t e0 (rx_countMarkedRows (M := re_MI m2) (fun i hi => rfl) ?_)
            refine yok (fun n => absurd n hpr) (fun _ yk0' z1 z2 z3 J hJ => ?_)
            have ey : yk0' = yk0 := by
              by_cases q1 : ce ((t * 7 + r) * 3 + c) = v4
              · rw [z1 q1, y1 q1]
              · by_cases q2 : v4 = -1
                · rw [z2 q1 q2, y2 q1 q2]
                · rw [z3 q1 q2, y3 q1 q2]
            rw [ey]
            exact hYd J (fun e => absurd e0 e) (fun _ yr' yk' => hJ _ cu2 tu2 c2 ym2 yr' yk' ⟨rfl, re_mk ok⟩)
          · refine br_f e0 ?_
            refine yok (fun n => absurd n hpr) (fun _ yk0' z1 z2 z3 J hJ => ?_)
            have ey : yk0' = yk0 := by
              by_cases q1 : ce ((t * 7 + r) * 3 + c) = v4
              · rw [z1 q1, y1 q1]
              · by_cases q2 : v4 = -1
                · rw [z2 q1 q2, y2 q1 q2]
                · rw [z3 q1 q2, y3 q1 q2]
            rw [ey]
            exact hYd J (fun _ yr' yk' => hJ _ cu2 tu2 c2 ym2 yr' yk' ⟨rfl, re_mk ok⟩) (fun e => absurd e e0)
        have key5 : ∀ m : Int32, 1 ≤ m.toInt → m.toInt ≤ 2 → ¬ ce ((t * 7 + r) * 3 + c) = v4 → (v4 = -1 → m = 2) → (¬ v4 = -1 → m = 1) → wX_setCell_105 (fun r' u' => wpY_setCell (fun r'' v' => r'' = r' ∧ i_Rel k u' v') (nI T, nI R, sl, nI K, nI F, nI D, cu, tu, ks, fs, ce, ym, rq, yr, yk) (nI t) (nI r) (nI c) v4) (nI c) v4 (nI (t * 7 + r)) m (nI T) (nI R) sl (nI D) (-1) 0 (nI K) (nI F) 336 0 (nI 0) rq kT kA kB kP cC cA cB cK cD cU ce mo (re_Z 28 rm) rl (re_Z 84 mk) qu po' := by
          intro m hm1 hm2 hne e2 e1
          unfold wX_setCell_105
          refine rx_raise (e := 0) (D := fun _ => False) (Q := re_BS s F cD cU ce (fun _ => False) (fun i => re_if (i = (t * 7 + r) * 3 + c) m.toInt 0)) (fun p hp => ⟨fun _ z => z, fun _ => re_Z_in hp⟩) (re_QV0 (fun B hB i hi => (hB.2 i hi).1)) hpl hc hm2 (fun _ B hB => ?_) (fun m1 q1 e1' j1 j2 j3 => ?_)
          · have a := (hB.2 _ hix).2
            dsimp only at a
            rw [re_if_t rfl] at a
            exact a
          · have sm : ∀ i, i < 84 → re_MI (upd (re_Z 84 yk) ((t * 7 + r) * 3 + c) m) i = re_if (i = (t * 7 + r) * 3 + c) m.toInt 0 := by
              intro i hi
              rcases Nat.decEq i ((t * 7 + r) * 3 + c) with w | w
              · rw [re_if_f w]
                unfold re_MI
                rw [pk_un w]
                exact re_MI0 hi
              · rw [re_if_t w, w]
                unfold re_MI
                rw [pk_us]
            refine key (fun i => re_if (i = (t * 7 + r) * 3 + c) m.toInt 0) m1 q1 e1' (upd (re_Z 84 yk) ((t * 7 + r) * 3 + c) m) j1 j2 (fun i hi => ?_) (fun i hi e => ?_) sm (fun i hi => ?_) (fun n => absurd n hne) (fun _ w => by rw [e2 w]) (fun _ w => by rw [e1 w])
            · rcases Nat.decEq i ((t * 7 + r) * 3 + c) with w | w
              · rw [re_if_f w]; exact (j1.2.1 i hi).1
              · rw [re_if_t w, w]; exact j3 (fun z => z)
            · rcases Nat.decEq i ((t * 7 + r) * 3 + c) with w | w
              · rw [re_if_f w]; exact Int.le_refl _
              · rw [w] at e
                exact absurd e hpr
            · rw [sm i hi]
              rcases Nat.decEq i ((t * 7 + r) * 3 + c) with w | w
              · rw [re_if_f w]; omega
              · rw [re_if_t w]; omega
        refine br_c (fun e => ?_) (fun e => br_c (fun e2 => key5 2 (by decide) (by decide) e (fun _ => rfl) (fun n => absurd e2 n)) (fun e2 => key5 1 (by decide) (by decide) e (fun n => absurd n e2) (fun _ => rfl)))
        exact key (fun _ => 0) (re_Z 84 mk) qu 0 (re_Z 84 yk) (re_QV0 (fun B hB i hi => (hB.2 i hi).1)) re_GR_refl (fun i hi => by rw [re_MI0 hi]; exact Int.le_refl _) (fun _ _ _ => Int.le_refl _) (fun i hi => re_MI0 hi) (fun i hi => by rw [re_MI0 hi]; omega) (fun _ => rfl) (fun n => absurd e n) (fun n => absurd e n)
    · unfold wpY_setCell
      exact ry_opens hs (br_f z (ry_noCell (by omega) (by omega) (fun _ _ _ => re_bq0 (ry_in (fun n => absurd n x) (fun _ => re_bq0 ⟨rfl, re_mk hO⟩))) (fun m => absurd ⟨a, b, c⟩ m)))
end
end
section
/-! shift -/
/-- all values that shift would change stay within -/
def re_FT (ce : Nat → Int32) (t c : Nat) (fr by' : Int32) (n : Nat) : Prop := ∀ r, r < n → ¬ ce ((t * 7 + r) * 3 + c) < fr → re_VR (ce ((t * 7 + r) * 3 + c) + by') 0 99
def re_SS (ce : Nat → Int32) (t c : Nat) (fr by' : Int32) (n j : Nat) : Prop := ¬ by' = 0 ∧ ∃ r, r < n ∧ j = (t * 7 + r) * 3 + c ∧ ¬ ce j < fr
section
variable {T R K F : Nat} {s : re_Sc} {sl dp cu tu rn qe : Int32} {rq kT kA kB kP cC cA cB cK cD cU ce mo rm rl mk qu po : Nat → Int32} {ks fs ym yr yk : Nat → Int32}
variable {D : Nat}
theorem rx_shiftFits {post : Int32 → Prop} {t c : Nat} {fr by' : Int32} (ht : t < 4) (hc : c < 3) (h1 : re_FT ce t c fr by' 7 → post 1) (h0 : ¬ re_FT ce t c fr by' 7 → post 0) : wpX_shiftFits post (nI T, nI R, sl, dp, cu, tu, nI K, nI F, 336, rn, qe, rq, kT, kA, kB, kP, cC, cA, cB, cK, cD, cU, ce, mo, rm, rl, mk, qu, po) (nI t) (nI c) fr by' := by
  unfold wpX_shiftFits
  refine loop_0 (fun n i (_ : Unit) => wX_shiftFits_3 post (nI t) (nI c) fr by' (nI T) (nI R) sl dp cu tu (nI K) (nI F) 336 rn qe rq kT kA kB kP cC cA cB cK cD cU ce mo rm rl mk qu po n (nI i)) (fun i _ => re_FT ce t c fr by' i) 7 () lt_0 ?_ ?_
  · intro n _ hI
    exact br_t (by decide) (h1 hI)
  · intro n i _ hi hI hk
    simp (disch := omega) only [wX_shiftFits_3, nI_clamp, re_in, re_m3, re_m7, re_m28, re_m49, re_m4, re_m8, re_m84, nI_add, nI_1, re_a2, re_a3, re_a4, re_a5, re_a6, re_b336, re_b8, re_b0, forall_eq, true_and, and_true, not_false_eq_true, not_true_eq_false, false_implies, true_implies, implies_true]
    refine pk_le 7 i (fun _ => by omega) (fun _ => br_c (fun z => hk () (lt_s hI (fun n => absurd z n))) (fun z => ?_))
    exact rx_inRange (fun v => re_bq1 (hk () (lt_s hI (fun _ => v)))) (fun v => re_bq0 (h0 (fun w => v (w i hi z))))
theorem ry_shiftL {post : Int32 → SY → Prop} {t c : Nat} {fr by' : Int32} (hP : re_SP s T R K F) (ht : t < T) (hc : c < 3) (hk0 : ∀ i, i < 84 → re_MI yk i = 0)
    (h5 : ¬ re_FT ce t c fr by' R → ∀ yk', post (-5) (nI T, nI R, sl, nI K, nI F, dp, cu, tu, ks, fs, ce, ym, rq, yr, yk'))
    (hk : re_FT ce t c fr by' R → ∀ yk', (∀ i, i < 84 → re_MI yk' i = re_if (re_SS ce t c fr by' R i) 1 0) → ∀ J : Int32 → SY → Prop, (∀ r cu' tu' ce' ym' yr' yk', post r (nI T, nI R, sl, nI K, nI F, dp, cu', tu', ks, fs, ce', ym', rq, yr', yk') → J r (nI T, nI R, sl, nI K, nI F, dp, cu', tu', ks, fs, ce', ym', rq, yr', yk')) → wpY_carryOut J (nI T, nI R, sl, nI K, nI F, dp, cu, tu, ks, fs, ce, ym, rq, yr, yk') 2 by') : ∃ n53 : Nat, wY_shift_53 post (nI t) (nI c) fr by' (nI T) (nI R) sl (nI K) (nI F) dp cu tu n53 0 ks fs ce ym rq yr yk := by
  have B := hP.1
  refine loop_0 (fun n i (st : Nat → Int32) => wY_shift_53 post (nI t) (nI c) fr by' (nI T) (nI R) sl (nI K) (nI F) dp cu tu n (nI i) ks fs ce ym rq yr st) (fun i st => re_FT ce t c fr by' i ∧ ∀ j, j < 84 → re_MI st j = re_if (re_SS ce t c fr by' i j) 1 0) R yk ⟨lt_0, fun j hj => ?_⟩ ?_ ?_
  · rw [re_if_f (fun w => by obtain ⟨-, r, hr, -⟩ := w; omega)]
    exact hk0 j hj
  · rintro n st ⟨k1, k2⟩
    refine pk_le R R (fun _ => ?_) (fun w => by omega)
    exact hk k1 st k2 _ (fun r cu' tu' ce' ym' yr' yk' hx => hx)
  · rintro n i st hi ⟨k1, k2⟩ hk2
    have keep : ¬ (¬ by' = 0 ∧ ¬ ce ((t * 7 + i) * 3 + c) < fr) → ∀ j, j < 84 → re_MI st j = re_if (re_SS ce t c fr by' (i + 1) j) 1 0 := by
      intro hn j hj
      rw [k2 j hj]
      rcases Classical.em (re_SS ce t c fr by' i j) with w | w
      · rw [re_if_t w, re_if_t]
        obtain ⟨a, r, hr, e1, e2⟩ := w
        exact ⟨a, r, by omega, e1, e2⟩
      · rw [re_if_f w, re_if_f]
        rintro ⟨a, r, hr, e1, e2⟩
        rcases Nat.decEq r i with v | v
        · exact w ⟨a, r, by omega, e1, e2⟩
        · rw [e1, v] at e2
          exact hn ⟨a, e2⟩
    have go : (¬ ce ((t * 7 + i) * 3 + c) < fr → re_VR (ce ((t * 7 + i) * 3 + c) + by') 0 99) → wY_shift_101 post (wY_shift_53 post (nI t) (nI c) fr by' (nI T) (nI R) sl (nI K) (nI F) dp cu tu n) (nI t) (nI c) fr by' (nI i) (ce ((t * 7 + i) * 3 + c)) (nI T) (nI R) sl (nI K) (nI F) dp cu tu ks fs ce ym rq yr st := by
      intro hf
      have k1' : re_FT ce t c fr by' (i + 1) := lt_s k1 hf
      unfold wY_shift_101
      simp (disch := omega) only [nI_clamp, re_in, re_m3, re_m7, re_m28, re_m49, re_m4, re_m8, re_m84, nI_add, nI_1, re_a2, re_a3, re_a4, re_a5, re_a6, re_b336, re_b8, re_b0, forall_eq, true_and, and_true, not_false_eq_true, not_true_eq_false, false_implies, true_implies, implies_true]
      refine br_c (fun z => hk2 st ⟨k1', keep (fun w => w.2 z)⟩) (fun z => br_c (fun z2 => hk2 st ⟨k1', keep (fun w => w.1 z2)⟩) (fun z2 => hk2 _ ⟨k1', fun j hj => ?_⟩))
      rcases Nat.decEq j ((t * 7 + i) * 3 + c) with w | w
      · have e : re_MI (upd st ((t * 7 + i) * 3 + c) 1) j = re_MI st j := by unfold re_MI; rw [pk_un w]
        rw [e, k2 j hj]
        rcases Classical.em (re_SS ce t c fr by' i j) with v | v
        · rw [re_if_t v, re_if_t]
          obtain ⟨a, r, hr, e1, e2⟩ := v
          exact ⟨a, r, by omega, e1, e2⟩
        · rw [re_if_f v, re_if_f]
          rintro ⟨a, r, hr, e1, e2⟩
          rcases Nat.decEq r i with u | u
          · exact v ⟨a, r, by omega, e1, e2⟩
          · rw [u] at e1
            exact w e1
      · rw [re_if_t ⟨z2, i, by omega, w, by rw [w]; exact z⟩, w]
        unfold re_MI
        rw [pk_us]
        exact (by decide : ((1 : Int32)).toInt = 1)
    simp (disch := omega) only [wY_shift_53, nI_clamp, re_in, re_m3, re_m7, re_m28, re_m49, re_m4, re_m8, re_m84, nI_add, nI_1, re_a2, re_a3, re_a4, re_a5, re_a6, re_b336, re_b8, re_b0, forall_eq, true_and, and_true, not_false_eq_true, not_true_eq_false, false_implies, true_implies, implies_true]
    refine pk_le R i (fun _ => by omega) (fun _ => ?_)
    refine ry_at (st := 0) (by omega) ?_
    rw [show 0 * 84 + (t * 7 + i) * 3 + c = (t * 7 + i) * 3 + c by omega]
    refine br_c (fun z => go (fun n => absurd z n)) (fun z => ?_)
    exact ry_in (fun v => re_bq1 (go (fun _ => v))) (fun v => re_bq0 (h5 (fun w => v (w i hi z)) st))
theorem rz_shift {k : Nat} (hO : re_OK T R K F D s sl kT kA kB kP cC cA cB cK cD cU ce mo ks fs ym) (v1 v2 v3 v4 : Int32) : wpX_shift (fun r u' => wpY_shift (fun r' v' => r' = r ∧ i_Rel k u' v') (nI T, nI R, sl, nI K, nI F, nI D, cu, tu, ks, fs, ce, ym, rq, yr, yk) v1 v2 v3 v4) (nI T, nI R, sl, nI D, cu, tu, nI K, nI F, 336, rn, qe, rq, kT, kA, kB, kP, cC, cA, cB, cK, cD, cU, ce, mo, rm, rl, mk, qu, po) v1 v2 v3 v4 := by
  have hP := hO.1
  have B := hP.1
  have hX := hO.2.1
  have hs := re_a0 hO.2.2.2.2.2.2.2
  have h00 := hO.2.2.2.2.2.1 0 (by omega)
  rw [Nat.zero_mul] at h00
  have i0 : re_IN 0 R := ⟨0, by omega, rfl⟩
  unfold wpX_shift wpX_clearReport
  refine br_c (fun z => ?_) (fun z => ?_)
  · unfold wpY_shift
    exact ry_opens hs (br_t z ⟨rfl, re_mk hO⟩)
  · have bad4 : ¬ (re_IN v1 T ∧ re_IN v2 3) → wpY_shift (fun r' v' => r' = -4 ∧ i_Rel k (nI T, nI R, sl, nI D, -1, 0, nI K, nI F, 336, rn, qe, rq, kT, kA, kB, kP, cC, cA, cB, cK, cD, cU, ce, mo, rm, rl, mk, qu, po) v') (nI T, nI R, sl, nI K, nI F, nI D, cu, tu, ks, fs, ce, ym, rq, yr, yk) v1 v2 v3 v4 := by
      intro n
      unfold wpY_shift
      exact ry_opens hs (br_f z (ry_noCell (by omega) (by omega) (fun a _ c => absurd ⟨a, c⟩ n) (fun _ => re_bq1 ⟨rfl, re_mk hO⟩)))
    refine rx_isTable (by omega) (fun a => re_bq1 (rx_isColumn (fun b => re_bq1 ?_) (fun b => re_bq0 (bad4 (fun w => b w.2))))) (fun a => re_bq0 (bad4 (fun w => a w.1)))
    have bad5 : ¬ (re_VR v3 0 99 ∧ re_VR v4 (-99) 99) → wpY_shift (fun r' v' => r' = -5 ∧ i_Rel k (nI T, nI R, sl, nI D, -1, 0, nI K, nI F, 336, rn, qe, rq, kT, kA, kB, kP, cC, cA, cB, cK, cD, cU, ce, mo, rm, rl, mk, qu, po) v') (nI T, nI R, sl, nI K, nI F, nI D, cu, tu, ks, fs, ce, ym, rq, yr, yk) v1 v2 v3 v4 := by
      intro n
      unfold wpY_shift
      exact ry_opens hs (br_f z (ry_noCell (by omega) (by omega) (fun _ _ _ => re_bq0 (ry_in (fun x => re_bq1 (ry_in (fun y => absurd ⟨x, y⟩ n) (fun _ => re_bq0 ⟨rfl, re_mk hO⟩))) (fun _ => re_bq0 ⟨rfl, re_mk hO⟩))) (fun m => absurd ⟨a, i0, b⟩ m)))
    refine rx_inRange (fun x => re_bq1 (rx_inRange (fun y => re_bq1 ?_) (fun y => re_bq0 (bad5 (fun w => y w.2))))) (fun x => re_bq0 (bad5 (fun w => x w.1)))
    obtain ⟨t, ht, rfl⟩ := a
    obtain ⟨c, hc, rfl⟩ := b
    have x1 : 0 ≤ v3.toInt := x.1
    have absf : ∀ i, ce i = -2 → ce i < v3 := by
      intro i e
      rw [e, Int32.lt_iff_toInt_lt]
      have : ((-2 : Int32)).toInt = -2 := by decide
      omega
    have hrows : ∀ r, r < 7 → ¬ ce ((t * 7 + r) * 3 + c) < v3 → r < R := by
      intro r hr hn
      refine Classical.byContradiction (fun w => hn (absf _ ?_))
      have e := re_RG_abs (p := t * 7 + r) (c := c) h00.1 (by omega) (by omega) hc
      rw [Nat.zero_add] at e
      exact e
    have ft : re_FT ce t c v3 v4 R ↔ re_FT ce t c v3 v4 7 := ⟨fun h r hr hn => h r (hrows r hr hn) hn, fun h r hr => h r (by omega)⟩
    have ss : ∀ j, re_SS ce t c v3 v4 R j ↔ re_SS ce t c v3 v4 7 j := by
      intro j
      constructor
      · rintro ⟨a, r, hr, e1, e2⟩
        exact ⟨a, r, by omega, e1, e2⟩
      · rintro ⟨a, r, hr, e1, e2⟩
        exact ⟨a, r, hrows r hr (by rw [← e1]; exact e2), e1, e2⟩
    have yok : ∀ {post : Int32 → SY → Prop}, (∃ n53 : Nat, wY_shift_53 post (nI t) (nI c) v3 v4 (nI T) (nI R) sl (nI K) (nI F) (nI D) (-1) 0 n53 0 ks fs ce ym rq (re_Z 28 yr) (re_Z 84 yk)) → wpY_shift post (nI T, nI R, sl, nI K, nI F, nI D, cu, tu, ks, fs, ce, ym, rq, yr, yk) (nI t) (nI c) v3 v4 := by
      intro post h
      unfold wpY_shift
      exact ry_opens hs (br_f z (ry_noCell (by omega) (by omega) (fun _ _ _ => re_bq0 (ry_in (fun _ => re_bq1 (ry_in (fun _ => re_bq1 h) (fun n => absurd y n))) (fun n => absurd x n))) (fun m => absurd ⟨⟨t, ht, rfl⟩, i0, ⟨c, hc, rfl⟩⟩ m)))
    refine rx_shiftFits (by omega) hc (fun hf => re_bq1 ?_) (fun hf => re_bq0 (yok (ry_shiftL hP ht hc (fun i hi => re_MI0 hi) (fun _ yk' => ⟨rfl, re_mk hO⟩) (fun n => absurd (ft.mp n) hf))))
    refine rx_startStatement hP hX h00.2 (fun po' hPO => ?_)
    have key : ∀ (m1 q1 : Nat → Int32) (e1 : Nat), re_QV (fun _ => False) (re_BS s F cD cU ce (fun _ => False) (fun i => re_if (re_SS ce t c v3 v4 7 i) 1 0)) m1 q1 e1 → re_GR (re_Z 84 mk) qu 0 m1 q1 e1 → (∀ i, i < 84 → re_if (re_SS ce t c v3 v4 7 i) 1 0 ≤ re_MI m1 i) →
        wX_shift_132 (fun r' u' => wpY_shift (fun r'' v' => r'' = r' ∧ i_Rel k u' v') (nI T, nI R, sl, nI K, nI F, nI D, cu, tu, ks, fs, ce, ym, rq, yr, yk) (nI t) (nI c) v3 v4) v4 (nI T) (nI R) sl (nI D) (-1) 0 (nI K) (nI F) 336 0 (nI e1) rq kT kA kB kP cC cA cB cK cD cU ce mo (re_Z 28 rm) rl m1 q1 po' := by
      intro m1 q1 e1 hV hG hS
      unfold wX_shift_132
      refine rx_spreadLM hP hX hPO hV hG hS (fun m2 q2 e2 hLM => ?_)
      refine rx_buildNext (g := fun v => v + v4) (fun v => ⟨fun n => absurd n (by decide), fun _ => rfl⟩) ?_
      have hpres := re_LM_pres hP hLM (fun i hi e => by rw [re_if_f (fun w => by obtain ⟨-, r, -, -, w⟩ := w; exact w (absf i e))]; exact Int.le_refl _)
      have hone := re_LM_one (good := fun v => re_VR (v + v4) 0 99) hP hLM (fun i hi e => by
        rcases Classical.em (re_SS ce t c v3 v4 7 i) with w | w
        · obtain ⟨-, r, hr, e1, e2⟩ := w
          rw [e1] at e2 ⊢
          exact hf r hr e2
        · rw [re_if_f w] at e
          exact absurd e (by decide)) (fun i hi => by
        rcases Classical.em (re_SS ce t c v3 v4 7 i) with w | w
        · rw [re_if_t w]; exact Or.inr (Or.inl rfl)
        · rw [re_if_f w]; exact Or.inl (Int.le_refl _))
      obtain ⟨r1, c2, cu2, tu2, ym2, ok, hXs, hYs⟩ := re_join (gx := fun v => v + v4) (gy := fun v => v + v4) (y1 := 2) (y2 := v4) (DD := fun _ => False) (Sd := fun _ => False) (cu := -1) (rn := 0) (qe := nI e2) (rq := rq) (rl := rl) (qu := q2) (po := po') (rm := re_Z 28 rm) (mk := m2) hO (re_sl1 hO z) hPO (fun p hp => ⟨fun _ z => z, fun _ => re_Z_in hp⟩) re_LD0 hLM hpres (fun i hi e => ⟨rfl, by have w := (hone i hi e).1; omega, (hone i hi e).2⟩) (fun v => ⟨fun _ => rfl, fun n => absurd rfl n⟩)
      have hYd := fun yk0 hk0 hk1 => hYs (re_Z 28 yr) yk0 (fun p hp => Or.inl (re_Z_in hp)) (fun p hp => ⟨fun n => absurd (re_Z_in hp) n, fun n => n.elim⟩) hk0 hk1 (re_MR (re_MI m2)) (fun p hp => ⟨fun n => Or.inr ⟨by decide, n⟩, fun n => n.elim (fun n => absurd n.1 (by decide)) (fun n => n.2)⟩)
      have sk : ∀ yk0 : Nat → Int32, (∀ i, i < 84 → re_MI yk0 i = re_if (re_SS ce t c v3 v4 R i) 1 0) → (∀ i, i < 84 → re_MI yk0 i = re_if (re_SS ce t c v3 v4 7 i) 1 0) ∧ (∀ i, i < 84 → 0 ≤ re_MI yk0 i ∧ re_MI yk0 i ≤ 2) := by
        intro yk0 h
        refine ⟨fun i hi => ?_, fun i hi => ?_⟩
        · rw [h i hi]
          rcases Classical.em (re_SS ce t c v3 v4 R i) with w | w
          · rw [re_if_t w, re_if_t ((ss i).mp w)]
          · rw [re_if_f w, re_if_f (fun v => w ((ss i).mpr v))]
        · rw [h i hi]
          rcases Classical.em (re_SS ce t c v3 v4 R i) with w | w
          · rw [re_if_t w]; omega
          · rw [re_if_f w]; omega
      refine hXs _ ?_
      by_cases e0 : r1 = 0
      · refine br_t e0 (rx_countMarkedRows (M := re_MI m2) (fun i hi => rfl) ?_)
        refine yok (ry_shiftL hP ht hc (fun i hi => re_MI0 hi) (fun n => absurd (ft.mpr hf) n) (fun _ yk0 hk0 J hJ => ?_))
        exact hYd yk0 (sk yk0 hk0).1 (sk yk0 hk0).2 J (fun e => absurd e0 e) (fun _ yr' yk' => hJ _ cu2 tu2 c2 ym2 yr' yk' ⟨rfl, re_mk ok⟩)
      · refine br_f e0 ?_
        refine yok (ry_shiftL hP ht hc (fun i hi => re_MI0 hi) (fun n => absurd (ft.mpr hf) n) (fun _ yk0 hk0 J hJ => ?_))
        exact hYd yk0 (sk yk0 hk0).1 (sk yk0 hk0).2 J (fun _ yr' yk' => hJ _ cu2 tu2 c2 ym2 yr' yk' ⟨rfl, re_mk ok⟩) (fun e => absurd e e0)
    refine br_c (fun e => ?_) (fun e => ?_)
    · refine key (re_Z 84 mk) qu 0 (re_QV0 (fun B hB i hi => (hB.2 i hi).1)) re_GR_refl (fun i hi => ?_)
      rw [re_if_f (fun w => w.1 e), re_MI0 hi]
      exact Int.le_refl _
    · refine loop_0 (fun n i (st : (Nat → Int32) × (Nat → Int32) × Nat) => wX_shift_87 _ (nI t) (nI c) v3 v4 n (nI i) (nI T) (nI R) sl (nI D) (-1) 0 (nI K) (nI F) 336 0 (nI st.2.2) rq kT kA kB kP cC cA cB cK cD cU ce mo (re_Z 28 rm) rl st.1 st.2.1 po') (fun i st => re_QV (fun _ => False) (re_BS s F cD cU ce (fun _ => False) (fun i => re_if (re_SS ce t c v3 v4 7 i) 1 0)) st.1 st.2.1 st.2.2 ∧ re_GR (re_Z 84 mk) qu 0 st.1 st.2.1 st.2.2 ∧ ∀ r, r < i → ¬ ce ((t * 7 + r) * 3 + c) < v3 → 1 ≤ re_MI st.1 ((t * 7 + r) * 3 + c)) 7 (re_Z 84 mk, qu, 0) ⟨re_QV0 (fun B hB i hi => (hB.2 i hi).1), re_GR_refl, lt_0⟩ ?_ ?_
      · rintro n ⟨m1, q1, e1⟩ ⟨k1, k2, k3⟩
        dsimp only at k1 k2 k3 ⊢
        refine br_t (by decide) (key m1 q1 e1 k1 k2 (fun i hi => ?_))
        rcases Classical.em (re_SS ce t c v3 v4 7 i) with w | w
        · rw [re_if_t w]
          obtain ⟨-, r, hr, e1, e2⟩ := w
          rw [e1] at e2 ⊢
          exact k3 r hr e2
        · rw [re_if_f w]
          exact (k1.2.1 i hi).1
      · rintro n i ⟨m1, q1, e1⟩ hi ⟨k1, k2, k3⟩ hk
        dsimp only at k1 k2 k3 ⊢
        simp (disch := omega) only [wX_shift_87, nI_clamp, re_in, re_m3, re_m7, re_m28, re_m49, re_m4, re_m8, re_m84, nI_add, nI_1, re_a2, re_a3, re_a4, re_a5, re_a6, re_b336, re_b8, re_b0, forall_eq, true_and, and_true, not_false_eq_true, not_true_eq_false, false_implies, true_implies, implies_true]
        refine pk_le 7 i (fun _ => by omega) (fun _ => br_c (fun w => hk (m1, q1, e1) ⟨k1, k2, lt_s k3 (fun n => absurd w n)⟩) (fun w => ?_))
        refine rx_raise (D := fun _ => False) (fun p hp => ⟨fun _ z => z, fun _ => re_Z_in hp⟩) k1 (by omega) hc (by decide) (fun _ B hB => ?_) (fun m2 q2 e2 j1 j2 j3 => ?_)
        · have a := (hB.2 ((t * 7 + i) * 3 + c) (by omega)).2
          dsimp only at a
          rw [re_if_t ⟨e, i, hi, rfl, w⟩] at a
          exact a
        · try simp (disch := omega) only [nI_clamp, re_in, re_m3, re_m7, re_m28, re_m49, re_m4, re_m8, re_m84, nI_add, nI_1, re_a2, re_a3, re_a4, re_a5, re_a6, re_b336, re_b8, re_b0, forall_eq, true_and, and_true, not_false_eq_true, not_true_eq_false, false_implies, true_implies, implies_true]
          exact hk (m2, q2, e2) ⟨j1, re_GR_trans k2 j2, lt_s (fun r hr v => Int.le_trans (k3 r hr v) (j2.2.2.1 _ (by omega))) (fun _ => j3 (fun z => z))⟩
end
end
section
/-! the constructors -/
def re_M2 (n : Nat) (a : Nat → Int32) : Nat → Int32 := fun j => if j < n then -2 else a j
theorem re_M2_0 {a : Nat → Int32} : a = re_M2 0 a := by
  funext j
  unfold re_M2
  rw [if_neg (by omega)]
theorem re_M2_s {i : Nat} {a : Nat → Int32} : upd (re_M2 i a) i (-2) = re_M2 (i + 1) a := by
  funext j
  unfold upd re_M2
  rcases Nat.decEq j i with z | z
  · rw [if_neg z]
    rcases Nat.decLt j i with w | w
    · rw [if_neg w, if_neg (by omega)]
    · rw [if_pos w, if_pos (by omega)]
  · rw [if_pos z, if_pos (by omega)]
theorem re_clamp (p : Int32) (l h : Nat) (hl : l ≤ h) (hh : h < 1000) : ∃ n, l ≤ n ∧ n ≤ h ∧ ∀ A : Int32 → Prop, A (nI n) → ((nI l ≤ p → ((p ≤ nI h → A p) ∧ (¬ p ≤ nI h → A (nI h)))) ∧ (¬ nI l ≤ p → A (nI l))) := by
  by_cases h1 : nI l ≤ p
  · by_cases h2 : p ≤ nI h
    · have a1 := Int32.le_iff_toInt_le.mp h1
      have a2 := Int32.le_iff_toInt_le.mp h2
      rw [nI_toInt (by omega)] at a1 a2
      obtain ⟨j, hj, e⟩ := (re_IN_iff (p := p) (n := h + 1) (by omega)).mpr (by omega)
      rw [e, nI_toInt (by omega)] at a1
      refine ⟨j, by omega, by omega, fun A ha => ⟨fun _ => ⟨fun _ => by rw [e]; exact ha, fun n => absurd h2 n⟩, fun n => absurd h1 n⟩⟩
    · exact ⟨h, hl, Nat.le_refl _, fun A ha => ⟨fun _ => ⟨fun n => absurd n h2, fun _ => ha⟩, fun n => absurd h1 n⟩⟩
  · exact ⟨l, Nat.le_refl _, hl, fun A ha => ⟨fun n => absurd n h1, fun _ => ha⟩⟩
theorem re_OK_init {T R : Nat} (hT1 : 1 ≤ T) (hT2 : T ≤ 4) (hR1 : 2 ≤ R) (hR2 : R ≤ 7) : re_OK T R 0 0 0 ((fun _ => 0), (fun _ => 0), (fun _ => 0), (fun _ => 0), (fun _ => 0), (fun _ => 0), (fun _ => 0)) 0 (fun _ => 0) (fun _ => 0) (fun _ => 0) (fun _ => 0) (fun _ => 0) (fun _ => 0) (fun _ => 0) (fun _ => 0) (fun _ => 0) (fun _ => 0) (re_M2 420 (fun _ => 0)) (fun _ => 0) (fun _ => 0) (fun _ => 0) (fun _ => 0) := by
  refine ⟨⟨by omega, fun k hk => by omega, fun f hf => by omega⟩, ⟨fun k hk => by omega, fun f hf => by omega⟩, ⟨fun k hk => by omega, fun f hf => by omega⟩, fun f hf => by omega, ⟨fun k hk => by omega, fun f hf => by omega, fun f _ _ => ⟨rfl, rfl, rfl, fun _ _ => rfl⟩, fun i hi => rfl⟩, fun a ha => ⟨?_, fun k hk => by omega⟩, by omega, Or.inl ⟨rfl, fun i hi => if_pos (by omega)⟩⟩
  intro p hp
  exact Or.inl (fun c hc => if_pos (by omega))
theorem i_vc0 (k0 : Int32) (k1 : Int32) : wpX_init (fun u => wpY_init (fun v => i_Rel 2 u v) k0 k1) k0 k1 := by
  obtain ⟨T, hT1, hT2, cT⟩ := re_clamp k0 1 4 (by omega) (by omega)
  obtain ⟨R, hR1, hR2, cR⟩ := re_clamp k1 2 7 (by omega) (by omega)
  have I : i_Rel 2 (nI T, nI R, 0, nI 0, -1, 0, nI 0, nI 0, 336, 0, 0, fun _ => 0, fun _ => 0, fun _ => 0, fun _ => 0, fun _ => 0, fun _ => 0, fun _ => 0, fun _ => 0, fun _ => 0, fun _ => 0, fun _ => 0, re_M2 420 (fun _ => 0), fun _ => 0, fun _ => 0, fun _ => 0, fun _ => 0, fun _ => 0, fun _ => 0) (nI T, nI R, 0, nI 0, nI 0, nI 0, -1, 0, fun _ => 0, fun _ => 0, re_M2 420 (fun _ => 0), fun _ => 0, fun _ => 0, fun _ => 0, fun _ => 0) := re_mk (re_OK_init hT1 hT2 hR1 hR2)
  have yL : ∃ n116 : Nat, wY_init_116 (fun v => i_Rel 2 (nI T, nI R, 0, nI 0, -1, 0, nI 0, nI 0, 336, 0, 0, fun _ => 0, fun _ => 0, fun _ => 0, fun _ => 0, fun _ => 0, fun _ => 0, fun _ => 0, fun _ => 0, fun _ => 0, fun _ => 0, fun _ => 0, re_M2 420 (fun _ => 0), fun _ => 0, fun _ => 0, fun _ => 0, fun _ => 0, fun _ => 0, fun _ => 0) v) (nI T) (nI R) 0 0 0 0 (-1) 0 n116 0 (fun _ => 0) (fun _ => 0) (fun _ => 0) (fun _ => 0) (fun _ => 0) (fun _ => 0) (fun _ => 0) := by
    refine loop_0 (fun n i (c : Nat → Int32) => wY_init_116 _ (nI T) (nI R) 0 0 0 0 (-1) 0 n (nI i) (fun _ => 0) (fun _ => 0) c (fun _ => 0) (fun _ => 0) (fun _ => 0) (fun _ => 0)) (fun i c => c = re_M2 i (fun _ => 0)) 420 (fun _ => 0) re_M2_0 ?_ ?_
    · rintro n c rfl
      exact br_t (by decide) I
    · rintro n i c hi rfl hc
      simp (disch := omega) only [wY_init_116, nI_clamp, re_in, re_m3, re_m7, re_m28, re_m49, re_m4, re_m8, re_m84, nI_add, nI_1, re_a2, re_a3, re_a4, re_a5, re_a6, re_b336, re_b8, re_b0, forall_eq, true_and, and_true, not_false_eq_true, not_true_eq_false, false_implies, true_implies, implies_true]
      exact pk_le 420 i (fun h => absurd h (by omega)) (fun _ => hc _ re_M2_s)
  have yI : wpY_init (fun v => i_Rel 2 (nI T, nI R, 0, nI 0, -1, 0, nI 0, nI 0, 336, 0, 0, fun _ => 0, fun _ => 0, fun _ => 0, fun _ => 0, fun _ => 0, fun _ => 0, fun _ => 0, fun _ => 0, fun _ => 0, fun _ => 0, fun _ => 0, re_M2 420 (fun _ => 0), fun _ => 0, fun _ => 0, fun _ => 0, fun _ => 0, fun _ => 0, fun _ => 0) v) k0 k1 := by
    unfold wpY_init
    refine cT (fun z => wY_init_86 _ k1 z 0 0 0 0 0 0 (-1) 0 (fun _ => 0) (fun _ => 0) (fun _ => 0) (fun _ => 0) (fun _ => 0) (fun _ => 0) (fun _ => 0)) ?_
    unfold wY_init_86
    exact cR (fun z => ∃ n116 : Nat, wY_init_116 _ (nI T) z 0 0 0 0 (-1) 0 n116 0 (fun _ => 0) (fun _ => 0) (fun _ => 0) (fun _ => 0) (fun _ => 0) (fun _ => 0) (fun _ => 0)) yL
  unfold wpX_init wpX_clamp
  dsimp only
  refine cT (fun z => (2 ≤ k1 → ((k1 ≤ 7 → ∃ n188 : Nat, wX_init_188 (fun u => wpY_init (fun v => i_Rel 2 u v) k0 k1) z k1 0 0 (-1) 0 0 0 336 0 0 n188 0 (fun _ => 0) (fun _ => 0) (fun _ => 0) (fun _ => 0) (fun _ => 0) (fun _ => 0) (fun _ => 0) (fun _ => 0) (fun _ => 0) (fun _ => 0) (fun _ => 0) (fun _ => 0) (fun _ => 0) (fun _ => 0) (fun _ => 0) (fun _ => 0) (fun _ => 0) (fun _ => 0)) ∧ (¬ k1 ≤ 7 → ∃ n188 : Nat, wX_init_188 (fun u => wpY_init (fun v => i_Rel 2 u v) k0 k1) z 7 0 0 (-1) 0 0 0 336 0 0 n188 0 (fun _ => 0) (fun _ => 0) (fun _ => 0) (fun _ => 0) (fun _ => 0) (fun _ => 0) (fun _ => 0) (fun _ => 0) (fun _ => 0) (fun _ => 0) (fun _ => 0) (fun _ => 0) (fun _ => 0) (fun _ => 0) (fun _ => 0) (fun _ => 0) (fun _ => 0) (fun _ => 0)))) ∧ (¬ 2 ≤ k1 → ∃ n188 : Nat, wX_init_188 (fun u => wpY_init (fun v => i_Rel 2 u v) k0 k1) z 2 0 0 (-1) 0 0 0 336 0 0 n188 0 (fun _ => 0) (fun _ => 0) (fun _ => 0) (fun _ => 0) (fun _ => 0) (fun _ => 0) (fun _ => 0) (fun _ => 0) (fun _ => 0) (fun _ => 0) (fun _ => 0) (fun _ => 0) (fun _ => 0) (fun _ => 0) (fun _ => 0) (fun _ => 0) (fun _ => 0) (fun _ => 0))) ?_
  refine cR (fun z => ∃ n188 : Nat, wX_init_188 (fun u => wpY_init (fun v => i_Rel 2 u v) k0 k1) (nI T) z 0 0 (-1) 0 0 0 336 0 0 n188 0 (fun _ => 0) (fun _ => 0) (fun _ => 0) (fun _ => 0) (fun _ => 0) (fun _ => 0) (fun _ => 0) (fun _ => 0) (fun _ => 0) (fun _ => 0) (fun _ => 0) (fun _ => 0) (fun _ => 0) (fun _ => 0) (fun _ => 0) (fun _ => 0) (fun _ => 0) (fun _ => 0)) ?_
  refine loop_0 (fun n i (c : Nat → Int32) => wX_init_188 (fun u => wpY_init (fun v => i_Rel 2 u v) k0 k1) (nI T) (nI R) 0 0 (-1) 0 0 0 336 0 0 n (nI i) (fun _ => 0) (fun _ => 0) (fun _ => 0) (fun _ => 0) (fun _ => 0) (fun _ => 0) (fun _ => 0) (fun _ => 0) (fun _ => 0) (fun _ => 0) (fun _ => 0) c (fun _ => 0) (fun _ => 0) (fun _ => 0) (fun _ => 0) (fun _ => 0) (fun _ => 0)) (fun i c => c = re_M2 i (fun _ => 0)) 420 (fun _ => 0) re_M2_0 ?_ ?_
  · rintro n c rfl
    exact br_t (by decide) yI
  · rintro n i c hi rfl hc
    simp (disch := omega) only [wX_init_188, nI_clamp, re_in, re_m3, re_m7, re_m28, re_m49, re_m4, re_m8, re_m84, nI_add, nI_1, re_a2, re_a3, re_a4, re_a5, re_a6, re_b336, re_b8, re_b0, forall_eq, true_and, and_true, not_false_eq_true, not_true_eq_false, false_implies, true_implies, implies_true]
    exact pk_le 420 i (fun h => absurd h (by omega)) (fun _ => hc _ re_M2_s)
end
section
/-! the owed statements (starting text: their statements are those of claim/defs.txt) -/
theorem i_vc_require {k : Nat} {u : SX} {v : SY} (I : i_Rel k u v) (hk : k + 5 ≤ 2562) (v1 : Int32) (v2 : Int32) : wpX_require (fun r u' => wpY_require (fun r' v' => r' = r ∧ i_Rel (k + 5) u' v') v v1 v2) u v1 v2 :=
  re_el (P := fun u v => wpX_require (fun r u' => wpY_require (fun r' v' => r' = r ∧ i_Rel (k + 5) u' v') v v1 v2) u v1 v2) I (fun T R K F D s sl cu tu rn qe rq kT kA kB kP cC cA cB cK cD cU ce mo rm rl mk qu po ks fs ym yr yk hO => rz_require hO v1 v2)
theorem i_vc_addKey {k : Nat} {u : SX} {v : SY} (I : i_Rel k u v) (hk : k + 5 ≤ 2562) (v1 : Int32) (v2 : Int32) (v3 : Int32) (v4 : Int32) : wpX_addKey (fun r u' => wpY_addKey (fun r' v' => r' = r ∧ i_Rel (k + 5) u' v') v v1 v2 v3 v4) u v1 v2 v3 v4 :=
  re_el (P := fun u v => wpX_addKey (fun r u' => wpY_addKey (fun r' v' => r' = r ∧ i_Rel (k + 5) u' v') v v1 v2 v3 v4) u v1 v2 v3 v4) I (fun T R K F D s sl cu tu rn qe rq kT kA kB kP cC cA cB cK cD cU ce mo rm rl mk qu po ks fs ym yr yk hO => rz_addKey hO v1 v2 v3 v4)
theorem i_vc_addForeign {k : Nat} {u : SX} {v : SY} (I : i_Rel k u v) (hk : k + 5 ≤ 2562) (v1 : Int32) (v2 : Int32) (v3 : Int32) (v4 : Int32) : wpX_addForeign (fun r u' => wpY_addForeign (fun r' v' => r' = r ∧ i_Rel (k + 5) u' v') v v1 v2 v3 v4) u v1 v2 v3 v4 :=
  re_el (P := fun u v => wpX_addForeign (fun r u' => wpY_addForeign (fun r' v' => r' = r ∧ i_Rel (k + 5) u' v') v v1 v2 v3 v4) u v1 v2 v3 v4) I (fun T R K F D s sl cu tu rn qe rq kT kA kB kP cC cA cB cK cD cU ce mo rm rl mk qu po ks fs ym yr yk hO => rz_addForeign hO v1 v2 v3 v4)
theorem i_vc_setActions {k : Nat} {u : SX} {v : SY} (I : i_Rel k u v) (hk : k + 5 ≤ 2562) (v1 : Int32) (v2 : Int32) (v3 : Int32) (v4 : Int32) : wpX_setActions (fun r u' => wpY_setActions (fun r' v' => r' = r ∧ i_Rel (k + 5) u' v') v v1 v2 v3 v4) u v1 v2 v3 v4 :=
  re_el (P := fun u v => wpX_setActions (fun r u' => wpY_setActions (fun r' v' => r' = r ∧ i_Rel (k + 5) u' v') v v1 v2 v3 v4) u v1 v2 v3 v4) I (fun T R K F D s sl cu tu rn qe rq kT kA kB kP cC cA cB cK cD cU ce mo rm rl mk qu po ks fs ym yr yk hO => rz_setActions hO v1 v2 v3 v4)
theorem i_vc_seal {k : Nat} {u : SX} {v : SY} (I : i_Rel k u v) (hk : k + 5 ≤ 2562) : wpX_seal (fun r u' => wpY_seal (fun r' v' => r' = r ∧ i_Rel (k + 5) u' v') v) u :=
  re_el (P := fun u v => wpX_seal (fun r u' => wpY_seal (fun r' v' => r' = r ∧ i_Rel (k + 5) u' v') v) u) I (fun T R K F D s sl cu tu rn qe rq kT kA kB kP cC cA cB cK cD cU ce mo rm rl mk qu po ks fs ym yr yk hO => rz_seal hO)
theorem i_vc_insert {k : Nat} {u : SX} {v : SY} (I : i_Rel k u v) (hk : k + 5 ≤ 2562) (v1 : Int32) (v2 : Int32) (v3 : Int32) (v4 : Int32) : wpX_insert (fun r u' => wpY_insert (fun r' v' => r' = r ∧ i_Rel (k + 5) u' v') v v1 v2 v3 v4) u v1 v2 v3 v4 :=
  re_el (P := fun u v => wpX_insert (fun r u' => wpY_insert (fun r' v' => r' = r ∧ i_Rel (k + 5) u' v') v v1 v2 v3 v4) u v1 v2 v3 v4) I (fun T R K F D s sl cu tu rn qe rq kT kA kB kP cC cA cB cK cD cU ce mo rm rl mk qu po ks fs ym yr yk hO => rz_insert hO v1 v2 v3 v4)
theorem i_vc_delete {k : Nat} {u : SX} {v : SY} (I : i_Rel k u v) (hk : k + 5 ≤ 2562) (v1 : Int32) (v2 : Int32) (v3 : Int32) : wpX_delete (fun r u' => wpY_delete (fun r' v' => r' = r ∧ i_Rel (k + 5) u' v') v v1 v2 v3) u v1 v2 v3 :=
  re_el (P := fun u v => wpX_delete (fun r u' => wpY_delete (fun r' v' => r' = r ∧ i_Rel (k + 5) u' v') v v1 v2 v3) u v1 v2 v3) I (fun T R K F D s sl cu tu rn qe rq kT kA kB kP cC cA cB cK cD cU ce mo rm rl mk qu po ks fs ym yr yk hO => rz_delete hO v1 v2 v3)
theorem i_vc_setCell {k : Nat} {u : SX} {v : SY} (I : i_Rel k u v) (hk : k + 5 ≤ 2562) (v1 : Int32) (v2 : Int32) (v3 : Int32) (v4 : Int32) : wpX_setCell (fun r u' => wpY_setCell (fun r' v' => r' = r ∧ i_Rel (k + 5) u' v') v v1 v2 v3 v4) u v1 v2 v3 v4 :=
  re_el (P := fun u v => wpX_setCell (fun r u' => wpY_setCell (fun r' v' => r' = r ∧ i_Rel (k + 5) u' v') v v1 v2 v3 v4) u v1 v2 v3 v4) I (fun T R K F D s sl cu tu rn qe rq kT kA kB kP cC cA cB cK cD cU ce mo rm rl mk qu po ks fs ym yr yk hO => rz_setCell hO v1 v2 v3 v4)
theorem i_vc_shift {k : Nat} {u : SX} {v : SY} (I : i_Rel k u v) (hk : k + 5 ≤ 2562) (v1 : Int32) (v2 : Int32) (v3 : Int32) (v4 : Int32) : wpX_shift (fun r u' => wpY_shift (fun r' v' => r' = r ∧ i_Rel (k + 5) u' v') v v1 v2 v3 v4) u v1 v2 v3 v4 :=
  re_el (P := fun u v => wpX_shift (fun r u' => wpY_shift (fun r' v' => r' = r ∧ i_Rel (k + 5) u' v') v v1 v2 v3 v4) u v1 v2 v3 v4) I (fun T R K F D s sl cu tu rn qe rq kT kA kB kP cC cA cB cK cD cU ce mo rm rl mk qu po ks fs ym yr yk hO => rz_shift hO v1 v2 v3 v4)
theorem i_vc_setMode {k : Nat} {u : SX} {v : SY} (I : i_Rel k u v) (hk : k + 5 ≤ 2562) (v1 : Int32) (v2 : Int32) : wpX_setMode (fun r u' => wpY_setMode (fun r' v' => r' = r ∧ i_Rel (k + 5) u' v') v v1 v2) u v1 v2 :=
  re_el (P := fun u v => wpX_setMode (fun r u' => wpY_setMode (fun r' v' => r' = r ∧ i_Rel (k + 5) u' v') v v1 v2) u v1 v2) I (fun T R K F D s sl cu tu rn qe rq kT kA kB kP cC cA cB cK cD cU ce mo rm rl mk qu po ks fs ym yr yk hO => rz_setMode hO v1 v2)
theorem i_vc_savepoint {k : Nat} {u : SX} {v : SY} (I : i_Rel k u v) (hk : k + 5 ≤ 2562) : wpX_savepoint (fun r u' => wpY_savepoint (fun r' v' => r' = r ∧ i_Rel (k + 5) u' v') v) u :=
  re_el (P := fun u v => wpX_savepoint (fun r u' => wpY_savepoint (fun r' v' => r' = r ∧ i_Rel (k + 5) u' v') v) u) I (fun T R K F D s sl cu tu rn qe rq kT kA kB kP cC cA cB cK cD cU ce mo rm rl mk qu po ks fs ym yr yk hO => rz_savepoint hO)
theorem i_vc_rollbackTo {k : Nat} {u : SX} {v : SY} (I : i_Rel k u v) (hk : k + 5 ≤ 2562) (v1 : Int32) : wpX_rollbackTo (fun r u' => wpY_rollbackTo (fun r' v' => r' = r ∧ i_Rel (k + 5) u' v') v v1) u v1 :=
  re_el (P := fun u v => wpX_rollbackTo (fun r u' => wpY_rollbackTo (fun r' v' => r' = r ∧ i_Rel (k + 5) u' v') v v1) u v1) I (fun T R K F D s sl cu tu rn qe rq kT kA kB kP cC cA cB cK cD cU ce mo rm rl mk qu po ks fs ym yr yk hO => rz_rollbackTo hO v1)
theorem i_vc_rollback {k : Nat} {u : SX} {v : SY} (I : i_Rel k u v) (hk : k + 5 ≤ 2562) : wpX_rollback (fun r u' => wpY_rollback (fun r' v' => r' = r ∧ i_Rel (k + 5) u' v') v) u :=
  re_el (P := fun u v => wpX_rollback (fun r u' => wpY_rollback (fun r' v' => r' = r ∧ i_Rel (k + 5) u' v') v) u) I (fun T R K F D s sl cu tu rn qe rq kT kA kB kP cC cA cB cK cD cU ce mo rm rl mk qu po ks fs ym yr yk hO => rz_rollback hO)
theorem i_vc_commit {k : Nat} {u : SX} {v : SY} (I : i_Rel k u v) (hk : k + 5 ≤ 2562) : wpX_commit (fun r u' => wpY_commit (fun r' v' => r' = r ∧ i_Rel (k + 5) u' v') v) u :=
  re_el (P := fun u v => wpX_commit (fun r u' => wpY_commit (fun r' v' => r' = r ∧ i_Rel (k + 5) u' v') v) u) I (fun T R K F D s sl cu tu rn qe rq kT kA kB kP cC cA cB cK cD cU ce mo rm rl mk qu po ks fs ym yr yk hO => rz_commit hO)
theorem i_vc_cell {k : Nat} {u : SX} {v : SY} (I : i_Rel k u v) (hk : k + 5 ≤ 2562) (v1 : Int32) (v2 : Int32) (v3 : Int32) (v4 : Int32) : wpX_cell (fun r => wpY_cell (fun r' => r' = r ∧ i_Rel (k + 5) u v) v v1 v2 v3 v4) u v1 v2 v3 v4 :=
  re_el (P := fun u v => wpX_cell (fun r => wpY_cell (fun r' => r' = r ∧ i_Rel (k + 5) u v) v v1 v2 v3 v4) u v1 v2 v3 v4) I (fun T R K F D s sl cu tu rn qe rq kT kA kB kP cC cA cB cK cD cU ce mo rm rl mk qu po ks fs ym yr yk hO => rz_cell hO v1 v2 v3 v4)
theorem i_vc_mode {k : Nat} {u : SX} {v : SY} (I : i_Rel k u v) (hk : k + 5 ≤ 2562) (v1 : Int32) (v2 : Int32) : wpX_mode (fun r => wpY_mode (fun r' => r' = r ∧ i_Rel (k + 5) u v) v v1 v2) u v1 v2 :=
  re_el (P := fun u v => wpX_mode (fun r => wpY_mode (fun r' => r' = r ∧ i_Rel (k + 5) u v) v v1 v2) u v1 v2) I (fun T R K F D s sl cu tu rn qe rq kT kA kB kP cC cA cB cK cD cU ce mo rm rl mk qu po ks fs ym yr yk hO => rz_mode hO v1 v2)
theorem i_vc_rows {k : Nat} {u : SX} {v : SY} (I : i_Rel k u v) (hk : k + 5 ≤ 2562) (v1 : Int32) : wpX_rows (fun r => wpY_rows (fun r' => r' = r ∧ i_Rel (k + 5) u v) v v1) u v1 :=
  re_el (P := fun u v => wpX_rows (fun r => wpY_rows (fun r' => r' = r ∧ i_Rel (k + 5) u v) v v1) u v1) I (fun T R K F D s sl cu tu rn qe rq kT kA kB kP cC cA cB cK cD cU ce mo rm rl mk qu po ks fs ym yr yk hO => rz_rows hO v1)
theorem i_vc_find {k : Nat} {u : SX} {v : SY} (I : i_Rel k u v) (hk : k + 5 ≤ 2562) (v1 : Int32) (v2 : Int32) (v3 : Int32) : wpX_find (fun r => wpY_find (fun r' => r' = r ∧ i_Rel (k + 5) u v) v v1 v2 v3) u v1 v2 v3 :=
  re_el (P := fun u v => wpX_find (fun r => wpY_find (fun r' => r' = r ∧ i_Rel (k + 5) u v) v v1 v2 v3) u v1 v2 v3) I (fun T R K F D s sl cu tu rn qe rq kT kA kB kP cC cA cB cK cD cU ce mo rm rl mk qu po ks fs ym yr yk hO => rz_find hO v1 v2 v3)
theorem i_vc_referrers {k : Nat} {u : SX} {v : SY} (I : i_Rel k u v) (hk : k + 5 ≤ 2562) (v1 : Int32) (v2 : Int32) : wpX_referrers (fun r => wpY_referrers (fun r' => r' = r ∧ i_Rel (k + 5) u v) v v1 v2) u v1 v2 :=
  re_el (P := fun u v => wpX_referrers (fun r => wpY_referrers (fun r' => r' = r ∧ i_Rel (k + 5) u v) v v1 v2) u v1 v2) I (fun T R K F D s sl cu tu rn qe rq kT kA kB kP cC cA cB cK cD cU ce mo rm rl mk qu po ks fs ym yr yk hO => rz_referrers hO v1 v2)
theorem i_vc_dangling {k : Nat} {u : SX} {v : SY} (I : i_Rel k u v) (hk : k + 5 ≤ 2562) (v1 : Int32) : wpX_dangling (fun r => wpY_dangling (fun r' => r' = r ∧ i_Rel (k + 5) u v) v v1) u v1 :=
  re_el (P := fun u v => wpX_dangling (fun r => wpY_dangling (fun r' => r' = r ∧ i_Rel (k + 5) u v) v v1) u v1) I (fun T R K F D s sl cu tu rn qe rq kT kA kB kP cC cA cB cK cD cU ce mo rm rl mk qu po ks fs ym yr yk hO => rz_dangling hO v1)
theorem i_vc_schema {k : Nat} {u : SX} {v : SY} (I : i_Rel k u v) (hk : k + 5 ≤ 2562) (v1 : Int32) (v2 : Int32) (v3 : Int32) : wpX_schema (fun r => wpY_schema (fun r' => r' = r ∧ i_Rel (k + 5) u v) v v1 v2 v3) u v1 v2 v3 :=
  re_el (P := fun u v => wpX_schema (fun r => wpY_schema (fun r' => r' = r ∧ i_Rel (k + 5) u v) v v1 v2 v3) u v1 v2 v3) I (fun T R K F D s sl cu tu rn qe rq kT kA kB kP cC cA cB cK cD cU ce mo rm rl mk qu po ks fs ym yr yk hO => rz_schema hO v1 v2 v3)
theorem i_vc_status {k : Nat} {u : SX} {v : SY} (I : i_Rel k u v) (hk : k + 5 ≤ 2562) (v1 : Int32) : wpX_status (fun r => wpY_status (fun r' => r' = r ∧ i_Rel (k + 5) u v) v v1) u v1 :=
  re_el (P := fun u v => wpX_status (fun r => wpY_status (fun r' => r' = r ∧ i_Rel (k + 5) u v) v v1) u v1) I (fun T R K F D s sl cu tu rn qe rq kT kA kB kP cC cA cB cK cD cU ce mo rm rl mk qu po ks fs ym yr yk hO => rz_status hO v1)
end
