section
/-! rows of kit/rows (starting text) -/
theorem pk_us {f : Nat → Int32} {k : Nat} {x : Int32} : upd f k x k = x := if_pos rfl
theorem pk_un {f : Nat → Int32} {k j : Nat} {x : Int32} (h : j ≠ k) : upd f k x j = f j := if_neg h
theorem pk_sub {a b : Nat} (h : b ≤ a) : nI a - nI b = nI (a - b) := by
  obtain ⟨c, rfl⟩ : ∃ c, a = c + b := ⟨a - b, by omega⟩
  rw [← nI_add, Int32.add_sub_cancel, Nat.add_sub_cancel]
theorem pk_m1 (n : Nat) : nI (n + 1) + (-1) = nI n := by
  rw [← nI_1, Int32.add_assoc, show (1 : Int32) + (-1) = 0 from rfl, Int32.add_zero]
theorem pk_mul (a b : Nat) : nI a * nI b = nI (a * b) := (Int32.ofNat_mul a b).symm
theorem pk_div {a d : Nat} (ha : a < 2 ^ 31) (h0 : 0 < d) (hd : d < 2 ^ 31) : nI a / nI d = nI (a / d) := by
  apply Int32.toInt_inj.mp
  rw [lg_idiv_nonneg (by rw [nI_toInt ha]; omega) (by rw [nI_toInt hd]; omega), nI_toInt ha, nI_toInt hd, nI_toInt (Nat.lt_of_le_of_lt (Nat.div_le_self a d) ha)]
  first | rfl | exact (Int.natCast_ediv _ _).symm
theorem pk_ix (x : Int32) {n : Nat} (hn : n < 2 ^ 31) : x < 0 ∨ nI n ≤ x ∨ ∃ j : Nat, j < n ∧ x = nI j := by
  by_cases h : x < 0
  · exact Or.inl h
  · obtain ⟨j, hj, rfl⟩ := nI_of h
    by_cases h2 : j < n
    · exact Or.inr (Or.inr ⟨j, h2, rfl⟩)
    · exact Or.inr (Or.inl (nI_le (by omega) hj))
theorem pk_le {x y : Int32} {A B : Prop} (a b : Nat) (f : a ≤ b → A) (g : b < a → B) (hx : x = nI a := by rfl) (hy : y = nI b := by rfl) (ha : a < 2 ^ 31 := by omega) (hb : b < 2 ^ 31 := by omega) : (x ≤ y → A) ∧ (¬ x ≤ y → B) := by
  subst hx hy
  rw [nI_leI ha hb]
  exact ⟨f, fun z => g (by omega)⟩
theorem pk_lt {x y : Int32} {A B : Prop} (a b : Nat) (f : a < b → A) (g : b ≤ a → B) (hx : x = nI a := by rfl) (hy : y = nI b := by rfl) (ha : a < 2 ^ 31 := by omega) (hb : b < 2 ^ 31 := by omega) : (x < y → A) ∧ (¬ x < y → B) := by
  subst hx hy
  rw [nI_ltI ha hb]
  exact ⟨f, fun z => g (by omega)⟩
theorem pk_eq {x y : Int32} {A B : Prop} (a b : Nat) (f : a = b → A) (g : a ≠ b → B) (hx : x = nI a := by rfl) (hy : y = nI b := by rfl) (ha : a < 2 ^ 31 := by omega) (hb : b < 2 ^ 31 := by omega) : (x = y → A) ∧ (¬ x = y → B) := by
  subst hx hy
  rw [nI_eq ha hb]
  exact ⟨f, g⟩
theorem pk_in {x : Int32} (n N : Nat) (h : n < N) (hx : x = nI n := by rfl) (hN : N < 2 ^ 31 := by omega) : vp_in x N := by
  subst hx
  exact vp_in_nI h hN
theorem pk_cl {x : Int32} (n : Nat) (hx : x = nI n := by rfl) (h : n < 2 ^ 31 := by omega) : x.toNatClampNeg = n := by
  subst hx
  exact nI_clamp h
theorem pk_tn {n : Nat} (h : n < 2 ^ 32) : (nI n).toBitVec.toNat = n := Nat.mod_eq_of_lt h
theorem pk_and (x : Int32) {m : Int32} (k : Nat) (hm : m.toBitVec.toNat = 2 ^ k - 1) : x &&& m = nI (x.toBitVec.toNat % 2 ^ k) := by
  apply Int32.toBitVec_inj.mp
  apply BitVec.eq_of_toNat_eq
  rw [Int32.toBitVec_and, BitVec.toNat_and, hm, Nat.and_two_pow_sub_one_eq_mod]
  show _ = (BitVec.ofNat 32 _).toNat
  rw [BitVec.toNat_ofNat]
  exact (Nat.mod_eq_of_lt (Nat.lt_of_le_of_lt (Nat.mod_le _ _) x.toBitVec.isLt)).symm
theorem pk_andN {n : Nat} (h : n < 2 ^ 32) {m : Int32} (k : Nat) (hm : m.toBitVec.toNat = 2 ^ k - 1) : nI n &&& m = nI (n % 2 ^ k) := by
  rw [pk_and _ k hm, pk_tn h]
theorem pk_andE (x : Int32) {m : Int32} (k : Nat) (hm : m.toBitVec.toNat = 2 ^ k - 1) : ∃ j : Nat, j < 2 ^ k ∧ x &&& m = nI j := ⟨_, Nat.mod_lt _ (Nat.two_pow_pos k), pk_and x k hm⟩
theorem pk_andIn (x : Int32) {m : Int32} (k : Nat) (hm : m.toBitVec.toNat = 2 ^ k - 1) (hk : k ≤ 30) : vp_in (x &&& m) (2 ^ k) := by
  obtain ⟨j, hj, e⟩ := pk_andE x k hm
  rw [e]
  exact vp_in_nI hj (Nat.lt_of_le_of_lt (Nat.pow_le_pow_right (by decide) hk) (by decide))
theorem pk_shr (a s : Int32) (k : Nat) (hs : (s.toBitVec.smod 32).toNat = k) : (a >>> s).toInt = a.toInt >>> k := by
  show (a.toBitVec.sshiftRight (s.toBitVec.smod 32).toNat).toInt = _
  rw [hs, BitVec.toInt_sshiftRight]
  rfl
theorem pk_shrN {n : Nat} (h : n < 2 ^ 31) (s : Int32) (k : Nat) (hs : (s.toBitVec.smod 32).toNat = k) : nI n >>> s = nI (n / 2 ^ k) := by
  apply Int32.toInt_inj.mp
  have h2 : n / 2 ^ k ≤ n := Nat.div_le_self _ _
  rw [pk_shr _ _ k hs, nI_toInt h, nI_toInt (by omega), Int.shiftRight_eq_div_pow]
  rfl
def bt (x : Int32) (i : Nat) : Bool := x.toBitVec.getLsbD i
theorem b_ext {x y : Int32} (h : ∀ i, i < 32 → bt x i = bt y i) : x = y := Int32.toBitVec_inj.mp (BitVec.eq_of_getLsbD_eq (fun i hi => h i hi))
theorem b_or (x y : Int32) (i : Nat) : bt (x ||| y) i = (bt x i || bt y i) := by unfold bt; rw [Int32.toBitVec_or, BitVec.getLsbD_or]
theorem b_and (x y : Int32) (i : Nat) : bt (x &&& y) i = (bt x i && bt y i) := by unfold bt; rw [Int32.toBitVec_and, BitVec.getLsbD_and]
theorem b_xor (x y : Int32) (i : Nat) : bt (x ^^^ y) i = (bt x i ^^ bt y i) := by unfold bt; rw [Int32.toBitVec_xor, BitVec.getLsbD_xor]
theorem b_big {x : Int32} {i : Nat} (h : 32 ≤ i) : bt x i = false := BitVec.getLsbD_of_ge _ _ h
theorem b_m1 : ∀ i, i < 32 → bt (-1) i = true := by decide +kernel
theorem b_0 (i : Nat) : bt 0 i = false := BitVec.getLsbD_zero
theorem s_l : ∀ n, n < 32 → ((nI n &&& 31).toBitVec.smod 32).toNat = n := by decide +kernel
theorem b_shl (n : Nat) (hn : n < 32) (x : Int32) {i : Nat} (hi : i < 32) : bt (x <<< (nI n &&& 31)) i = (decide (n ≤ i) && bt x (i - n)) := by
  unfold bt
  rw [Int32.toBitVec_shiftLeft]
  show (x.toBitVec <<< ((nI n &&& 31).toBitVec.smod 32).toNat).getLsbD i = _
  rw [s_l n hn, BitVec.getLsbD_shiftLeft]
  rcases Nat.lt_or_ge i n with h | h
  · simp [h, Nat.not_le.mpr h]
  · simp [hi, h, Nat.not_lt.mpr h]
theorem b_sshr (n : Nat) (hn : n < 32) (x : Int32) {i : Nat} (hi : i < 32) : bt (x >>> (nI n &&& 31)) i = if n + i < 32 then bt x (n + i) else bt x 31 := by
  unfold bt
  rw [Int32.toBitVec_shiftRight]
  show (x.toBitVec.sshiftRight ((nI n &&& 31).toBitVec.smod 32).toNat).getLsbD i = _
  rw [s_l n hn, BitVec.getLsbD_sshiftRight, BitVec.msb_eq_getLsbD_last]
  simp [hi]
end
section
section P02
/-! numbers -/
theorem na_ix (b i : Nat) : nI b * 9 + nI i = nI (b * 9 + i) := by
  rw [show (9 : Int32) = nI 9 from rfl, pk_mul, nI_add]
theorem na_e (b : Nat) : nI b * 9 + 8 = nI (b * 9 + 8) := na_ix b 8
theorem na_9 (b : Nat) : nI b * 9 = nI (b * 9) := pk_mul b 9
theorem na_8 (b v : Nat) : nI b * 8 + nI v = nI (b * 8 + v) := by
  rw [show (8 : Int32) = nI 8 from rfl, pk_mul, nI_add]
theorem na_p8 (i : Nat) : 8 + nI i = nI (8 + i) := nI_add 8 i
theorem na_in {a b : Nat} (h : nI a = nI b) (ha : a < 2 ^ 31) (hb : b < 2 ^ 31) : a = b := (nI_eq ha hb).mp h
theorem na_m1 : (-1 : Int32).toInt = -1 := by decide
theorem na_0 : (0 : Int32).toInt = 0 := by decide
/-- a counter that goes down: i stands for i - 1 -/
def dn_d (i : Nat) : Int32 := nI i - 1
theorem dn_0 : dn_d 0 < 0 := by decide
theorem dn_s (i : Nat) : dn_d (i + 1) = nI i := nI_pred i
theorem dn_m (i : Nat) : nI i + (-1) = dn_d i := by
  unfold dn_d; rw [Int32.sub_eq_add_neg]
/-! one bit -/
theorem bq_1 : ∀ i, i < 32 → bt 1 i = decide (i = 0) := by decide +kernel
theorem bq_a1 (y : Int32) : (y &&& 1) = 0 ↔ bt y 0 = false := by
  constructor
  · intro h
    have e := b_and y 1 0
    rw [h, b_0, bq_1 0 (by omega)] at e
    simpa using e.symm
  · intro h
    apply b_ext
    intro i hi
    rw [b_and, b_0, bq_1 i hi]
    by_cases e : i = 0
    · rw [e, h]; rfl
    · simp [e]
theorem bq_has {m : Int32} {j : Nat} (hj : j < 32) : ((m >>> (nI j &&& 31)) &&& 1) = 0 ↔ bt m j = false := by
  rw [bq_a1, b_sshr j hj m (by omega), if_pos (by omega)]
  rfl
theorem bq_one {l i : Nat} (hl : l < 32) (hi : i < 32) : bt ((1 : Int32) <<< (nI l &&& 31)) i = decide (i = l) := by
  rw [b_shl l hl 1 hi, bq_1 (i - l) (by omega)]
  by_cases h : i = l
  · subst h; simp
  · rw [decide_eq_false h]
    by_cases g : l ≤ i
    · rw [decide_eq_false (p := i - l = 0) (by omega)]; simp
    · rw [decide_eq_false g]; rfl
theorem bq_set {m : Int32} {l i : Nat} (hl : l < 32) (hi : i < 32) : bt (m ||| ((1 : Int32) <<< (nI l &&& 31))) i = true ↔ bt m i = true ∨ i = l := by
  rw [b_or, bq_one hl hi, Bool.or_eq_true, decide_eq_true_eq]
theorem bq_clr {m : Int32} {l i : Nat} (hl : l < 32) (hi : i < 32) : bt (m &&& (((1 : Int32) <<< (nI l &&& 31)) ^^^ (-1))) i = true ↔ bt m i = true ∧ ¬ i = l := by
  rw [b_and, b_xor, bq_one hl hi, b_m1 i hi, Bool.and_eq_true]
  by_cases h : i = l
  · simp [h]
  · simp [h]
theorem bq_or {m k : Int32} {i : Nat} : bt (m ||| k) i = true ↔ bt m i = true ∨ bt k i = true := by
  rw [b_or, Bool.or_eq_true]
theorem bq_n0 {i : Nat} : ¬ bt 0 i = true := by rw [b_0]; decide
/-! counting -/
noncomputable def pc_c (P : Nat → Prop) : Nat → Nat
  | 0 => 0
  | n + 1 => pc_c P n + @ite _ (P n) (Classical.propDecidable _) 1 0
theorem pc_t {P : Nat → Prop} {n : Nat} (h : P n) : pc_c P (n + 1) = pc_c P n + 1 := by
  show pc_c P n + @ite _ (P n) (Classical.propDecidable _) 1 0 = _
  rw [if_pos h]
theorem pc_f {P : Nat → Prop} {n : Nat} (h : ¬ P n) : pc_c P (n + 1) = pc_c P n := by
  show pc_c P n + @ite _ (P n) (Classical.propDecidable _) 1 0 = _
  rw [if_neg h, Nat.add_zero]
theorem pc_le (P : Nat → Prop) : ∀ n, pc_c P n ≤ n := by
  intro n
  induction n with
  | zero => exact Nat.le_refl 0
  | succ n ih =>
    by_cases h : P n
    · rw [pc_t h]; omega
    · rw [pc_f h]; omega
theorem pc_mono {P Q : Nat → Prop} : ∀ n, (∀ b, b < n → P b → Q b) → pc_c P n ≤ pc_c Q n := by
  intro n
  induction n with
  | zero => intro _; exact Nat.le_refl 0
  | succ n ih =>
    intro h
    have i := ih (fun b hb => h b (by omega))
    by_cases h1 : P n
    · rw [pc_t h1, pc_t (h n (by omega) h1)]; omega
    · rw [pc_f h1]
      by_cases h2 : Q n
      · rw [pc_t h2]; omega
      · rw [pc_f h2]; exact i
theorem pc_lt {P Q : Nat → Prop} : ∀ n, (∀ b, b < n → P b → Q b) → (∃ b, b < n ∧ Q b ∧ ¬ P b) → pc_c P n < pc_c Q n := by
  intro n
  induction n with
  | zero => rintro _ ⟨b, hb, _⟩; omega
  | succ n ih =>
    rintro h ⟨b, hb, hq, hp⟩
    by_cases e : b = n
    · subst e
      rw [pc_f hp, pc_t hq]
      have := pc_mono b (fun c hc => h c (by omega))
      omega
    · have i := ih (fun b hb => h b (by omega)) ⟨b, by omega, hq, hp⟩
      by_cases h1 : P n
      · rw [pc_t h1, pc_t (h n (by omega) h1)]; omega
      · rw [pc_f h1]
        by_cases h2 : Q n
        · rw [pc_t h2]; omega
        · rw [pc_f h2]; exact i
theorem pc_full {P : Nat → Prop} : ∀ n, n ≤ pc_c P n → ∀ b, b < n → P b := by
  intro n
  induction n with
  | zero => intro _ b hb; omega
  | succ n ih =>
    intro h b hb
    have l := pc_le P n
    by_cases h1 : P n
    · rw [pc_t h1] at h
      by_cases e : b = n
      · rw [e]; exact h1
      · exact ih (by omega) b (by omega)
    · rw [pc_f h1] at h; omega
theorem pc_none {P : Nat → Prop} : ∀ n, pc_c P n = 0 → ∀ b, b < n → ¬ P b := by
  intro n
  induction n with
  | zero => intro _ b hb; omega
  | succ n ih =>
    intro h b hb
    by_cases h1 : P n
    · rw [pc_t h1] at h; omega
    · rw [pc_f h1] at h
      by_cases e : b = n
      · rw [e]; exact h1
      · exact ih h b (by omega)
theorem pc_some {P : Nat → Prop} : ∀ n, 0 < pc_c P n → ∃ b, b < n ∧ P b := by
  intro n
  induction n with
  | zero => intro h; exact absurd h (Nat.lt_irrefl 0)
  | succ n ih =>
    intro h
    by_cases h1 : P n
    · exact ⟨n, by omega, h1⟩
    · rw [pc_f h1] at h
      obtain ⟨b, hb, hp⟩ := ih h
      exact ⟨b, by omega, hp⟩
theorem pc_eq {P Q : Nat → Prop} (n : Nat) (h : ∀ b, b < n → (P b ↔ Q b)) : pc_c P n = pc_c Q n :=
  Nat.le_antisymm (pc_mono n (fun b hb => (h b hb).mp)) (pc_mono n (fun b hb => (h b hb).mpr))
/-- one element less -/
theorem pc_rm {P Q : Nat → Prop} {i : Nat} : ∀ n, i < n → P i → ¬ Q i → (∀ b, b < n → b ≠ i → (P b ↔ Q b)) → pc_c P n = pc_c Q n + 1 := by
  intro n
  induction n with
  | zero => intro h; omega
  | succ n ih =>
    intro hi hP hQ h
    by_cases e : i = n
    · subst e
      rw [pc_t hP, pc_f hQ, pc_eq i (fun b hb => h b (by omega) (by omega))]
    · have t := ih (by omega) hP hQ (fun b hb => h b (by omega))
      have s := h n (by omega) (fun z => e z.symm)
      by_cases h1 : P n
      · rw [pc_t h1, pc_t (s.mp h1)]; omega
      · rw [pc_f h1, pc_f (fun z => h1 (s.mpr z))]; omega
/-! the program's pure picture: o D A B the four source arrays, ct the counts -/
def pd_n (ct : Nat → Int32) (b : Nat) : Nat := (ct b).toNatClampNeg
def pd_wr (o D : Nat → Int32) (k v : Nat) : Prop := ¬ o k = 12 ∧ D k = nI v
def pd_rb (x : Int32) : Prop := ¬ x = 0 ∧ ¬ x = 1 ∧ ¬ x = 11
def pd_rd (o A B : Nat → Int32) (k v : Nat) : Prop := (¬ o k = 0 ∧ A k = nI v) ∨ (pd_rb (o k) ∧ B k = nI v)
def pd_nw (o D : Nat → Int32) (b lo hi v : Nat) : Prop := ∀ j, lo ≤ j → j < hi → ¬ pd_wr o D (b * 9 + j) v
def pd_nd (M : Nat → Nat → Prop) (o D A B : Nat → Int32) (b v : Nat) : Prop :=
  (¬ o (b * 9 + 8) = 0 ∧ D (b * 9 + 8) = nI v) ∨ (¬ o (b * 9 + 8) = 2 ∧ M (A (b * 9 + 8)).toNatClampNeg v) ∨ (o (b * 9 + 8) = 1 ∧ M (B (b * 9 + 8)).toNatClampNeg v)
def pd_lb (M : Nat → Nat → Prop) (o D A B : Nat → Int32) (n b i v : Nat) : Prop :=
  (∃ j, i ≤ j ∧ j < n ∧ pd_rd o A B (b * 9 + j) v ∧ pd_nw o D b i j v) ∨ (pd_nd M o D A B b v ∧ pd_nw o D b i n v)
def pd_lv (o D A B ct : Nat → Int32) : Nat → Nat → Nat → Prop
  | 0, _, _ => False
  | k + 1, b, v => pd_lb (pd_lv o D A B ct k) o D A B (pd_n ct b) b 0 v
theorem nw_0 {o D : Nat → Int32} {b i v : Nat} : pd_nw o D b i i v := fun j h1 h2 => absurd h2 (by omega)
theorem nw_s {o D : Nat → Int32} {b i n v : Nat} (h : i < n) : pd_nw o D b i n v ↔ ¬ pd_wr o D (b * 9 + i) v ∧ pd_nw o D b (i + 1) n v := by
  constructor
  · intro f
    exact ⟨f i (Nat.le_refl i) h, fun j h1 h2 => f j (by omega) h2⟩
  · rintro ⟨f, g⟩ j h1 h2
    by_cases e : j = i
    · rw [e]; exact f
    · exact g j (by omega) h2
theorem nw_e {o D : Nat → Int32} {b i n v : Nat} (h : i ≤ n) : pd_nw o D b i (n + 1) v ↔ pd_nw o D b i n v ∧ ¬ pd_wr o D (b * 9 + n) v := by
  constructor
  · intro f
    exact ⟨fun j h1 h2 => f j h1 (by omega), f n h (by omega)⟩
  · rintro ⟨f, g⟩ j h1 h2
    by_cases e : j = n
    · rw [e]; exact g
    · exact f j h1 (by omega)
theorem lb_e {M : Nat → Nat → Prop} {o D A B : Nat → Int32} {n b v : Nat} : pd_lb M o D A B n b n v ↔ pd_nd M o D A B b v := by
  constructor
  · rintro (⟨j, h1, h2, _⟩ | ⟨h, _⟩)
    · omega
    · exact h
  · intro h
    exact Or.inr ⟨h, nw_0⟩
theorem lb_s {M : Nat → Nat → Prop} {o D A B : Nat → Int32} {n b i v : Nat} (h : i < n) :
    pd_lb M o D A B n b i v ↔ pd_rd o A B (b * 9 + i) v ∨ (¬ pd_wr o D (b * 9 + i) v ∧ pd_lb M o D A B n b (i + 1) v) := by
  constructor
  · rintro (⟨j, h1, h2, h3, h4⟩ | ⟨h1, h2⟩)
    · by_cases e : j = i
      · exact Or.inl (e ▸ h3)
      · have t := (nw_s (show i < j by omega)).mp h4
        exact Or.inr ⟨t.1, Or.inl ⟨j, by omega, h2, h3, t.2⟩⟩
    · have t := (nw_s h).mp h2
      exact Or.inr ⟨t.1, Or.inr ⟨h1, t.2⟩⟩
  · rintro (h1 | ⟨h0, ⟨j, h1, h2, h3, h4⟩ | ⟨h1, h2⟩⟩)
    · exact Or.inl ⟨i, Nat.le_refl i, h, h1, nw_0⟩
    · exact Or.inl ⟨j, by omega, h2, h3, (nw_s (show i < j by omega)).mpr ⟨h0, h4⟩⟩
    · exact Or.inr ⟨h1, (nw_s h).mpr ⟨h0, h2⟩⟩
theorem nd_mono {M M' : Nat → Nat → Prop} {o D A B : Nat → Int32} {b v : Nat} (hA : M (A (b * 9 + 8)).toNatClampNeg v → M' (A (b * 9 + 8)).toNatClampNeg v) (hB : M (B (b * 9 + 8)).toNatClampNeg v → M' (B (b * 9 + 8)).toNatClampNeg v)
    (h : pd_nd M o D A B b v) : pd_nd M' o D A B b v := by
  rcases h with h | h | h
  · exact Or.inl h
  · exact Or.inr (Or.inl ⟨h.1, hA h.2⟩)
  · exact Or.inr (Or.inr ⟨h.1, hB h.2⟩)
theorem lb_mono {M M' : Nat → Nat → Prop} {o D A B : Nat → Int32} {n b i v : Nat} (hA : M (A (b * 9 + 8)).toNatClampNeg v → M' (A (b * 9 + 8)).toNatClampNeg v) (hB : M (B (b * 9 + 8)).toNatClampNeg v → M' (B (b * 9 + 8)).toNatClampNeg v)
    (h : pd_lb M o D A B n b i v) : pd_lb M' o D A B n b i v := by
  rcases h with h | ⟨h1, h2⟩
  · exact Or.inl h
  · exact Or.inr ⟨nd_mono hA hB h1, h2⟩
theorem lv_up {o D A B ct : Nat → Int32} {v : Nat} : ∀ k b, pd_lv o D A B ct k b v → pd_lv o D A B ct (k + 1) b v := by
  intro k
  induction k with
  | zero => intro b h; exact absurd h id
  | succ k ih => intro b h; exact lb_mono (M := pd_lv o D A B ct k) (ih _) (ih _) h
/-- targets within the closed blocks -/
def pd_tg (A B : Nat → Int32) (C : Nat) : Prop := ∀ b, b < C → (∃ t, t < C ∧ A (b * 9 + 8) = nI t) ∧ (∃ t, t < C ∧ B (b * 9 + 8) = nI t)
theorem tg_a {A B : Nat → Int32} {C b : Nat} (hC : C ≤ 8) (h : pd_tg A B C) (hb : b < C) : (A (b * 9 + 8)).toNatClampNeg < C := by
  obtain ⟨⟨t, ht, e⟩, _⟩ := h b hb
  rw [e, nI_clamp (by omega)]; exact ht
theorem tg_b {A B : Nat → Int32} {C b : Nat} (hC : C ≤ 8) (h : pd_tg A B C) (hb : b < C) : (B (b * 9 + 8)).toNatClampNeg < C := by
  obtain ⟨_, t, ht, e⟩ := h b hb
  rw [e, nI_clamp (by omega)]; exact ht
theorem lv_st {o D A B ct : Nat → Int32} {C v k : Nat} (hC : C ≤ 8) (ht : pd_tg A B C) (h : ∀ b, b < C → pd_lv o D A B ct (k + 1) b v → pd_lv o D A B ct k b v) :
    ∀ j b, b < C → pd_lv o D A B ct (k + j + 1) b v → pd_lv o D A B ct (k + j) b v := by
  intro j
  induction j with
  | zero => exact h
  | succ j ih =>
    intro b hb g
    exact lb_mono (M := pd_lv o D A B ct (k + j + 1)) (M' := pd_lv o D A B ct (k + j)) (ih _ (tg_a hC ht hb)) (ih _ (tg_b hC ht hb)) g
theorem lv_pg {o D A B ct : Nat → Int32} {C v : Nat} : ∀ k, (∃ j, j < k ∧ ∀ b, b < C → pd_lv o D A B ct (j + 1) b v → pd_lv o D A B ct j b v) ∨ k ≤ pc_c (fun b => pd_lv o D A B ct k b v) C := by
  intro k
  induction k with
  | zero => exact Or.inr (Nat.zero_le _)
  | succ k ih =>
    rcases ih with ⟨j, hj, h⟩ | h
    · exact Or.inl ⟨j, by omega, h⟩
    · by_cases g : ∀ b, b < C → pd_lv o D A B ct (k + 1) b v → pd_lv o D A B ct k b v
      · exact Or.inl ⟨k, by omega, g⟩
      · refine Or.inr ?_
        have w : ∃ b, b < C ∧ pd_lv o D A B ct (k + 1) b v ∧ ¬ pd_lv o D A B ct k b v := by
          apply Classical.byContradiction
          intro z
          apply g
          intro b hb h1
          apply Classical.byContradiction
          intro h2
          exact z ⟨b, hb, h1, h2⟩
        have := pc_lt (P := fun b => pd_lv o D A B ct k b v) (Q := fun b => pd_lv o D A B ct (k + 1) b v) C (fun b _ => lv_up k b) w
        omega
theorem lv_fix {o D A B ct : Nat → Int32} {C v : Nat} (hC : C ≤ 8) (ht : pd_tg A B C) : ∀ b, b < C → pd_lv o D A B ct 9 b v → pd_lv o D A B ct 8 b v := by
  rcases lv_pg (o := o) (D := D) (A := A) (B := B) (ct := ct) (C := C) (v := v) 8 with ⟨j, hj, h⟩ | h
  · have t := lv_st hC ht h (8 - j)
    rw [show j + (8 - j) = 8 by omega] at t
    exact t
  · intro b hb _
    have l := pc_le (fun b => pd_lv o D A B ct 8 b v) C
    exact pc_full (P := fun b => pd_lv o D A B ct 8 b v) C (by omega) b hb
end P02
end
section
section P03
/-! well-formed source -/
def wf_op (o D A B : Nat → Int32) (k : Nat) : Prop := (∃ q, q ≤ 12 ∧ o k = nI q) ∧ (∃ d, d < 8 ∧ D k = nI d) ∧ (¬ o k = 0 → ∃ a, a < 8 ∧ A k = nI a) ∧ (∃ c, c < 8 ∧ B k = nI c)
def wf_cl (o D A B : Nat → Int32) (k : Nat) : Prop := (o k = 0 ∨ o k = 1 ∨ o k = 2) ∧ (∃ d, d < 8 ∧ D k = nI d) ∧ (∃ a, a < 8 ∧ A k = nI a) ∧ (∃ c, c < 8 ∧ B k = nI c) ∧ (o k = 2 → A k = 0) ∧ (¬ o k = 1 → B k = 0)
def wf_ct (ct : Nat → Int32) : Prop := ∀ b, b < 8 → pd_n ct b ≤ 8 ∧ ct b = nI (pd_n ct b)
def wf_al (o D A B ct : Nat → Int32) (C : Nat) : Prop := C ≤ 8 ∧ wf_ct ct ∧ (∀ b, b < 8 → ∀ i, i < pd_n ct b → wf_op o D A B (b * 9 + i)) ∧ (∀ b, b < C → wf_cl o D A B (b * 9 + 8))
/-! which value a variable holds before statement i -/
def pd_cu (o D : Nat → Int32) (b : Nat) : Nat → Nat → Nat
  | 0, v => v
  | i + 1, v => if ¬ o (b * 9 + i) = 12 ∧ D (b * 9 + i) = nI v then 8 + i else pd_cu o D b i v
theorem cu_w {o D : Nat → Int32} {b i v : Nat} (h : pd_wr o D (b * 9 + i) v) : pd_cu o D b (i + 1) v = 8 + i := if_pos h
theorem cu_n {o D : Nat → Int32} {b i v : Nat} (h : ¬ pd_wr o D (b * 9 + i) v) : pd_cu o D b (i + 1) v = pd_cu o D b i v := if_neg h
theorem cu_lt {o D : Nat → Int32} {b v : Nat} (hv : v < 8) : ∀ i, pd_cu o D b i v < 8 + i := by
  intro i
  induction i with
  | zero => exact hv
  | succ i ih =>
    by_cases h : pd_wr o D (b * 9 + i) v
    · rw [cu_w h]; omega
    · rw [cu_n h]; omega
theorem cu_nw {o D : Nat → Int32} {b v : Nat} : ∀ i, pd_nw o D b 0 i v → pd_cu o D b i v = v := by
  intro i
  induction i with
  | zero => intro _; rfl
  | succ i ih =>
    intro h
    have t := (nw_e (Nat.zero_le i)).mp h
    rw [cu_n t.2]; exact ih t.1
theorem cu_vr {o D : Nat → Int32} {b v : Nat} : ∀ i, pd_cu o D b i v < 8 → pd_nw o D b 0 i v := by
  intro i
  induction i with
  | zero => intro _; exact nw_0
  | succ i ih =>
    intro h
    by_cases g : pd_wr o D (b * 9 + i) v
    · rw [cu_w g] at h; omega
    · rw [cu_n g] at h; exact (nw_e (Nat.zero_le i)).mpr ⟨ih h, g⟩
theorem cu_st {o D : Nat → Int32} {b v j : Nat} (hv : v < 8) : ∀ i, pd_cu o D b i v = 8 + j ↔ j < i ∧ pd_wr o D (b * 9 + j) v ∧ pd_nw o D b (j + 1) i v := by
  intro i
  induction i with
  | zero =>
    constructor
    · intro h
      have : v = 8 + j := h
      omega
    · rintro ⟨h, _⟩; omega
  | succ i ih =>
    by_cases g : pd_wr o D (b * 9 + i) v
    · rw [cu_w g]
      constructor
      · intro h
        have e : j = i := by omega
        subst e
        exact ⟨by omega, g, nw_0⟩
      · rintro ⟨h1, h2, h3⟩
        by_cases e : j = i
        · omega
        · exact absurd g (h3 i (by omega) (by omega))
    · rw [cu_n g, ih]
      constructor
      · rintro ⟨h1, h2, h3⟩
        exact ⟨by omega, h2, (nw_e (by omega)).mpr ⟨h3, g⟩⟩
      · rintro ⟨h1, h2, h3⟩
        have e : j ≠ i := by intro e; subst e; exact g h2
        exact ⟨by omega, h2, ((nw_e (by omega)).mp h3).1⟩
/-! dependences -/
def pd_mo (x y : Int32) : Prop := (x = 12 ∧ (y = 11 ∨ y = 12)) ∨ (x = 11 ∧ y = 12)
def pd_ra (o D A : Nat → Int32) (b j i : Nat) : Prop := ¬ o (b * 9 + i) = 0 ∧ pd_cu o D b i (A (b * 9 + i)).toNatClampNeg = 8 + j
def pd_rc (o D B : Nat → Int32) (b j i : Nat) : Prop := pd_rb (o (b * 9 + i)) ∧ pd_cu o D b i (B (b * 9 + i)).toNatClampNeg = 8 + j
def pd_dp (o D A B : Nat → Int32) (b j i : Nat) : Prop := j < i ∧ (pd_ra o D A b j i ∨ pd_rc o D B b j i ∨ pd_mo (o (b * 9 + j)) (o (b * 9 + i)))
/-! the sequential run of a block -/
def pd_or (op x y : Int32) (m : Nat → Int32) : Int32 :=
  if op = 2 then x + y else if op = 3 then x - y else if op = 4 then x * y else if op = 5 then x &&& y else if op = 6 then x ||| y else if op = 7 then x ^^^ y
  else if op = 8 then x >>> ((y &&& 31) &&& 31) else if op = 9 then (if y ≤ x then 0 else 1) else if op = 10 then (if x = y then 1 else 0)
  else if op = 11 then m (x &&& 7).toNatClampNeg else if op = 12 then y else x
def pd_x (o A : Nat → Int32) (k : Nat) (V : Nat → Int32) : Int32 := if o k = 0 then A k else V (A k).toNatClampNeg
def pd_y (B : Nat → Int32) (k : Nat) (V : Nat → Int32) : Int32 := V (B k).toNatClampNeg
def pd_r (o A B : Nat → Int32) (k : Nat) (V M : Nat → Int32) : Int32 := pd_or (o k) (pd_x o A k V) (pd_y B k V) M
def pd_ex (o D A B : Nat → Int32) (b : Nat) (V M : Nat → Int32) : Nat → (Nat → Int32) × (Nat → Int32)
  | 0 => (V, M)
  | i + 1 => (if o (b * 9 + i) = 12 then (pd_ex o D A B b V M i).1 else upd (pd_ex o D A B b V M i).1 (D (b * 9 + i)).toNatClampNeg (pd_r o A B (b * 9 + i) (pd_ex o D A B b V M i).1 (pd_ex o D A B b V M i).2),
      if o (b * 9 + i) = 12 then upd (pd_ex o D A B b V M i).2 (pd_x o A (b * 9 + i) (pd_ex o D A B b V M i).1 &&& 7).toNatClampNeg (pd_y B (b * 9 + i) (pd_ex o D A B b V M i).1) else (pd_ex o D A B b V M i).2)
theorem ex_s {o D A B : Nat → Int32} {b i : Nat} {V M : Nat → Int32} (h : o (b * 9 + i) = 12) : pd_ex o D A B b V M (i + 1) = ((pd_ex o D A B b V M i).1, upd (pd_ex o D A B b V M i).2 (pd_x o A (b * 9 + i) (pd_ex o D A B b V M i).1 &&& 7).toNatClampNeg (pd_y B (b * 9 + i) (pd_ex o D A B b V M i).1)) := by
  show (ite _ _ _, ite _ _ _) = _
  rw [if_pos h, if_pos h]
theorem ex_n {o D A B : Nat → Int32} {b i : Nat} {V M : Nat → Int32} (h : ¬ o (b * 9 + i) = 12) : pd_ex o D A B b V M (i + 1) = (upd (pd_ex o D A B b V M i).1 (D (b * 9 + i)).toNatClampNeg (pd_r o A B (b * 9 + i) (pd_ex o D A B b V M i).1 (pd_ex o D A B b V M i).2), (pd_ex o D A B b V M i).2) := by
  show (ite _ _ _, ite _ _ _) = _
  rw [if_neg h, if_neg h]
/-- value x of the block: a variable at entry, or a statement's result -/
def pd_vx (o D A B : Nat → Int32) (b : Nat) (V M : Nat → Int32) (x : Nat) : Int32 :=
  if x < 8 then V x else pd_r o A B (b * 9 + (x - 8)) (pd_ex o D A B b V M (x - 8)).1 (pd_ex o D A B b V M (x - 8)).2
theorem vx_v {o D A B : Nat → Int32} {b x : Nat} {V M : Nat → Int32} (h : x < 8) : pd_vx o D A B b V M x = V x := if_pos h
theorem vx_r {o D A B : Nat → Int32} {b i : Nat} {V M : Nat → Int32} : pd_vx o D A B b V M (8 + i) = pd_r o A B (b * 9 + i) (pd_ex o D A B b V M i).1 (pd_ex o D A B b V M i).2 := by
  unfold pd_vx
  rw [if_neg (by omega), Nat.add_sub_cancel_left]
theorem ex_cu {o D A B : Nat → Int32} {b n : Nat} {V M : Nat → Int32} (hw : ∀ i, i < n → wf_op o D A B (b * 9 + i)) : ∀ i, i ≤ n → ∀ v, v < 8 → (pd_ex o D A B b V M i).1 v = pd_vx o D A B b V M (pd_cu o D b i v) := by
  intro i
  induction i with
  | zero => intro _ v hv; exact (vx_v hv).symm
  | succ i ih =>
    intro hi v hv
    by_cases h : o (b * 9 + i) = 12
    · rw [ex_s h, cu_n (fun z => z.1 h)]
      exact ih (by omega) v hv
    · obtain ⟨_, ⟨d, hd, ed⟩, _⟩ := hw i (by omega)
      rw [ex_n h]
      show upd _ _ _ v = _
      rw [ed, nI_clamp (by omega)]
      by_cases e : v = d
      · subst e
        rw [pk_us, cu_w ⟨h, ed⟩, vx_r]
      · rw [pk_un e, cu_n (fun z => e (na_in (z.2.symm.trans ed) (by omega) (by omega)))]
        exact ih (by omega) v hv
theorem ex_m {o D A B : Nat → Int32} {b i : Nat} {V M : Nat → Int32} : ∀ d, (∀ j, i ≤ j → j < i + d → ¬ o (b * 9 + j) = 12) → (pd_ex o D A B b V M (i + d)).2 = (pd_ex o D A B b V M i).2 := by
  intro d
  induction d with
  | zero => intro _; rfl
  | succ d ih =>
    intro h
    rw [← Nat.add_assoc, ex_n (h (i + d) (by omega) (by omega))]
    exact ih (fun j h1 h2 => h j h1 (by omega))
theorem or_0 {x y : Int32} {m : Nat → Int32} : pd_or 0 x y m = x := by
  unfold pd_or; rw [if_neg (by decide), if_neg (by decide), if_neg (by decide), if_neg (by decide), if_neg (by decide), if_neg (by decide), if_neg (by decide), if_neg (by decide), if_neg (by decide), if_neg (by decide), if_neg (by decide)]
theorem or_1 {x y : Int32} {m : Nat → Int32} : pd_or 1 x y m = x := by
  unfold pd_or; rw [if_neg (by decide), if_neg (by decide), if_neg (by decide), if_neg (by decide), if_neg (by decide), if_neg (by decide), if_neg (by decide), if_neg (by decide), if_neg (by decide), if_neg (by decide), if_neg (by decide)]
theorem or_11 {x y : Int32} {m : Nat → Int32} : pd_or 11 x y m = m (x &&& 7).toNatClampNeg := by
  unfold pd_or; rw [if_neg (by decide), if_neg (by decide), if_neg (by decide), if_neg (by decide), if_neg (by decide), if_neg (by decide), if_neg (by decide), if_neg (by decide), if_neg (by decide), if_pos rfl]
theorem or_12 {x y : Int32} {m : Nat → Int32} : pd_or 12 x y m = y := by
  unfold pd_or; rw [if_neg (by decide), if_neg (by decide), if_neg (by decide), if_neg (by decide), if_neg (by decide), if_neg (by decide), if_neg (by decide), if_neg (by decide), if_neg (by decide), if_neg (by decide), if_pos rfl]
theorem or_y {op x y y' : Int32} {m : Nat → Int32} (h : ¬ pd_rb op) : pd_or op x y m = pd_or op x y' m := by
  have t : op = 0 ∨ op = 1 ∨ op = 11 := by
    by_cases h0 : op = 0
    · exact Or.inl h0
    · by_cases h1 : op = 1
      · exact Or.inr (Or.inl h1)
      · by_cases h2 : op = 11
        · exact Or.inr (Or.inr h2)
        · exact absurd ⟨h0, h1, h2⟩ h
  rcases t with e | e | e
  · rw [e, or_0, or_0]
  · rw [e, or_1, or_1]
  · rw [e, or_11, or_11]
theorem or_m {op x y : Int32} {m m' : Nat → Int32} (h : ¬ op = 11) : pd_or op x y m = pd_or op x y m' := by
  unfold pd_or
  simp only [if_neg h]
end P03
end
section
section P04
/-! a block's certificate, and one cycle of the datapath in pure terms -/
def pd_lt (T : Nat) (x : Int32) : Nat := if x = 4 then T else 1
theorem lt_pos {T : Nat} {x : Int32} (hT : 1 ≤ T) : 1 ≤ pd_lt T x := by
  unfold pd_lt; split <;> omega
theorem lt_12 {T : Nat} : pd_lt T 12 = 1 := if_neg (by decide)
/-- value x is read in cycle c -/
def ce_us (Lv : Nat → Nat → Prop) (o D A B : Nat → Int32) (b n L : Nat) (I : Nat → Nat) (x c : Nat) : Prop :=
  (∃ i, i < n ∧ ¬ o (b * 9 + i) = 0 ∧ x = pd_cu o D b i (A (b * 9 + i)).toNatClampNeg ∧ c = I i) ∨
  (∃ i, i < n ∧ pd_rb (o (b * 9 + i)) ∧ x = pd_cu o D b i (B (b * 9 + i)).toNatClampNeg ∧ c = I i) ∨
  (∃ v, v < 8 ∧ pd_nd Lv o D A B b v ∧ x = pd_cu o D b n v ∧ c = L)
def ce_t (o : Nat → Int32) (b n T L : Nat) (I E U : Nat → Nat) : Prop :=
  ∀ i, i < n → E i = I i + pd_lt T (o (b * 9 + i)) ∧ E i ≤ L ∧ U i < 6 ∧ ((o (b * 9 + i) = 11 ∨ o (b * 9 + i) = 12) → U i = 5)
def ce_d (o D A B : Nat → Int32) (b n : Nat) (I E : Nat → Nat) : Prop := ∀ j i, i < n → pd_dp o D A B b j i → E j ≤ I i
def ce_u (n : Nat) (I E U : Nat → Nat) : Prop := ∀ i j, i < n → j < n → i ≠ j → U i = U j → E i ≤ I j ∨ E j ≤ I i
def ce_r (Us : Nat → Nat → Prop) (n : Nat) (E : Nat → Nat) (R : Nat → Int32) : Prop :=
  ∀ x c, Us x c → (∃ r, r < 16 ∧ R x = nI r) ∧ ∀ j, j < n → 8 + j ≠ x → R (8 + j) = R x → c < E j ∨ ∃ i, x = 8 + i ∧ E j < E i
/-! what holds in the midst of a cycle -/
def di_rg (Us : Nat → Nat → Prop) (R vx : Nat → Int32) (cm : Nat → Prop) (c : Nat) (rg : Nat → Int32) : Prop :=
  ∀ x c', Us x c' → c ≤ c' → (x < 8 ∨ ∃ i, x = 8 + i ∧ cm i) → rg (R x).toNatClampNeg = vx x
def di_uo (n : Nat) (E U : Nat → Nat) (vx : Nat → Int32) (iss : Nat → Prop) (c : Nat) (uo : Nat → Int32) : Prop :=
  ∀ i, i < n → iss i → c < E i → uo (U i) = vx (8 + i)
def di_sa (o : Nat → Int32) (b n : Nat) (I : Nat → Nat) (xa : Nat → Int32) (c k : Nat) (sa : Int32) : Prop :=
  ∀ i, i < n → i < k → o (b * 9 + i) = 12 → I i = c → sa = xa i &&& 7
def di_me (o : Nat → Int32) (b n : Nat) (mm : Nat → Nat → Int32) (cm : Nat → Prop) (ce : Nat → Int32) : Prop :=
  ∀ i, i ≤ n → (∀ j, j < n → o (b * 9 + j) = 12 → (j < i ↔ cm j)) → ce = mm i
variable {Lv : Nat → Nat → Prop} {o D A B V M R : Nat → Int32} {b n T L : Nat} {I E U : Nat → Nat}
/-- each value that is read is there by then -/
theorem di_bn (hT : 1 ≤ T) (ht : ce_t o b n T L I E U) (hd : ce_d o D A B b n I E) (hw : ∀ i, i < n → wf_op o D A B (b * 9 + i)) {x c : Nat} (h : ce_us Lv o D A B b n L I x c) :
    x < 8 ∨ ∃ j, x = 8 + j ∧ j < n ∧ E j ≤ c := by
  rcases h with ⟨i, hi, h0, hx, hc⟩ | ⟨i, hi, h0, hx, hc⟩ | ⟨v, hv, h0, hx, hc⟩
  · by_cases g : x < 8
    · exact Or.inl g
    · obtain ⟨_, _, ha, _⟩ := hw i hi
      obtain ⟨a, ha, ea⟩ := ha h0
      have l := cu_lt (o := o) (D := D) (b := b) ha i
      have ec : (A (b * 9 + i)).toNatClampNeg = a := by rw [ea, nI_clamp (by omega)]
      rw [ec] at hx
      refine Or.inr ⟨x - 8, by omega, by omega, ?_⟩
      rw [hc]
      exact hd (x - 8) i hi ⟨by omega, Or.inl ⟨h0, by rw [ec]; omega⟩⟩
  · by_cases g : x < 8
    · exact Or.inl g
    · obtain ⟨_, _, _, a, ha, ea⟩ := hw i hi
      have l := cu_lt (o := o) (D := D) (b := b) ha i
      have ec : (B (b * 9 + i)).toNatClampNeg = a := by rw [ea, nI_clamp (by omega)]
      rw [ec] at hx
      refine Or.inr ⟨x - 8, by omega, by omega, ?_⟩
      rw [hc]
      exact hd (x - 8) i hi ⟨by omega, Or.inr (Or.inl ⟨h0, by rw [ec]; omega⟩)⟩
  · by_cases g : x < 8
    · exact Or.inl g
    · have l := cu_lt (o := o) (D := D) (b := b) hv n
      refine Or.inr ⟨x - 8, by omega, by omega, ?_⟩
      rw [hc]
      exact (ht (x - 8) (by omega)).2.1
/-- operand A at the issue -/
theorem di_xa (hT : 1 ≤ T) (ht : ce_t o b n T L I E U) (hd : ce_d o D A B b n I E) (hw : ∀ i, i < n → wf_op o D A B (b * 9 + i)) {c i : Nat} {rg : Nat → Int32} (hi : i < n) (hc : I i = c)
    (hr : di_rg (ce_us Lv o D A B b n L I) R (pd_vx o D A B b V M) (fun j => E j ≤ c) c rg) (h0 : ¬ o (b * 9 + i) = 0) :
    rg (R (pd_cu o D b i (A (b * 9 + i)).toNatClampNeg)).toNatClampNeg = pd_x o A (b * 9 + i) (pd_ex o D A B b V M i).1 := by
  have us : ce_us Lv o D A B b n L I (pd_cu o D b i (A (b * 9 + i)).toNatClampNeg) c := Or.inl ⟨i, hi, h0, rfl, hc.symm⟩
  obtain ⟨_, _, ha, _⟩ := hw i hi
  obtain ⟨a, ha, ea⟩ := ha h0
  have ec : (A (b * 9 + i)).toNatClampNeg = a := by rw [ea, nI_clamp (by omega)]
  rw [hr _ c us (Nat.le_refl c) (by
    rcases di_bn hT ht hd hw us with g | ⟨j, g1, _, g3⟩
    · exact Or.inl g
    · exact Or.inr ⟨j, g1, g3⟩)]
  unfold pd_x
  rw [if_neg h0, ec, ex_cu hw i (by omega) a ha]
theorem di_xb (hT : 1 ≤ T) (ht : ce_t o b n T L I E U) (hd : ce_d o D A B b n I E) (hw : ∀ i, i < n → wf_op o D A B (b * 9 + i)) {c i : Nat} {rg : Nat → Int32} (hi : i < n) (hc : I i = c)
    (hr : di_rg (ce_us Lv o D A B b n L I) R (pd_vx o D A B b V M) (fun j => E j ≤ c) c rg) (h0 : pd_rb (o (b * 9 + i))) :
    rg (R (pd_cu o D b i (B (b * 9 + i)).toNatClampNeg)).toNatClampNeg = pd_y B (b * 9 + i) (pd_ex o D A B b V M i).1 := by
  have us : ce_us Lv o D A B b n L I (pd_cu o D b i (B (b * 9 + i)).toNatClampNeg) c := Or.inr (Or.inl ⟨i, hi, h0, rfl, hc.symm⟩)
  obtain ⟨_, _, _, a, ha, ea⟩ := hw i hi
  have ec : (B (b * 9 + i)).toNatClampNeg = a := by rw [ea, nI_clamp (by omega)]
  rw [hr _ c us (Nat.le_refl c) (by
    rcases di_bn hT ht hd hw us with g | ⟨j, g1, _, g3⟩
    · exact Or.inl g
    · exact Or.inr ⟨j, g1, g3⟩)]
  unfold pd_y
  rw [ec, ex_cu hw i (by omega) a ha]
/-- the memory at a load's issue -/
theorem di_ld (hT : 1 ≤ T) (ht : ce_t o b n T L I E U) (hd : ce_d o D A B b n I E) {c i : Nat} {ce : Nat → Int32} (hi : i < n) (hc : I i = c) (h11 : o (b * 9 + i) = 11)
    (hm : di_me o b n (fun k => (pd_ex o D A B b V M k).2) (fun j => E j ≤ c) ce) : ce = (pd_ex o D A B b V M i).2 := by
  refine hm i (by omega) (fun j hj hs => ?_)
  constructor
  · intro hji
    rw [← hc]
    exact hd j i hi ⟨hji, Or.inr (Or.inr (Or.inl ⟨hs, Or.inl h11⟩))⟩
  · intro hE
    apply Classical.byContradiction
    intro hji
    have ne : j ≠ i := by intro e; rw [e, h11] at hs; exact absurd hs (by decide)
    have t := hd i j hj ⟨by omega, Or.inr (Or.inr (Or.inr ⟨h11, hs⟩))⟩
    have t1 := (ht j hj).1
    have t2 := (ht i hi).1
    have p1 := lt_pos (x := o (b * 9 + j)) hT
    have p2 := lt_pos (x := o (b * 9 + i)) hT
    omega
theorem di_iv {i : Nat} {X Y : Int32} {ce : Nat → Int32} (hX : X = pd_x o A (b * 9 + i) (pd_ex o D A B b V M i).1) (hY : pd_rb (o (b * 9 + i)) → Y = pd_y B (b * 9 + i) (pd_ex o D A B b V M i).1)
    (hM : o (b * 9 + i) = 11 → ce = (pd_ex o D A B b V M i).2) : pd_or (o (b * 9 + i)) X Y ce = pd_vx o D A B b V M (8 + i) := by
  rw [vx_r]
  unfold pd_r
  rw [hX]
  have e1 : ∀ m, pd_or (o (b * 9 + i)) (pd_x o A (b * 9 + i) (pd_ex o D A B b V M i).1) Y m = pd_or (o (b * 9 + i)) (pd_x o A (b * 9 + i) (pd_ex o D A B b V M i).1) (pd_y B (b * 9 + i) (pd_ex o D A B b V M i).1) m := by
    intro m
    by_cases h : pd_rb (o (b * 9 + i))
    · rw [hY h]
    · exact or_y h
  rw [e1]
  by_cases h : o (b * 9 + i) = 11
  · rw [hM h]
  · exact or_m h
/-- who has been issued when statement k is looked at in cycle c -/
def di_is (I : Nat → Nat) (c k i : Nat) : Prop := I i < c ∨ (I i = c ∧ i < k)
def di_cm (E : Nat → Nat) (c k i : Nat) : Prop := E i ≤ c ∨ (E i = c + 1 ∧ i < k)
theorem di_u1 (hT : 1 ≤ T) (ht : ce_t o b n T L I E U) (hu : ce_u n I E U) {c i : Nat} {uo vx : Nat → Int32} (hi : i < n) (hc : I i = c) (h : di_uo n E U vx (di_is I c i) c uo) :
    di_uo n E U vx (di_is I c (i + 1)) c (upd uo (U i) (vx (8 + i))) := by
  intro j hj hs hE
  by_cases e : j = i
  · rw [e, pk_us]
  · have ne : U j ≠ U i := by
      intro eU
      have p := lt_pos (x := o (b * 9 + i)) hT
      have t2 := (ht i hi).1
      rcases hu j i hj hi e eU with g | g
      · omega
      · rcases hs with s | s <;> omega
    rw [pk_un ne]
    refine h j hj ?_ hE
    rcases hs with s | ⟨s1, s2⟩
    · exact Or.inl s
    · exact Or.inr ⟨s1, by omega⟩
theorem di_u0 {c i : Nat} {uo vx : Nat → Int32} (hc : ¬ I i = c) (h : di_uo n E U vx (di_is I c i) c uo) : di_uo n E U vx (di_is I c (i + 1)) c uo := by
  intro j hj hs hE
  refine h j hj ?_ hE
  rcases hs with s | ⟨s1, s2⟩
  · exact Or.inl s
  · exact Or.inr ⟨s1, by have : j ≠ i := fun e => hc (e ▸ s1); omega⟩
theorem di_s1 (hT : 1 ≤ T) (ht : ce_t o b n T L I E U) (hu : ce_u n I E U) {c i : Nat} {xa : Nat → Int32} {sa : Int32} (hi : i < n) (hc : I i = c) (ho : o (b * 9 + i) = 12) :
    di_sa o b n I xa c (i + 1) (xa i &&& 7) := by
  intro j hj hk hs hI
  by_cases e : j = i
  · rw [e]
  · exfalso
    have p1 := lt_pos (x := o (b * 9 + i)) hT
    have p2 := lt_pos (x := o (b * 9 + j)) hT
    have t1 := ht i hi
    have t2 := ht j hj
    have u1 := t1.2.2.2 (Or.inr ho)
    have u2 := t2.2.2.2 (Or.inr hs)
    have t3 := t1.1
    have t4 := t2.1
    rcases hu j i hj hi e (by rw [u1, u2]) with g | g <;> omega
theorem di_s0 {c i : Nat} {xa : Nat → Int32} {sa : Int32} (hc : I i = c → ¬ o (b * 9 + i) = 12) (h : di_sa o b n I xa c i sa) : di_sa o b n I xa c (i + 1) sa := by
  intro j hj hk hs hI
  refine h j hj ?_ hs hI
  have : j ≠ i := fun e => hc (e ▸ hI) (e ▸ hs)
  omega
/-! commits -/
theorem di_r1 (hr : ce_r (ce_us Lv o D A B b n L I) n E R) {c i r : Nat} {rg vx : Nat → Int32} (hi : i < n) (hE : E i = c + 1) (eR : R (8 + i) = nI r) (hr16 : r < 16)
    (h : di_rg (ce_us Lv o D A B b n L I) R vx (di_cm E c i) (c + 1) rg) : di_rg (ce_us Lv o D A B b n L I) R vx (di_cm E c (i + 1)) (c + 1) (upd rg r (vx (8 + i))) := by
  intro x c' us hc' hb
  obtain ⟨⟨r', hr', eR'⟩, g⟩ := hr x c' us
  by_cases ex : x = 8 + i
  · rw [ex, eR, nI_clamp (by omega), pk_us]
  · have ne : (R x).toNatClampNeg ≠ r := by
      intro e
      have er : r' = r := by rw [eR', nI_clamp (by omega)] at e; exact e
      rcases g i hi (fun z => ex z.symm) (by rw [eR, eR', er]) with g1 | ⟨j, ej, g1⟩
      · omega
      · rcases hb with hb | ⟨j', ej', hb⟩
        · omega
        · have : j' = j := by omega
          subst this
          rcases hb with hb | ⟨hb, _⟩ <;> omega
    rw [pk_un ne]
    refine h x c' us hc' ?_
    rcases hb with hb | ⟨j, ej, hb⟩
    · exact Or.inl hb
    · refine Or.inr ⟨j, ej, ?_⟩
      rcases hb with hb | ⟨hb1, hb2⟩
      · exact Or.inl hb
      · exact Or.inr ⟨hb1, by omega⟩
/-- no register: nobody reads it -/
theorem di_r2 (hr : ce_r (ce_us Lv o D A B b n L I) n E R) {c i : Nat} {rg vx : Nat → Int32} (hR : R (8 + i) = -1)
    (h : di_rg (ce_us Lv o D A B b n L I) R vx (di_cm E c i) (c + 1) rg) : di_rg (ce_us Lv o D A B b n L I) R vx (di_cm E c (i + 1)) (c + 1) rg := by
  intro x c' us hc' hb
  refine h x c' us hc' ?_
  rcases hb with hb | ⟨j, ej, hb⟩
  · exact Or.inl hb
  · refine Or.inr ⟨j, ej, ?_⟩
    rcases hb with hb | ⟨hb1, hb2⟩
    · exact Or.inl hb
    · refine Or.inr ⟨hb1, ?_⟩
      have : j ≠ i := by
        intro e
        obtain ⟨⟨r', hr', eR'⟩, _⟩ := hr x c' us
        rw [ej, e, hR] at eR'
        have z := congrArg Int32.toInt eR'
        rw [nI_toInt (by omega), na_m1] at z
        omega
      omega
theorem di_r0 {Us : Nat → Nat → Prop} {c i : Nat} {rg vx : Nat → Int32} (hE : ¬ E i = c + 1) (h : di_rg Us R vx (di_cm E c i) (c + 1) rg) : di_rg Us R vx (di_cm E c (i + 1)) (c + 1) rg := by
  intro x c' us hc' hb
  refine h x c' us hc' ?_
  rcases hb with hb | ⟨j, ej, hb⟩
  · exact Or.inl hb
  · refine Or.inr ⟨j, ej, ?_⟩
    rcases hb with hb | ⟨hb1, hb2⟩
    · exact Or.inl hb
    · exact Or.inr ⟨hb1, by have : j ≠ i := fun e => hE (e ▸ hb1); omega⟩
theorem di_m0 {mm : Nat → Nat → Int32} {c i : Nat} {ce : Nat → Int32} (hE : E i = c + 1 → ¬ o (b * 9 + i) = 12) (h : di_me o b n mm (di_cm E c i) ce) : di_me o b n mm (di_cm E c (i + 1)) ce := by
  intro k hk hs
  refine h k hk (fun j hj ho => ?_)
  rw [hs j hj ho]
  constructor
  · rintro (g | ⟨g1, g2⟩)
    · exact Or.inl g
    · exact Or.inr ⟨g1, by have : j ≠ i := fun e => hE (e ▸ g1) (e ▸ ho); omega⟩
  · rintro (g | ⟨g1, g2⟩)
    · exact Or.inl g
    · exact Or.inr ⟨g1, by omega⟩
/-- a store's commit -/
theorem di_m1 (hT : 1 ≤ T) (ht : ce_t o b n T L I E U) (hd : ce_d o D A B b n I E) {c i : Nat} {ce : Nat → Int32} (hi : i < n) (hE : E i = c + 1) (ho : o (b * 9 + i) = 12)
    (h : di_me o b n (fun k => (pd_ex o D A B b V M k).2) (di_cm E c i) ce) :
    di_me o b n (fun k => (pd_ex o D A B b V M k).2) (di_cm E c (i + 1)) (upd ce (pd_x o A (b * 9 + i) (pd_ex o D A B b V M i).1 &&& 7).toNatClampNeg (pd_vx o D A B b V M (8 + i))) := by
  have hI : I i = c := by
    have t := (ht i hi).1
    rw [ho, lt_12] at t
    omega
  have after : ∀ j, j < n → o (b * 9 + j) = 12 → i < j → c + 1 < E j := by
    intro j hj hs hij
    have t := hd i j hj ⟨hij, Or.inr (Or.inr (Or.inl ⟨ho, Or.inr hs⟩))⟩
    have t1 := (ht j hj).1
    have p1 := lt_pos (x := o (b * 9 + j)) hT
    omega
  have e0 : ce = (pd_ex o D A B b V M i).2 := by
    refine h i (by omega) (fun j hj hs => ?_)
    constructor
    · intro hji
      have t := hd j i hi ⟨hji, Or.inr (Or.inr (Or.inl ⟨hs, Or.inr ho⟩))⟩
      exact Or.inl (by omega)
    · intro g
      apply Classical.byContradiction
      intro hji
      by_cases e : j = i
      · subst e
        rcases g with g | ⟨_, g⟩ <;> omega
      · have := after j hj hs (by omega)
        rcases g with g | ⟨g, _⟩ <;> omega
  intro k hk hs
  have hik : i < k := (hs i hi ho).mpr (Or.inr ⟨hE, by omega⟩)
  obtain ⟨d, rfl⟩ : ∃ d, k = (i + 1) + d := ⟨k - (i + 1), by omega⟩
  show _ = (pd_ex o D A B b V M (i + 1 + d)).2
  rw [ex_m d (fun j h1 h2 hs' => by
    have a := after j (by omega) hs' (by omega)
    rcases (hs j (by omega) hs').mp (by omega) with g | ⟨g, _⟩ <;> omega), ex_s ho, e0, vx_r]
  unfold pd_r
  rw [ho, or_12]
end P04
end
section
section P05
/-! the component's small methods -/
theorem xh_writes {A B : Prop} {u : SX} {o : Int32} (h0 : o = 12 → A) (h1 : ¬ o = 12 → B) : wpX_writes (fun r => (r = 0 → A) ∧ (¬ r = 0 → B)) u o := by
  obtain ⟨_, _, _, _, _, _, _, _, _, _, _, _, _, _, _, _, _, _, _, _, _, _, _, _, _, _, _, _, _, _, _, _, _, _, _⟩ := u
  exact And.intro (fun h => br_t rfl (h0 h)) (fun h => br_f (by decide) (h1 h))
theorem xh_readsA {A B : Prop} {u : SX} {o : Int32} (h0 : o = 0 → A) (h1 : ¬ o = 0 → B) : wpX_readsA (fun r => (r = 0 → A) ∧ (¬ r = 0 → B)) u o := by
  obtain ⟨_, _, _, _, _, _, _, _, _, _, _, _, _, _, _, _, _, _, _, _, _, _, _, _, _, _, _, _, _, _, _, _, _, _, _⟩ := u
  exact And.intro (fun h => br_t rfl (h0 h)) (fun h => br_f (by decide) (h1 h))
theorem xh_readsB {A B : Prop} {u : SX} {o : Int32} (h0 : ¬ pd_rb o → A) (h1 : pd_rb o → B) : wpX_readsB (fun r => (r = 0 → A) ∧ (¬ r = 0 → B)) u o := by
  obtain ⟨_, _, _, _, _, _, _, _, _, _, _, _, _, _, _, _, _, _, _, _, _, _, _, _, _, _, _, _, _, _, _, _, _, _, _⟩ := u
  refine And.intro (fun h => br_t rfl (h0 (fun z => z.1 h))) (fun h => br_c (fun g => br_t rfl (h0 (fun z => z.2.1 g))) (fun g => br_c (fun k => br_t rfl (h0 (fun z => z.2.2 k))) (fun k => br_f (by decide) (h1 ⟨h, g, k⟩))))
theorem xh_isMemory {A B : Prop} {u : SX} {o : Int32} (h0 : ¬ (o = 11 ∨ o = 12) → A) (h1 : (o = 11 ∨ o = 12) → B) : wpX_isMemory (fun r => (r = 0 → A) ∧ (¬ r = 0 → B)) u o := by
  obtain ⟨_, _, _, _, _, _, _, _, _, _, _, _, _, _, _, _, _, _, _, _, _, _, _, _, _, _, _, _, _, _, _, _, _, _, _⟩ := u
  refine And.intro (fun h => br_f (by decide) (h1 (Or.inl h))) (fun h => br_c (fun g => br_f (by decide) (h1 (Or.inr g))) (fun g => br_t rfl (h0 (fun z => z.elim h g))))
theorem xh_hasP {post : Int32 → Prop} {u : SX} {m : Int32} {j : Nat} (hj : j < 32) (h0 : ¬ bt m j = true → post 0) (h1 : bt m j = true → post 1) : wpX_has post u m (nI j) := by
  obtain ⟨_, _, _, _, _, _, _, _, _, _, _, _, _, _, _, _, _, _, _, _, _, _, _, _, _, _, _, _, _, _, _, _, _, _, _⟩ := u
  refine And.intro (fun h => h0 (fun z => ?_)) (fun h => h1 ?_)
  · rw [bq_has hj, z] at h; exact absurd h (by decide)
  · rw [bq_has hj] at h; simpa using h
theorem xh_has {A B : Prop} {u : SX} {m : Int32} {j : Nat} (hj : j < 32) (h0 : ¬ bt m j = true → A) (h1 : bt m j = true → B) : wpX_has (fun r => (r = 0 → A) ∧ (¬ r = 0 → B)) u m (nI j) :=
  xh_hasP hj (fun h => br_t rfl (h0 h)) (fun h => br_f (by decide) (h1 h))
theorem xh_isIndex {A B : Prop} {u : SX} {p : Int32} (h0 : (p < 0 ∨ 8 ≤ p) → A) (h1 : ∀ j, j < 8 → p = nI j → B) : wpX_isIndex (fun r => (r = 0 → A) ∧ (¬ r = 0 → B)) u p := by
  obtain ⟨_, _, _, _, _, _, _, _, _, _, _, _, _, _, _, _, _, _, _, _, _, _, _, _, _, _, _, _, _, _, _, _, _, _, _⟩ := u
  refine And.intro (fun h => br_t rfl (h0 (Or.inl h))) (fun h => br_c (fun g => br_t rfl (h0 (Or.inr g))) (fun g => br_f (by decide) ?_))
  rcases pk_ix p (n := 8) (by omega) with z | z | ⟨j, hj, e⟩
  · exact absurd z h
  · exact absurd z g
  · exact h1 j hj e
theorem xh_producer {post : Int32 → Prop} {u : SX} {p : Int32} (hp : p = -1 ∨ ∃ x, x < 16 ∧ p = nI x) (h : ∀ q, (∀ j, j < 32 → (bt q j = true ↔ p = nI (8 + j))) → post q) : wpX_producer post u p := by
  obtain ⟨_, _, _, _, _, _, _, _, _, _, _, _, _, _, _, _, _, _, _, _, _, _, _, _, _, _, _, _, _, _, _, _, _, _, _⟩ := u
  refine And.intro (fun g => h 0 (fun j hj => ⟨fun z => absurd z bq_n0, fun z => ?_⟩)) (fun g => h _ (fun j hj => ?_))
  · subst z
    exact absurd g (nI_nlt (b := 8) (by omega) (by omega))
  · rcases hp with e | ⟨x, hx, e⟩
    · rw [e] at g; exact absurd (by decide) g
    · have hx8 : 8 ≤ x := by
        apply Classical.byContradiction
        intro z
        rw [e] at g
        exact g (nI_lt (b := 8) (by omega) (by omega))
      rw [e, show nI x - 8 = nI (x - 8) from pk_sub (b := 8) hx8, bq_one (by omega) hj, decide_eq_true_eq, nI_eq (by omega) (by omega)]
      omega
theorem xh_larger {post : Int32 → Prop} {u : SX} {a b : Nat} (ha : a < 2 ^ 31) (hb : b < 2 ^ 31) (h : post (nI (max a b))) : wpX_larger post u (nI a) (nI b) := by
  obtain ⟨_, _, _, _, _, _, _, _, _, _, _, _, _, _, _, _, _, _, _, _, _, _, _, _, _, _, _, _, _, _, _, _, _, _, _⟩ := u
  refine And.intro (fun g => ?_) (fun g => ?_)
  · rw [nI_leI ha hb] at g
    rw [Nat.max_eq_right g] at h; exact h
  · rw [nI_leI ha hb] at g
    rw [Nat.max_eq_left (by omega)] at h; exact h
theorem xh_largerI {post : Int32 → Prop} {u : SX} {p q : Int32} (h : ∀ r, (r = p ∨ r = q) → p.toInt ≤ r.toInt → q.toInt ≤ r.toInt → post r) : wpX_larger post u p q := by
  obtain ⟨_, _, _, _, _, _, _, _, _, _, _, _, _, _, _, _, _, _, _, _, _, _, _, _, _, _, _, _, _, _, _, _, _, _, _⟩ := u
  refine And.intro (fun g => h q (Or.inr rfl) ?_ (Int.le_refl _)) (fun g => h p (Or.inl rfl) (Int.le_refl _) ?_)
  · exact Int32.le_iff_toInt_le.mp g
  · rw [Int32.le_iff_toInt_le] at g; omega
variable {xal xmu xmt xsa xmo xcl xat : Int32} {xop xfd xfa xfb xct xin xce xli xho xle xbl xis xen xun xsA xsB xde xex xcu xdp xhe xuf xlu xvr xhu xrg xuo xla : Nat → Int32}
theorem xh_latency {post : Int32 → Prop} {T : Nat} {x : Int32} (hT : xmt = nI T) (h : post (nI (pd_lt T x))) : wpX_latency post (xal, xmu, xmt, xsa, xmo, xcl, xat, xop, xfd, xfa, xfb, xct, xin, xce, xli, xho, xle, xbl, xis, xen, xun, xsA, xsB, xde, xex, xcu, xdp, xhe, xuf, xlu, xvr, xhu, xrg, xuo, xla) x := by
  refine And.intro (fun g => ?_) (fun g => ?_)
  · unfold pd_lt at h; rw [if_pos g, ← hT] at h; exact h
  · unfold pd_lt at h; rw [if_neg g] at h; exact h
theorem xh_readPort {post : Int32 → Prop} {p : Int32} (h0 : p = -1 → post 0) (h1 : ∀ r, r < 16 → p = nI r → post (xrg r)) (hp : p = -1 ∨ ∃ r, r < 16 ∧ p = nI r) : wpX_readPort post (xal, xmu, xmt, xsa, xmo, xcl, xat, xop, xfd, xfa, xfb, xct, xin, xce, xli, xho, xle, xbl, xis, xen, xun, xsA, xsB, xde, xex, xcu, xdp, xhe, xuf, xlu, xvr, xhu, xrg, xuo, xla) p := by
  rcases hp with e | ⟨r, hr, e⟩
  · subst e
    exact br_f (c := (0 : Int32) ≤ -1) (by decide) (h0 rfl)
  · subst e
    refine br_t (c := (0 : Int32) ≤ nI r) (nI_pos' (by omega)) ⟨vp_in_nI hr (by omega), ?_⟩
    rw [nI_clamp (by omega)]
    exact h1 r hr rfl
theorem xh_registerOf {post : Int32 → Prop} {p : Int32} (h0 : p = -1 → post (-1)) (h1 : ∀ r, r < 16 → p = nI r → post (xvr r)) (hp : p = -1 ∨ ∃ r, r < 16 ∧ p = nI r) : wpX_registerOf post (xal, xmu, xmt, xsa, xmo, xcl, xat, xop, xfd, xfa, xfb, xct, xin, xce, xli, xho, xle, xbl, xis, xen, xun, xsA, xsB, xde, xex, xcu, xdp, xhe, xuf, xlu, xvr, xhu, xrg, xuo, xla) p := by
  rcases hp with e | ⟨r, hr, e⟩
  · subst e
    exact br_f (c := (0 : Int32) ≤ -1) (by decide) (h0 rfl)
  · subst e
    refine br_t (c := (0 : Int32) ≤ nI r) (nI_pos' (by omega)) ⟨vp_in_nI hr (by omega), ?_⟩
    rw [nI_clamp (by omega)]
    exact h1 r hr rfl
theorem xh_operate {post : Int32 → Prop} {op x y : Int32} (h : post (pd_or op x y xce)) : wpX_operate post (xal, xmu, xmt, xsa, xmo, xcl, xat, xop, xfd, xfa, xfb, xct, xin, xce, xli, xho, xle, xbl, xis, xen, xun, xsA, xsB, xde, xex, xcu, xdp, xhe, xuf, xlu, xvr, xhu, xrg, xuo, xla) op x y := by
  unfold pd_or at h
  refine br_c (fun g => ?_) (fun g => ?_)
  · rw [if_pos g] at h; exact h
  rw [if_neg g] at h
  refine br_c (fun g => ?_) (fun g => ?_)
  · rw [if_pos g] at h; exact h
  rw [if_neg g] at h
  refine br_c (fun g => ?_) (fun g => ?_)
  · rw [if_pos g] at h; exact h
  rw [if_neg g] at h
  refine br_c (fun g => ?_) (fun g => ?_)
  · rw [if_pos g] at h; exact h
  rw [if_neg g] at h
  refine br_c (fun g => ?_) (fun g => ?_)
  · rw [if_pos g] at h; exact h
  rw [if_neg g] at h
  refine br_c (fun g => ?_) (fun g => ?_)
  · rw [if_pos g] at h; exact h
  rw [if_neg g] at h
  refine br_c (fun g => ?_) (fun g => ?_)
  · rw [if_pos g] at h; exact h
  rw [if_neg g] at h
  refine br_c (fun g => ?_) (fun g => ?_)
  · rw [if_pos g] at h
    refine br_c (fun k => ?_) (fun k => ?_)
    · rw [if_pos k] at h; exact h
    · rw [if_neg k] at h; exact h
  rw [if_neg g] at h
  refine br_c (fun g => ?_) (fun g => ?_)
  · rw [if_pos g] at h
    refine br_c (fun k => ?_) (fun k => ?_)
    · rw [if_pos k] at h; exact h
    · rw [if_neg k] at h; exact h
  rw [if_neg g] at h
  refine br_c (fun g => ?_) (fun g => ?_)
  · rw [if_pos g] at h; exact ⟨pk_andIn x 3 (by decide) (by decide), h⟩
  rw [if_neg g] at h
  refine br_c (fun g => ?_) (fun g => ?_)
  · rw [if_pos g] at h; exact h
  rw [if_neg g] at h
  exact h
end P05
end
section
section P06
/-! liveness: the component's masks -/
def lm_m (li : Nat → Int32) (t v : Nat) : Prop := bt (li t) v = true
variable {xal xmu xmt xsa xmo xcl xat : Int32} {xop xfd xfa xfb xct xin xce xli xho xle xbl xis xen xun xsA xsB xde xex xcu xdp xhe xuf xlu xvr xhu xrg xuo xla : Nat → Int32}
theorem xl_n54 {post : Int32 → Prop} {q : Int32} {k : Nat} (hk : k < 72) (hB : ∃ c, c < 8 ∧ xfb k = nI c) (h1 : xop k = 1 → post (q ||| xli (xfb k).toNatClampNeg)) (h0 : ¬ xop k = 1 → post q) : wX_neededAfter_54 post (nI k) q xal xmu xmt xsa xmo xcl xat xop xfd xfa xfb xct xin xce xli xho xle xbl xis xen xun xsA xsB xde xex xcu xdp xhe xuf xlu xvr xhu xrg xuo xla := by
  obtain ⟨c, hc, ec⟩ := hB
  have ck : (nI k).toNatClampNeg = k := nI_clamp (by omega)
  have vk : vp_in (nI k) 72 := vp_in_nI hk (by omega)
  unfold wX_neededAfter_54
  rw [ck]
  exact ⟨vk, br_c (fun g => ⟨vk, by rw [ec]; exact vp_in_nI hc (by omega), nm_e (h1 g)⟩) h0⟩
theorem xl_n30 {post : Int32 → Prop} {q : Int32} {k : Nat} (hk : k < 72) (hA : ∃ c, c < 8 ∧ xfa k = nI c) (h1 : ¬ xop k = 2 → wX_neededAfter_54 post (nI k) (q ||| xli (xfa k).toNatClampNeg) xal xmu xmt xsa xmo xcl xat xop xfd xfa xfb xct xin xce xli xho xle xbl xis xen xun xsA xsB xde xex xcu xdp xhe xuf xlu xvr xhu xrg xuo xla) (h0 : xop k = 2 → wX_neededAfter_54 post (nI k) q xal xmu xmt xsa xmo xcl xat xop xfd xfa xfb xct xin xce xli xho xle xbl xis xen xun xsA xsB xde xex xcu xdp xhe xuf xlu xvr xhu xrg xuo xla) : wX_neededAfter_30 post (nI k) q xal xmu xmt xsa xmo xcl xat xop xfd xfa xfb xct xin xce xli xho xle xbl xis xen xun xsA xsB xde xex xcu xdp xhe xuf xlu xvr xhu xrg xuo xla := by
  obtain ⟨c, hc, ec⟩ := hA
  have ck : (nI k).toNatClampNeg = k := nI_clamp (by omega)
  have vk : vp_in (nI k) 72 := vp_in_nI hk (by omega)
  unfold wX_neededAfter_30
  rw [ck]
  exact ⟨vk, br_c h0 (fun g => ⟨vk, by rw [ec]; exact vp_in_nI hc (by omega), nm_e (h1 g)⟩)⟩
theorem xl_need {post : Int32 → Prop} {b : Nat} (hb : b < 8) (hw : wf_cl xop xfd xfa xfb (b * 9 + 8)) (h : ∀ q, (∀ v, v < 8 → (bt q v = true ↔ pd_nd (lm_m xli) xop xfd xfa xfb b v)) → post q) : wpX_neededAfter post (xal, xmu, xmt, xsa, xmo, xcl, xat, xop, xfd, xfa, xfb, xct, xin, xce, xli, xho, xle, xbl, xis, xen, xun, xsA, xsB, xde, xex, xcu, xdp, xhe, xuf, xlu, xvr, xhu, xrg, xuo, xla) (nI b) := by
  obtain ⟨hk, ⟨d, hd, ed⟩, hA, hB, _, _⟩ := hw
  have hk72 : b * 9 + 8 < 72 := by omega
  have ck : (nI (b * 9 + 8)).toNatClampNeg = b * 9 + 8 := nI_clamp (by omega)
  have vk : vp_in (nI (b * 9 + 8)) 72 := vp_in_nI hk72 (by omega)
  have fin : ∀ q0 : Int32, (∀ v, v < 8 → (bt q0 v = true ↔ (¬ xop (b * 9 + 8) = 0 ∧ xfd (b * 9 + 8) = nI v))) → wX_neededAfter_30 post (nI (b * 9 + 8)) q0 xal xmu xmt xsa xmo xcl xat xop xfd xfa xfb xct xin xce xli xho xle xbl xis xen xun xsA xsB xde xex xcu xdp xhe xuf xlu xvr xhu xrg xuo xla := by
    intro q0 hq
    refine xl_n30 hk72 hA (fun g2 => xl_n54 hk72 hB (fun g1 => h _ fun v hv => ?_) (fun g1 => h _ fun v hv => ?_)) (fun g2 => xl_n54 hk72 hB (fun g1 => h _ fun v hv => ?_) (fun g1 => h _ fun v hv => ?_))
    · rw [bq_or, bq_or, hq v hv]
      unfold pd_nd lm_m
      simp only [g2, iff_true_intro g1, not_false_eq_true, true_and, or_assoc]
    · rw [bq_or, hq v hv]
      unfold pd_nd lm_m
      simp only [g2, g1, not_false_eq_true, true_and, false_and, or_false]
    · rw [g2] at g1; exact absurd g1 (by decide)
    · rw [hq v hv]
      unfold pd_nd lm_m
      simp only [iff_true_intro g2, g1, not_true_eq_false, false_and, or_false]
  refine nm_r (na_e b) ?_
  rw [ck]
  refine ⟨vk, br_c (fun g => fin 0 (fun v hv => ?_)) (fun g => ⟨vk, nm_e (fin _ (fun v hv => ?_))⟩)⟩
  · exact ⟨fun z => absurd z bq_n0, fun z => absurd g z.1⟩
  · rw [ed, bq_set (by omega) (by omega), nI_eq (by omega) (by omega)]
    exact ⟨fun z => ⟨g, (z.resolve_left bq_n0).symm⟩, fun z => Or.inr z.2.symm⟩
theorem xl_55 {post : Int32 → Prop} {J : Int32 → Int32 → Prop} {x1 q : Int32} {k i : Nat} (hk : k < 72) (hw : wf_op xop xfd xfa xfb k) (h : ∀ q', (∀ v, v < 8 → (bt q' v = true ↔ pd_rd xop xfa xfb k v ∨ bt q v = true)) → J q' (dn_d i)) : wX_liveBefore_55 post J x1 q (nI i) (nI k) xal xmu xmt xsa xmo xcl xat xop xfd xfa xfb xct xin xce xli xho xle xbl xis xen xun xsA xsB xde xex xcu xdp xhe xuf xlu xvr xhu xrg xuo xla := by
  obtain ⟨_, _, hA, c, hc, ec⟩ := hw
  have ck : (nI k).toNatClampNeg = k := nI_clamp (by omega)
  have vk : vp_in (nI k) 72 := vp_in_nI hk (by omega)
  have fin : ∀ q0 : Int32, (∀ v, v < 8 → (bt q0 v = true ↔ (¬ xop k = 0 ∧ xfa k = nI v) ∨ bt q v = true)) → wX_liveBefore_81 post J x1 q0 (nI i) (nI k) xal xmu xmt xsa xmo xcl xat xop xfd xfa xfb xct xin xce xli xho xle xbl xis xen xun xsA xsB xde xex xcu xdp xhe xuf xlu xvr xhu xrg xuo xla := by
    intro q0 hq
    unfold wX_liveBefore_81
    rw [ck]
    refine ⟨vk, xh_readsB (fun g => nm_r (dn_m i) (h q0 fun v hv => ?_)) (fun g => ⟨vk, nm_e (nm_r (dn_m i) (h _ fun v hv => ?_))⟩)⟩
    · rw [hq v hv]
      unfold pd_rd
      simp only [g, false_and, or_false]
    · rw [ec, bq_set (by omega) (by omega), hq v hv]
      unfold pd_rd
      rw [ec, nI_eq (by omega) (by omega)]
      simp only [g, true_and]
      constructor
      · rintro ((z | z) | z)
        · exact Or.inl (Or.inl z)
        · exact Or.inr z
        · exact Or.inl (Or.inr z.symm)
      · rintro ((z | z) | z)
        · exact Or.inl (Or.inl z)
        · exact Or.inr z.symm
        · exact Or.inl (Or.inr z)
  unfold wX_liveBefore_55
  rw [ck]
  refine ⟨vk, xh_readsA (fun g => fin q (fun v hv => ?_)) (fun g => ⟨vk, nm_e (fin _ (fun v hv => ?_))⟩)⟩
  · simp only [g, not_true_eq_false, false_and, false_or]
  · obtain ⟨a, ha, ea⟩ := hA g
    rw [ea, bq_set (by omega) (by omega), nI_eq (by omega) (by omega)]
    constructor
    · rintro (z | z)
      · exact Or.inr z
      · exact Or.inl ⟨g, z.symm⟩
    · rintro (z | z)
      · exact Or.inr z.2.symm
      · exact Or.inl z
theorem xl_15 {post : Int32 → Prop} {M : Nat → Nat → Prop} {b n : Nat} (hb : b < 8) (hn : n ≤ 8) (hw : ∀ i, i < n → wf_op xop xfd xfa xfb (b * 9 + i)) (h : ∀ q, (∀ v, v < 8 → (bt q v = true ↔ pd_lb M xop xfd xfa xfb n b 0 v)) → post q) :
    ∀ i, i ≤ n → ∀ q, (∀ v, v < 8 → (bt q v = true ↔ pd_lb M xop xfd xfa xfb n b i v)) → wX_liveBefore_15 post (nI b) xal xmu xmt xsa xmo xcl xat xop xfd xfa xfb xct xin xce xli xho xle xbl xis xen xun xsA xsB xde xex xcu xdp xhe xuf xlu xvr xhu xrg xuo xla (i + 1) q (dn_d i) := by
  intro i
  induction i with
  | zero =>
    intro _ q hq
    rw [wX_liveBefore_15]; dsimp only
    exact br_t dn_0 (h q hq)
  | succ i ih =>
    intro hi q hq
    rw [wX_liveBefore_15]; dsimp only; rw [dn_s]
    have hk : b * 9 + i < 72 := by omega
    have ck : (nI (b * 9 + i)).toNatClampNeg = b * 9 + i := nI_clamp (by omega)
    have vk : vp_in (nI (b * 9 + i)) 72 := vp_in_nI hk (by omega)
    have w := hw i (by omega)
    obtain ⟨_, ⟨d, hd, ed⟩, _⟩ := hw i (by omega)
    refine br_f (nI_pos (by omega)) (nm_r (na_ix b i) ?_)
    rw [ck]
    refine ⟨vk, xh_writes (fun g => xl_55 hk w (fun q' hq' => ih (by omega) q' (fun v hv => ?_))) (fun g => ⟨vk, nm_e (xl_55 hk w (fun q' hq' => ih (by omega) q' (fun v hv => ?_)))⟩)⟩
    · rw [hq' v hv, hq v hv, lb_s (show i < n by omega)]
      unfold pd_wr
      simp only [g, not_true_eq_false, false_and, not_false_eq_true, true_and]
    · rw [hq' v hv, ed, bq_clr (by omega) (by omega), hq v hv, lb_s (show i < n by omega)]
      unfold pd_wr
      rw [ed, nI_eq (by omega) (by omega)]
      simp only [g, not_false_eq_true, true_and]
      constructor
      · rintro (z | ⟨z1, z2⟩)
        · exact Or.inl z
        · exact Or.inr ⟨fun e => z2 e.symm, z1⟩
      · rintro (z | ⟨z1, z2⟩)
        · exact Or.inl z
        · exact Or.inr ⟨z2, fun e => z1 e.symm⟩
theorem xl_before {post : Int32 → Prop} {b C : Nat} (hb : b < C) (hw : wf_al xop xfd xfa xfb xct C) (h : ∀ q, (∀ v, v < 8 → (bt q v = true ↔ pd_lb (lm_m xli) xop xfd xfa xfb (pd_n xct b) b 0 v)) → post q) : wpX_liveBefore post (xal, xmu, xmt, xsa, xmo, xcl, xat, xop, xfd, xfa, xfb, xct, xin, xce, xli, xho, xle, xbl, xis, xen, xun, xsA, xsB, xde, xex, xcu, xdp, xhe, xuf, xlu, xvr, xhu, xrg, xuo, xla) (nI b) := by
  obtain ⟨hC, hct, hop, hcl⟩ := hw
  obtain ⟨hn, en⟩ := hct b (by omega)
  have cb : (nI b).toNatClampNeg = b := nI_clamp (by omega)
  refine xl_need (b := b) (by omega) (hcl b hb) (fun q hq => ⟨vp_in_nI (by omega) (by omega), nm_r (e' := dn_d (pd_n xct b)) ?_ ⟨_, xl_15 (M := lm_m xli) (by omega) hn (hop b (by omega)) h (pd_n xct b) (Nat.le_refl _) q (fun v hv => ?_)⟩⟩)
  · rw [cb, en]; rfl
  · rw [hq v hv, lb_e]
end P06
end
section
section P07
/-! findLive -/
def fl_i (o D A B ct : Nat → Int32) (C p i : Nat) (L : Nat → Int32) : Prop :=
  (∀ b, b < C → ∀ v, v < 8 → bt (L b) v = true → pd_lv o D A B ct 8 b v) ∧ (∀ b, b < C → ∀ v, v < 8 → pd_lv o D A B ct p b v → bt (L b) v = true) ∧
  (∀ b, b < C → i ≤ b → ∀ v, v < 8 → pd_lv o D A B ct (p + 1) b v → bt (L b) v = true)
theorem fl_s {o D A B ct : Nat → Int32} {C p i : Nat} {L : Nat → Int32} {q : Int32} (hC : C ≤ 8) (ht : pd_tg A B C) (hi : i < C) (h : fl_i o D A B ct C p (i + 1) L)
    (hq : ∀ v, v < 8 → (bt q v = true ↔ pd_lb (lm_m L) o D A B (pd_n ct i) i 0 v)) : fl_i o D A B ct C p i (upd L i q) := by
  obtain ⟨h1, h2, h3⟩ := h
  have up : ∀ v, v < 8 → pd_lv o D A B ct (p + 1) i v → bt q v = true := by
    intro v hv g
    rw [hq v hv]
    exact lb_mono (M := pd_lv o D A B ct p) (h2 _ (tg_a hC ht hi) v hv) (h2 _ (tg_b hC ht hi) v hv) g
  refine ⟨fun b hb v hv g => ?_, fun b hb v hv g => ?_, fun b hb hib v hv g => ?_⟩
  · by_cases e : b = i
    · subst e
      rw [pk_us, hq v hv] at g
      exact lv_fix hC ht b hb (lb_mono (M := lm_m L) (M' := pd_lv o D A B ct 8) (h1 _ (tg_a hC ht hi) v hv) (h1 _ (tg_b hC ht hi) v hv) g)
    · rw [pk_un e] at g
      exact h1 b hb v hv g
  · by_cases e : b = i
    · subst e
      rw [pk_us]
      exact up v hv (lv_up p b g)
    · rw [pk_un e]
      exact h2 b hb v hv g
  · by_cases e : b = i
    · subst e
      rw [pk_us]
      exact up v hv g
    · rw [pk_un e]
      exact h3 b hb (by omega) v hv g
variable {xal xmu xmt xsa xmo xcl xat : Int32} {xop xfd xfa xfb xct xin xce xli xho xle xbl xis xen xun xsA xsB xde xex xcu xdp xhe xuf xlu xvr xhu xrg xuo xla : Nat → Int32}
theorem xl_36 {post : SX → Prop} {J : Int32 → (Nat → Int32) → (Nat → Int32) → (Nat → Int32) → (Nat → Int32) → (Nat → Int32) → (Nat → Int32) → (Nat → Int32) → (Nat → Int32) → (Nat → Int32) → (Nat → Int32) → (Nat → Int32) → (Nat → Int32) → (Nat → Int32) → (Nat → Int32) → (Nat → Int32) → (Nat → Int32) → (Nat → Int32) → (Nat → Int32) → (Nat → Int32) → (Nat → Int32) → (Nat → Int32) → (Nat → Int32) → (Nat → Int32) → (Nat → Int32) → (Nat → Int32) → (Nat → Int32) → (Nat → Int32) → (Nat → Int32) → Prop} {C p : Nat} (hw : wf_al xop xfd xfa xfb xct C) (ht : pd_tg xfa xfb C) (hJ : ∀ L, fl_i xop xfd xfa xfb xct C p 0 L → J (nI (p + 1)) xop xfd xfa xfb xct xin xce L xho xle xbl xis xen xun xsA xsB xde xex xcu xdp xhe xuf xlu xvr xhu xrg xuo xla) :
    ∀ i, i ≤ C → ∀ L, fl_i xop xfd xfa xfb xct C p i L → wX_findLive_36 post J (nI p) xal xmu xmt xsa xmo xcl xat (i + 1) (dn_d i) xop xfd xfa xfb xct xin xce L xho xle xbl xis xen xun xsA xsB xde xex xcu xdp xhe xuf xlu xvr xhu xrg xuo xla := by
  intro i
  induction i with
  | zero =>
    intro _ L hL
    rw [wX_findLive_36]; dsimp only
    exact br_t dn_0 (nm_r (nI_1 p) (hJ L hL))
  | succ i ih =>
    intro hi L hL
    have hC := hw.1
    rw [wX_findLive_36]; dsimp only; rw [dn_s]
    have ci : (nI i).toNatClampNeg = i := nI_clamp (by omega)
    refine br_f (nI_pos (by omega)) (xl_before (xli := L) (b := i) (by omega) hw (fun q hq => ⟨vp_in_nI (by omega) (by omega), ?_⟩))
    rw [ci]
    exact nm_e (nm_r (dn_m i) (ih (by omega) _ (fl_s hC ht (by omega) hL hq)))
theorem xl_23 {post : SX → Prop} {C : Nat} (hcl : xcl = nI C) (hw : wf_al xop xfd xfa xfb xct C) (ht : pd_tg xfa xfb C) (h : ∀ L, (∀ b, b < C → ∀ v, v < 8 → (bt (L b) v = true ↔ pd_lv xop xfd xfa xfb xct 8 b v)) → post (xal, xmu, xmt, xsa, xmo, xcl, xat, xop, xfd, xfa, xfb, xct, xin, xce, L, xho, xle, xbl, xis, xen, xun, xsA, xsB, xde, xex, xcu, xdp, xhe, xuf, xlu, xvr, xhu, xrg, xuo, xla)) :
    ∀ d p L, p + d = 8 → fl_i xop xfd xfa xfb xct C p C L → wX_findLive_23 post xal xmu xmt xsa xmo xcl xat (d + 1) (nI p) xop xfd xfa xfb xct xin xce L xho xle xbl xis xen xun xsA xsB xde xex xcu xdp xhe xuf xlu xvr xhu xrg xuo xla := by
  intro d
  induction d with
  | zero =>
    intro p L hp hL
    rw [wX_findLive_23]; dsimp only
    have e : p = 8 := by omega
    subst e
    exact br_t (nI_le (a := 8) (by omega) (by omega)) (h L (fun b hb v hv => ⟨hL.1 b hb v hv, hL.2.1 b hb v hv⟩))
  | succ d ih =>
    intro p L hp hL
    rw [wX_findLive_23]; dsimp only
    refine br_f (nI_ge (b := 8) (by omega) (by omega)) (nm_r (e' := dn_d C) (by rw [hcl]; rfl) ⟨C + 1, xl_36 hw ht (fun L' hL' => ih (p + 1) L' (by omega) ⟨hL'.1, fun b hb => hL'.2.2 b hb (Nat.zero_le b), fun b hb hc => absurd hb (by omega)⟩) C (Nat.le_refl C) L hL⟩)
theorem xl_2 {post : SX → Prop} {C : Nat} (hcl : xcl = nI C) (hw : wf_al xop xfd xfa xfb xct C) (ht : pd_tg xfa xfb C) (h : ∀ L, (∀ b, b < C → ∀ v, v < 8 → (bt (L b) v = true ↔ pd_lv xop xfd xfa xfb xct 8 b v)) → post (xal, xmu, xmt, xsa, xmo, xcl, xat, xop, xfd, xfa, xfb, xct, xin, xce, L, xho, xle, xbl, xis, xen, xun, xsA, xsB, xde, xex, xcu, xdp, xhe, xuf, xlu, xvr, xhu, xrg, xuo, xla)) :
    ∀ d i L, i + d = 8 → (∀ j, j < i → L j = 0) → wX_findLive_2 post xal xmu xmt xsa xmo xcl xat (d + 1) (nI i) xop xfd xfa xfb xct xin xce L xho xle xbl xis xen xun xsA xsB xde xex xcu xdp xhe xuf xlu xvr xhu xrg xuo xla := by
  intro d
  induction d with
  | zero =>
    intro i L hi hL
    rw [wX_findLive_2]; dsimp only
    have e : i = 8 := by omega
    subst e
    have hC := hw.1
    exact br_t (nI_le (a := 8) (by omega) (by omega)) ⟨9, xl_23 hcl hw ht h 8 0 L rfl ⟨fun b hb v hv g => by rw [hL b (by omega)] at g; exact absurd g bq_n0, fun b hb v hv g => absurd g id, fun b hb hc => absurd hb (by omega)⟩⟩
  | succ d ih =>
    intro i L hi hL
    rw [wX_findLive_2]; dsimp only
    have ci : (nI i).toNatClampNeg = i := nI_clamp (by omega)
    refine br_f (nI_ge (b := 8) (by omega) (by omega)) ⟨vp_in_nI (by omega) (by omega), ?_⟩
    rw [ci]
    refine nm_e (nm_r (nI_1 i) (ih (i + 1) _ (by omega) (fun j hj => ?_)))
    by_cases e : j = i
    · rw [e, pk_us]
    · rw [pk_un e]; exact hL j (by omega)
theorem xl_find {post : SX → Prop} {C : Nat} (hcl : xcl = nI C) (hw : wf_al xop xfd xfa xfb xct C) (ht : pd_tg xfa xfb C) (h : ∀ L, (∀ b, b < C → ∀ v, v < 8 → (bt (L b) v = true ↔ pd_lv xop xfd xfa xfb xct 8 b v)) → post (xal, xmu, xmt, xsa, xmo, xcl, xat, xop, xfd, xfa, xfb, xct, xin, xce, L, xho, xle, xbl, xis, xen, xun, xsA, xsB, xde, xex, xcu, xdp, xhe, xuf, xlu, xvr, xhu, xrg, xuo, xla)) :
    wpX_findLive post (xal, xmu, xmt, xsa, xmo, xcl, xat, xop, xfd, xfa, xfb, xct, xin, xce, xli, xho, xle, xbl, xis, xen, xun, xsA, xsB, xde, xex, xcu, xdp, xhe, xuf, xlu, xvr, xhu, xrg, xuo, xla) := ⟨9, xl_2 hcl hw ht h 8 0 xli rfl (fun j hj => absurd hj (by omega))⟩
end P07
end
section
section P08
/-! shareHomes -/
def hm_mt (li : Nat → Int32) (C u v : Nat) : Prop := ∃ b, b < C ∧ bt (li b) u = true ∧ bt (li b) v = true
/-- homes of the variables below v: small, and different where they meet -/
def hm_i (li : Nat → Int32) (C v : Nat) (H : Nat → Int32) : Prop :=
  (∀ u, u < v → ∃ r, r ≤ u ∧ H u = nI r) ∧ (∀ u w, u < w → w < v → hm_mt li C u w → H u ≠ H w)
variable {xal xmu xmt xsa xmo xcl xat : Int32} {xop xfd xfa xfb xct xin xce xli xho xle xbl xis xen xun xsA xsB xde xex xcu xdp xhe xuf xlu xvr xhu xrg xuo xla : Nat → Int32}
theorem xm_5 {post : Int32 → Prop} {C u v : Nat} (hC : C ≤ 8) (hcl : xcl = nI C) (hu : u < 8) (hv : v < 8) (h : ∀ r, (r = 0 ∧ ¬ hm_mt xli C u v ∨ r = 1 ∧ hm_mt xli C u v) → post r) :
    ∀ d i (r : Int32), i + d = C → (r = 0 ∧ (¬ ∃ b, b < i ∧ bt (xli b) u = true ∧ bt (xli b) v = true) ∨ r = 1 ∧ (∃ b, b < i ∧ bt (xli b) u = true ∧ bt (xli b) v = true)) → wX_meet_5 post (nI u) (nI v) xal xmu xmt xsa xmo xcl xat xop xfd xfa xfb xct xin xce xli xho xle xbl xis xen xun xsA xsB xde xex xcu xdp xhe xuf xlu xvr xhu xrg xuo xla (d + 1) r (nI i) := by
  intro d
  induction d with
  | zero =>
    intro i r hi hr
    rw [wX_meet_5]; dsimp only
    have e : i = C := by omega
    subst e
    refine br_t (by rw [hcl]; exact nI_le (Nat.le_refl _) (by omega)) ⟨?_, h r hr⟩
    rcases hr with ⟨e, _⟩ | ⟨e, _⟩ <;> rw [e] <;> rfl
  | succ d ih =>
    intro i r hi hr
    rw [wX_meet_5]; dsimp only
    have ci : (nI i).toNatClampNeg = i := nI_clamp (by omega)
    have vi : vp_in (nI i) 8 := vp_in_nI (by omega) (by omega)
    rw [ci]
    have keep : ¬ (bt (xli i) u = true ∧ bt (xli i) v = true) → (r ||| 0 = 0 ∧ (¬ ∃ b, b < i + 1 ∧ bt (xli b) u = true ∧ bt (xli b) v = true) ∨ r ||| 0 = 1 ∧ (∃ b, b < i + 1 ∧ bt (xli b) u = true ∧ bt (xli b) v = true)) := by
      intro g
      rcases hr with ⟨e, n⟩ | ⟨e, b, hb, n⟩
      · refine Or.inl ⟨by rw [e]; rfl, ?_⟩
        rintro ⟨b, hb, z⟩
        by_cases e2 : b = i
        · rw [e2] at z; exact g z
        · exact n ⟨b, by omega, z⟩
      · exact Or.inr ⟨by rw [e]; rfl, b, by omega, n⟩
    refine br_f (by rw [hcl]; exact nI_ge (by omega) (by omega)) ⟨vi, xh_has (by omega) (fun g => nm_e (nm_r (nI_1 i) (ih (i + 1) _ (by omega) (keep (fun z => g z.1))))) (fun g => ⟨vi, xh_has (by omega) (fun g2 => nm_e (nm_r (nI_1 i) (ih (i + 1) _ (by omega) (keep (fun z => g2 z.2))))) (fun g2 => nm_e (nm_r (nI_1 i) (ih (i + 1) _ (by omega) (Or.inr ⟨?_, i, by omega, g, g2⟩))))⟩)⟩
    rcases hr with ⟨e, _⟩ | ⟨e, _⟩ <;> rw [e] <;> rfl
theorem xm_meet {A B : Prop} {C u v : Nat} (hC : C ≤ 8) (hcl : xcl = nI C) (hu : u < 8) (hv : v < 8) (h0 : ¬ hm_mt xli C u v → A) (h1 : hm_mt xli C u v → B) : wpX_meet (fun r => (r = 0 → A) ∧ (¬ r = 0 → B)) (xal, xmu, xmt, xsa, xmo, xcl, xat, xop, xfd, xfa, xfb, xct, xin, xce, xli, xho, xle, xbl, xis, xen, xun, xsA, xsB, xde, xex, xcu, xdp, xhe, xuf, xlu, xvr, xhu, xrg, xuo, xla) (nI u) (nI v) := by
  refine ⟨C + 1, xm_5 hC hcl hu hv ?_ C 0 0 (by omega) (Or.inl ⟨rfl, fun ⟨b, hb, _⟩ => absurd hb (by omega)⟩)⟩
  rintro r (⟨e, n⟩ | ⟨e, n⟩)
  · subst e; exact br_t rfl (h0 n)
  · subst e; exact br_f (by decide) (h1 n)
theorem xm_49 {post : SX → Prop} {J : Int32 → (Nat → Int32) → (Nat → Int32) → (Nat → Int32) → (Nat → Int32) → (Nat → Int32) → (Nat → Int32) → (Nat → Int32) → (Nat → Int32) → (Nat → Int32) → (Nat → Int32) → (Nat → Int32) → (Nat → Int32) → (Nat → Int32) → (Nat → Int32) → (Nat → Int32) → (Nat → Int32) → (Nat → Int32) → (Nat → Int32) → (Nat → Int32) → (Nat → Int32) → (Nat → Int32) → (Nat → Int32) → (Nat → Int32) → (Nat → Int32) → (Nat → Int32) → (Nat → Int32) → (Nat → Int32) → (Nat → Int32) → Prop} {v : Nat} {tk : Int32} (hv : v < 8) (htk : ∀ r, r < 32 → bt tk r = true → r < v) (hJ : ∀ r, r ≤ v → ¬ bt tk r = true → J (nI (v + 1)) xop xfd xfa xfb xct xin xce xli (upd xho v (nI r)) xle xbl xis xen xun xsA xsB xde xex xcu xdp xhe xuf xlu xvr xhu xrg xuo xla) :
    ∀ d r, r + d = v → (∀ s, s < r → bt tk s = true) → wX_shareHomes_49 post J (nI v) tk xal xmu xmt xsa xmo xcl xat xop xfd xfa xfb xct xin xce xli xho xle xbl xis xen xun xsA xsB xde xex xcu xdp xhe xuf xlu xvr xhu xrg xuo xla (d + 1) (nI r) := by
  intro d
  have cv : (nI v).toNatClampNeg = v := nI_clamp (by omega)
  have vv : vp_in (nI v) 8 := vp_in_nI (by omega) (by omega)
  induction d with
  | zero =>
    intro r hr hs
    rw [wX_shareHomes_49]; dsimp only; rw [cv]
    have e : r = v := by omega
    subst e
    have nb : ¬ bt tk r = true := fun z => absurd (htk r (by omega) z) (by omega)
    exact br_c (fun _ => ⟨vv, nm_e (nm_r (nI_1 r) (hJ r (by omega) nb))⟩) (fun _ => xh_has (by omega) (fun _ => ⟨vv, nm_e (nm_r (nI_1 r) (hJ r (by omega) nb))⟩) (fun g => absurd g nb))
  | succ d ih =>
    intro r hr hs
    rw [wX_shareHomes_49]; dsimp only; rw [cv]
    refine br_f (nI_ge (b := 7) (by omega) (by omega)) (xh_has (by omega) (fun g => ⟨vv, nm_e (nm_r (nI_1 v) (hJ r (by omega) g))⟩) (fun g => nm_r (nI_1 r) (ih (r + 1) (by omega) (fun s hs' => ?_))))
    by_cases e : s = r
    · rw [e]; exact g
    · exact hs s (by omega)
theorem xm_12 {post : SX → Prop} {J : Int32 → (Nat → Int32) → (Nat → Int32) → (Nat → Int32) → (Nat → Int32) → (Nat → Int32) → (Nat → Int32) → (Nat → Int32) → (Nat → Int32) → (Nat → Int32) → (Nat → Int32) → (Nat → Int32) → (Nat → Int32) → (Nat → Int32) → (Nat → Int32) → (Nat → Int32) → (Nat → Int32) → (Nat → Int32) → (Nat → Int32) → (Nat → Int32) → (Nat → Int32) → (Nat → Int32) → (Nat → Int32) → (Nat → Int32) → (Nat → Int32) → (Nat → Int32) → (Nat → Int32) → (Nat → Int32) → (Nat → Int32) → Prop} {C v : Nat} (hC : C ≤ 8) (hcl : xcl = nI C) (hv : v < 8) (hH : hm_i xli C v xho) (hJ : ∀ H, hm_i xli C (v + 1) H → J (nI (v + 1)) xop xfd xfa xfb xct xin xce xli H xle xbl xis xen xun xsA xsB xde xex xcu xdp xhe xuf xlu xvr xhu xrg xuo xla) :
    ∀ d u tk, u + d = v → (∀ r, r < 32 → (bt tk r = true ↔ ∃ w, w < u ∧ hm_mt xli C w v ∧ xho w = nI r)) → wX_shareHomes_12 post J (nI v) xal xmu xmt xsa xmo xcl xat xop xfd xfa xfb xct xin xce xli xho xle xbl xis xen xun xsA xsB xde xex xcu xdp xhe xuf xlu xvr xhu xrg xuo xla (d + 1) tk (nI u) := by
  intro d
  induction d with
  | zero =>
    intro u tk hu ht
    rw [wX_shareHomes_12]; dsimp only
    have e : u = v := by omega
    subst e
    refine br_t (nI_le (Nat.le_refl _) (by omega)) ⟨u + 1, xm_49 hv (fun r hr g => ?_) (fun r hr g => hJ _ ⟨fun w hw => ?_, fun w x hwx hx hm => ?_⟩) u 0 (by omega) (fun s hs => absurd hs (by omega))⟩
    · obtain ⟨w, hw, _, e⟩ := (ht r hr).mp g
      obtain ⟨r', hr', e'⟩ := hH.1 w hw
      have := na_in (e.symm.trans e') (by omega) (by omega)
      omega
    · by_cases e : w = u
      · exact ⟨r, by omega, by rw [e, pk_us]⟩
      · rw [pk_un e]; exact hH.1 w (by omega)
    · rw [pk_un (show w ≠ u by omega)]
      by_cases e : x = u
      · subst e
        rw [pk_us]
        intro z
        exact g ((ht r (by omega)).mpr ⟨w, hwx, hm, z⟩)
      · rw [pk_un e]; exact hH.2 w x hwx (by omega) hm
  | succ d ih =>
    intro u tk hu ht
    rw [wX_shareHomes_12]; dsimp only
    have cu : (nI u).toNatClampNeg = u := nI_clamp (by omega)
    refine br_f (nI_ge (by omega) (by omega)) (xm_meet hC hcl (by omega) hv (fun g => nm_e (nm_r (nI_1 u) (ih (u + 1) _ (by omega) (fun r hr => ?_)))) (fun g => ⟨vp_in_nI (by omega) (by omega), ?_⟩))
    · rw [bq_or, ht r hr]
      constructor
      · rintro (⟨w, hw, z⟩ | z)
        · exact ⟨w, by omega, z⟩
        · exact absurd z bq_n0
      · rintro ⟨w, hw, z1, z2⟩
        have : w ≠ u := fun e => g (e ▸ z1)
        exact Or.inl ⟨w, by omega, z1, z2⟩
    · rw [cu]
      refine nm_e (nm_r (nI_1 u) (ih (u + 1) _ (by omega) (fun r hr => ?_)))
      obtain ⟨s, hs, es⟩ := hH.1 u (by omega)
      rw [es, bq_set (by omega) hr, ht r hr]
      constructor
      · rintro (⟨w, hw, z⟩ | z)
        · exact ⟨w, by omega, z⟩
        · exact ⟨u, by omega, g, by rw [es, z]⟩
      · rintro ⟨w, hw, z1, z2⟩
        by_cases e : w = u
        · subst e
          exact Or.inr (na_in (z2.symm.trans es) (by omega) (by omega))
        · exact Or.inl ⟨w, by omega, z1, z2⟩
theorem xm_2 {post : SX → Prop} {C : Nat} (hC : C ≤ 8) (hcl : xcl = nI C) (h : ∀ H, hm_i xli C 8 H → post (xal, xmu, xmt, xsa, xmo, xcl, xat, xop, xfd, xfa, xfb, xct, xin, xce, xli, H, xle, xbl, xis, xen, xun, xsA, xsB, xde, xex, xcu, xdp, xhe, xuf, xlu, xvr, xhu, xrg, xuo, xla)) :
    ∀ d v H, v + d = 8 → hm_i xli C v H → wX_shareHomes_2 post xal xmu xmt xsa xmo xcl xat (d + 1) (nI v) xop xfd xfa xfb xct xin xce xli H xle xbl xis xen xun xsA xsB xde xex xcu xdp xhe xuf xlu xvr xhu xrg xuo xla := by
  intro d
  induction d with
  | zero =>
    intro v H hv hH
    rw [wX_shareHomes_2]; dsimp only
    have e : v = 8 := by omega
    subst e
    exact br_t (nI_le (a := 8) (by omega) (by omega)) (h H hH)
  | succ d ih =>
    intro v H hv hH
    rw [wX_shareHomes_2]; dsimp only
    exact br_f (nI_ge (b := 8) (by omega) (by omega)) ⟨v + 1, xm_12 (xho := H) hC hcl (by omega) hH (fun H' hH' => ih (v + 1) H' (by omega) hH') v 0 0 (by omega) (fun r hr => ⟨fun z => absurd z bq_n0, fun ⟨w, hw, _⟩ => absurd hw (by omega)⟩)⟩
theorem xm_homes {post : SX → Prop} {C : Nat} (hC : C ≤ 8) (hcl : xcl = nI C) (h : ∀ H, hm_i xli C 8 H → post (xal, xmu, xmt, xsa, xmo, xcl, xat, xop, xfd, xfa, xfb, xct, xin, xce, xli, H, xle, xbl, xis, xen, xun, xsA, xsB, xde, xex, xcu, xdp, xhe, xuf, xlu, xvr, xhu, xrg, xuo, xla)) : wpX_shareHomes post (xal, xmu, xmt, xsa, xmo, xcl, xat, xop, xfd, xfa, xfb, xct, xin, xce, xli, xho, xle, xbl, xis, xen, xun, xsA, xsB, xde, xex, xcu, xdp, xhe, xuf, xlu, xvr, xhu, xrg, xuo, xla) :=
  ⟨9, xm_2 hC hcl h 8 0 xho rfl ⟨fun u hu => absurd hu (by omega), fun u w _ hw => absurd hw (by omega)⟩⟩
end P08
end
section
section P09
/-! buildGraph -/
def bg_sa (o D A : Nat → Int32) (b j : Nat) (x : Int32) : Prop := (o (b * 9 + j) = 0 → x = -1) ∧ (¬ o (b * 9 + j) = 0 → x = nI (pd_cu o D b j (A (b * 9 + j)).toNatClampNeg))
def bg_sb (o D B : Nat → Int32) (b j : Nat) (x : Int32) : Prop := (¬ pd_rb (o (b * 9 + j)) → x = -1) ∧ (pd_rb (o (b * 9 + j)) → x = nI (pd_cu o D b j (B (b * 9 + j)).toNatClampNeg))
def bg_i (o D A B : Nat → Int32) (b n : Nat) (sA0 sB0 : Nat → Int32) (i : Nat) (cu sA sB dp : Nat → Int32) (ld st : Int32) : Prop :=
  (∀ v, v < 8 → cu v = nI (pd_cu o D b i v)) ∧
  (∀ j, j < i → bg_sa o D A b j (sA (b * 9 + j)) ∧ bg_sb o D B b j (sB (b * 9 + j)) ∧ ∀ l, l < 32 → (bt (dp j) l = true ↔ pd_dp o D A B b l j)) ∧
  (∀ k, (k < b * 9 ∨ b * 9 + n ≤ k) → sA k = sA0 k ∧ sB k = sB0 k) ∧
  (∀ l, l < 32 → (bt ld l = true ↔ l < i ∧ o (b * 9 + l) = 11)) ∧ (∀ l, l < 32 → (bt st l = true ↔ l < i ∧ o (b * 9 + l) = 12))
theorem bg_sav {o D A B : Nat → Int32} {b j : Nat} {x : Int32} (hj : j < 8) (hw : wf_op o D A B (b * 9 + j)) (h : bg_sa o D A b j x) : x = -1 ∨ ∃ y, y < 16 ∧ x = nI y := by
  by_cases g : o (b * 9 + j) = 0
  · exact Or.inl (h.1 g)
  · obtain ⟨a, ha, ea⟩ := hw.2.2.1 g
    have l := cu_lt (o := o) (D := D) (b := b) ha j
    refine Or.inr ⟨_, ?_, h.2 g⟩
    rw [ea, nI_clamp (by omega)]; omega
theorem bg_sbv {o D A B : Nat → Int32} {b j : Nat} {x : Int32} (hj : j < 8) (hw : wf_op o D A B (b * 9 + j)) (h : bg_sb o D B b j x) : x = -1 ∨ ∃ y, y < 16 ∧ x = nI y := by
  by_cases g : pd_rb (o (b * 9 + j))
  · obtain ⟨a, ha, ea⟩ := hw.2.2.2
    have l := cu_lt (o := o) (D := D) (b := b) ha j
    refine Or.inr ⟨_, ?_, h.2 g⟩
    rw [ea, nI_clamp (by omega)]; omega
  · exact Or.inl (h.1 g)
theorem bg_m1 {j : Nat} (hj : j < 2 ^ 30) : ¬ (-1 : Int32) = nI j := by
  intro e
  have z := congrArg Int32.toInt e
  rw [nI_toInt (by omega), na_m1] at z
  omega
/-- one statement more -/
theorem bg_s {o D A B : Nat → Int32} {b n i : Nat} {sA0 sB0 cu sA sB dp cu' sA' sB' dp' : Nat → Int32} {ld st ld' st' : Int32} (hn : n ≤ 8) (hi : i < n) (hw : wf_op o D A B (b * 9 + i))
    (h : bg_i o D A B b n sA0 sB0 i cu sA sB dp ld st)
    (hl : ∀ l, l < 32 → (bt ld' l = true ↔ bt ld l = true ∨ (o (b * 9 + i) = 11 ∧ l = i))) (hs : ∀ l, l < 32 → (bt st' l = true ↔ bt st l = true ∨ (o (b * 9 + i) = 12 ∧ l = i)))
    (hc : cu' = if o (b * 9 + i) = 12 then cu else upd cu (D (b * 9 + i)).toNatClampNeg (nI (8 + i)))
    (ha : bg_sa o D A b i (sA' (b * 9 + i))) (ha' : ∀ k, k ≠ b * 9 + i → sA' k = sA k) (hb : bg_sb o D B b i (sB' (b * 9 + i))) (hb' : ∀ k, k ≠ b * 9 + i → sB' k = sB k)
    (hd : ∀ l, l < 32 → (bt (dp' i) l = true ↔ sA' (b * 9 + i) = nI (8 + l) ∨ sB' (b * 9 + i) = nI (8 + l) ∨ (o (b * 9 + i) = 12 ∧ (bt ld l = true ∨ bt st l = true)) ∨ (o (b * 9 + i) = 11 ∧ bt st l = true)))
    (hd' : ∀ j, j ≠ i → dp' j = dp j) : bg_i o D A B b n sA0 sB0 (i + 1) cu' sA' sB' dp' ld' st' := by
  obtain ⟨h1, h2, h3, h4, h5⟩ := h
  refine ⟨fun v hv => ?_, fun j hj => ?_, fun k hk => ?_, fun l hl' => ?_, fun l hl' => ?_⟩
  · rw [hc]
    by_cases g : o (b * 9 + i) = 12
    · rw [if_pos g, cu_n (fun z => z.1 g)]; exact h1 v hv
    · obtain ⟨d, hd, ed⟩ := hw.2.1
      rw [if_neg g, ed, nI_clamp (by omega)]
      by_cases e : v = d
      · subst e
        rw [pk_us, cu_w ⟨g, ed⟩]
      · rw [pk_un e, cu_n (fun z => e (na_in (z.2.symm.trans ed) (by omega) (by omega)))]; exact h1 v hv
  · by_cases e : j = i
    · subst e
      refine ⟨ha, hb, fun l hl' => ?_⟩
      rw [hd l hl', h4 l hl', h5 l hl']
      constructor
      · rintro (z | z | ⟨z1, ⟨z2, z3⟩ | ⟨z2, z3⟩⟩ | ⟨z1, z2, z3⟩)
        · by_cases g : o (b * 9 + j) = 0
          · rw [ha.1 g] at z; exact absurd z (bg_m1 (by omega))
          · have e2 := ha.2 g
            obtain ⟨a, ha8, ea⟩ := hw.2.2.1 g
            have l2 := cu_lt (o := o) (D := D) (b := b) ha8 j
            have ec : (A (b * 9 + j)).toNatClampNeg = a := by rw [ea, nI_clamp (by omega)]
            rw [ec] at e2
            have e3 := na_in (e2.symm.trans z) (by omega) (by omega)
            exact ⟨by omega, Or.inl ⟨g, by rw [ec]; exact e3⟩⟩
        · by_cases g : pd_rb (o (b * 9 + j))
          · have e2 := hb.2 g
            obtain ⟨a, ha8, ea⟩ := hw.2.2.2
            have l2 := cu_lt (o := o) (D := D) (b := b) ha8 j
            have ec : (B (b * 9 + j)).toNatClampNeg = a := by rw [ea, nI_clamp (by omega)]
            rw [ec] at e2
            have e3 := na_in (e2.symm.trans z) (by omega) (by omega)
            exact ⟨by omega, Or.inr (Or.inl ⟨g, by rw [ec]; exact e3⟩)⟩
          · rw [hb.1 g] at z; exact absurd z (bg_m1 (by omega))
        · exact ⟨z2, Or.inr (Or.inr (Or.inr ⟨z3, z1⟩))⟩
        · exact ⟨z2, Or.inr (Or.inr (Or.inl ⟨z3, Or.inr z1⟩))⟩
        · exact ⟨z2, Or.inr (Or.inr (Or.inl ⟨z3, Or.inl z1⟩))⟩
      · rintro ⟨z0, ⟨z1, z2⟩ | ⟨z1, z2⟩ | ⟨z1, z2 | z2⟩ | ⟨z1, z2⟩⟩
        · exact Or.inl (by rw [ha.2 z1, z2])
        · exact Or.inr (Or.inl (by rw [hb.2 z1, z2]))
        · exact Or.inr (Or.inr (Or.inr ⟨z2, z0, z1⟩))
        · exact Or.inr (Or.inr (Or.inl ⟨z2, Or.inr ⟨z0, z1⟩⟩))
        · exact Or.inr (Or.inr (Or.inl ⟨z2, Or.inl ⟨z0, z1⟩⟩))
    · rw [ha' _ (by omega), hb' _ (by omega), hd' j e]
      exact h2 j (by omega)
  · rw [ha' k (by omega), hb' k (by omega)]; exact h3 k hk
  · rw [hl l hl', h4 l hl']
    constructor
    · rintro (⟨z1, z2⟩ | ⟨z1, z2⟩)
      · exact ⟨by omega, z2⟩
      · exact ⟨by omega, z2 ▸ z1⟩
    · rintro ⟨z1, z2⟩
      by_cases e : l = i
      · exact Or.inr ⟨e ▸ z2, e⟩
      · exact Or.inl ⟨by omega, z2⟩
  · rw [hs l hl', h5 l hl']
    constructor
    · rintro (⟨z1, z2⟩ | ⟨z1, z2⟩)
      · exact ⟨by omega, z2⟩
      · exact ⟨by omega, z2 ▸ z1⟩
    · rintro ⟨z1, z2⟩
      by_cases e : l = i
      · exact Or.inr ⟨e ▸ z2, e⟩
      · exact Or.inl ⟨by omega, z2⟩
variable {xal xmu xmt xsa xmo xcl xat : Int32} {xop xfd xfa xfb xct xin xce xli xho xle xbl xis xen xun xsA xsB xde xex xcu xdp xhe xuf xlu xvr xhu xrg xuo xla : Nat → Int32}
theorem xg_216 {post : SX → Prop} {J : Int32 → Int32 → Int32 → (Nat → Int32) → (Nat → Int32) → (Nat → Int32) → (Nat → Int32) → (Nat → Int32) → (Nat → Int32) → (Nat → Int32) → (Nat → Int32) → (Nat → Int32) → (Nat → Int32) → (Nat → Int32) → (Nat → Int32) → (Nat → Int32) → (Nat → Int32) → (Nat → Int32) → (Nat → Int32) → (Nat → Int32) → (Nat → Int32) → (Nat → Int32) → (Nat → Int32) → (Nat → Int32) → (Nat → Int32) → (Nat → Int32) → (Nat → Int32) → (Nat → Int32) → (Nat → Int32) → (Nat → Int32) → (Nat → Int32) → Prop} {x1 ld st op : Int32} {k i : Nat} (hk : k < 72) (hw : wf_op xop xfd xfa xfb k)
    (h : ∀ cu', cu' = (if op = 12 then xcu else upd xcu (xfd k).toNatClampNeg (nI (8 + i))) → J ld st (nI (i + 1)) xop xfd xfa xfb xct xin xce xli xho xle xbl xis xen xun xsA xsB xde xex cu' xdp xhe xuf xlu xvr xhu xrg xuo xla) : wX_buildGraph_216 post J x1 ld st (nI i) (nI k) op xal xmu xmt xsa xmo xcl xat xop xfd xfa xfb xct xin xce xli xho xle xbl xis xen xun xsA xsB xde xex xcu xdp xhe xuf xlu xvr xhu xrg xuo xla := by
  obtain ⟨d, hd, ed⟩ := hw.2.1
  have ck : (nI k).toNatClampNeg = k := nI_clamp (by omega)
  have vk : vp_in (nI k) 72 := vp_in_nI hk (by omega)
  unfold wX_buildGraph_216
  rw [ck]
  refine xh_writes (fun g => nm_r (nI_1 i) (h xcu (by rw [if_pos g]))) (fun g => ⟨vk, by rw [ed]; exact vp_in_nI hd (by omega), nm_r (e' := upd xcu (xfd k).toNatClampNeg (nI (8 + i))) (by rw [na_p8]) (nm_r (nI_1 i) (h _ (by rw [if_neg g])))⟩)
theorem xg_188 {post : SX → Prop} {J : Int32 → Int32 → Int32 → (Nat → Int32) → (Nat → Int32) → (Nat → Int32) → (Nat → Int32) → (Nat → Int32) → (Nat → Int32) → (Nat → Int32) → (Nat → Int32) → (Nat → Int32) → (Nat → Int32) → (Nat → Int32) → (Nat → Int32) → (Nat → Int32) → (Nat → Int32) → (Nat → Int32) → (Nat → Int32) → (Nat → Int32) → (Nat → Int32) → (Nat → Int32) → (Nat → Int32) → (Nat → Int32) → (Nat → Int32) → (Nat → Int32) → (Nat → Int32) → (Nat → Int32) → (Nat → Int32) → (Nat → Int32) → (Nat → Int32) → Prop} {x1 ld st op : Int32} {k i : Nat} (hk : k < 72) (hi : i < 8) (hw : wf_op xop xfd xfa xfb k)
    (h : ∀ ld' st' cu', (∀ l, l < 32 → (bt ld' l = true ↔ bt ld l = true ∨ (op = 11 ∧ l = i))) → (∀ l, l < 32 → (bt st' l = true ↔ bt st l = true ∨ (op = 12 ∧ l = i))) →
      cu' = (if op = 12 then xcu else upd xcu (xfd k).toNatClampNeg (nI (8 + i))) → J ld' st' (nI (i + 1)) xop xfd xfa xfb xct xin xce xli xho xle xbl xis xen xun xsA xsB xde xex cu' xdp xhe xuf xlu xvr xhu xrg xuo xla) : wX_buildGraph_188 post J x1 ld st (nI i) (nI k) op xal xmu xmt xsa xmo xcl xat xop xfd xfa xfb xct xin xce xli xho xle xbl xis xen xun xsA xsB xde xex xcu xdp xhe xuf xlu xvr xhu xrg xuo xla := by
  have s2 : ∀ ld', (∀ l, l < 32 → (bt ld' l = true ↔ bt ld l = true ∨ (op = 11 ∧ l = i))) → wX_buildGraph_202 post J x1 ld' st (nI i) (nI k) op xal xmu xmt xsa xmo xcl xat xop xfd xfa xfb xct xin xce xli xho xle xbl xis xen xun xsA xsB xde xex xcu xdp xhe xuf xlu xvr xhu xrg xuo xla := by
    intro ld' hl
    unfold wX_buildGraph_202
    refine br_c (fun g => nm_e (xg_216 hk hw (fun cu' hc => h ld' _ cu' hl (fun l hl' => ?_) hc))) (fun g => xg_216 hk hw (fun cu' hc => h ld' _ cu' hl (fun l hl' => ?_) hc))
    · rw [bq_set (by omega) hl']; simp only [g, true_and]
    · simp only [g, false_and, or_false]
  unfold wX_buildGraph_188
  refine br_c (fun g => nm_e (s2 _ (fun l hl' => ?_))) (fun g => s2 _ (fun l hl' => ?_))
  · rw [bq_set (by omega) hl']; simp only [g, true_and]
  · simp only [g, false_and, or_false]
theorem xg_124 {post : SX → Prop} {J : Int32 → Int32 → Int32 → (Nat → Int32) → (Nat → Int32) → (Nat → Int32) → (Nat → Int32) → (Nat → Int32) → (Nat → Int32) → (Nat → Int32) → (Nat → Int32) → (Nat → Int32) → (Nat → Int32) → (Nat → Int32) → (Nat → Int32) → (Nat → Int32) → (Nat → Int32) → (Nat → Int32) → (Nat → Int32) → (Nat → Int32) → (Nat → Int32) → (Nat → Int32) → (Nat → Int32) → (Nat → Int32) → (Nat → Int32) → (Nat → Int32) → (Nat → Int32) → (Nat → Int32) → (Nat → Int32) → (Nat → Int32) → (Nat → Int32) → Prop} {x1 ld st op sb : Int32} {k i : Nat} (hk : k < 72) (hi : i < 8) (hA : xsA k = -1 ∨ ∃ y, y < 16 ∧ xsA k = nI y) (hB : sb = -1 ∨ ∃ y, y < 16 ∧ sb = nI y)
    (h : ∀ dp', (∀ l, l < 32 → (bt (dp' i) l = true ↔ xsA k = nI (8 + l) ∨ sb = nI (8 + l) ∨ (op = 12 ∧ (bt ld l = true ∨ bt st l = true)) ∨ (op = 11 ∧ bt st l = true))) → (∀ j, j ≠ i → dp' j = xdp j) →
      wX_buildGraph_188 post J x1 ld st (nI i) (nI k) op xal xmu xmt xsa xmo xcl xat xop xfd xfa xfb xct xin xce xli xho xle xbl xis xen xun xsA (upd xsB k sb) xde xex xcu dp' xhe xuf xlu xvr xhu xrg xuo xla) : wX_buildGraph_124 post J x1 ld st (nI i) (nI k) op sb (nI k) xal xmu xmt xsa xmo xcl xat xop xfd xfa xfb xct xin xce xli xho xle xbl xis xen xun xsA xsB xde xex xcu xdp xhe xuf xlu xvr xhu xrg xuo xla := by
  have ck : (nI k).toNatClampNeg = k := nI_clamp (by omega)
  have vk : vp_in (nI k) 72 := vp_in_nI hk (by omega)
  have ci : (nI i).toNatClampNeg = i := nI_clamp (by omega)
  have vi : vp_in (nI i) 8 := vp_in_nI hi (by omega)
  unfold wX_buildGraph_124
  rw [ck, ci]
  refine ⟨vk, nm_e ⟨vk, xh_producer hA (fun qa ha => ⟨vk, ?_⟩)⟩⟩
  rw [pk_us]
  refine xh_producer hB (fun qb hb => ⟨vi, nm_e (xh_isMemory (fun g => h _ (fun l hl => ?_) (fun j hj => pk_un hj)) (fun g => ⟨vi, br_c (fun g2 => ?_) (fun g2 => ?_)⟩))⟩)
  · rw [pk_us, bq_or, ha l hl, hb l hl]
    have g1 : ¬ op = 11 := fun z => g (Or.inl z)
    have g2 : ¬ op = 12 := fun z => g (Or.inr z)
    simp only [g1, g2, false_and, or_false]
  · rw [pk_us]
    unfold wX_buildGraph_186
    rw [ci]
    refine ⟨vi, nm_e (h _ (fun l hl => ?_) (fun j hj => by rw [pk_un hj, pk_un hj]))⟩
    have g1 : ¬ op = 11 := fun z => by rw [z] at g2; exact absurd g2 (by decide)
    rw [pk_us, bq_or, bq_or, bq_or, ha l hl, hb l hl]
    simp only [g1, iff_true_intro g2, false_and, or_false, true_and, or_assoc]
  · rw [pk_us]
    unfold wX_buildGraph_186
    rw [ci]
    refine ⟨vi, nm_e (h _ (fun l hl => ?_) (fun j hj => by rw [pk_un hj, pk_un hj]))⟩
    have g1 : op = 11 := g.resolve_right g2
    rw [pk_us, bq_or, bq_or, ha l hl, hb l hl]
    have g3 : ¬ (11 : Int32) = 12 := by decide
    simp only [g1, g3, false_and, false_or, true_and, or_assoc]
theorem xg_92 {post : SX → Prop} {J : Int32 → Int32 → Int32 → (Nat → Int32) → (Nat → Int32) → (Nat → Int32) → (Nat → Int32) → (Nat → Int32) → (Nat → Int32) → (Nat → Int32) → (Nat → Int32) → (Nat → Int32) → (Nat → Int32) → (Nat → Int32) → (Nat → Int32) → (Nat → Int32) → (Nat → Int32) → (Nat → Int32) → (Nat → Int32) → (Nat → Int32) → (Nat → Int32) → (Nat → Int32) → (Nat → Int32) → (Nat → Int32) → (Nat → Int32) → (Nat → Int32) → (Nat → Int32) → (Nat → Int32) → (Nat → Int32) → (Nat → Int32) → (Nat → Int32) → Prop} {ld st sa : Int32} {b i n : Nat} {sA0 sB0 : Nat → Int32} (hb : b < 8) (hn : n ≤ 8) (hi : i < n) (hw : wf_op xop xfd xfa xfb (b * 9 + i)) (hsa : bg_sa xop xfd xfa b i sa)
    (hI : bg_i xop xfd xfa xfb b n sA0 sB0 i xcu xsA xsB xdp ld st)
    (hJ : ∀ cu sA sB dp ld st, bg_i xop xfd xfa xfb b n sA0 sB0 (i + 1) cu sA sB dp ld st → J ld st (nI (i + 1)) xop xfd xfa xfb xct xin xce xli xho xle xbl xis xen xun sA sB xde xex cu dp xhe xuf xlu xvr xhu xrg xuo xla) :
    wX_buildGraph_92 post J (nI b) ld st (nI i) (nI (b * 9 + i)) (xop (b * 9 + i)) sa (nI (b * 9 + i)) xal xmu xmt xsa xmo xcl xat xop xfd xfa xfb xct xin xce xli xho xle xbl xis xen xun xsA xsB xde xex xcu xdp xhe xuf xlu xvr xhu xrg xuo xla := by
  have hk : b * 9 + i < 72 := by omega
  have ck : (nI (b * 9 + i)).toNatClampNeg = b * 9 + i := nI_clamp (by omega)
  have vk : vp_in (nI (b * 9 + i)) 72 := vp_in_nI hk (by omega)
  have fin : ∀ sb, bg_sb xop xfd xfb b i sb → wX_buildGraph_124 post J (nI b) ld st (nI i) (nI (b * 9 + i)) (xop (b * 9 + i)) sb (nI (b * 9 + i)) xal xmu xmt xsa xmo xcl xat xop xfd xfa xfb xct xin xce xli xho xle xbl xis xen xun (upd xsA (b * 9 + i) sa) xsB xde xex xcu xdp xhe xuf xlu xvr xhu xrg xuo xla := by
    intro sb hsb
    refine xg_124 hk (by omega) (by rw [pk_us]; exact bg_sav (by omega) hw hsa) (bg_sbv (by omega) hw hsb) (fun dp' hd hd' => xg_188 hk (by omega) hw (fun ld' st' cu' hl hs hc => hJ _ _ _ _ _ _ (bg_s hn hi hw hI hl hs hc ?_ (fun k hk => pk_un hk) ?_ (fun k hk => pk_un hk) ?_ hd')))
    · rw [pk_us]; exact hsa
    · rw [pk_us]; exact hsb
    · intro l hl'
      rw [hd l hl', pk_us, pk_us]
  unfold wX_buildGraph_92
  rw [ck]
  refine ⟨vk, nm_e (xh_readsB (fun g => fin (-1) ⟨fun _ => rfl, fun z => absurd z g⟩) (fun g => ⟨vk, ?_, fin _ ⟨fun z => absurd g z, fun _ => ?_⟩⟩))⟩
  · obtain ⟨c, hc, ec⟩ := hw.2.2.2
    rw [ec]; exact vp_in_nI hc (by omega)
  · obtain ⟨c, hc, ec⟩ := hw.2.2.2
    rw [ec, nI_clamp (by omega)]
    exact hI.1 c hc
theorem xg_32 {post : SX → Prop} {b n : Nat} {sA0 sB0 : Nat → Int32} (hb : b < 8) (hn : n ≤ 8) (hct : xct b = nI n) (hw : ∀ i, i < n → wf_op xop xfd xfa xfb (b * 9 + i))
    (h : ∀ cu sA sB dp ld st, bg_i xop xfd xfa xfb b n sA0 sB0 n cu sA sB dp ld st → post (xal, xmu, xmt, xsa, xmo, xcl, xat, xop, xfd, xfa, xfb, xct, xin, xce, xli, xho, xle, xbl, xis, xen, xun, sA, sB, xde, xex, cu, dp, xhe, xuf, xlu, xvr, xhu, xrg, xuo, xla)) :
    ∀ d i cu sA sB dp ld st, i + d = n → bg_i xop xfd xfa xfb b n sA0 sB0 i cu sA sB dp ld st → wX_buildGraph_32 post (nI b) xal xmu xmt xsa xmo xcl xat (d + 1) ld st (nI i) xop xfd xfa xfb xct xin xce xli xho xle xbl xis xen xun sA sB xde xex cu dp xhe xuf xlu xvr xhu xrg xuo xla := by
  intro d
  have cb : (nI b).toNatClampNeg = b := nI_clamp (by omega)
  have vb : vp_in (nI b) 8 := vp_in_nI hb (by omega)
  induction d with
  | zero =>
    intro i cu sA sB dp ld st hi hI
    rw [wX_buildGraph_32]; dsimp only; rw [cb, hct]
    have e : i = n := by omega
    subst e
    exact ⟨vb, br_t (nI_le (Nat.le_refl _) (by omega)) (h cu sA sB dp ld st hI)⟩
  | succ d ih =>
    intro i cu sA sB dp ld st hi hI
    rw [wX_buildGraph_32]; dsimp only; rw [cb, hct]
    have hk : b * 9 + i < 72 := by omega
    have ck : (nI (b * 9 + i)).toNatClampNeg = b * 9 + i := nI_clamp (by omega)
    have vk : vp_in (nI (b * 9 + i)) 72 := vp_in_nI hk (by omega)
    have w := hw i (by omega)
    have stp : ∀ sa, bg_sa xop xfd xfa b i sa → wX_buildGraph_92 post (wX_buildGraph_32 post (nI b) xal xmu xmt xsa xmo xcl xat (d + 1)) (nI b) ld st (nI i) (nI (b * 9 + i)) (xop (b * 9 + i)) sa (nI (b * 9 + i)) xal xmu xmt xsa xmo xcl xat xop xfd xfa xfb xct xin xce xli xho xle xbl xis xen xun sA sB xde xex cu dp xhe xuf xlu xvr xhu xrg xuo xla := by
      intro sa hsa
      exact xg_92 hb hn (by omega) w hsa hI (fun cu sA sB dp ld st hI' => ih (i + 1) cu sA sB dp ld st (by omega) hI')
    refine ⟨vb, br_f (nI_ge (by omega) (by omega)) (nm_r (na_ix b i) ?_)⟩
    rw [ck]
    refine ⟨vk, nm_e (xh_readsA (fun g => stp (-1) ⟨fun _ => rfl, fun z => absurd g z⟩) (fun g => ⟨vk, ?_, stp _ ⟨fun z => absurd z g, fun _ => ?_⟩⟩))⟩
    · obtain ⟨c, hc, ec⟩ := w.2.2.1 g
      rw [ec]; exact vp_in_nI hc (by omega)
    · obtain ⟨c, hc, ec⟩ := w.2.2.1 g
      rw [ec, nI_clamp (by omega)]
      exact hI.1 c hc
theorem xg_7 {post : SX → Prop} {b n : Nat} (hb : b < 8) (hn : n ≤ 8) (hct : xct b = nI n) (hw : ∀ i, i < n → wf_op xop xfd xfa xfb (b * 9 + i))
    (h : ∀ cu sA sB dp ld st, bg_i xop xfd xfa xfb b n xsA xsB n cu sA sB dp ld st → post (xal, xmu, xmt, xsa, xmo, xcl, xat, xop, xfd, xfa, xfb, xct, xin, xce, xli, xho, xle, xbl, xis, xen, xun, sA, sB, xde, xex, cu, dp, xhe, xuf, xlu, xvr, xhu, xrg, xuo, xla)) :
    ∀ d i cu, i + d = 8 → (∀ v, v < i → cu v = nI v) → wX_buildGraph_7 post (nI b) 0 0 xal xmu xmt xsa xmo xcl xat (d + 1) (nI i) xop xfd xfa xfb xct xin xce xli xho xle xbl xis xen xun xsA xsB xde xex cu xdp xhe xuf xlu xvr xhu xrg xuo xla := by
  intro d
  induction d with
  | zero =>
    intro i cu hi hI
    rw [wX_buildGraph_7]; dsimp only
    have e : i = 8 := by omega
    subst e
    exact br_t (nI_le (a := 8) (by omega) (by omega)) ⟨n + 1, xg_32 hb hn hct hw h n 0 cu xsA xsB xdp 0 0 (by omega) ⟨hI, fun j hj => absurd hj (by omega), fun k hk => ⟨rfl, rfl⟩, fun l hl => ⟨fun z => absurd z bq_n0, fun z => absurd z.1 (by omega)⟩, fun l hl => ⟨fun z => absurd z bq_n0, fun z => absurd z.1 (by omega)⟩⟩⟩
  | succ d ih =>
    intro i cu hi hI
    rw [wX_buildGraph_7]; dsimp only
    have ci : (nI i).toNatClampNeg = i := nI_clamp (by omega)
    refine br_f (nI_ge (b := 8) (by omega) (by omega)) ⟨vp_in_nI (by omega) (by omega), ?_⟩
    rw [ci]
    refine nm_e (nm_r (nI_1 i) (ih (i + 1) _ (by omega) (fun v hv => ?_)))
    by_cases e : v = i
    · rw [e, pk_us]
    · rw [pk_un e]; exact hI v (by omega)
theorem xg_build {post : SX → Prop} {b n : Nat} (hb : b < 8) (hn : n ≤ 8) (hct : xct b = nI n) (hw : ∀ i, i < n → wf_op xop xfd xfa xfb (b * 9 + i))
    (h : ∀ cu sA sB dp ld st, bg_i xop xfd xfa xfb b n xsA xsB n cu sA sB dp ld st → post (xal, xmu, xmt, xsa, xmo, xcl, xat, xop, xfd, xfa, xfb, xct, xin, xce, xli, xho, xle, xbl, xis, xen, xun, sA, sB, xde, xex, cu, dp, xhe, xuf, xlu, xvr, xhu, xrg, xuo, xla)) : wpX_buildGraph post (xal, xmu, xmt, xsa, xmo, xcl, xat, xop, xfd, xfa, xfb, xct, xin, xce, xli, xho, xle, xbl, xis, xen, xun, xsA, xsB, xde, xex, xcu, xdp, xhe, xuf, xlu, xvr, xhu, xrg, xuo, xla) (nI b) :=
  ⟨9, xg_7 hb hn hct hw h 8 0 xcu rfl (fun v hv => absurd hv (by omega))⟩
end P09
end
section
section P10
/-! weigh, leastTime -/
def hw_s (o D A B : Nat → Int32) (b n T : Nat) (H : Nat → Nat) (i : Nat) : Prop :=
  (∀ j, j < n → pd_dp o D A B b i j → pd_lt T (o (b * 9 + i)) + H j ≤ H i) ∧ (H i = pd_lt T (o (b * 9 + i)) ∨ ∃ j, j < n ∧ pd_dp o D A B b i j ∧ H i = pd_lt T (o (b * 9 + i)) + H j)
def hw_n (he : Nat → Int32) (i : Nat) : Nat := (he i).toNatClampNeg
def hw_i (o D A B : Nat → Int32) (b n T i : Nat) (he : Nat → Int32) : Prop :=
  ∀ j, i ≤ j → j < n → he j = nI (hw_n he j) ∧ hw_n he j ≤ 4 * (n - j) ∧ hw_s o D A B b n T (hw_n he) j
theorem lt_le {T : Nat} {x : Int32} (h1 : 1 ≤ T) (hT : T ≤ 4) : pd_lt T x ≤ 4 := by
  unfold pd_lt; split <;> omega
theorem hw_st {o D A B : Nat → Int32} {b n T i t : Nat} {he : Nat → Int32} (h1 : 1 ≤ T) (hT : T ≤ 4) (hn : n ≤ 8) (hi : i < n) (h : hw_i o D A B b n T (i + 1) he) (ht : t ≤ 4 * (n - i - 1))
    (hu : ∀ l, l < n → pd_dp o D A B b i l → hw_n he l ≤ t) (he' : t = 0 ∨ ∃ l, l < n ∧ pd_dp o D A B b i l ∧ t = hw_n he l) :
    hw_i o D A B b n T i (upd he i (nI (t + pd_lt T (o (b * 9 + i))))) := by
  have l4 := lt_le (x := o (b * 9 + i)) h1 hT
  have same : ∀ l, l ≠ i → hw_n (upd he i (nI (t + pd_lt T (o (b * 9 + i))))) l = hw_n he l := by
    intro l hl
    unfold hw_n
    rw [pk_un hl]
  have new : hw_n (upd he i (nI (t + pd_lt T (o (b * 9 + i))))) i = t + pd_lt T (o (b * 9 + i)) := by
    unfold hw_n
    rw [pk_us, nI_clamp (by omega)]
  intro j hj hjn
  by_cases e : j = i
  · subst e
    refine ⟨by rw [new, pk_us], by rw [new]; omega, fun l hl hd => ?_, ?_⟩
    · have := hd.1
      rw [new, same l (by omega)]
      have := hu l hl hd
      omega
    · rw [new]
      rcases he' with z | ⟨l, hl, hd, z⟩
      · exact Or.inl (by omega)
      · have := hd.1
        exact Or.inr ⟨l, hl, hd, by rw [same l (by omega)]; omega⟩
  · obtain ⟨g1, g2, g3, g4⟩ := h j (by omega) hjn
    refine ⟨by rw [same j e, pk_un e]; exact g1, by rw [same j e]; exact g2, fun l hl hd => ?_, ?_⟩
    · have := hd.1
      rw [same j e, same l (by omega)]
      exact g3 l hl hd
    · rw [same j e]
      rcases g4 with z | ⟨l, hl, hd, z⟩
      · exact Or.inl z
      · have := hd.1
        exact Or.inr ⟨l, hl, hd, by rw [same l (by omega)]; exact z⟩
variable {xal xmu xmt xsa xmo xcl xat : Int32} {xop xfd xfa xfb xct xin xce xli xho xle xbl xis xen xun xsA xsB xde xex xcu xdp xhe xuf xlu xvr xhu xrg xuo xla : Nat → Int32}
theorem xw_20 {post : SX → Prop} {J : Int32 → (Nat → Int32) → (Nat → Int32) → (Nat → Int32) → (Nat → Int32) → (Nat → Int32) → (Nat → Int32) → (Nat → Int32) → (Nat → Int32) → (Nat → Int32) → (Nat → Int32) → (Nat → Int32) → (Nat → Int32) → (Nat → Int32) → (Nat → Int32) → (Nat → Int32) → (Nat → Int32) → (Nat → Int32) → (Nat → Int32) → (Nat → Int32) → (Nat → Int32) → (Nat → Int32) → (Nat → Int32) → (Nat → Int32) → (Nat → Int32) → (Nat → Int32) → (Nat → Int32) → (Nat → Int32) → (Nat → Int32) → Prop} {b n T i : Nat} (hb : b < 8) (hn : n ≤ 8) (hi : i < n) (h1 : 1 ≤ T) (hT : T ≤ 4) (hmt : xmt = nI T) (hct : xct b = nI n)
    (hd : ∀ j, j < n → ∀ l, l < 32 → (bt (xdp j) l = true ↔ pd_dp xop xfd xfa xfb b l j)) (hh : hw_i xop xfd xfa xfb b n T (i + 1) xhe)
    (hJ : ∀ he, hw_i xop xfd xfa xfb b n T i he → J (dn_d i) xop xfd xfa xfb xct xin xce xli xho xle xbl xis xen xun xsA xsB xde xex xcu xdp he xuf xlu xvr xhu xrg xuo xla) :
    ∀ d j t, j + d = n → i < j → t ≤ 4 * (n - i - 1) → (∀ l, l < j → pd_dp xop xfd xfa xfb b i l → hw_n xhe l ≤ t) → (t = 0 ∨ ∃ l, l < n ∧ pd_dp xop xfd xfa xfb b i l ∧ t = hw_n xhe l) →
      wX_weigh_20 post J (nI b) (nI i) xal xmu xmt xsa xmo xcl xat xop xfd xfa xfb xct xin xce xli xho xle xbl xis xen xun xsA xsB xde xex xcu xdp xhe xuf xlu xvr xhu xrg xuo xla (d + 1) (nI t) (nI j) := by
  intro d
  have cb : (nI b).toNatClampNeg = b := nI_clamp (by omega)
  have vb : vp_in (nI b) 8 := vp_in_nI hb (by omega)
  have ci : (nI i).toNatClampNeg = i := nI_clamp (by omega)
  induction d with
  | zero =>
    intro j t hj hij ht hu he'
    rw [wX_weigh_20]; dsimp only; rw [cb, hct]
    have e : j = n := by omega
    subst e
    have l4 := lt_le (x := xop (b * 9 + i)) h1 hT
    refine ⟨vb, br_t (nI_le (Nat.le_refl _) (by omega)) ?_⟩
    rw [na_ix, nI_clamp (show b * 9 + i < 2 ^ 31 by omega)]
    refine ⟨vp_in_nI (by omega) (by omega), xh_latency hmt ⟨vp_in_nI (by omega) (by omega), ?_⟩⟩
    rw [ci, nI_add]
    exact nm_e (nm_r (dn_m i) (hJ _ (hw_st h1 hT hn hi hh ht hu he')))
  | succ d ih =>
    intro j t hj hij ht hu he'
    rw [wX_weigh_20]; dsimp only; rw [cb, hct]
    have cj : (nI j).toNatClampNeg = j := nI_clamp (by omega)
    have vj : vp_in (nI j) 8 := vp_in_nI (by omega) (by omega)
    obtain ⟨g1, g2, _⟩ := hh j (by omega) (by omega)
    rw [cj]
    refine ⟨vb, br_f (nI_ge (by omega) (by omega)) ⟨vj, xh_has (by omega) (fun g => nm_r (nI_1 j) (ih (j + 1) t (by omega) (by omega) ht (fun l hl hd' => ?_) he')) (fun g => ⟨vj, ?_⟩)⟩⟩
    · by_cases e : l = j
      · subst e
        exact absurd ((hd l (by omega) i (by omega)).mpr hd') g
      · exact hu l (by omega) hd'
    · have dj := (hd j (by omega) i (by omega)).mp g
      rw [g1]
      refine xh_larger (by omega) (by omega) (nm_r (nI_1 j) (ih (j + 1) _ (by omega) (by omega) (by omega) (fun l hl hd' => ?_) ?_))
      · by_cases e : l = j
        · subst e; omega
        · have := hu l (by omega) hd'; omega
      · by_cases e : hw_n xhe j ≤ t
        · rw [Nat.max_eq_left e]; exact he'
        · rw [Nat.max_eq_right (by omega)]
          exact Or.inr ⟨j, by omega, dj, rfl⟩
theorem xw_9 {post : SX → Prop} {b n T : Nat} (hb : b < 8) (hn : n ≤ 8) (h1 : 1 ≤ T) (hT : T ≤ 4) (hmt : xmt = nI T) (hct : xct b = nI n)
    (hd : ∀ j, j < n → ∀ l, l < 32 → (bt (xdp j) l = true ↔ pd_dp xop xfd xfa xfb b l j)) (h : ∀ he, hw_i xop xfd xfa xfb b n T 0 he → post (xal, xmu, xmt, xsa, xmo, xcl, xat, xop, xfd, xfa, xfb, xct, xin, xce, xli, xho, xle, xbl, xis, xen, xun, xsA, xsB, xde, xex, xcu, xdp, he, xuf, xlu, xvr, xhu, xrg, xuo, xla)) :
    ∀ i, i ≤ n → ∀ he, hw_i xop xfd xfa xfb b n T i he → wX_weigh_9 post (nI b) xal xmu xmt xsa xmo xcl xat (i + 1) (dn_d i) xop xfd xfa xfb xct xin xce xli xho xle xbl xis xen xun xsA xsB xde xex xcu xdp he xuf xlu xvr xhu xrg xuo xla := by
  intro i
  induction i with
  | zero =>
    intro _ he hh
    rw [wX_weigh_9]; dsimp only
    exact br_t dn_0 (h he hh)
  | succ i ih =>
    intro hi he hh
    rw [wX_weigh_9]; dsimp only; rw [dn_s]
    refine br_f (nI_pos (by omega)) (nm_r (nI_1 i) ⟨n - (i + 1) + 1, xw_20 (xhe := he) hb hn (by omega) h1 hT hmt hct hd hh (fun he' hh' => ih (by omega) he' hh') (n - (i + 1)) (i + 1) 0 (by omega) (by omega) (by omega) (fun l hl hd' => ?_) (Or.inl rfl)⟩)
    have := hd'.1
    omega
theorem xw_weigh {post : SX → Prop} {b n T : Nat} (hb : b < 8) (hn : n ≤ 8) (h1 : 1 ≤ T) (hT : T ≤ 4) (hmt : xmt = nI T) (hct : xct b = nI n)
    (hd : ∀ j, j < n → ∀ l, l < 32 → (bt (xdp j) l = true ↔ pd_dp xop xfd xfa xfb b l j)) (h : ∀ he, hw_i xop xfd xfa xfb b n T 0 he → post (xal, xmu, xmt, xsa, xmo, xcl, xat, xop, xfd, xfa, xfb, xct, xin, xce, xli, xho, xle, xbl, xis, xen, xun, xsA, xsB, xde, xex, xcu, xdp, he, xuf, xlu, xvr, xhu, xrg, xuo, xla)) : wpX_weigh post (xal, xmu, xmt, xsa, xmo, xcl, xat, xop, xfd, xfa, xfb, xct, xin, xce, xli, xho, xle, xbl, xis, xen, xun, xsA, xsB, xde, xex, xcu, xdp, xhe, xuf, xlu, xvr, xhu, xrg, xuo, xla) (nI b) := by
  refine And.intro (vp_in_nI hb (by omega)) (nm_r (e' := dn_d n) ?_ ⟨n + 1, xw_9 hb hn h1 hT hmt hct hd h n (Nat.le_refl n) xhe (fun j h1 h2 => absurd h1 (by omega))⟩)
  rw [nI_clamp (by omega), hct]; rfl
/-! leastTime -/
def lt_p (o : Nat → Int32) (b : Nat) : Nat → Nat
  | 0 => 0
  | i + 1 => if o (b * 9 + i) = 4 then lt_p o b i + 1 else lt_p o b i
def lt_m (o : Nat → Int32) (b : Nat) : Nat → Nat
  | 0 => 0
  | i + 1 => if o (b * 9 + i) = 11 ∨ o (b * 9 + i) = 12 then lt_m o b i + 1 else lt_m o b i
def lt_h (H : Nat → Nat) : Nat → Nat
  | 0 => 1
  | i + 1 => max (lt_h H i) (H i)
def lt_z (o : Nat → Int32) (b n a m T : Nat) (H : Nat → Nat) : Nat :=
  max (max (max (lt_h H n) ((n - lt_p o b n - lt_m o b n + a - 1) / a)) ((lt_p o b n + m - 1) / m * T)) (lt_m o b n)
theorem lt_pm {o : Nat → Int32} {b : Nat} : ∀ i, lt_p o b i + lt_m o b i ≤ i := by
  intro i
  induction i with
  | zero => exact Nat.le_refl 0
  | succ i ih =>
    unfold lt_p lt_m
    by_cases h : o (b * 9 + i) = 4
    · rw [if_pos h, if_neg (by rw [h]; decide)]; omega
    · rw [if_neg h]
      split <;> omega
theorem lt_hb {H : Nat → Nat} : ∀ i, (∀ j, j < i → H j ≤ 32) → lt_h H i ≤ 32 := by
  intro i
  induction i with
  | zero => intro _; show 1 ≤ 32; omega
  | succ i ih =>
    intro h
    have a := ih (fun j hj => h j (by omega))
    have c := h i (by omega)
    show max _ _ ≤ 32
    omega
theorem lt_cd {x a : Nat} (h : 1 ≤ a) (hb : x + a < 2 ^ 31) : (nI x + nI a - 1) / nI a = nI ((x + a - 1) / a) := by
  rw [nI_add, show nI (x + a) - 1 = nI (x + a - 1) from pk_sub (b := 1) (by omega), pk_div (by omega) (by omega) (by omega)]
theorem xw_10 {post : Int32 → Prop} {b n a m T : Nat} (hb : b < 8) (hn : n ≤ 8) (h1 : 1 ≤ T) (hT : T ≤ 4) (hmt : xmt = nI T) (ha1 : 1 ≤ a) (ha : a ≤ 3) (hal : xal = nI a) (hm1 : 1 ≤ m) (hm : m ≤ 2) (hmu : xmu = nI m) (hct : xct b = nI n)
    (hh : ∀ i, i < n → xhe i = nI (hw_n xhe i) ∧ hw_n xhe i ≤ 32) (h : post (nI (lt_z xop b n a m T (hw_n xhe)))) :
    ∀ d i, i + d = n → wX_leastTime_10 post (nI b) xal xmu xmt xsa xmo xcl xat xop xfd xfa xfb xct xin xce xli xho xle xbl xis xen xun xsA xsB xde xex xcu xdp xhe xuf xlu xvr xhu xrg xuo xla (d + 1) (nI (lt_p xop b i)) (nI (lt_m xop b i)) (nI (lt_h (hw_n xhe) i)) (nI i) := by
  intro d
  have cb : (nI b).toNatClampNeg = b := nI_clamp (by omega)
  have vb : vp_in (nI b) 8 := vp_in_nI hb (by omega)
  induction d with
  | zero =>
    intro i hi
    rw [wX_leastTime_10]; dsimp only; rw [cb, hct]
    have e : i = n := by omega
    subst e
    have pm := lt_pm (o := xop) (b := b) i
    have hb' := lt_hb (H := hw_n xhe) i (fun j hj => (hh j hj).2)
    have d1 : (i - lt_p xop b i - lt_m xop b i + a - 1) / a ≤ 16 := Nat.le_trans (Nat.div_le_self _ _) (by omega)
    have d2 : (lt_p xop b i + m - 1) / m ≤ 16 := Nat.le_trans (Nat.div_le_self _ _) (by omega)
    have d3 : (lt_p xop b i + m - 1) / m * T ≤ 64 := Nat.le_trans (Nat.mul_le_mul d2 hT) (by omega)
    refine ⟨vb, br_t (nI_le (Nat.le_refl _) (by omega)) ⟨vb, nm_r (e' := nI (i - lt_p xop b i - lt_m xop b i)) (by rw [pk_sub (by omega), pk_sub (by omega)]) ⟨by rw [hal]; exact nI_ne0 (by omega) (by omega), ?_⟩⟩⟩
    rw [hal, hmu, hmt, lt_cd (a := a) (x := i - lt_p xop b i - lt_m xop b i) ha1 (by omega), lt_cd (a := m) (x := lt_p xop b i) hm1 (by omega), pk_mul]
    refine xh_larger (by omega) (by omega) ⟨nI_ne0 (by omega) (by omega), ?_⟩
    exact xh_larger (by omega) (by omega) (xh_larger (by omega) (by omega) h)
  | succ d ih =>
    intro i hi
    rw [wX_leastTime_10]; dsimp only; rw [cb, hct]
    have pm := lt_pm (o := xop) (b := b) i
    have hb' := lt_hb (H := hw_n xhe) i (fun j hj => (hh j (by omega)).2)
    obtain ⟨e1, e2⟩ := hh i (by omega)
    have ci : (nI i).toNatClampNeg = i := nI_clamp (by omega)
    have ck : (nI (b * 9 + i)).toNatClampNeg = b * 9 + i := nI_clamp (by omega)
    have vk : vp_in (nI (b * 9 + i)) 72 := vp_in_nI (by omega) (by omega)
    have s62 : ∀ p q, wX_leastTime_10 post (nI b) xal xmu xmt xsa xmo xcl xat xop xfd xfa xfb xct xin xce xli xho xle xbl xis xen xun xsA xsB xde xex xcu xdp xhe xuf xlu xvr xhu xrg xuo xla (d + 1) (nI p) (nI q) (nI (lt_h (hw_n xhe) (i + 1))) (nI (i + 1)) → wX_leastTime_62 post (wX_leastTime_10 post (nI b) xal xmu xmt xsa xmo xcl xat xop xfd xfa xfb xct xin xce xli xho xle xbl xis xen xun xsA xsB xde xex xcu xdp xhe xuf xlu xvr xhu xrg xuo xla (d + 1)) (nI b) (nI p) (nI q) (nI (lt_h (hw_n xhe) i)) (nI i) xal xmu xmt xsa xmo xcl xat xop xfd xfa xfb xct xin xce xli xho xle xbl xis xen xun xsA xsB xde xex xcu xdp xhe xuf xlu xvr xhu xrg xuo xla := by
      intro p q hpq
      unfold wX_leastTime_62
      rw [ci, e1]
      exact ⟨vp_in_nI (by omega) (by omega), xh_larger (by omega) (by omega) (nm_r (nI_1 i) hpq)⟩
    have s40 : ∀ p, wX_leastTime_10 post (nI b) xal xmu xmt xsa xmo xcl xat xop xfd xfa xfb xct xin xce xli xho xle xbl xis xen xun xsA xsB xde xex xcu xdp xhe xuf xlu xvr xhu xrg xuo xla (d + 1) (nI p) (nI (lt_m xop b (i + 1))) (nI (lt_h (hw_n xhe) (i + 1))) (nI (i + 1)) → wX_leastTime_40 post (wX_leastTime_10 post (nI b) xal xmu xmt xsa xmo xcl xat xop xfd xfa xfb xct xin xce xli xho xle xbl xis xen xun xsA xsB xde xex xcu xdp xhe xuf xlu xvr xhu xrg xuo xla (d + 1)) (nI b) (nI p) (nI (lt_m xop b i)) (nI (lt_h (hw_n xhe) i)) (nI i) xal xmu xmt xsa xmo xcl xat xop xfd xfa xfb xct xin xce xli xho xle xbl xis xen xun xsA xsB xde xex xcu xdp xhe xuf xlu xvr xhu xrg xuo xla := by
      intro p hp
      unfold wX_leastTime_40
      rw [na_ix, ck]
      refine ⟨vk, xh_isMemory (fun g => s62 p _ ?_) (fun g => nm_r (nI_1 _) (s62 p _ ?_))⟩
      · have e : lt_m xop b (i + 1) = lt_m xop b i := if_neg g
        rw [e] at hp; exact hp
      · have e : lt_m xop b (i + 1) = lt_m xop b i + 1 := if_pos g
        rw [e] at hp; exact hp
    rw [na_ix, ck]
    refine ⟨vb, br_f (nI_ge (by omega) (by omega)) ⟨vk, br_c (fun g => nm_r (nI_1 _) (s40 _ ?_)) (fun g => s40 _ ?_)⟩⟩
    · have e : lt_p xop b (i + 1) = lt_p xop b i + 1 := if_pos g
      rw [← e]; exact ih (i + 1) (by omega)
    · have e : lt_p xop b (i + 1) = lt_p xop b i := if_neg g
      rw [← e]; exact ih (i + 1) (by omega)
theorem xw_least {post : Int32 → Prop} {b n a m T : Nat} (hb : b < 8) (hn : n ≤ 8) (h1 : 1 ≤ T) (hT : T ≤ 4) (hmt : xmt = nI T) (ha1 : 1 ≤ a) (ha : a ≤ 3) (hal : xal = nI a) (hm1 : 1 ≤ m) (hm : m ≤ 2) (hmu : xmu = nI m) (hct : xct b = nI n)
    (hh : ∀ i, i < n → xhe i = nI (hw_n xhe i) ∧ hw_n xhe i ≤ 32) (h : post (nI (lt_z xop b n a m T (hw_n xhe)))) : wpX_leastTime post (xal, xmu, xmt, xsa, xmo, xcl, xat, xop, xfd, xfa, xfb, xct, xin, xce, xli, xho, xle, xbl, xis, xen, xun, xsA, xsB, xde, xex, xcu, xdp, xhe, xuf, xlu, xvr, xhu, xrg, xuo, xla) (nI b) :=
  ⟨n + 1, xw_10 hb hn h1 hT hmt ha1 ha hal hm1 hm hmu hct hh h n 0 (by omega)⟩
end P10
end
section
section P11
/-! tallest, unitFor, place -/
variable {xal xmu xmt xsa xmo xcl xat : Int32} {xop xfd xfa xfb xct xin xce xli xho xle xbl xis xen xun xsA xsB xde xex xcu xdp xhe xuf xlu xvr xhu xrg xuo xla : Nat → Int32}
theorem xs_4 {post : Int32 → Prop} {b n : Nat} {h : Nat → Nat} (hb : b < 8) (hn : n ≤ 8) (hct : xct b = nI n) (hh : ∀ j, j < n → xhe j = nI (h j) ∧ h j ≤ 32) (H : ∀ m, m < n → (∀ l, l < n → h l ≤ h m) → post (nI m)) :
    ∀ d j m, j + d = n → m < j → (∀ l, l < j → h l ≤ h m) → wX_tallest_4 post (nI b) xal xmu xmt xsa xmo xcl xat xop xfd xfa xfb xct xin xce xli xho xle xbl xis xen xun xsA xsB xde xex xcu xdp xhe xuf xlu xvr xhu xrg xuo xla (d + 1) (nI m) (nI j) := by
  intro d
  have cb : (nI b).toNatClampNeg = b := nI_clamp (by omega)
  have vb : vp_in (nI b) 8 := vp_in_nI hb (by omega)
  induction d with
  | zero =>
    intro j m hj hm hl
    rw [wX_tallest_4]; dsimp only; rw [cb, hct]
    have e : j = n := by omega
    subst e
    exact ⟨vb, br_t (nI_le (Nat.le_refl _) (by omega)) (H m hm hl)⟩
  | succ d ih =>
    intro j m hj hm hl
    rw [wX_tallest_4]; dsimp only; rw [cb, hct]
    have cj : (nI j).toNatClampNeg = j := nI_clamp (by omega)
    have cm : (nI m).toNatClampNeg = m := nI_clamp (by omega)
    obtain ⟨e1, l1⟩ := hh j (by omega)
    obtain ⟨e2, l2⟩ := hh m (by omega)
    rw [cj, cm, e1, e2]
    refine ⟨vb, br_f (nI_ge (by omega) (by omega)) ⟨vp_in_nI (by omega) (by omega), vp_in_nI (by omega) (by omega), pk_le (h j) (h m) (fun g => nm_r (nI_1 j) (ih (j + 1) m (by omega) (by omega) (fun l hl' => ?_))) (fun g => nm_r (nI_1 j) (ih (j + 1) j (by omega) (by omega) (fun l hl' => ?_)))⟩⟩
    · by_cases e : l = j
      · rw [e]; exact g
      · exact hl l (by omega)
    · by_cases e : l = j
      · rw [e]; exact Nat.le_refl _
      · have := hl l (by omega); omega
theorem xs_tallest {post : Int32 → Prop} {b n : Nat} {h : Nat → Nat} (hb : b < 8) (hn : n ≤ 8) (h1 : 1 ≤ n) (hct : xct b = nI n) (hh : ∀ j, j < n → xhe j = nI (h j) ∧ h j ≤ 32) (H : ∀ m, m < n → (∀ l, l < n → h l ≤ h m) → post (nI m)) : wpX_tallest post (xal, xmu, xmt, xsa, xmo, xcl, xat, xop, xfd, xfa, xfb, xct, xin, xce, xli, xho, xle, xbl, xis, xen, xun, xsA, xsB, xde, xex, xcu, xdp, xhe, xuf, xlu, xvr, xhu, xrg, xuo, xla) (nI b) :=
  ⟨n - 1 + 1, xs_4 hb hn hct hh H (n - 1) 1 0 (by omega) (by omega) (fun l hl => by have e : l = 0 := by omega
                                                                                    rw [e]; exact Nat.le_refl _)⟩
theorem xs_60 {post : Int32 → Prop} {f u : Nat} (he : f + u ≤ 6) (H : ∀ m, m < 6 → post (nI m)) :
    ∀ d j m, j + d = f + u → m < 6 → wX_unitFor_60 post (nI f) (nI u) xal xmu xmt xsa xmo xcl xat xop xfd xfa xfb xct xin xce xli xho xle xbl xis xen xun xsA xsB xde xex xcu xdp xhe xuf xlu xvr xhu xrg xuo xla (d + 1) (nI m) (nI j) := by
  intro d
  induction d with
  | zero =>
    intro j m hj hm
    rw [wX_unitFor_60]; dsimp only; rw [nI_add]
    exact br_t (nI_le (by omega) (by omega)) (H m hm)
  | succ d ih =>
    intro j m hj hm
    rw [wX_unitFor_60]; dsimp only; rw [nI_add]
    exact br_f (nI_ge (by omega) (by omega)) ⟨vp_in_nI (by omega) (by omega), vp_in_nI (by omega) (by omega), br_c (fun g => nm_r (nI_1 j) (ih (j + 1) m (by omega) hm)) (fun g => nm_r (nI_1 j) (ih (j + 1) j (by omega) (by omega)))⟩
theorem xs_unitFor {post : Int32 → Prop} {x : Int32} {a m : Nat} (ha1 : 1 ≤ a) (ha : a ≤ 3) (hal : xal = nI a) (hm1 : 1 ≤ m) (hm : m ≤ 2) (hmu : xmu = nI m) (H : ∀ u, u < 6 → ((x = 11 ∨ x = 12) → u = 5) → post (nI u)) : wpX_unitFor post (xal, xmu, xmt, xsa, xmo, xcl, xat, xop, xfd, xfa, xfb, xct, xin, xce, xli, xho, xle, xbl, xis, xen, xun, xsA, xsB, xde, xex, xcu, xdp, xhe, xuf, xlu, xvr, xhu, xrg, xuo, xla) x := by
  have s0 : ∀ f, f = 0 ∨ f = 3 ∨ f = 5 → (x = 4 → f = 3) → ((x = 11 ∨ x = 12) → f = 5) → (¬ x = 4 → ¬ (x = 11 ∨ x = 12) → f = 0) → wX_unitFor_22 post x (nI f) xal xmu xmt xsa xmo xcl xat xop xfd xfa xfb xct xin xce xli xho xle xbl xis xen xun xsA xsB xde xex xcu xdp xhe xuf xlu xvr xhu xrg xuo xla := by
    intro f hf h4 h5 h0
    unfold wX_unitFor_22
    refine br_c (fun g => nm_r (nI_1 f) ⟨m - 1 + 1, ?_⟩) (fun g => xh_isMemory (fun g2 => nm_r (nI_1 f) ⟨a - 1 + 1, ?_⟩) (fun g2 => nm_r (nI_1 f) ⟨0 + 1, ?_⟩))
    · have e := h4 g
      subst e
      have n11 : ¬ (x = 11 ∨ x = 12) := by rw [g]; decide
      rw [hmu]
      exact xs_60 (by omega) (fun u hu => H u hu (fun z => absurd z n11)) (m - 1) 4 3 (by omega) (by omega)
    · have e := h0 g g2
      subst e
      rw [hal]
      exact xs_60 (by omega) (fun u hu => H u hu (fun z => absurd z g2)) (a - 1) 1 0 (by omega) (by omega)
    · have e := h5 g2
      subst e
      rw [wX_unitFor_60]; dsimp only
      exact br_t (nI_le (a := 6) (by omega) (by omega)) (H 5 (by omega) (fun _ => rfl))
  refine br_c (fun g => s0 3 (by omega) (fun _ => rfl) (fun z => by rw [g] at z; exact absurd z (by decide)) (fun z => absurd g z)) (fun g => xh_isMemory (fun g2 => s0 0 (by omega) (fun z => absurd z g) (fun z => absurd z g2) (fun _ _ => rfl)) (fun g2 => s0 5 (by omega) (fun z => absurd z g) (fun _ => rfl) (fun _ z => absurd g2 z)))
theorem xs_31 {post : SX → Prop} {b i u n T W Lb s0 : Nat} {E : Nat → Nat} (hb : b < 8) (hn : n ≤ 8) (hi : i < n) (hu : u < 6) (h1 : 1 ≤ T) (hT : T ≤ 4) (hW : W ≤ 28) (hmt : xmt = nI T) (hbl : xbl b = nI Lb) (hLb : Lb ≤ W)
    (hd : ∀ l, l < 32 → (bt (xdp i) l = true ↔ pd_dp xop xfd xfa xfb b l i)) (hE : ∀ j, j < i → pd_dp xop xfd xfa xfb b j i → xen (b * 9 + j) = nI (E j) ∧ E j ≤ W)
    (H : ∀ s, s0 ≤ s → s ≤ W → (∀ j, j < i → pd_dp xop xfd xfa xfb b j i → E j ≤ s) → post (xal, xmu, xmt, xsa, xmo, xcl, xat, xop, xfd, xfa, xfb, xct, xin, xce, xli, xho, xle, upd xbl b (nI (max Lb (s + pd_lt T (xop (b * 9 + i))))), upd xis (b * 9 + i) (nI s), upd xen (b * 9 + i) (nI (s + pd_lt T (xop (b * 9 + i)))), upd xun (b * 9 + i) (nI u), xsA, xsB, xde, xex, xcu, xdp, upd xhe i 0, upd xuf u (nI (s + pd_lt T (xop (b * 9 + i)))), xlu, xvr, xhu, xrg, xuo, xla)) :
    ∀ d j s, j + d = i → s0 ≤ s → s ≤ W → (∀ l, l < j → pd_dp xop xfd xfa xfb b l i → E l ≤ s) → wX_place_31 post (nI b) (nI i) (nI (b * 9 + i)) (nI u) xal xmu xmt xsa xmo xcl xat xop xfd xfa xfb xct xin xce xli xho xle xbl xis xen xun xsA xsB xde xex xcu xdp xhe xuf xlu xvr xhu xrg xuo xla (d + 1) (nI s) (nI j) := by
  intro d
  have cb : (nI b).toNatClampNeg = b := nI_clamp (by omega)
  have vb : vp_in (nI b) 8 := vp_in_nI hb (by omega)
  have ci : (nI i).toNatClampNeg = i := nI_clamp (by omega)
  have vi : vp_in (nI i) 8 := vp_in_nI (by omega) (by omega)
  have ck : (nI (b * 9 + i)).toNatClampNeg = b * 9 + i := nI_clamp (by omega)
  have vk : vp_in (nI (b * 9 + i)) 72 := vp_in_nI (by omega) (by omega)
  have cu : (nI u).toNatClampNeg = u := nI_clamp (by omega)
  have vu : vp_in (nI u) 6 := vp_in_nI hu (by omega)
  have l4 := lt_le (x := xop (b * 9 + i)) h1 hT
  induction d with
  | zero =>
    intro j s hj h0 hs hl
    rw [wX_place_31]; dsimp only; rw [ck]
    have e : j = i := by omega
    subst e
    refine br_t (nI_le (Nat.le_refl _) (by omega)) ⟨vk, nm_e ⟨vk, xh_latency hmt ⟨vk, ?_⟩⟩⟩
    rw [nI_add]
    refine nm_e ⟨vk, nm_e ⟨vk, vu, ?_⟩⟩
    rw [pk_us, cu]
    refine nm_e ⟨vb, vk, ?_⟩
    rw [cb, hbl]
    refine xh_larger (by omega) (by omega) ⟨vb, nm_e ⟨vi, ?_⟩⟩
    rw [ci]
    exact nm_e (H s h0 hs hl)
  | succ d ih =>
    intro j s hj h0 hs hl
    rw [wX_place_31]; dsimp only; rw [ci]
    refine br_f (nI_ge (by omega) (by omega)) ⟨vi, xh_has (by omega) (fun g => nm_r (nI_1 j) (ih (j + 1) s (by omega) h0 hs (fun l hl' hd' => ?_))) (fun g => ?_)⟩
    · by_cases e : l = j
      · subst e
        exact absurd ((hd l (by omega)).mpr hd') g
      · exact hl l (by omega) hd'
    · have dj := (hd j (by omega)).mp g
      obtain ⟨e1, e2⟩ := hE j (by omega) dj
      rw [na_ix, nI_clamp (show b * 9 + j < 2 ^ 31 by omega), e1]
      refine ⟨vp_in_nI (by omega) (by omega), xh_larger (by omega) (by omega) (nm_r (nI_1 j) (ih (j + 1) _ (by omega) (by omega) (by omega) (fun l hl' hd' => ?_)))⟩
      by_cases e : l = j
      · subst e; omega
      · have := hl l (by omega) hd'; omega
theorem xs_place {post : SX → Prop} {b i n T W Lb a m : Nat} {E F : Nat → Nat} (hb : b < 8) (hn : n ≤ 8) (hi : i < n) (h1 : 1 ≤ T) (hT : T ≤ 4) (hW : W ≤ 28) (hmt : xmt = nI T) (hbl : xbl b = nI Lb) (hLb : Lb ≤ W)
    (ha1 : 1 ≤ a) (ha : a ≤ 3) (hal : xal = nI a) (hm1 : 1 ≤ m) (hm : m ≤ 2) (hmu : xmu = nI m) (hF : ∀ u, u < 6 → xuf u = nI (F u) ∧ F u ≤ W)
    (hd : ∀ l, l < 32 → (bt (xdp i) l = true ↔ pd_dp xop xfd xfa xfb b l i)) (hE : ∀ j, j < i → pd_dp xop xfd xfa xfb b j i → xen (b * 9 + j) = nI (E j) ∧ E j ≤ W)
    (H : ∀ s u, u < 6 → ((xop (b * 9 + i) = 11 ∨ xop (b * 9 + i) = 12) → u = 5) → F u ≤ s → s ≤ W → (∀ j, j < i → pd_dp xop xfd xfa xfb b j i → E j ≤ s) → post (xal, xmu, xmt, xsa, xmo, xcl, xat, xop, xfd, xfa, xfb, xct, xin, xce, xli, xho, xle, upd xbl b (nI (max Lb (s + pd_lt T (xop (b * 9 + i))))), upd xis (b * 9 + i) (nI s), upd xen (b * 9 + i) (nI (s + pd_lt T (xop (b * 9 + i)))), upd xun (b * 9 + i) (nI u), xsA, xsB, xde, xex, xcu, xdp, upd xhe i 0, upd xuf u (nI (s + pd_lt T (xop (b * 9 + i)))), xlu, xvr, xhu, xrg, xuo, xla)) :
    wpX_place post (xal, xmu, xmt, xsa, xmo, xcl, xat, xop, xfd, xfa, xfb, xct, xin, xce, xli, xho, xle, xbl, xis, xen, xun, xsA, xsB, xde, xex, xcu, xdp, xhe, xuf, xlu, xvr, xhu, xrg, xuo, xla) (nI b) (nI i) := by
  refine nm_r (na_ix b i) ?_
  have ck : (nI (b * 9 + i)).toNatClampNeg = b * 9 + i := nI_clamp (by omega)
  rw [ck]
  refine ⟨vp_in_nI (by omega) (by omega), xs_unitFor ha1 ha hal hm1 hm hmu (fun u hu hc => ⟨vp_in_nI hu (by omega), ?_⟩)⟩
  obtain ⟨e1, e2⟩ := hF u hu
  refine nm_r (e' := nI (F u)) (by rw [nI_clamp (by omega), e1]) ⟨i + 1, ?_⟩
  exact xs_31 (s0 := F u) hb hn hi hu h1 hT hW hmt hbl hLb hd hE (fun s h0 hs hj => H s u hu hc h0 hs hj) i 0 (F u) (by omega) (Nat.le_refl _) e2 (fun l hl => absurd hl (by omega))
end P11
end
section
section P12
/-! schedule -/
def sc_a (o D A B : Nat → Int32) (b n T m : Nat) (H : Nat → Nat) (I E U F : Nat → Nat) (Lb : Nat) (P : Nat → Prop) (is en un he uf bl : Nat → Int32) : Prop :=
  (∀ i, i < n → (P i → he i = 0) ∧ (¬ P i → he i = nI (H i))) ∧
  (∀ u, u < 6 → uf u = nI (F u) ∧ F u ≤ 4 * m) ∧ (bl b = nI Lb ∧ Lb ≤ 4 * m) ∧
  (∀ i, i < n → P i → (is (b * 9 + i) = nI (I i) ∧ en (b * 9 + i) = nI (E i) ∧ un (b * 9 + i) = nI (U i)) ∧ (E i = I i + pd_lt T (o (b * 9 + i)) ∧ E i ≤ Lb ∧ U i < 6 ∧ ((o (b * 9 + i) = 11 ∨ o (b * 9 + i) = 12) → U i = 5)) ∧ E i ≤ F (U i)) ∧
  (∀ i j, i < n → P i → pd_dp o D A B b j i → P j ∧ E j ≤ I i) ∧
  (∀ i j, i < n → j < n → P i → P j → i ≠ j → U i = U j → E i ≤ I j ∨ E j ≤ I i) ∧
  pc_c (fun i => ¬ P i) n + m = n
def sc_f (b n : Nat) (is0 en0 un0 bl0 is en un bl : Nat → Int32) : Prop :=
  (∀ k, (k < b * 9 ∨ b * 9 + n ≤ k) → is k = is0 k ∧ en k = en0 k ∧ un k = un0 k) ∧ (∀ c, c ≠ b → bl c = bl0 c)
def nu_f (f : Nat → Nat) (i x : Nat) : Nat → Nat := fun j => if j = i then x else f j
theorem nu_s {f : Nat → Nat} {i x : Nat} : nu_f f i x i = x := if_pos rfl
theorem nu_n {f : Nat → Nat} {i x j : Nat} (h : j ≠ i) : nu_f f i x j = f j := if_neg h
/-- statement i placed -/
theorem sc_s {o D A B : Nat → Int32} {b n T m i s u : Nat} {H I E U F : Nat → Nat} {Lb : Nat} {P : Nat → Prop} {is en un he uf bl : Nat → Int32} (h1 : 1 ≤ T) (hT : T ≤ 4) (hi : i < n) (hP : ¬ P i) (hdep : ∀ j, pd_dp o D A B b j i → P j) (hu : u < 6)
    (hu5 : (o (b * 9 + i) = 11 ∨ o (b * 9 + i) = 12) → u = 5) (hF : F u ≤ s) (hs : s ≤ 4 * m) (hE : ∀ j, j < i → pd_dp o D A B b j i → E j ≤ s)
    (h : sc_a o D A B b n T m H I E U F Lb P is en un he uf bl) :
    sc_a o D A B b n T (m + 1) H (nu_f I i s) (nu_f E i (s + pd_lt T (o (b * 9 + i)))) (nu_f U i u) (nu_f F u (s + pd_lt T (o (b * 9 + i)))) (max Lb (s + pd_lt T (o (b * 9 + i)))) (fun j => P j ∨ j = i)
      (upd is (b * 9 + i) (nI s)) (upd en (b * 9 + i) (nI (s + pd_lt T (o (b * 9 + i))))) (upd un (b * 9 + i) (nI u)) (upd he i 0) (upd uf u (nI (s + pd_lt T (o (b * 9 + i))))) (upd bl b (nI (max Lb (s + pd_lt T (o (b * 9 + i)))))) := by
  have l4 := lt_le (x := o (b * 9 + i)) h1 hT
  have l1 := lt_pos (x := o (b * 9 + i)) h1
  obtain ⟨g1, g2, ⟨g3, g3'⟩, g4, g5, g6, g7⟩ := h
  refine ⟨fun j hj => ?_, fun v hv => ?_, ⟨pk_us, by omega⟩, fun j hj hPj => ?_, fun j l hj hPj hd => ?_, fun j l hj hl hPj hPl hne hU => ?_, ?_⟩
  · by_cases e : j = i
    · rw [e, pk_us]; exact ⟨fun _ => rfl, fun z => absurd (Or.inr rfl) z⟩
    · rw [pk_un e]
      exact ⟨fun z => (g1 j hj).1 (z.resolve_right e), fun z => (g1 j hj).2 (fun y => z (Or.inl y))⟩
  · by_cases e : v = u
    · subst e
      rw [pk_us, nu_s]; exact ⟨rfl, by omega⟩
    · rw [pk_un e, nu_n e]
      exact ⟨(g2 v hv).1, by have := (g2 v hv).2; omega⟩
  · by_cases e : j = i
    · subst e
      rw [pk_us, pk_us, pk_us, nu_s, nu_s, nu_s, nu_s]
      exact ⟨⟨rfl, rfl, rfl⟩, ⟨rfl, by omega, hu, hu5⟩, by omega⟩
    · obtain ⟨⟨q1, q2, q3⟩, ⟨q4, q5, q6, q7⟩, q8⟩ := g4 j hj (hPj.resolve_right e)
      rw [pk_un (by omega), pk_un (by omega), pk_un (by omega), nu_n e, nu_n e, nu_n e]
      refine ⟨⟨q1, q2, q3⟩, ⟨q4, by omega, q6, q7⟩, ?_⟩
      by_cases e2 : U j = u
      · rw [e2, nu_s]; rw [e2] at q8; omega
      · rw [nu_n e2]; exact q8
  · have hlt := hd.1
    by_cases e : j = i
    · subst e
      have := hE l hlt hd
      rw [nu_s, nu_n (show l ≠ j by omega)]
      exact ⟨Or.inl (hdep l hd), this⟩
    · obtain ⟨q1, q2⟩ := g5 j l hj (hPj.resolve_right e) hd
      have e2 : l ≠ i := fun z => hP (z ▸ q1)
      rw [nu_n e, nu_n e2]
      exact ⟨Or.inl q1, q2⟩
  · by_cases e : j = i
    · subst e
      have e2 : l ≠ j := fun z => hne z.symm
      obtain ⟨_, _, q8⟩ := g4 l hl (hPl.resolve_right e2)
      rw [nu_s, nu_n e2] at hU
      rw [nu_s, nu_s, nu_n e2, nu_n e2]
      rw [← hU] at q8
      omega
    · by_cases e2 : l = i
      · subst e2
        obtain ⟨_, _, q8⟩ := g4 j hj (hPj.resolve_right e)
        rw [nu_s, nu_n e] at hU
        rw [nu_s, nu_s, nu_n e, nu_n e]
        rw [hU] at q8
        omega
      · rw [nu_n e, nu_n e2] at hU
        rw [nu_n e, nu_n e, nu_n e2, nu_n e2]
        exact g6 j l hj hl (hPj.resolve_right e) (hPl.resolve_right e2) hne hU
  · show pc_c (fun j => ¬ (P j ∨ j = i)) n + (m + 1) = n
    have := pc_rm (P := fun j => ¬ P j) (Q := fun j => ¬ (P j ∨ j = i)) n hi hP (fun z => z (Or.inr rfl)) (fun j hj hne => ⟨fun z y => y.elim z hne, fun z y => z (Or.inl y)⟩)
    omega
variable {xal xmu xmt xsa xmo xcl xat : Int32} {xop xfd xfa xfb xct xin xce xli xho xle xbl xis xen xun xsA xsB xde xex xcu xdp xhe xuf xlu xvr xhu xrg xuo xla : Nat → Int32}
theorem xs_30 {post : SX → Prop} {b n T a mm : Nat} {H : Nat → Nat} {is0 en0 un0 bl0 : Nat → Int32} (hb : b < 8) (hn : n ≤ 8) (h1 : 1 ≤ T) (hT : T ≤ 4) (hmt : xmt = nI T)
    (ha1 : 1 ≤ a) (ha : a ≤ 3) (hal : xal = nI a) (hm1 : 1 ≤ mm) (hm : mm ≤ 2) (hmu : xmu = nI mm) (hct : xct b = nI n)
    (hd : ∀ j, j < n → ∀ l, l < 32 → (bt (xdp j) l = true ↔ pd_dp xop xfd xfa xfb b l j)) (hH : ∀ i, i < n → H i ≤ 32 ∧ hw_s xop xfd xfa xfb b n T H i)
    (h : ∀ I E U L is en un he uf bl, ce_t xop b n T L I E U → ce_d xop xfd xfa xfb b n I E → ce_u n I E U → (∀ i, i < n → is (b * 9 + i) = nI (I i) ∧ en (b * 9 + i) = nI (E i) ∧ un (b * 9 + i) = nI (U i)) → bl b = nI L → L ≤ 32 → sc_f b n is0 en0 un0 bl0 is en un bl →
      post (xal, xmu, xmt, xsa, xmo, xcl, xat, xop, xfd, xfa, xfb, xct, xin, xce, xli, xho, xle, bl, is, en, un, xsA, xsB, xde, xex, xcu, xdp, he, uf, xlu, xvr, xhu, xrg, xuo, xla)) :
    ∀ d m I E U F Lb P is en un he uf bl, m + d = n → sc_a xop xfd xfa xfb b n T m H I E U F Lb P is en un he uf bl → sc_f b n is0 en0 un0 bl0 is en un bl →
      wX_schedule_30 post (nI b) (d + 1) (nI m) xal xmu xmt xsa xmo xcl xat xop xfd xfa xfb xct xin xce xli xho xle bl is en un xsA xsB xde xex xcu xdp he uf xlu xvr xhu xrg xuo xla := by
  intro d
  have cb : (nI b).toNatClampNeg = b := nI_clamp (by omega)
  have vb : vp_in (nI b) 8 := vp_in_nI hb (by omega)
  induction d with
  | zero =>
    intro m I E U F Lb P is en un he uf bl hmd hI hf
    rw [wX_schedule_30]; dsimp only; rw [cb, hct]
    have e : m = n := by omega
    subst e
    obtain ⟨g1, g2, ⟨g3, g3'⟩, g4, g5, g6, g7⟩ := hI
    have all : ∀ i, i < m → P i := fun i hi => Classical.byContradiction (fun z => pc_none (P := fun i => ¬ P i) m (by omega) i hi z)
    exact ⟨vb, br_t (nI_le (Nat.le_refl _) (by omega)) (h I E U Lb is en un he uf bl (fun i hi => (g4 i hi (all i hi)).2.1) (fun j i hi hd => (g5 i j hi (all i hi) hd).2) (fun i j hi hj => g6 i j hi hj (all i hi) (all j hj)) (fun i hi => (g4 i hi (all i hi)).1) g3 (by omega) hf)⟩
  | succ d ih =>
    intro m I E U F Lb P is en un he uf bl hmd hI hf
    rw [wX_schedule_30]; dsimp only; rw [cb, hct]
    obtain ⟨g1, g2, ⟨g3, g3'⟩, g4, g5, g6, g7⟩ := hI
    have hI' : sc_a xop xfd xfa xfb b n T m H I E U F Lb P is en un he uf bl := ⟨g1, g2, ⟨g3, g3'⟩, g4, g5, g6, g7⟩
    have hv : ∀ i, i < n → he i = nI (hw_n he i) ∧ hw_n he i ≤ 32 ∧ (P i → hw_n he i = 0) ∧ (¬ P i → hw_n he i = H i) := by
      intro i hi
      by_cases z : P i
      · have e := (g1 i hi).1 z
        have e2 : hw_n he i = 0 := by unfold hw_n; rw [e]; rfl
        exact ⟨by rw [e2, e]; rfl, by omega, fun _ => e2, fun y => absurd z y⟩
      · have e := (g1 i hi).2 z
        have l := (hH i hi).1
        have e2 : hw_n he i = H i := by unfold hw_n; rw [e, nI_clamp (by omega)]
        exact ⟨by rw [e2, e], by omega, fun y => absurd y z, fun _ => e2⟩
    obtain ⟨q, hq, hPq⟩ := pc_some (P := fun i => ¬ P i) n (by omega)
    refine ⟨vb, br_f (nI_ge (by omega) (by omega)) (xs_tallest (h := hw_n he) (xhe := he) hb hn (by omega) hct (fun j hj => ⟨(hv j hj).1, (hv j hj).2.1⟩) (fun i hi hmx => ?_))⟩
    have pos : ∀ j, j < n → 1 ≤ H j := by
      intro j hj
      have l1 := lt_pos (x := xop (b * 9 + j)) h1
      rcases (hH j hj).2.2 with z | ⟨l, _, _, z⟩ <;> omega
    have hPi : ¬ P i := by
      intro z
      have t := hmx q hq
      rw [(hv i hi).2.2.1 z, (hv q hq).2.2.2 hPq] at t
      have := pos q hq
      omega
    have hdep : ∀ j, pd_dp xop xfd xfa xfb b j i → P j := by
      intro j hj
      apply Classical.byContradiction
      intro z
      have lt := hj.1
      have t := hmx j (by omega)
      rw [(hv i hi).2.2.2 hPi, (hv j (by omega)).2.2.2 z] at t
      have t2 := (hH j (by omega)).2.1 i hi hj
      have l1 := lt_pos (x := xop (b * 9 + j)) h1
      omega
    refine xs_place (xis := is) (xen := en) (xun := un) (xhe := he) (xuf := uf) (xbl := bl) (n := n) (W := 4 * m) (E := E) (F := F) hb hn hi h1 hT (by omega) hmt g3 g3' ha1 ha hal hm1 hm hmu g2 (hd i hi) (fun j hj hdj => ?_) (fun s u hu hu5 hF hs hE => ?_)
    · obtain ⟨q1, q2, q3⟩ := g4 j (by omega) (hdep j hdj)
      exact ⟨q1.2.1, by omega⟩
    · dsimp only
      refine nm_r (nI_1 m) (ih (m + 1) _ _ _ _ _ _ _ _ _ _ _ _ (by omega) (sc_s h1 hT hi hPi hdep hu hu5 hF hs hE hI') ⟨fun k hk => ?_, fun c hc => ?_⟩)
      · rw [pk_un (by omega), pk_un (by omega), pk_un (by omega)]
        exact hf.1 k hk
      · rw [pk_un hc]; exact hf.2 c hc
theorem xs_2 {post : SX → Prop} {b n T a mm : Nat} {H : Nat → Nat} (hb : b < 8) (hn : n ≤ 8) (h1 : 1 ≤ T) (hT : T ≤ 4) (hmt : xmt = nI T)
    (ha1 : 1 ≤ a) (ha : a ≤ 3) (hal : xal = nI a) (hm1 : 1 ≤ mm) (hm : mm ≤ 2) (hmu : xmu = nI mm) (hct : xct b = nI n)
    (hd : ∀ j, j < n → ∀ l, l < 32 → (bt (xdp j) l = true ↔ pd_dp xop xfd xfa xfb b l j)) (hH : ∀ i, i < n → H i ≤ 32 ∧ hw_s xop xfd xfa xfb b n T H i) (hh : ∀ i, i < n → xhe i = nI (H i))
    (h : ∀ I E U L is en un he uf bl, ce_t xop b n T L I E U → ce_d xop xfd xfa xfb b n I E → ce_u n I E U → (∀ i, i < n → is (b * 9 + i) = nI (I i) ∧ en (b * 9 + i) = nI (E i) ∧ un (b * 9 + i) = nI (U i)) → bl b = nI L → L ≤ 32 → sc_f b n xis xen xun xbl is en un bl →
      post (xal, xmu, xmt, xsa, xmo, xcl, xat, xop, xfd, xfa, xfb, xct, xin, xce, xli, xho, xle, bl, is, en, un, xsA, xsB, xde, xex, xcu, xdp, he, uf, xlu, xvr, xhu, xrg, xuo, xla)) :
    ∀ d i uf, i + d = 6 → (∀ u, u < i → uf u = 0) → wX_schedule_2 post (nI b) xal xmu xmt xsa xmo xcl xat (d + 1) (nI i) xop xfd xfa xfb xct xin xce xli xho xle xbl xis xen xun xsA xsB xde xex xcu xdp xhe uf xlu xvr xhu xrg xuo xla := by
  intro d
  induction d with
  | zero =>
    intro i uf hi hu
    rw [wX_schedule_2]; dsimp only
    have e : i = 6 := by omega
    subst e
    refine br_t (nI_le (a := 6) (by omega) (by omega)) ⟨vp_in_nI hb (by omega), ?_⟩
    rw [nI_clamp (by omega)]
    refine nm_e ⟨n + 1, xs_30 (H := H) hb hn h1 hT hmt ha1 ha hal hm1 hm hmu hct hd hH h n 0 (fun _ => 0) (fun _ => 0) (fun _ => 0) (fun _ => 0) 0 (fun _ => False) xis xen xun xhe uf (upd xbl b 0) (by omega) ?_ ⟨fun k hk => ⟨rfl, rfl, rfl⟩, fun c hc => pk_un hc⟩⟩
    refine ⟨fun i hi => ⟨fun z => absurd z id, fun _ => hh i hi⟩, fun u hu' => ⟨hu u hu', Nat.zero_le _⟩, ⟨pk_us, by omega⟩, fun i hi z => absurd z id, fun i j hi z => absurd z id, fun i j hi hj z => absurd z id, ?_⟩
    have e : ∀ k, pc_c (fun _ => ¬ False) k = k := by
      intro k
      induction k with
      | zero => rfl
      | succ k ih => rw [pc_t (P := fun _ => ¬ False) (n := k) id, ih]
    rw [e, Nat.add_zero]
  | succ d ih =>
    intro i uf hi hu
    rw [wX_schedule_2]; dsimp only
    have ci : (nI i).toNatClampNeg = i := nI_clamp (by omega)
    refine br_f (nI_ge (b := 6) (by omega) (by omega)) ⟨vp_in_nI (by omega) (by omega), ?_⟩
    rw [ci]
    refine nm_e (nm_r (nI_1 i) (ih (i + 1) _ (by omega) (fun v hv => ?_)))
    by_cases e : v = i
    · rw [e, pk_us]
    · rw [pk_un e]; exact hu v (by omega)
theorem xs_sched {post : SX → Prop} {b n T a mm : Nat} {H : Nat → Nat} (hb : b < 8) (hn : n ≤ 8) (h1 : 1 ≤ T) (hT : T ≤ 4) (hmt : xmt = nI T)
    (ha1 : 1 ≤ a) (ha : a ≤ 3) (hal : xal = nI a) (hm1 : 1 ≤ mm) (hm : mm ≤ 2) (hmu : xmu = nI mm) (hct : xct b = nI n)
    (hd : ∀ j, j < n → ∀ l, l < 32 → (bt (xdp j) l = true ↔ pd_dp xop xfd xfa xfb b l j)) (hH : ∀ i, i < n → H i ≤ 32 ∧ hw_s xop xfd xfa xfb b n T H i) (hh : ∀ i, i < n → xhe i = nI (H i))
    (h : ∀ I E U L is en un he uf bl, ce_t xop b n T L I E U → ce_d xop xfd xfa xfb b n I E → ce_u n I E U → (∀ i, i < n → is (b * 9 + i) = nI (I i) ∧ en (b * 9 + i) = nI (E i) ∧ un (b * 9 + i) = nI (U i)) → bl b = nI L → L ≤ 32 → sc_f b n xis xen xun xbl is en un bl →
      post (xal, xmu, xmt, xsa, xmo, xcl, xat, xop, xfd, xfa, xfb, xct, xin, xce, xli, xho, xle, bl, is, en, un, xsA, xsB, xde, xex, xcu, xdp, he, uf, xlu, xvr, xhu, xrg, xuo, xla)) : wpX_schedule post (xal, xmu, xmt, xsa, xmo, xcl, xat, xop, xfd, xfa, xfb, xct, xin, xce, xli, xho, xle, xbl, xis, xen, xun, xsA, xsB, xde, xex, xcu, xdp, xhe, xuf, xlu, xvr, xhu, xrg, xuo, xla) (nI b) :=
  ⟨7, xs_2 hb hn h1 hT hmt ha1 ha hal hm1 hm hmu hct hd hH hh h 6 0 xuf rfl (fun u hu => absurd hu (by omega))⟩
end P12
end
section
section P13
/-! measureLives -/
def ml_up (lu lu' : Nat → Int32) : Prop := ∀ y, (lu y).toInt ≤ (lu' y).toInt
theorem ml_tr {p q r : Nat → Int32} (h : ml_up p q) (g : ml_up q r) : ml_up p r := fun y => Int.le_trans (h y) (g y)
/-- all reads of the statements below i are within -/
def ml_i (o D A B : Nat → Int32) (b : Nat) (I : Nat → Nat) (i : Nat) (lu : Nat → Int32) : Prop :=
  ∀ j, j < i → (¬ o (b * 9 + j) = 0 → (I j : Int) ≤ (lu (pd_cu o D b j (A (b * 9 + j)).toNatClampNeg)).toInt) ∧ (pd_rb (o (b * 9 + j)) → (I j : Int) ≤ (lu (pd_cu o D b j (B (b * 9 + j)).toNatClampNeg)).toInt)
theorem ml_mono {o D A B : Nat → Int32} {b i : Nat} {I : Nat → Nat} {lu lu' : Nat → Int32} (h : ml_i o D A B b I i lu) (u : ml_up lu lu') : ml_i o D A B b I i lu' :=
  fun j hj => ⟨fun g => Int.le_trans ((h j hj).1 g) (u _), fun g => Int.le_trans ((h j hj).2 g) (u _)⟩
variable {xal xmu xmt xsa xmo xcl xat : Int32} {xop xfd xfa xfb xct xin xce xli xho xle xbl xis xen xun xsA xsB xde xex xcu xdp xhe xuf xlu xvr xhu xrg xuo xla : Nat → Int32}
theorem xq_stretch {post : SX → Prop} {p c : Int32} (hp : p = -1 ∨ ∃ x, x < 16 ∧ p = nI x) (h : ∀ lu, ml_up xlu lu → (∀ x, x < 16 → p = nI x → c.toInt ≤ (lu x).toInt) → post (xal, xmu, xmt, xsa, xmo, xcl, xat, xop, xfd, xfa, xfb, xct, xin, xce, xli, xho, xle, xbl, xis, xen, xun, xsA, xsB, xde, xex, xcu, xdp, xhe, xuf, lu, xvr, xhu, xrg, xuo, xla)) : wpX_stretch post (xal, xmu, xmt, xsa, xmo, xcl, xat, xop, xfd, xfa, xfb, xct, xin, xce, xli, xho, xle, xbl, xis, xen, xun, xsA, xsB, xde, xex, xcu, xdp, xhe, xuf, xlu, xvr, xhu, xrg, xuo, xla) p c := by
  rcases hp with e | ⟨x, hx, e⟩
  · subst e
    exact br_t (c := (-1 : Int32) < 0) (by decide) (h xlu (fun y => Int.le_refl _) (fun x hx e => absurd e (bg_m1 (by omega))))
  · subst e
    have cx : (nI x).toNatClampNeg = x := nI_clamp (by omega)
    have vx : vp_in (nI x) 16 := vp_in_nI hx (by omega)
    refine br_f (c := nI x < (0 : Int32)) (nI_pos (by omega)) ⟨vx, xh_largerI (fun r _ h1 h2 => ⟨vx, ?_⟩)⟩
    rw [cx] at h1 ⊢
    refine nm_e (h _ (fun y => ?_) (fun y hy e => ?_))
    · by_cases g : y = x
      · rw [g, pk_us]; exact h1
      · rw [pk_un g]; exact Int.le_refl _
    · have g := na_in e (by omega) (by omega)
      subst g
      rw [pk_us]; exact h2
theorem xq_87 {post : SX → Prop} {b L : Nat} {q : Int32} (hb : b < 8) (hbl : xbl b = nI L) (hL : L ≤ 32) (hcu : ∀ v, v < 8 → ∃ x, x < 16 ∧ xcu v = nI x) {lu0 : Nat → Int32}
    (h : ∀ lu, ml_up lu0 lu → (∀ v, v < 8 → bt q v = true → (L : Int) ≤ (lu (xcu v).toNatClampNeg).toInt) → post (xal, xmu, xmt, xsa, xmo, xcl, xat, xop, xfd, xfa, xfb, xct, xin, xce, xli, xho, xle, xbl, xis, xen, xun, xsA, xsB, xde, xex, xcu, xdp, xhe, xuf, lu, xvr, xhu, xrg, xuo, xla)) :
    ∀ d i lu, i + d = 8 → ml_up lu0 lu → (∀ v, v < i → bt q v = true → (L : Int) ≤ (lu (xcu v).toNatClampNeg).toInt) → wX_measureLives_87 post (nI b) q (d + 1) (nI i) xal xmu xmt xsa xmo xcl xat xop xfd xfa xfb xct xin xce xli xho xle xbl xis xen xun xsA xsB xde xex xcu xdp xhe xuf lu xvr xhu xrg xuo xla := by
  intro d
  have cb : (nI b).toNatClampNeg = b := nI_clamp (by omega)
  have vb : vp_in (nI b) 8 := vp_in_nI hb (by omega)
  induction d with
  | zero =>
    intro i lu hi hu hv
    rw [wX_measureLives_87]; dsimp only
    have e : i = 8 := by omega
    subst e
    exact br_t (nI_le (a := 8) (by omega) (by omega)) (h lu hu hv)
  | succ d ih =>
    intro i lu hi hu hv
    rw [wX_measureLives_87]; dsimp only
    have ci : (nI i).toNatClampNeg = i := nI_clamp (by omega)
    rw [ci, cb, hbl]
    refine br_f (nI_ge (b := 8) (by omega) (by omega)) (xh_has (by omega) (fun g => nm_r (nI_1 i) (ih (i + 1) lu (by omega) hu (fun v hv' g2 => ?_))) (fun g => ⟨vp_in_nI (by omega) (by omega), vb, ?_⟩))
    · by_cases e : v = i
      · subst e; exact absurd g2 g
      · exact hv v (by omega) g2
    · obtain ⟨x, hx, ex⟩ := hcu i (by omega)
      refine xq_stretch (xlu := lu) (Or.inr ⟨x, hx, ex⟩) (fun lu' u1 u2 => nm_r (nI_1 i) (ih (i + 1) lu' (by omega) (ml_tr hu u1) (fun v hv' g2 => ?_)))
      by_cases e : v = i
      · subst e
        have t := u2 x hx ex
        rw [nI_toInt (by omega)] at t
        rw [ex, nI_clamp (by omega)]
        exact t
      · exact Int.le_trans (hv v (by omega) g2) (u1 _)
theorem xq_26 {post : SX → Prop} {b n L : Nat} {I : Nat → Nat} (hb : b < 8) (hn : n ≤ 8) (hct : xct b = nI n) (hbl : xbl b = nI L) (hL : L ≤ 32) (hw : ∀ i, i < n → wf_op xop xfd xfa xfb (b * 9 + i)) (hcl : wf_cl xop xfd xfa xfb (b * 9 + 8))
    (hcu : ∀ v, v < 8 → xcu v = nI (pd_cu xop xfd b n v)) (hs : ∀ i, i < n → bg_sa xop xfd xfa b i (xsA (b * 9 + i)) ∧ bg_sb xop xfd xfb b i (xsB (b * 9 + i))) (hI : ∀ i, i < n → xis (b * 9 + i) = nI (I i) ∧ I i ≤ 32)
    (h : ∀ lu, (∀ x c, ce_us (lm_m xli) xop xfd xfa xfb b n L I x c → (c : Int) ≤ (lu x).toInt) → post (xal, xmu, xmt, xsa, xmo, xcl, xat, xop, xfd, xfa, xfb, xct, xin, xce, xli, xho, xle, xbl, xis, xen, xun, xsA, xsB, xde, xex, xcu, xdp, xhe, xuf, lu, xvr, xhu, xrg, xuo, xla)) :
    ∀ d i lu, i + d = n → ml_i xop xfd xfa xfb b I i lu → wX_measureLives_26 post (nI b) (d + 1) (nI (b * 9 + i)) xal xmu xmt xsa xmo xcl xat xop xfd xfa xfb xct xin xce xli xho xle xbl xis xen xun xsA xsB xde xex xcu xdp xhe xuf lu xvr xhu xrg xuo xla := by
  intro d
  have cb : (nI b).toNatClampNeg = b := nI_clamp (by omega)
  have vb : vp_in (nI b) 8 := vp_in_nI hb (by omega)
  induction d with
  | zero =>
    intro i lu hi hm
    rw [wX_measureLives_26]; dsimp only; rw [cb, hct, na_ix]
    have e : i = n := by omega
    subst e
    refine ⟨vb, br_t (nI_le (Nat.le_refl _) (by omega)) (xl_need hb hcl (fun q hq => ⟨9, xq_87 (lu0 := lu) hb hbl hL (fun v hv => ⟨_, ?_, hcu v hv⟩) (fun lu' u1 u2 => h lu' (fun x c us => ?_)) 8 0 lu (by omega) (fun y => Int.le_refl _) (fun v hv => absurd hv (by omega))⟩))⟩
    · have := cu_lt (o := xop) (D := xfd) (b := b) hv i
      omega
    · rcases us with ⟨j, hj, g, ex, ec⟩ | ⟨j, hj, g, ex, ec⟩ | ⟨v, hv, g, ex, ec⟩
      · rw [ex, ec]
        exact Int.le_trans ((hm j hj).1 g) (u1 _)
      · rw [ex, ec]
        exact Int.le_trans ((hm j hj).2 g) (u1 _)
      · have t := u2 v hv ((hq v hv).mpr g)
        have := cu_lt (o := xop) (D := xfd) (b := b) hv i
        rw [hcu v hv, nI_clamp (by omega)] at t
        rw [ex, ec]
        exact t
  | succ d ih =>
    intro i lu hi hm
    rw [wX_measureLives_26]; dsimp only; rw [cb, hct, na_ix]
    have ck : (nI (b * 9 + i)).toNatClampNeg = b * 9 + i := nI_clamp (by omega)
    have vk : vp_in (nI (b * 9 + i)) 72 := vp_in_nI (by omega) (by omega)
    obtain ⟨sa, sb⟩ := hs i (by omega)
    obtain ⟨eI, lI⟩ := hI i (by omega)
    have w := hw i (by omega)
    rw [ck]
    refine ⟨vb, br_f (nI_ge (by omega) (by omega)) ⟨vk, vk, xq_stretch (xlu := lu) (bg_sav (by omega) w sa) (fun lu1 u1 s1 => ?_)⟩⟩
    dsimp only
    refine ⟨vk, vk, xq_stretch (xlu := lu1) (bg_sbv (by omega) w sb) (fun lu2 u2 s2 => nm_r (nI_1 _) (ih (i + 1) lu2 (by omega) (fun j hj => ?_)))⟩
    by_cases e : j = i
    · subst e
      rw [eI, nI_toInt (by omega)] at s1 s2
      refine ⟨fun g => ?_, fun g => ?_⟩
      · obtain ⟨a, ha, ea⟩ := w.2.2.1 g
        have := cu_lt (o := xop) (D := xfd) (b := b) ha j
        exact Int.le_trans (s1 _ (by rw [ea, nI_clamp (by omega)]; omega) (sa.2 g)) (u2 _)
      · obtain ⟨a, ha, ea⟩ := w.2.2.2
        have := cu_lt (o := xop) (D := xfd) (b := b) ha j
        exact s2 _ (by rw [ea, nI_clamp (by omega)]; omega) (sb.2 g)
    · exact ml_mono hm (ml_tr u1 u2) j (by omega)
theorem xq_2 {post : SX → Prop} {b n L : Nat} {I : Nat → Nat} (hb : b < 8) (hn : n ≤ 8) (hct : xct b = nI n) (hbl : xbl b = nI L) (hL : L ≤ 32) (hw : ∀ i, i < n → wf_op xop xfd xfa xfb (b * 9 + i)) (hcl : wf_cl xop xfd xfa xfb (b * 9 + 8))
    (hcu : ∀ v, v < 8 → xcu v = nI (pd_cu xop xfd b n v)) (hs : ∀ i, i < n → bg_sa xop xfd xfa b i (xsA (b * 9 + i)) ∧ bg_sb xop xfd xfb b i (xsB (b * 9 + i))) (hI : ∀ i, i < n → xis (b * 9 + i) = nI (I i) ∧ I i ≤ 32)
    (h : ∀ lu, (∀ x c, ce_us (lm_m xli) xop xfd xfa xfb b n L I x c → (c : Int) ≤ (lu x).toInt) → post (xal, xmu, xmt, xsa, xmo, xcl, xat, xop, xfd, xfa, xfb, xct, xin, xce, xli, xho, xle, xbl, xis, xen, xun, xsA, xsB, xde, xex, xcu, xdp, xhe, xuf, lu, xvr, xhu, xrg, xuo, xla)) :
    ∀ d i lu, i + d = 16 → wX_measureLives_2 post (nI b) xal xmu xmt xsa xmo xcl xat (d + 1) (nI i) xop xfd xfa xfb xct xin xce xli xho xle xbl xis xen xun xsA xsB xde xex xcu xdp xhe xuf lu xvr xhu xrg xuo xla := by
  intro d
  induction d with
  | zero =>
    intro i lu hi
    rw [wX_measureLives_2]; dsimp only
    have e : i = 16 := by omega
    subst e
    exact br_t (nI_le (a := 16) (by omega) (by omega)) (nm_r (na_9 b) ⟨n + 1, xq_26 hb hn hct hbl hL hw hcl hcu hs hI h n 0 lu (by omega) (fun j hj => absurd hj (by omega))⟩)
  | succ d ih =>
    intro i lu hi
    rw [wX_measureLives_2]; dsimp only
    exact br_f (nI_ge (b := 16) (by omega) (by omega)) ⟨vp_in_nI (by omega) (by omega), nm_e (nm_r (nI_1 i) (ih (i + 1) _ (by omega)))⟩
theorem xq_measure {post : SX → Prop} {b n L : Nat} {I : Nat → Nat} (hb : b < 8) (hn : n ≤ 8) (hct : xct b = nI n) (hbl : xbl b = nI L) (hL : L ≤ 32) (hw : ∀ i, i < n → wf_op xop xfd xfa xfb (b * 9 + i)) (hcl : wf_cl xop xfd xfa xfb (b * 9 + 8))
    (hcu : ∀ v, v < 8 → xcu v = nI (pd_cu xop xfd b n v)) (hs : ∀ i, i < n → bg_sa xop xfd xfa b i (xsA (b * 9 + i)) ∧ bg_sb xop xfd xfb b i (xsB (b * 9 + i))) (hI : ∀ i, i < n → xis (b * 9 + i) = nI (I i) ∧ I i ≤ 32)
    (h : ∀ lu, (∀ x c, ce_us (lm_m xli) xop xfd xfa xfb b n L I x c → (c : Int) ≤ (lu x).toInt) → post (xal, xmu, xmt, xsa, xmo, xcl, xat, xop, xfd, xfa, xfb, xct, xin, xce, xli, xho, xle, xbl, xis, xen, xun, xsA, xsB, xde, xex, xcu, xdp, xhe, xuf, lu, xvr, xhu, xrg, xuo, xla)) : wpX_measureLives post (xal, xmu, xmt, xsa, xmo, xcl, xat, xop, xfd, xfa, xfb, xct, xin, xce, xli, xho, xle, xbl, xis, xen, xun, xsA, xsB, xde, xex, xcu, xdp, xhe, xuf, xlu, xvr, xhu, xrg, xuo, xla) (nI b) :=
  ⟨17, xq_2 hb hn hct hbl hL hw hcl hcu hs hI h 16 0 xlu rfl⟩
end P13
end
section
section P14
/-! shareRegisters -/
def sr_i (n : Nat) (E : Nat → Nat) (ho lu : Nat → Int32) (Q : Nat → Prop) (hu vr : Nat → Int32) : Prop :=
  (∀ x, x < 8 → vr x = ho x ∧ (lu x).toInt ≤ (hu (ho x).toNatClampNeg).toInt) ∧
  (∀ j, j < n → (vr (8 + j) = -1 ∨ (∃ r, r < 16 ∧ vr (8 + j) = nI r ∧ (lu (8 + j)).toInt ≤ (hu r).toInt ∧ Q j ∧ (E j : Int) ≤ (lu (8 + j)).toInt))) ∧
  (∀ j, j < n → Q j → (E j : Int) ≤ (lu (8 + j)).toInt → ¬ vr (8 + j) = -1) ∧
  (∀ x j, x < 8 → j < n → vr (8 + j) = ho x → (lu x).toInt < (E j : Int)) ∧
  (∀ j l, j < n → l < n → j ≠ l → vr (8 + j) = vr (8 + l) → ¬ vr (8 + j) = -1 → (lu (8 + j)).toInt < (E l : Int) ∨ (lu (8 + l)).toInt < (E j : Int)) ∧
  (∀ r, 8 + pc_c (fun j => ¬ vr (8 + j) = -1) n ≤ r → r < 16 → hu r = -1)
def sr_q (E : Nat → Nat) (c i j : Nat) : Prop := E j < c ∨ (E j = c ∧ j < i)
theorem sr_w {n : Nat} {E : Nat → Nat} {ho lu hu vr : Nat → Int32} {Q Q' : Nat → Prop} (h1 : ∀ j, j < n → Q j → Q' j) (h2 : ∀ j, j < n → Q' j → (E j : Int) ≤ (lu (8 + j)).toInt → Q j) (h : sr_i n E ho lu Q hu vr) : sr_i n E ho lu Q' hu vr := by
  obtain ⟨g1, g2, g3, g4⟩ := h
  refine ⟨g1, fun j hj => ?_, fun j hj q e => g3 j hj (h2 j hj q e) e, g4⟩
  rcases g2 j hj with z | ⟨r, z1, z2, z3, z4, z5⟩
  · exact Or.inl z
  · exact Or.inr ⟨r, z1, z2, z3, h1 j hj z4, z5⟩
theorem sr_s {n i r : Nat} {E : Nat → Nat} {ho lu hu vr : Nat → Int32} {Q : Nat → Prop} (hho : ∀ x, x < 8 → ∃ r, r < 8 ∧ ho x = nI r) (hi : i < n) (hQ : ¬ Q i) (hlu : (E i : Int) ≤ (lu (8 + i)).toInt)
    (hr : r ≤ 8 + pc_c (fun j => ¬ vr (8 + j) = -1) n) (hr16 : r < 16) (hhu : (hu r).toInt < (E i : Int)) (h : sr_i n E ho lu Q hu vr) :
    sr_i n E ho lu (fun j => Q j ∨ j = i) (upd hu r (lu (8 + i))) (upd vr (8 + i) (nI r)) := by
  obtain ⟨g1, g2, g3, g4, g5, g6⟩ := h
  have hui : ∀ s, (hu s).toInt ≤ (upd hu r (lu (8 + i)) s).toInt := by
    intro s
    by_cases e : s = r
    · subst e; rw [pk_us]; omega
    · rw [pk_un e]; exact Int.le_refl _
  have vi : vr (8 + i) = -1 := by
    rcases g2 i hi with z | ⟨_, _, _, _, z, _⟩
    · exact z
    · exact absurd z hQ
  have un : ∀ j, j ≠ i → upd vr (8 + i) (nI r) (8 + j) = vr (8 + j) := fun j hj => pk_un (by omega)
  refine ⟨fun x hx => ?_, fun j hj => ?_, fun j hj q e => ?_, fun x j hx hj e => ?_, fun j l hj hl hne e ne => ?_, fun s hs hs16 => ?_⟩
  · rw [pk_un (by omega)]
    exact ⟨(g1 x hx).1, Int.le_trans (g1 x hx).2 (hui _)⟩
  · by_cases e : j = i
    · subst e
      rw [pk_us]
      exact Or.inr ⟨r, hr16, rfl, by rw [pk_us]; exact Int.le_refl _, Or.inr rfl, hlu⟩
    · rw [un j e]
      rcases g2 j hj with z | ⟨r', z1, z2, z3, z4, z5⟩
      · exact Or.inl z
      · exact Or.inr ⟨r', z1, z2, Int.le_trans z3 (hui _), Or.inl z4, z5⟩
  · by_cases e2 : j = i
    · subst e2
      rw [pk_us]
      exact fun z => bg_m1 (show r < 2 ^ 30 by omega) z.symm
    · rw [un j e2]; exact g3 j hj (q.resolve_right e2) e
  · by_cases e2 : j = i
    · subst e2
      rw [pk_us] at e
      have t := (g1 x hx).2
      rw [← e, nI_clamp (by omega)] at t
      omega
    · rw [un j e2] at e; exact g4 x j hx hj e
  · by_cases e1 : j = i
    · subst e1
      have e2 : l ≠ j := fun z => hne z.symm
      rw [pk_us, un l e2] at e
      rcases g2 l hl with z | ⟨r', z1, z2, z3, z4, z5⟩
      · rw [z] at e; exact absurd e.symm (bg_m1 (by omega))
      · have := na_in (e.trans z2) (by omega) (by omega)
        subst this
        exact Or.inr (by omega)
    · by_cases e2 : l = i
      · subst e2
        rw [pk_us, un j e1] at e
        rcases g2 j hj with z | ⟨r', z1, z2, z3, z4, z5⟩
        · rw [z] at e; exact absurd e (bg_m1 (by omega))
        · have := na_in (z2.symm.trans e) (by omega) (by omega)
          subst this
          exact Or.inl (by omega)
      · rw [un j e1, un l e2] at e
        rw [un j e1] at ne
        exact g5 j l hj hl hne e ne
  · have t := pc_rm (P := fun j => ¬ upd vr (8 + i) (nI r) (8 + j) = -1) (Q := fun j => ¬ vr (8 + j) = -1) n hi (by rw [pk_us]; exact fun z => bg_m1 (show r < 2 ^ 30 by omega) z.symm) (fun z => z vi) (fun j hj hne => by rw [un j hne])
    have ne : s ≠ r := by omega
    rw [pk_un ne]
    exact g6 s (by omega) hs16
variable {xal xmu xmt xsa xmo xcl xat : Int32} {xop xfd xfa xfb xct xin xce xli xho xle xbl xis xen xun xsA xsB xde xex xcu xdp xhe xuf xlu xvr xhu xrg xuo xla : Nat → Int32}
theorem xr_t2 {post : Int32 → SX → Prop} {c q : Int32} {r0 : Nat} (hr : r0 ≤ 15) (hf : (xhu r0).toInt < c.toInt) (h : ∀ r, r ≤ r0 → (xhu r).toInt < c.toInt → post (nI r) (xal, xmu, xmt, xsa, xmo, xcl, xat, xop, xfd, xfa, xfb, xct, xin, xce, xli, xho, xle, xbl, xis, xen, xun, xsA, xsB, xde, xex, xcu, xdp, xhe, xuf, xlu, xvr, upd xhu r q, xrg, xuo, xla)) :
    ∀ d r, r + d = r0 → wX_takeRegister_2 post c q xal xmu xmt xsa xmo xcl xat xop xfd xfa xfb xct xin xce xli xho xle xbl xis xen xun xsA xsB xde xex xcu xdp xhe xuf xlu xvr xhu xrg xuo xla (d + 1) (nI r) := by
  intro d
  induction d with
  | zero =>
    intro r hd
    have e : r = r0 := by omega
    subst e
    have cr : (nI r).toNatClampNeg = r := nI_clamp (by omega)
    have vr : vp_in (nI r) 16 := vp_in_nI (by omega) (by omega)
    rw [wX_takeRegister_2]; dsimp only; rw [cr]
    exact br_c (fun _ => ⟨vr, nm_e (h r (Nat.le_refl _) hf)⟩) (fun _ => ⟨vr, br_c (fun _ => ⟨vr, nm_e (h r (Nat.le_refl _) hf)⟩) (fun g => absurd (Int32.lt_iff_toInt_lt.mpr hf) g)⟩)
  | succ d ih =>
    intro r hd
    have cr : (nI r).toNatClampNeg = r := nI_clamp (by omega)
    have vr : vp_in (nI r) 16 := vp_in_nI (by omega) (by omega)
    rw [wX_takeRegister_2]; dsimp only; rw [cr]
    exact br_f (nI_ge (b := 15) (by omega) (by omega)) ⟨vr, br_c (fun g => ⟨vr, nm_e (h r (by omega) (Int32.lt_iff_toInt_lt.mp g))⟩) (fun g => nm_r (nI_1 r) (ih (r + 1) (by omega)))⟩
theorem xr_take {post : Int32 → SX → Prop} {c q : Int32} {r0 : Nat} (hr : r0 ≤ 15) (hf : (xhu r0).toInt < c.toInt) (h : ∀ r, r ≤ r0 → (xhu r).toInt < c.toInt → post (nI r) (xal, xmu, xmt, xsa, xmo, xcl, xat, xop, xfd, xfa, xfb, xct, xin, xce, xli, xho, xle, xbl, xis, xen, xun, xsA, xsB, xde, xex, xcu, xdp, xhe, xuf, xlu, xvr, upd xhu r q, xrg, xuo, xla)) : wpX_takeRegister post (xal, xmu, xmt, xsa, xmo, xcl, xat, xop, xfd, xfa, xfb, xct, xin, xce, xli, xho, xle, xbl, xis, xen, xun, xsA, xsB, xde, xex, xcu, xdp, xhe, xuf, xlu, xvr, xhu, xrg, xuo, xla) c q :=
  ⟨r0 + 1, xr_t2 hr hf h r0 0 (by omega)⟩
theorem xr_117 {post : SX → Prop} {J : Int32 → Int32 → Int32 → Int32 → Int32 → Int32 → Int32 → Int32 → (Nat → Int32) → (Nat → Int32) → (Nat → Int32) → (Nat → Int32) → (Nat → Int32) → (Nat → Int32) → (Nat → Int32) → (Nat → Int32) → (Nat → Int32) → (Nat → Int32) → (Nat → Int32) → (Nat → Int32) → (Nat → Int32) → (Nat → Int32) → (Nat → Int32) → (Nat → Int32) → (Nat → Int32) → (Nat → Int32) → (Nat → Int32) → (Nat → Int32) → (Nat → Int32) → (Nat → Int32) → (Nat → Int32) → (Nat → Int32) → (Nat → Int32) → (Nat → Int32) → (Nat → Int32) → (Nat → Int32) → Prop} {b n c : Nat} {E : Nat → Nat} (hb : b < 8) (hn : n ≤ 8) (hc : c ≤ 32) (hc1 : 1 ≤ c) (hct : xct b = nI n) (hE : ∀ i, i < n → xen (b * 9 + i) = nI (E i) ∧ E i ≤ 32) (hho : ∀ x, x < 8 → ∃ r, r < 8 ∧ xho x = nI r)
    (hJ : ∀ hu vr, sr_i n E xho xlu (sr_q E (c + 1) 0) hu vr → J (nI (c + 1)) xal xmu xmt xsa xmo xcl xat xop xfd xfa xfb xct xin xce xli xho xle xbl xis xen xun xsA xsB xde xex xcu xdp xhe xuf xlu vr hu xrg xuo xla) :
    ∀ d i hu vr, i + d = n → sr_i n E xho xlu (sr_q E c i) hu vr → wX_shareRegisters_117 post J (nI b) (nI c) (d + 1) (nI i) xal xmu xmt xsa xmo xcl xat xop xfd xfa xfb xct xin xce xli xho xle xbl xis xen xun xsA xsB xde xex xcu xdp xhe xuf xlu vr hu xrg xuo xla := by
  intro d
  have cb : (nI b).toNatClampNeg = b := nI_clamp (by omega)
  have vb : vp_in (nI b) 8 := vp_in_nI hb (by omega)
  induction d with
  | zero =>
    intro i hu vr hi hI
    rw [wX_shareRegisters_117]; dsimp only; rw [cb, hct]
    have e : i = n := by omega
    subst e
    refine ⟨vb, br_t (nI_le (Nat.le_refl _) (by omega)) (nm_r (nI_1 c) (hJ hu vr (sr_w (fun j hj q => ?_) (fun j hj q _ => ?_) hI)))⟩
    · rcases q with q | ⟨q, _⟩ <;> exact Or.inl (by omega)
    · rcases q with q | ⟨_, q⟩
      · by_cases e : E j = c
        · exact Or.inr ⟨e, hj⟩
        · exact Or.inl (by omega)
      · omega
  | succ d ih =>
    intro i hu vr hi hI
    rw [wX_shareRegisters_117]; dsimp only; rw [cb, hct]
    have ck : (nI (b * 9 + i)).toNatClampNeg = b * 9 + i := nI_clamp (by omega)
    have vk : vp_in (nI (b * 9 + i)) 72 := vp_in_nI (by omega) (by omega)
    have c8 : (nI (8 + i)).toNatClampNeg = 8 + i := nI_clamp (by omega)
    have v8 : vp_in (nI (8 + i)) 16 := vp_in_nI (by omega) (by omega)
    obtain ⟨eE, lE⟩ := hE i (by omega)
    rw [na_ix, ck, na_p8, c8, eE]
    have cT : (nI c).toInt = (c : Int) := nI_toInt (by omega)
    refine ⟨vb, br_f (nI_ge (by omega) (by omega)) ⟨vk, pk_eq (E i) c (fun g => ⟨v8, br_c (fun g2 => nm_r (nI_1 i) (ih (i + 1) hu vr (by omega) (sr_w (fun j hj q => ?_) (fun j hj q e => ?_) hI))) (fun g2 => ⟨v8, ?_⟩)⟩) (fun g => nm_r (nI_1 i) (ih (i + 1) hu vr (by omega) (sr_w (fun j hj q => ?_) (fun j hj q _ => ?_) hI)))⟩⟩
    · rcases q with q | ⟨q1, q2⟩
      · exact Or.inl q
      · exact Or.inr ⟨q1, by omega⟩
    · rcases q with q | ⟨q1, q2⟩
      · exact Or.inl q
      · by_cases e2 : j = i
        · subst e2
          rw [Int32.lt_iff_toInt_lt, cT] at g2
          omega
        · exact Or.inr ⟨q1, by omega⟩
    · rw [Int32.lt_iff_toInt_lt, cT] at g2
      have nQ : ¬ sr_q E c i i := by
        rintro (q | ⟨_, q⟩) <;> omega
      have p7 : pc_c (fun j => ¬ vr (8 + j) = -1) n ≤ 7 := by
        have l := pc_le (fun j => ¬ vr (8 + j) = -1) n
        apply Classical.byContradiction
        intro z
        have f := pc_full (P := fun j => ¬ vr (8 + j) = -1) n (by omega) i (by omega)
        rcases hI.2.1 i (by omega) with y | ⟨_, _, _, _, y, _⟩
        · exact f y
        · exact nQ y
      have h0 := hI.2.2.2.2.2 (8 + pc_c (fun j => ¬ vr (8 + j) = -1) n) (Nat.le_refl _) (by omega)
      refine xr_take (xhu := hu) (r0 := 8 + pc_c (fun j => ¬ vr (8 + j) = -1) n) (by omega) (by rw [h0, na_m1, cT]; omega) (fun r hr hhu => ⟨v8, nm_e (nm_r (nI_1 i) (ih (i + 1) _ _ (by omega) (sr_w (fun j hj q => ?_) (fun j hj q _ => ?_) (sr_s hho (by omega) nQ (by omega) hr (by omega) (by rw [cT] at hhu; omega) hI))))⟩)
      · rcases q with q | q
        · rcases q with q | ⟨q1, q2⟩
          · exact Or.inl q
          · exact Or.inr ⟨q1, by omega⟩
        · exact Or.inr ⟨by rw [q]; exact g, by omega⟩
      · rcases q with q | ⟨q1, q2⟩
        · exact Or.inl (Or.inl q)
        · by_cases e2 : j = i
          · exact Or.inr e2
          · exact Or.inl (Or.inr ⟨q1, by omega⟩)
    · rcases q with q | ⟨q1, q2⟩
      · exact Or.inl q
      · exact Or.inr ⟨q1, by omega⟩
    · rcases q with q | ⟨q1, q2⟩
      · exact Or.inl q
      · have e2 : j ≠ i := fun z => g (z ▸ q1)
        exact Or.inr ⟨q1, by omega⟩
theorem xr_105 {post : SX → Prop} {b n L : Nat} {E : Nat → Nat} (hb : b < 8) (hn : n ≤ 8) (hL : L ≤ 32) (hbl : xbl b = nI L) (hct : xct b = nI n) (hE : ∀ i, i < n → xen (b * 9 + i) = nI (E i) ∧ E i ≤ 32) (hho : ∀ x, x < 8 → ∃ r, r < 8 ∧ xho x = nI r)
    (h : ∀ hu vr, sr_i n E xho xlu (sr_q E (L + 1) 0) hu vr → post (xal, xmu, xmt, xsa, xmo, xcl, xat, xop, xfd, xfa, xfb, xct, xin, xce, xli, xho, xle, xbl, xis, xen, xun, xsA, xsB, xde, xex, xcu, xdp, xhe, xuf, xlu, vr, hu, xrg, xuo, xla)) :
    ∀ d c hu vr, c + d = L + 1 → 1 ≤ c → sr_i n E xho xlu (sr_q E c 0) hu vr → wX_shareRegisters_105 post (nI b) (d + 1) (nI c) xal xmu xmt xsa xmo xcl xat xop xfd xfa xfb xct xin xce xli xho xle xbl xis xen xun xsA xsB xde xex xcu xdp xhe xuf xlu vr hu xrg xuo xla := by
  intro d
  have cb : (nI b).toNatClampNeg = b := nI_clamp (by omega)
  have vb : vp_in (nI b) 8 := vp_in_nI hb (by omega)
  induction d with
  | zero =>
    intro c hu vr hc h1 hI
    rw [wX_shareRegisters_105]; dsimp only; rw [cb, hbl]
    have e : c = L + 1 := by omega
    subst e
    exact ⟨vb, br_t (nI_lt (by omega) (by omega)) (h hu vr hI)⟩
  | succ d ih =>
    intro c hu vr hc h1 hI
    rw [wX_shareRegisters_105]; dsimp only; rw [cb, hbl]
    exact ⟨vb, br_f (nI_nlt (by omega) (by omega)) ⟨n + 1, xr_117 hb hn (by omega) h1 hct hE hho (fun hu' vr' hI' => ih (c + 1) hu' vr' (by omega) (by omega) hI') n 0 hu vr (by omega) hI⟩⟩
theorem xr_59 {post : SX → Prop} {b n L : Nat} {E : Nat → Nat} (hb : b < 8) (hn : n ≤ 8) (hL : L ≤ 32) (hbl : xbl b = nI L) (hct : xct b = nI n) (hE : ∀ i, i < n → xen (b * 9 + i) = nI (E i) ∧ E i ≤ 32) (hE1 : ∀ i, i < n → 1 ≤ E i) (hho : ∀ x, x < 8 → ∃ r, r < 8 ∧ xho x = nI r)
    (h : ∀ hu vr, sr_i n E xho xlu (sr_q E (L + 1) 0) hu vr → post (xal, xmu, xmt, xsa, xmo, xcl, xat, xop, xfd, xfa, xfb, xct, xin, xce, xli, xho, xle, xbl, xis, xen, xun, xsA, xsB, xde, xex, xcu, xdp, xhe, xuf, xlu, vr, hu, xrg, xuo, xla)) (hv8 : ∀ x, x < 8 → xvr x = xho x) (hv : ∀ j, j < n → xvr (8 + j) = -1) :
    ∀ d i hu, i + d = 8 → (∀ r, 8 ≤ r → r < 16 → hu r = -1) → (∀ x, x < i → (xlu x).toInt ≤ (hu (xho x).toNatClampNeg).toInt) → wX_shareRegisters_59 post (nI b) xal xmu xmt xsa xmo xcl xat (d + 1) (nI i) xop xfd xfa xfb xct xin xce xli xho xle xbl xis xen xun xsA xsB xde xex xcu xdp xhe xuf xlu xvr hu xrg xuo xla := by
  intro d
  induction d with
  | zero =>
    intro i hu hi h1 h2
    rw [wX_shareRegisters_59]; dsimp only
    have e : i = 8 := by omega
    subst e
    refine br_t (nI_le (a := 8) (by omega) (by omega)) ⟨L + 1, xr_105 hb hn hL hbl hct hE hho h L 1 hu xvr (by omega) (by omega) ⟨fun x hx => ⟨hv8 x hx, h2 x hx⟩, fun j hj => Or.inl (hv j hj), fun j hj q => ?_, fun x j hx hj e => ?_, fun j l hj hl hne e ne => absurd (hv j hj) ne, fun r hr hr' => h1 r (by omega) hr'⟩⟩
    · have := hE1 j hj
      rcases q with q | ⟨_, q⟩ <;> omega
    · obtain ⟨r, hr, er⟩ := hho x hx
      rw [hv j hj, er] at e
      exact absurd e (bg_m1 (by omega))
  | succ d ih =>
    intro i hu hi h1 h2
    rw [wX_shareRegisters_59]; dsimp only
    have ci : (nI i).toNatClampNeg = i := nI_clamp (by omega)
    have vi : vp_in (nI i) 8 := vp_in_nI (by omega) (by omega)
    obtain ⟨r, hr, er⟩ := hho i (by omega)
    have vh : vp_in (xho i) 16 := by rw [er]; exact vp_in_nI (by omega) (by omega)
    rw [ci]
    refine br_f (nI_ge (b := 8) (by omega) (by omega)) ⟨vi, vi, vh, vp_in_nI (by omega) (by omega), xh_largerI (fun q hq q1 q2 => ⟨vh, nm_e (nm_r (nI_1 i) (ih (i + 1) _ (by omega) (fun s hs hs' => ?_) (fun x hx => ?_)))⟩)⟩
    · rw [er, nI_clamp (by omega), pk_un (by omega)]
      exact h1 s hs hs'
    · by_cases e2 : (xho x).toNatClampNeg = (xho i).toNatClampNeg
      · rw [e2, pk_us]
        by_cases e3 : x = i
        · rw [e3]; exact q2
        · have t := h2 x (by omega)
          rw [e2] at t
          exact Int.le_trans t q1
      · rw [pk_un e2]
        exact h2 x (by have : x ≠ i := fun z => e2 (by rw [z])
                       omega)
theorem xr_23 {post : SX → Prop} {b n L : Nat} {E : Nat → Nat} (hb : b < 8) (hn : n ≤ 8) (hL : L ≤ 32) (hbl : xbl b = nI L) (hct : xct b = nI n) (hE : ∀ i, i < n → xen (b * 9 + i) = nI (E i) ∧ E i ≤ 32) (hE1 : ∀ i, i < n → 1 ≤ E i) (hho : ∀ x, x < 8 → ∃ r, r < 8 ∧ xho x = nI r)
    (h : ∀ hu vr, sr_i n E xho xlu (sr_q E (L + 1) 0) hu vr → post (xal, xmu, xmt, xsa, xmo, xcl, xat, xop, xfd, xfa, xfb, xct, xin, xce, xli, xho, xle, xbl, xis, xen, xun, xsA, xsB, xde, xex, xcu, xdp, xhe, xuf, xlu, vr, hu, xrg, xuo, xla)) (hhu : ∀ r, 8 ≤ r → r < 16 → xhu r = -1) :
    ∀ d i vr, i + d = 16 → (∀ x, x < i → (x < 8 → vr x = xho x) ∧ (8 ≤ x → vr x = -1)) → wX_shareRegisters_23 post (nI b) xal xmu xmt xsa xmo xcl xat (d + 1) (nI i) xop xfd xfa xfb xct xin xce xli xho xle xbl xis xen xun xsA xsB xde xex xcu xdp xhe xuf xlu vr xhu xrg xuo xla := by
  intro d
  induction d with
  | zero =>
    intro i vr hi hv
    rw [wX_shareRegisters_23]; dsimp only
    have e : i = 16 := by omega
    subst e
    exact br_t (nI_le (a := 16) (by omega) (by omega)) ⟨9, xr_59 (xvr := vr) hb hn hL hbl hct hE hE1 hho h (fun x hx => (hv x (by omega)).1 hx) (fun j hj => (hv (8 + j) (by omega)).2 (by omega)) 8 0 xhu (by omega) hhu (fun x hx => absurd hx (by omega))⟩
  | succ d ih =>
    intro i vr hi hv
    rw [wX_shareRegisters_23]; dsimp only
    have ci : (nI i).toNatClampNeg = i := nI_clamp (by omega)
    have v16 : vp_in (nI i) 16 := vp_in_nI (by omega) (by omega)
    rw [ci]
    refine br_f (nI_ge (b := 16) (by omega) (by omega)) (pk_le 8 i (fun g => ⟨v16, nm_e (nm_r (nI_1 i) (ih (i + 1) _ (by omega) (fun x hx => ?_)))⟩) (fun g => ⟨vp_in_nI g (by omega), v16, nm_e (nm_r (nI_1 i) (ih (i + 1) _ (by omega) (fun x hx => ?_)))⟩))
    · by_cases e : x = i
      · rw [e, pk_us]; exact ⟨fun z => absurd z (by omega), fun _ => rfl⟩
      · rw [pk_un e]; exact hv x (by omega)
    · by_cases e : x = i
      · rw [e, pk_us]; exact ⟨fun _ => rfl, fun z => absurd z (by omega)⟩
      · rw [pk_un e]; exact hv x (by omega)
theorem xr_2 {post : SX → Prop} {b n L : Nat} {E : Nat → Nat} (hb : b < 8) (hn : n ≤ 8) (hL : L ≤ 32) (hbl : xbl b = nI L) (hct : xct b = nI n) (hE : ∀ i, i < n → xen (b * 9 + i) = nI (E i) ∧ E i ≤ 32) (hE1 : ∀ i, i < n → 1 ≤ E i) (hho : ∀ x, x < 8 → ∃ r, r < 8 ∧ xho x = nI r)
    (h : ∀ hu vr, sr_i n E xho xlu (sr_q E (L + 1) 0) hu vr → post (xal, xmu, xmt, xsa, xmo, xcl, xat, xop, xfd, xfa, xfb, xct, xin, xce, xli, xho, xle, xbl, xis, xen, xun, xsA, xsB, xde, xex, xcu, xdp, xhe, xuf, xlu, vr, hu, xrg, xuo, xla)) :
    ∀ d i hu, i + d = 16 → (∀ r, r < i → hu r = -1) → wX_shareRegisters_2 post (nI b) xal xmu xmt xsa xmo xcl xat (d + 1) (nI i) xop xfd xfa xfb xct xin xce xli xho xle xbl xis xen xun xsA xsB xde xex xcu xdp xhe xuf xlu xvr hu xrg xuo xla := by
  intro d
  induction d with
  | zero =>
    intro i hu hi hv
    rw [wX_shareRegisters_2]; dsimp only
    have e : i = 16 := by omega
    subst e
    exact br_t (nI_le (a := 16) (by omega) (by omega)) ⟨17, xr_23 (xhu := hu) hb hn hL hbl hct hE hE1 hho h (fun r _ hr => hv r hr) 16 0 xvr (by omega) (fun x hx => absurd hx (by omega))⟩
  | succ d ih =>
    intro i hu hi hv
    rw [wX_shareRegisters_2]; dsimp only
    have ci : (nI i).toNatClampNeg = i := nI_clamp (by omega)
    rw [ci]
    refine br_f (nI_ge (b := 16) (by omega) (by omega)) ⟨vp_in_nI (by omega) (by omega), nm_e (nm_r (nI_1 i) (ih (i + 1) _ (by omega) (fun x hx => ?_)))⟩
    by_cases e : x = i
    · rw [e, pk_us]
    · rw [pk_un e]; exact hv x (by omega)
theorem xr_share {post : SX → Prop} {b n L : Nat} {E : Nat → Nat} (hb : b < 8) (hn : n ≤ 8) (hL : L ≤ 32) (hbl : xbl b = nI L) (hct : xct b = nI n) (hE : ∀ i, i < n → xen (b * 9 + i) = nI (E i) ∧ E i ≤ 32) (hE1 : ∀ i, i < n → 1 ≤ E i) (hho : ∀ x, x < 8 → ∃ r, r < 8 ∧ xho x = nI r)
    (h : ∀ hu vr, sr_i n E xho xlu (sr_q E (L + 1) 0) hu vr → post (xal, xmu, xmt, xsa, xmo, xcl, xat, xop, xfd, xfa, xfb, xct, xin, xce, xli, xho, xle, xbl, xis, xen, xun, xsA, xsB, xde, xex, xcu, xdp, xhe, xuf, xlu, vr, hu, xrg, xuo, xla)) : wpX_shareRegisters post (xal, xmu, xmt, xsa, xmo, xcl, xat, xop, xfd, xfa, xfb, xct, xin, xce, xli, xho, xle, xbl, xis, xen, xun, xsA, xsB, xde, xex, xcu, xdp, xhe, xuf, xlu, xvr, xhu, xrg, xuo, xla) (nI b) :=
  ⟨17, xr_2 hb hn hL hbl hct hE hE1 hho h 16 0 xhu rfl (fun x hx => absurd hx (by omega))⟩
/-! what it gives -/
theorem sr_ce {Lv : Nat → Nat → Prop} {o D A B lu ho hu vr : Nat → Int32} {b n T L : Nat} {I E U : Nat → Nat} (hT : 1 ≤ T) (ht : ce_t o b n T L I E U) (hd : ce_d o D A B b n I E) (hw : ∀ i, i < n → wf_op o D A B (b * 9 + i)) (hho : ∀ x, x < 8 → ∃ r, r < 8 ∧ ho x = nI r)
    (hlu : ∀ x c, ce_us Lv o D A B b n L I x c → (c : Int) ≤ (lu x).toInt) (h : sr_i n E ho lu (sr_q E (L + 1) 0) hu vr) : ce_r (ce_us Lv o D A B b n L I) n E vr := by
  obtain ⟨g1, g2, g3, g4, g5, g6⟩ := h
  have all : ∀ j, j < n → sr_q E (L + 1) 0 j := fun j hj => Or.inl (by have := (ht j hj).2.1; omega)
  intro x c us
  have l := hlu x c us
  rcases di_bn hT ht hd hw us with hx | ⟨i, ex, hi, hE⟩
  · obtain ⟨r, hr, er⟩ := hho x hx
    refine ⟨⟨r, by omega, by rw [(g1 x hx).1, er]⟩, fun j hj hne e => Or.inl ?_⟩
    rw [(g1 x hx).1] at e
    have := g4 x j hx hj e
    omega
  · subst ex
    have nv := g3 i hi (all i hi) (by omega)
    refine ⟨?_, fun j hj hne e => ?_⟩
    · rcases g2 i hi with z | ⟨r, z1, z2, _⟩
      · exact absurd z nv
      · exact ⟨r, z1, z2⟩
    · rcases g5 i j hi hj (by omega) e.symm nv with z | z
      · exact Or.inl (by omega)
      · refine Or.inr ⟨i, rfl, ?_⟩
        rcases g2 j hj with y | ⟨_, _, _, _, _, y⟩
        · rw [y] at e; exact absurd e.symm nv
        · omega
theorem sr_rg {lu ho hu vr : Nat → Int32} {Q : Nat → Prop} {n : Nat} {E : Nat → Nat} (hho : ∀ x, x < 8 → ∃ r, r < 8 ∧ ho x = nI r) (h : sr_i n E ho lu Q hu vr) : ∀ x, x < 8 + n → vr x = -1 ∨ ∃ r, r < 16 ∧ vr x = nI r := by
  intro x hx
  by_cases g : x < 8
  · obtain ⟨r, hr, er⟩ := hho x g
    exact Or.inr ⟨r, by omega, by rw [(h.1 x g).1, er]⟩
  · obtain ⟨j, rfl⟩ : ∃ j, x = 8 + j := ⟨x - 8, by omega⟩
    rcases h.2.1 j (by omega) with y | ⟨r, y1, y2, _⟩
    · exact Or.inl y
    · exact Or.inr ⟨r, y1, y2⟩
end P14
end
section
section P15
/-! wire -/
def ce_w (o D A B : Nat → Int32) (b j : Nat) (R : Nat → Int32) (x y z : Int32) : Prop :=
  ((o (b * 9 + j) = 0 → x = -1) ∧ (¬ o (b * 9 + j) = 0 → x = R (pd_cu o D b j (A (b * 9 + j)).toNatClampNeg))) ∧
  ((¬ pd_rb (o (b * 9 + j)) → y = -1) ∧ (pd_rb (o (b * 9 + j)) → y = R (pd_cu o D b j (B (b * 9 + j)).toNatClampNeg))) ∧ z = R (8 + j)
def fr_9 (b n : Nat) (p q : Nat → Int32) : Prop := ∀ k, (k < b * 9 ∨ b * 9 + n ≤ k) → q k = p k
def fr_8 (b : Nat) (p q : Nat → Int32) : Prop := ∀ k, (k < b * 8 ∨ b * 8 + 8 ≤ k) → q k = p k
def fr_1 (b : Nat) (p q : Nat → Int32) : Prop := ∀ c, c ≠ b → q c = p c
def wi_i (o D A B : Nat → Int32) (b : Nat) (vr sA0 sB0 de0 : Nat → Int32) (i : Nat) (sA sB de : Nat → Int32) : Prop :=
  (∀ j, j < i → ce_w o D A B b j vr (sA (b * 9 + j)) (sB (b * 9 + j)) (de (b * 9 + j))) ∧ fr_9 b i sA0 sA ∧ fr_9 b i sB0 sB ∧ fr_9 b i de0 de
theorem fr_up {b i : Nat} {p q : Nat → Int32} {x : Int32} (h : fr_9 b i p q) : fr_9 b (i + 1) p (upd q (b * 9 + i) x) := by
  intro k hk
  rw [pk_un (by omega)]
  exact h k (by omega)
variable {xal xmu xmt xsa xmo xcl xat : Int32} {xop xfd xfa xfb xct xin xce xli xho xle xbl xis xen xun xsA xsB xde xex xcu xdp xhe xuf xlu xvr xhu xrg xuo xla : Nat → Int32}
theorem xi_74 {post : SX → Prop} {b n : Nat} {ex0 : Nat → Int32} (hb : b < 8) (hcu : ∀ v, v < 8 → ∃ x, x < 16 ∧ xcu v = nI x)
    (h : ∀ ex, (∀ v, v < 8 → ex (b * 8 + v) = xvr (xcu v).toNatClampNeg) → fr_8 b ex0 ex → post (xal, xmu, xmt, xsa, xmo, xcl, xat, xop, xfd, xfa, xfb, xct, xin, xce, xli, xho, xle, xbl, xis, xen, xun, xsA, xsB, xde, ex, xcu, xdp, xhe, xuf, xlu, xvr, xhu, xrg, xuo, xla)) :
    ∀ d i ex, i + d = 8 → (∀ v, v < i → ex (b * 8 + v) = xvr (xcu v).toNatClampNeg) → fr_8 b ex0 ex → wX_wire_74 post (nI b) xal xmu xmt xsa xmo xcl xat (d + 1) (nI i) xop xfd xfa xfb xct xin xce xli xho xle xbl xis xen xun xsA xsB xde ex xcu xdp xhe xuf xlu xvr xhu xrg xuo xla := by
  intro d
  induction d with
  | zero =>
    intro i ex hi h1 h2
    rw [wX_wire_74]; dsimp only
    have e : i = 8 := by omega
    subst e
    exact br_t (nI_le (a := 8) (by omega) (by omega)) (h ex h1 h2)
  | succ d ih =>
    intro i ex hi h1 h2
    rw [wX_wire_74]; dsimp only
    have ci : (nI i).toNatClampNeg = i := nI_clamp (by omega)
    obtain ⟨x, hx, e⟩ := hcu i (by omega)
    rw [ci, na_8, nI_clamp (show b * 8 + i < 2 ^ 31 by omega)]
    refine br_f (nI_ge (b := 8) (by omega) (by omega)) ⟨vp_in_nI (by omega) (by omega), by rw [e]; exact vp_in_nI hx (by omega), vp_in_nI (by omega) (by omega), nm_e (nm_r (nI_1 i) (ih (i + 1) _ (by omega) (fun v hv => ?_) (fun k hk => ?_)))⟩
    · by_cases g : v = i
      · subst g; rw [pk_us]
      · rw [pk_un (by omega)]; exact h1 v (by omega)
    · rw [pk_un (by omega)]; exact h2 k hk
theorem xi_2 {post : SX → Prop} {b n : Nat} {sA0 sB0 de0 : Nat → Int32} (hb : b < 8) (hn : n ≤ 8) (hct : xct b = nI n) (hw : ∀ i, i < n → wf_op xop xfd xfa xfb (b * 9 + i)) (hcu : ∀ v, v < 8 → ∃ x, x < 16 ∧ xcu v = nI x)
    (hs : ∀ i, i < n → bg_sa xop xfd xfa b i (sA0 (b * 9 + i)) ∧ bg_sb xop xfd xfb b i (sB0 (b * 9 + i)))
    (h : ∀ sA sB de ex, wi_i xop xfd xfa xfb b xvr sA0 sB0 de0 n sA sB de → (∀ v, v < 8 → ex (b * 8 + v) = xvr (xcu v).toNatClampNeg) → fr_8 b xex ex → post (xal, xmu, xmt, xsa, xmo, xcl, xat, xop, xfd, xfa, xfb, xct, xin, xce, xli, xho, xle, xbl, xis, xen, xun, sA, sB, de, ex, xcu, xdp, xhe, xuf, xlu, xvr, xhu, xrg, xuo, xla)) :
    ∀ d i sA sB de, i + d = n → wi_i xop xfd xfa xfb b xvr sA0 sB0 de0 i sA sB de → wX_wire_2 post (nI b) xal xmu xmt xsa xmo xcl xat (d + 1) (nI i) xop xfd xfa xfb xct xin xce xli xho xle xbl xis xen xun sA sB de xex xcu xdp xhe xuf xlu xvr xhu xrg xuo xla := by
  intro d
  have cb : (nI b).toNatClampNeg = b := nI_clamp (by omega)
  have vb : vp_in (nI b) 8 := vp_in_nI hb (by omega)
  induction d with
  | zero =>
    intro i sA sB de hi hI
    rw [wX_wire_2]; dsimp only; rw [cb, hct]
    have e : i = n := by omega
    subst e
    exact ⟨vb, br_t (nI_le (Nat.le_refl _) (by omega)) ⟨9, xi_74 (n := i) (ex0 := xex) hb hcu (fun ex h1 h2 => h sA sB de ex hI h1 h2) 8 0 xex (by omega) (fun v hv => absurd hv (by omega)) (fun k hk => rfl)⟩⟩
  | succ d ih =>
    intro i sA sB de hi hI
    rw [wX_wire_2]; dsimp only; rw [cb, hct]
    have ck : (nI (b * 9 + i)).toNatClampNeg = b * 9 + i := nI_clamp (by omega)
    have vk : vp_in (nI (b * 9 + i)) 72 := vp_in_nI (by omega) (by omega)
    obtain ⟨h1, h2, h3, h4⟩ := hI
    obtain ⟨sa, sb⟩ := hs i (by omega)
    rw [← h2 (b * 9 + i) (by omega)] at sa
    rw [← h3 (b * 9 + i) (by omega)] at sb
    have w := hw i (by omega)
    refine ⟨vb, br_f (nI_ge (by omega) (by omega)) (nm_r (na_ix b i) ?_)⟩
    rw [ck, na_p8, nI_clamp (show 8 + i < 2 ^ 31 by omega)]
    have last : ∀ x y, ce_w xop xfd xfa xfb b i xvr x y (xvr (8 + i)) → wX_wire_2 post (nI b) xal xmu xmt xsa xmo xcl xat (d + 1) (nI (i + 1)) xop xfd xfa xfb xct xin xce xli xho xle xbl xis xen xun (upd sA (b * 9 + i) x) (upd sB (b * 9 + i) y) (upd de (b * 9 + i) (xvr (8 + i))) xex xcu xdp xhe xuf xlu xvr xhu xrg xuo xla := by
      intro x y hxy
      refine ih (i + 1) _ _ _ (by omega) ⟨fun j hj => ?_, fr_up h2, fr_up h3, fr_up h4⟩
      by_cases e : j = i
      · subst e; rw [pk_us, pk_us, pk_us]; exact hxy
      · rw [pk_un (by omega), pk_un (by omega), pk_un (by omega)]; exact h1 j (by omega)
    have mid : ∀ x, ((xop (b * 9 + i) = 0 → x = -1) ∧ (¬ xop (b * 9 + i) = 0 → x = xvr (pd_cu xop xfd b i (xfa (b * 9 + i)).toNatClampNeg))) → ∀ y, ((¬ pd_rb (xop (b * 9 + i)) → y = -1) ∧ (pd_rb (xop (b * 9 + i)) → y = xvr (pd_cu xop xfd b i (xfb (b * 9 + i)).toNatClampNeg))) →
        wX_wire_2 post (nI b) xal xmu xmt xsa xmo xcl xat (d + 1) (nI (i + 1)) xop xfd xfa xfb xct xin xce xli xho xle xbl xis xen xun (upd sA (b * 9 + i) x) (upd sB (b * 9 + i) y) (upd de (b * 9 + i) (xvr (8 + i))) xex xcu xdp xhe xuf xlu xvr xhu xrg xuo xla := fun x hx y hy => last x y ⟨hx, hy, rfl⟩
    refine ⟨vk, xh_registerOf (fun e => ⟨vk, nm_e ⟨vk, ?_⟩⟩) (fun r hr e => ⟨vk, nm_e ⟨vk, ?_⟩⟩) (bg_sav (by omega) w sa)⟩
    · have hx : (xop (b * 9 + i) = 0 → (-1 : Int32) = -1) ∧ (¬ xop (b * 9 + i) = 0 → (-1 : Int32) = xvr (pd_cu xop xfd b i (xfa (b * 9 + i)).toNatClampNeg)) := by
        refine ⟨fun _ => rfl, fun g => ?_⟩
        obtain ⟨a, ha, ea⟩ := w.2.2.1 g
        have l := cu_lt (o := xop) (D := xfd) (b := b) ha i
        have t := sa.2 g
        rw [e, ea, nI_clamp (by omega)] at t
        exact absurd t (bg_m1 (by omega))
      exact xh_registerOf (fun e2 => ⟨vk, nm_e ⟨vp_in_nI (by omega) (by omega), vk, nm_e (nm_r (nI_1 i) (mid _ hx _ ⟨fun _ => rfl, fun g => by
          obtain ⟨a, ha, ea⟩ := w.2.2.2
          have l := cu_lt (o := xop) (D := xfd) (b := b) ha i
          have t := sb.2 g
          rw [e2, ea, nI_clamp (by omega)] at t
          exact absurd t (bg_m1 (by omega))⟩))⟩⟩)
        (fun r hr e2 => ⟨vk, nm_e ⟨vp_in_nI (by omega) (by omega), vk, nm_e (nm_r (nI_1 i) (mid _ hx _ ⟨fun g => by
          have t := sb.1 g
          rw [e2] at t
          exact absurd t.symm (bg_m1 (by omega)), fun g => by
          obtain ⟨a, ha, ea⟩ := w.2.2.2
          have l := cu_lt (o := xop) (D := xfd) (b := b) ha i
          have t := sb.2 g
          rw [e2, ea, nI_clamp (by omega)] at t
          rw [ea, nI_clamp (by omega), na_in t (by omega) (by omega)]⟩))⟩⟩) (bg_sbv (by omega) w sb)
    · have hx : (xop (b * 9 + i) = 0 → xvr r = -1) ∧ (¬ xop (b * 9 + i) = 0 → xvr r = xvr (pd_cu xop xfd b i (xfa (b * 9 + i)).toNatClampNeg)) := by
        refine ⟨fun g => ?_, fun g => ?_⟩
        · have t := sa.1 g
          rw [e] at t
          exact absurd t.symm (bg_m1 (by omega))
        · obtain ⟨a, ha, ea⟩ := w.2.2.1 g
          have l := cu_lt (o := xop) (D := xfd) (b := b) ha i
          have t := sa.2 g
          rw [e, ea, nI_clamp (by omega)] at t
          rw [ea, nI_clamp (by omega), na_in t (by omega) (by omega)]
      exact xh_registerOf (fun e2 => ⟨vk, nm_e ⟨vp_in_nI (by omega) (by omega), vk, nm_e (nm_r (nI_1 i) (mid _ hx _ ⟨fun _ => rfl, fun g => by
          obtain ⟨a, ha, ea⟩ := w.2.2.2
          have l := cu_lt (o := xop) (D := xfd) (b := b) ha i
          have t := sb.2 g
          rw [e2, ea, nI_clamp (by omega)] at t
          exact absurd t (bg_m1 (by omega))⟩))⟩⟩)
        (fun r hr e2 => ⟨vk, nm_e ⟨vp_in_nI (by omega) (by omega), vk, nm_e (nm_r (nI_1 i) (mid _ hx _ ⟨fun g => by
          have t := sb.1 g
          rw [e2] at t
          exact absurd t.symm (bg_m1 (by omega)), fun g => by
          obtain ⟨a, ha, ea⟩ := w.2.2.2
          have l := cu_lt (o := xop) (D := xfd) (b := b) ha i
          have t := sb.2 g
          rw [e2, ea, nI_clamp (by omega)] at t
          rw [ea, nI_clamp (by omega), na_in t (by omega) (by omega)]⟩))⟩⟩) (bg_sbv (by omega) w sb)
theorem xi_wire {post : SX → Prop} {b n : Nat} (hb : b < 8) (hn : n ≤ 8) (hct : xct b = nI n) (hw : ∀ i, i < n → wf_op xop xfd xfa xfb (b * 9 + i)) (hcu : ∀ v, v < 8 → ∃ x, x < 16 ∧ xcu v = nI x)
    (hs : ∀ i, i < n → bg_sa xop xfd xfa b i (xsA (b * 9 + i)) ∧ bg_sb xop xfd xfb b i (xsB (b * 9 + i)))
    (h : ∀ sA sB de ex, wi_i xop xfd xfa xfb b xvr xsA xsB xde n sA sB de → (∀ v, v < 8 → ex (b * 8 + v) = xvr (xcu v).toNatClampNeg) → fr_8 b xex ex → post (xal, xmu, xmt, xsa, xmo, xcl, xat, xop, xfd, xfa, xfb, xct, xin, xce, xli, xho, xle, xbl, xis, xen, xun, sA, sB, de, ex, xcu, xdp, xhe, xuf, xlu, xvr, xhu, xrg, xuo, xla)) : wpX_wire post (xal, xmu, xmt, xsa, xmo, xcl, xat, xop, xfd, xfa, xfb, xct, xin, xce, xli, xho, xle, xbl, xis, xen, xun, xsA, xsB, xde, xex, xcu, xdp, xhe, xuf, xlu, xvr, xhu, xrg, xuo, xla) (nI b) :=
  ⟨n + 1, xi_2 hb hn hct hw hcu hs h n 0 xsA xsB xde (by omega) ⟨fun j hj => absurd hj (by omega), fun k hk => rfl, fun k hk => rfl, fun k hk => rfl⟩⟩
end P15
end
section
section P16
/-! synthesise -/
def ce_b (Lv : Nat → Nat → Prop) (o D A B ct ho : Nat → Int32) (T b : Nat) (is en un sA sB de ex bl : Nat → Int32) : Prop :=
  ∃ (I E U : Nat → Nat) (L : Nat) (R : Nat → Int32),
    (∀ i, i < pd_n ct b → (is (b * 9 + i) = nI (I i) ∧ en (b * 9 + i) = nI (E i) ∧ un (b * 9 + i) = nI (U i)) ∧ ce_w o D A B b i R (sA (b * 9 + i)) (sB (b * 9 + i)) (de (b * 9 + i))) ∧
    (∀ v, v < 8 → ex (b * 8 + v) = R (pd_cu o D b (pd_n ct b) v)) ∧ (bl b = nI L ∧ L ≤ 32) ∧ (∀ v, v < 8 → R v = ho v) ∧ (∀ x, x < 8 + pd_n ct b → R x = -1 ∨ ∃ r, r < 16 ∧ R x = nI r) ∧
    ce_t o b (pd_n ct b) T L I E U ∧ ce_d o D A B b (pd_n ct b) I E ∧ ce_u (pd_n ct b) I E U ∧ ce_r (ce_us Lv o D A B b (pd_n ct b) L I) (pd_n ct b) E R
def le_b (o D A B ct : Nat → Int32) (a m T b : Nat) (le : Nat → Int32) : Prop :=
  ∃ H : Nat → Nat, (∀ i, i < pd_n ct b → H i ≤ 32 ∧ hw_s o D A B b (pd_n ct b) T H i) ∧ le b = nI (lt_z o b (pd_n ct b) a m T H)
theorem ce_fr {Lv : Nat → Nat → Prop} {o D A B ct ho is en un sA sB de ex bl is' en' un' sA' sB' de' ex' bl' : Nat → Int32} {T b c n : Nat} (hn : n ≤ 8) (hc : pd_n ct c ≤ 8) (hne : c ≠ b)
    (h1 : fr_9 b n is is') (h2 : fr_9 b n en en') (h3 : fr_9 b n un un') (h4 : fr_9 b n sA sA') (h5 : fr_9 b n sB sB') (h6 : fr_9 b n de de') (h7 : fr_8 b ex ex') (h8 : fr_1 b bl bl')
    (h : ce_b Lv o D A B ct ho T c is en un sA sB de ex bl) : ce_b Lv o D A B ct ho T c is' en' un' sA' sB' de' ex' bl' := by
  obtain ⟨I, E, U, L, R, g1, g2, g3, g4⟩ := h
  refine ⟨I, E, U, L, R, fun i hi => ?_, fun v hv => ?_, ?_, g4⟩
  · rw [h1 _ (by omega), h2 _ (by omega), h3 _ (by omega), h4 _ (by omega), h5 _ (by omega), h6 _ (by omega)]
    exact g1 i hi
  · rw [h7 _ (by omega)]; exact g2 v hv
  · rw [h8 c hne]; exact g3
theorem le_fr {o D A B ct le le' : Nat → Int32} {a m T b c : Nat} (hne : c ≠ b) (h8 : fr_1 b le le') (h : le_b o D A B ct a m T c le) : le_b o D A B ct a m T c le' := by
  obtain ⟨H, g1, g2⟩ := h
  exact ⟨H, g1, by rw [h8 c hne]; exact g2⟩
/-- the machine's sizes -/
def mp_s (al mu mt : Int32) (a m T : Nat) : Prop := (1 ≤ a ∧ a ≤ 3 ∧ al = nI a) ∧ (1 ≤ m ∧ m ≤ 2 ∧ mu = nI m) ∧ (1 ≤ T ∧ T ≤ 4 ∧ mt = nI T)
variable {xal xmu xmt xsa xmo xcl xat : Int32} {xop xfd xfa xfb xct xin xce xli xho xle xbl xis xen xun xsA xsB xde xex xcu xdp xhe xuf xlu xvr xhu xrg xuo xla : Nat → Int32}
theorem xy_syn {post : SX → Prop} {b C a m T : Nat} (hb : b < C) (hw : wf_al xop xfd xfa xfb xct C) (hp : mp_s xal xmu xmt a m T) (hho : ∀ x, x < 8 → ∃ r, r < 8 ∧ xho x = nI r)
    (h : ∀ cu sA sB dp he le uf bl is en un lu vr hu de ex, ce_b (lm_m xli) xop xfd xfa xfb xct xho T b is en un sA sB de ex bl → le_b xop xfd xfa xfb xct a m T b le →
      fr_9 b (pd_n xct b) xis is → fr_9 b (pd_n xct b) xen en → fr_9 b (pd_n xct b) xun un → fr_9 b (pd_n xct b) xsA sA → fr_9 b (pd_n xct b) xsB sB → fr_9 b (pd_n xct b) xde de → fr_8 b xex ex → fr_1 b xbl bl → fr_1 b xle le →
      post (xal, xmu, xmt, xsa, xmo, xcl, xat, xop, xfd, xfa, xfb, xct, xin, xce, xli, xho, le, bl, is, en, un, sA, sB, de, ex, cu, dp, he, uf, lu, vr, hu, xrg, xuo, xla)) : wpX_synthesise post (xal, xmu, xmt, xsa, xmo, xcl, xat, xop, xfd, xfa, xfb, xct, xin, xce, xli, xho, xle, xbl, xis, xen, xun, xsA, xsB, xde, xex, xcu, xdp, xhe, xuf, xlu, xvr, xhu, xrg, xuo, xla) (nI b) := by
  obtain ⟨hC, hct, hop, hcl⟩ := hw
  obtain ⟨⟨ha1, ha, hal⟩, ⟨hm1, hm, hmu⟩, ⟨h1, hT, hmt⟩⟩ := hp
  obtain ⟨hn, en⟩ := hct b (by omega)
  have w := hop b (by omega)
  have hb8 : b < 8 := by omega
  unfold wpX_synthesise
  refine xg_build hb8 hn en w (fun cu sA sB dp ld st hg => ?_)
  obtain ⟨g1, g2, g3, _, _⟩ := hg
  refine xw_weigh (xcu := cu) (xsA := sA) (xsB := sB) (xdp := dp) hb8 hn h1 hT hmt en (fun j hj => (g2 j hj).2.2) (fun he hh => ?_)
  have hh2 : ∀ i, i < pd_n xct b → he i = nI (hw_n he i) ∧ hw_n he i ≤ 32 := fun i hi => ⟨(hh i (by omega) hi).1, by have := (hh i (by omega) hi).2.1; omega⟩
  refine xw_least (xcu := cu) (xsA := sA) (xsB := sB) (xdp := dp) (xhe := he) hb8 hn h1 hT hmt ha1 ha hal hm1 hm hmu en hh2 ⟨vp_in_nI hb8 (by omega), ?_⟩
  rw [nI_clamp (show b < 2 ^ 31 by omega)]
  refine nm_e (xs_sched (xcu := cu) (xsA := sA) (xsB := sB) (xdp := dp) (xhe := he) (H := hw_n he) hb8 hn h1 hT hmt ha1 ha hal hm1 hm hmu en (fun j hj => (g2 j hj).2.2) (fun i hi => ⟨(hh2 i hi).2, (hh i (by omega) hi).2.2⟩) (fun i hi => (hh2 i hi).1) (fun I E U L is en' un he' uf bl ct1 cd1 cu1 lk1 ebl lL fr1 => ?_))
  have lI : ∀ i, i < pd_n xct b → I i ≤ 32 ∧ E i ≤ 32 ∧ 1 ≤ E i := by
    intro i hi
    have t := ct1 i hi
    have t1 := t.1
    have t2 := t.2.1
    have l1 := lt_pos (x := xop (b * 9 + i)) h1
    omega
  have hcu : ∀ v, v < 8 → ∃ x, x < 16 ∧ cu v = nI x := fun v hv => ⟨_, by have := cu_lt (o := xop) (D := xfd) (b := b) hv (pd_n xct b); omega, g1 v hv⟩
  refine xq_measure (xcu := cu) (xsA := sA) (xsB := sB) (xdp := dp) (xis := is) (xbl := bl) (I := I) hb8 hn en ebl lL w (hcl b hb) g1 (fun i hi => ⟨(g2 i hi).1, (g2 i hi).2.1⟩) (fun i hi => ⟨(lk1 i hi).1, (lI i hi).1⟩) (fun lu hlu => ?_)
  refine xr_share (xcu := cu) (xsA := sA) (xsB := sB) (xdp := dp) (xen := en') (xbl := bl) (xlu := lu) (E := E) hb8 hn lL ebl en (fun i hi => ⟨(lk1 i hi).2.1, (lI i hi).2.1⟩) (fun i hi => (lI i hi).2.2) hho (fun hu vr hsr => ?_)
  refine xi_wire (xcu := cu) (xsA := sA) (xsB := sB) (xvr := vr) hb8 hn en w hcu (fun i hi => ⟨(g2 i hi).1, (g2 i hi).2.1⟩) (fun sA' sB' de ex hwi hex hf8 => ?_)
  refine h _ _ _ _ _ _ _ _ _ _ _ _ _ _ _ _ ⟨I, E, U, L, vr, fun i hi => ⟨lk1 i hi, hwi.1 i hi⟩, fun v hv => ?_, ⟨ebl, lL⟩, fun v hv => (hsr.1 v hv).1, sr_rg hho hsr, ct1, cd1, cu1, sr_ce h1 ct1 cd1 w hho hlu hsr⟩ ⟨hw_n he, fun i hi => ⟨(hh2 i hi).2, (hh i (by omega) hi).2.2⟩, pk_us⟩ ?_ ?_ ?_ ?_ ?_ ?_ hf8 ?_ ?_
  · rw [hex v hv, g1 v hv, nI_clamp (by have := cu_lt (o := xop) (D := xfd) (b := b) hv (pd_n xct b); omega)]
  · exact fun k hk => (fr1.1 k hk).1
  · exact fun k hk => (fr1.1 k hk).2.1
  · exact fun k hk => (fr1.1 k hk).2.2
  · exact fun k hk => (hwi.2.1 k hk).trans (g3 k hk).1
  · exact fun k hk => (hwi.2.2.1 k hk).trans (g3 k hk).2
  · exact hwi.2.2.2
  · exact fr1.2
  · exact fun c hc => pk_un hc
end P16
end
section
section P17
/-! the component's compile -/
/-- what compile leaves behind -/
def cm_p (o D A B ct : Nat → Int32) (C a m T : Nat) (li ho le bl is en un sA sB de ex : Nat → Int32) : Prop :=
  1 ≤ C ∧ pd_tg A B C ∧ (∀ b, b < C → ∀ v, v < 8 → (bt (li b) v = true ↔ pd_lv o D A B ct 8 b v)) ∧ hm_i li C 8 ho ∧
  (∀ b, b < C → ce_b (lm_m li) o D A B ct ho T b is en un sA sB de ex bl) ∧ (∀ b, b < C → le_b o D A B ct a m T b le)
variable {xal xmu xmt xsa xmo xcl xat : Int32} {xop xfd xfa xfb xct xin xce xli xho xle xbl xis xen xun xsA xsB xde xex xcu xdp xhe xuf xlu xvr xhu xrg xuo xla : Nat → Int32}
theorem xc_102 {post : Int32 → SX → Prop} {C a m T : Nat} (hcl : xcl = nI C) (hw : wf_al xop xfd xfa xfb xct C) (hp : mp_s xal xmu xmt a m T) (hho : ∀ x, x < 8 → ∃ r, r < 8 ∧ xho x = nI r)
    (h : ∀ cu sA sB dp he le uf bl is en un lu vr hu de ex, (∀ b, b < C → ce_b (lm_m xli) xop xfd xfa xfb xct xho T b is en un sA sB de ex bl) → (∀ b, b < C → le_b xop xfd xfa xfb xct a m T b le) →
      post 0 (xal, xmu, xmt, xsa, 1, xcl, xat, xop, xfd, xfa, xfb, xct, xin, xce, xli, xho, le, bl, is, en, un, sA, sB, de, ex, cu, dp, he, uf, lu, vr, hu, xrg, xuo, xla)) :
    ∀ d b cu sA sB dp he le uf bl is en un lu vr hu de ex, b + d = C → (∀ c, c < b → ce_b (lm_m xli) xop xfd xfa xfb xct xho T c is en un sA sB de ex bl) → (∀ c, c < b → le_b xop xfd xfa xfb xct a m T c le) →
      wX_compile_102 post (d + 1) (nI b) xal xmu xmt xsa xmo xcl xat xop xfd xfa xfb xct xin xce xli xho le bl is en un sA sB de ex cu dp he uf lu vr hu xrg xuo xla := by
  intro d
  have hC := hw.1
  induction d with
  | zero =>
    intro b cu sA sB dp he le uf bl is en un lu vr hu de ex hb h1 h2
    rw [wX_compile_102]; dsimp only
    have e : b = C := by omega
    subst e
    exact br_t (by rw [hcl]; exact nI_le (Nat.le_refl _) (by omega)) (h cu sA sB dp he le uf bl is en un lu vr hu de ex h1 h2)
  | succ d ih =>
    intro b cu sA sB dp he le uf bl is en un lu vr hu de ex hb h1 h2
    rw [wX_compile_102]; dsimp only
    refine br_f (by rw [hcl]; exact nI_ge (by omega) (by omega)) ?_
    refine xy_syn (xcu := cu) (xsA := sA) (xsB := sB) (xdp := dp) (xhe := he) (xle := le) (xuf := uf) (xbl := bl) (xis := is) (xen := en) (xun := un) (xlu := lu) (xvr := vr) (xhu := hu) (xde := de) (xex := ex) (C := C) (by omega) hw hp hho (fun cu sA sB dp he le uf bl is en un lu vr hu de ex q1 q2 f1 f2 f3 f4 f5 f6 f7 f8 f9 => nm_r (nI_1 b) (ih (b + 1) cu sA sB dp he le uf bl is en un lu vr hu de ex (by omega) (fun c hc => ?_) (fun c hc => ?_)))
    · by_cases e : c = b
      · subst e; exact q1
      · exact ce_fr (hw.2.1 b (by omega)).1 (hw.2.1 c (by omega)).1 e f1 f2 f3 f4 f5 f6 f7 f8 (h1 c (by omega))
    · by_cases e : c = b
      · subst e; exact q2
      · exact le_fr e f9 (h2 c (by omega))
theorem xc_46 {post : Int32 → SX → Prop} {C a m T : Nat} (hC1 : 1 ≤ C) (hcl : xcl = nI C) (hw : wf_al xop xfd xfa xfb xct C) (hp : mp_s xal xmu xmt a m T)
    (hbad : ¬ pd_tg xfa xfb C → post (-6) (xal, xmu, xmt, xsa, xmo, xcl, xat, xop, xfd, xfa, xfb, xct, xin, xce, xli, xho, xle, xbl, xis, xen, xun, xsA, xsB, xde, xex, xcu, xdp, xhe, xuf, xlu, xvr, xhu, xrg, xuo, xla))
    (h : ∀ li ho cu sA sB dp he le uf bl is en un lu vr hu de ex, cm_p xop xfd xfa xfb xct C a m T li ho le bl is en un sA sB de ex →
      post 0 (xal, xmu, xmt, xsa, 1, xcl, xat, xop, xfd, xfa, xfb, xct, xin, xce, li, ho, le, bl, is, en, un, sA, sB, de, ex, cu, dp, he, uf, lu, vr, hu, xrg, xuo, xla)) :
    ∀ d i, i + d = C → (∀ b, b < i → (∃ t, t < C ∧ xfa (b * 9 + 8) = nI t) ∧ (∃ t, t < C ∧ xfb (b * 9 + 8) = nI t)) → wX_compile_46 post xal xmu xmt xsa xmo xcl xat xop xfd xfa xfb xct xin xce xli xho xle xbl xis xen xun xsA xsB xde xex xcu xdp xhe xuf xlu xvr xhu xrg xuo xla (d + 1) (nI (i * 9 + 8)) := by
  intro d
  have hC := hw.1
  induction d with
  | zero =>
    intro i hi ht
    rw [wX_compile_46]; dsimp only
    have e : i = C := by omega
    subst e
    refine br_t (by rw [hcl, na_9]; exact nI_le (by omega) (by omega)) (xl_find hcl hw ht (fun li hl => xm_homes (xli := li) hC hcl (fun ho hm => ⟨i + 1, ?_⟩)))
    refine xc_102 (xli := li) (xho := ho) hcl hw hp (fun x hx => ?_) (fun cu sA sB dp he le uf bl is en un lu vr hu de ex q1 q2 => h li ho cu sA sB dp he le uf bl is en un lu vr hu de ex ⟨hC1, ht, hl, hm, q1, q2⟩) i 0 xcu xsA xsB xdp xhe xle xuf xbl xis xen xun xlu xvr xhu xde xex (by omega) (fun c hc => absurd hc (by omega)) (fun c hc => absurd hc (by omega))
    obtain ⟨r, hr, er⟩ := hm.1 x hx
    exact ⟨r, by omega, er⟩
  | succ d ih =>
    intro i hi ht
    rw [wX_compile_46]; dsimp only
    have ck : (nI (i * 9 + 8)).toNatClampNeg = i * 9 + 8 := nI_clamp (by omega)
    have vk : vp_in (nI (i * 9 + 8)) 72 := vp_in_nI (by omega) (by omega)
    obtain ⟨_, _, ⟨x, hx, ex⟩, ⟨y, hy, ey⟩, _⟩ := hw.2.2.2 i (by omega)
    rw [ck]
    refine br_f (by rw [hcl, na_9]; exact nI_ge (by omega) (by omega)) ⟨vk, pk_le C x (fun g => hbad (fun z => ?_)) (fun g => ⟨vk, pk_lt y C (fun g2 => nm_r (e' := nI ((i + 1) * 9 + 8)) ?_ (ih (i + 1) (by omega) (fun b hb => ?_))) (fun g2 => hbad (fun z => ?_)) ey hcl⟩) hcl ex⟩
    · obtain ⟨⟨t, ht', et⟩, _⟩ := z i (by omega)
      have := na_in (ex.symm.trans et) (by omega) (by omega)
      omega
    · rw [show (i + 1) * 9 + 8 = (i * 9 + 8) + 9 by omega]; exact nI_add (i * 9 + 8) 9
    · by_cases e : b = i
      · subst e; exact ⟨⟨x, g, ex⟩, ⟨y, g2, ey⟩⟩
      · exact ht b (by omega)
    · obtain ⟨_, t, ht', et⟩ := z i (by omega)
      have := na_in (ey.symm.trans et) (by omega) (by omega)
      omega
end P17
end
section
section P18
/-! drive -/
def dr_h (Lv : Nat → Nat → Prop) (o D A B : Nat → Int32) (b n T L : Nat) (I E U : Nat → Nat) (R is en un sA sB de : Nat → Int32) : Prop :=
  (b < 8 ∧ n ≤ 8 ∧ L ≤ 32 ∧ 1 ≤ T) ∧ (∀ i, i < n → wf_op o D A B (b * 9 + i)) ∧
  (∀ i, i < n → (is (b * 9 + i) = nI (I i) ∧ en (b * 9 + i) = nI (E i) ∧ un (b * 9 + i) = nI (U i)) ∧ ce_w o D A B b i R (sA (b * 9 + i)) (sB (b * 9 + i)) (de (b * 9 + i))) ∧
  (∀ x, x < 8 + n → R x = -1 ∨ ∃ r, r < 16 ∧ R x = nI r) ∧
  ce_t o b n T L I E U ∧ ce_d o D A B b n I E ∧ ce_u n I E U ∧ ce_r (ce_us Lv o D A B b n L I) n E R
variable {xal xmu xmt xsa xmo xcl xat : Int32} {xop xfd xfa xfb xct xin xce xli xho xle xbl xis xen xun xsA xsB xde xex xcu xdp xhe xuf xlu xvr xhu xrg xuo xla : Nat → Int32} {Lv : Nat → Nat → Prop} {b n T L : Nat} {I E U : Nat → Nat} {R V M : Nat → Int32}
theorem xe_70 {post : SX → Prop} {i : Nat} {X Y : Int32} (hi : i < n) (H : dr_h Lv xop xfd xfa xfb b n T L I E U R xis xen xun xsA xsB xde)
    (hX : X = pd_x xop xfa (b * 9 + i) (pd_ex xop xfd xfa xfb b V M i).1) (hY : pd_rb (xop (b * 9 + i)) → Y = pd_y xfb (b * 9 + i) (pd_ex xop xfd xfa xfb b V M i).1) (hM : xop (b * 9 + i) = 11 → xce = (pd_ex xop xfd xfa xfb b V M i).2)
    (h : post (xal, xmu, xmt, xsa, xmo, xcl, xat, xop, xfd, xfa, xfb, xct, xin, xce, xli, xho, xle, xbl, xis, xen, xun, xsA, xsB, xde, xex, xcu, xdp, xhe, xuf, xlu, xvr, xhu, xrg, upd xuo (U i) (pd_vx xop xfd xfa xfb b V M (8 + i)), xla)) : wX_issue_70 post (nI (b * 9 + i)) (xop (b * 9 + i)) X Y xal xmu xmt xsa xmo xcl xat xop xfd xfa xfb xct xin xce xli xho xle xbl xis xen xun xsA xsB xde xex xcu xdp xhe xuf xlu xvr xhu xrg xuo xla := by
  obtain ⟨⟨hb, hn, hL, hT⟩, hw, lk, hR, ht, hd, hu, hr⟩ := H
  have ck : (nI (b * 9 + i)).toNatClampNeg = b * 9 + i := nI_clamp (by omega)
  have vk : vp_in (nI (b * 9 + i)) 72 := vp_in_nI (by omega) (by omega)
  have hU := (ht i hi).2.2.1
  have eU := (lk i hi).1.2.2
  unfold wX_issue_70
  rw [ck, eU, nI_clamp (by omega)]
  refine ⟨vk, xh_operate ⟨vp_in_nI hU (by omega), ?_⟩⟩
  rw [di_iv hX hY hM]
  exact nm_e h
theorem xe_41 {post : SX → Prop} {i c : Nat} {X : Int32} (hi : i < n) (H : dr_h Lv xop xfd xfa xfb b n T L I E U R xis xen xun xsA xsB xde) (hc : I i = c)
    (hg : di_rg (ce_us Lv xop xfd xfa xfb b n L I) R (pd_vx xop xfd xfa xfb b V M) (fun j => E j ≤ c) c xrg) (hm : di_me xop b n (fun k => (pd_ex xop xfd xfa xfb b V M k).2) (fun j => E j ≤ c) xce)
    (hX : X = pd_x xop xfa (b * 9 + i) (pd_ex xop xfd xfa xfb b V M i).1)
    (h : ∀ sa, (xop (b * 9 + i) = 12 → sa = pd_x xop xfa (b * 9 + i) (pd_ex xop xfd xfa xfb b V M i).1 &&& 7) → (¬ xop (b * 9 + i) = 12 → sa = xsa) → post (xal, xmu, xmt, sa, xmo, xcl, xat, xop, xfd, xfa, xfb, xct, xin, xce, xli, xho, xle, xbl, xis, xen, xun, xsA, xsB, xde, xex, xcu, xdp, xhe, xuf, xlu, xvr, xhu, xrg, upd xuo (U i) (pd_vx xop xfd xfa xfb b V M (8 + i)), xla)) :
    wX_issue_41 post (nI (b * 9 + i)) (xop (b * 9 + i)) X xal xmu xmt xsa xmo xcl xat xop xfd xfa xfb xct xin xce xli xho xle xbl xis xen xun xsA xsB xde xex xcu xdp xhe xuf xlu xvr xhu xrg xuo xla := by
  have H' := H
  obtain ⟨⟨hb, hn, hL, hT⟩, hw, lk, hR, ht, hd, hu, hr⟩ := H
  have ck : (nI (b * 9 + i)).toNatClampNeg = b * 9 + i := nI_clamp (by omega)
  have vk : vp_in (nI (b * 9 + i)) 72 := vp_in_nI (by omega) (by omega)
  have hM : xop (b * 9 + i) = 11 → xce = (pd_ex xop xfd xfa xfb b V M i).2 := fun g => di_ld hT ht hd hi hc g hm
  have last : ∀ Y, (pd_rb (xop (b * 9 + i)) → Y = pd_y xfb (b * 9 + i) (pd_ex xop xfd xfa xfb b V M i).1) →
      ((xop (b * 9 + i) = 12 → (∀ f_sa : Int32, f_sa = X &&& 7 → wX_issue_70 post (nI (b * 9 + i)) (xop (b * 9 + i)) X Y xal xmu xmt f_sa xmo xcl xat xop xfd xfa xfb xct xin xce xli xho xle xbl xis xen xun xsA xsB xde xex xcu xdp xhe xuf xlu xvr xhu xrg xuo xla)) ∧ (¬ xop (b * 9 + i) = 12 → wX_issue_70 post (nI (b * 9 + i)) (xop (b * 9 + i)) X Y xal xmu xmt xsa xmo xcl xat xop xfd xfa xfb xct xin xce xli xho xle xbl xis xen xun xsA xsB xde xex xcu xdp xhe xuf xlu xvr xhu xrg xuo xla)) := by
    intro Y hY
    refine br_c (fun g => nm_e (xe_70 hi H' hX hY hM (h _ (fun _ => by rw [hX]) (fun z => absurd g z)))) (fun g => xe_70 hi H' hX hY hM (h _ (fun z => absurd z g) (fun _ => rfl)))
  obtain ⟨_, hB, _⟩ := (lk i hi).2
  have us : pd_rb (xop (b * 9 + i)) → ∃ r, r < 16 ∧ xsB (b * 9 + i) = nI r ∧ R (pd_cu xop xfd b i (xfb (b * 9 + i)).toNatClampNeg) = nI r := by
    intro g
    obtain ⟨⟨r, hr16, er⟩, _⟩ := hr _ c (Or.inr (Or.inl ⟨i, hi, g, rfl, hc.symm⟩))
    exact ⟨r, hr16, by rw [hB.2 g, er], er⟩
  unfold wX_issue_41
  rw [ck]
  refine ⟨vk, xh_readPort (fun e => last 0 (fun g => ?_)) (fun r hr16 e => last _ (fun g => ?_)) ?_⟩
  · obtain ⟨r, hr16, e2, _⟩ := us g
    rw [e] at e2
    exact absurd e2 (bg_m1 (by omega))
  · obtain ⟨r', hr16', e2, e3⟩ := us g
    have t := di_xb hT ht hd hw hi hc hg g
    have e4 := na_in (e.symm.trans e2) (by omega) (by omega)
    subst e4
    rw [e3, nI_clamp (by omega)] at t
    exact t
  · by_cases g : pd_rb (xop (b * 9 + i))
    · obtain ⟨r, hr16, e2, _⟩ := us g
      exact Or.inr ⟨r, hr16, e2⟩
    · exact Or.inl (hB.1 g)
theorem xe_issue {post : SX → Prop} {i c : Nat} (hi : i < n) (hc32 : c ≤ 32) (H : dr_h Lv xop xfd xfa xfb b n T L I E U R xis xen xun xsA xsB xde)
    (hg : di_rg (ce_us Lv xop xfd xfa xfb b n L I) R (pd_vx xop xfd xfa xfb b V M) (fun j => E j ≤ c) c xrg) (hm : di_me xop b n (fun k => (pd_ex xop xfd xfa xfb b V M k).2) (fun j => E j ≤ c) xce)
    (h0 : ¬ I i = c → post (xal, xmu, xmt, xsa, xmo, xcl, xat, xop, xfd, xfa, xfb, xct, xin, xce, xli, xho, xle, xbl, xis, xen, xun, xsA, xsB, xde, xex, xcu, xdp, xhe, xuf, xlu, xvr, xhu, xrg, xuo, xla))
    (h : I i = c → ∀ sa, (xop (b * 9 + i) = 12 → sa = pd_x xop xfa (b * 9 + i) (pd_ex xop xfd xfa xfb b V M i).1 &&& 7) → (¬ xop (b * 9 + i) = 12 → sa = xsa) → post (xal, xmu, xmt, sa, xmo, xcl, xat, xop, xfd, xfa, xfb, xct, xin, xce, xli, xho, xle, xbl, xis, xen, xun, xsA, xsB, xde, xex, xcu, xdp, xhe, xuf, xlu, xvr, xhu, xrg, upd xuo (U i) (pd_vx xop xfd xfa xfb b V M (8 + i)), xla)) :
    wpX_issue post (xal, xmu, xmt, xsa, xmo, xcl, xat, xop, xfd, xfa, xfb, xct, xin, xce, xli, xho, xle, xbl, xis, xen, xun, xsA, xsB, xde, xex, xcu, xdp, xhe, xuf, xlu, xvr, xhu, xrg, xuo, xla) (nI (b * 9 + i)) (nI c) := by
  have H' := H
  obtain ⟨⟨hb, hn, hL, hT⟩, hw, lk, hR, ht, hd, hu, hr⟩ := H
  have ck : (nI (b * 9 + i)).toNatClampNeg = b * 9 + i := nI_clamp (by omega)
  have vk : vp_in (nI (b * 9 + i)) 72 := vp_in_nI (by omega) (by omega)
  have lI : I i ≤ 32 := by
    have := (ht i hi).1
    have := (ht i hi).2.1
    omega
  have eI := (lk i hi).1.1
  obtain ⟨hA, _, _⟩ := (lk i hi).2
  have us : ¬ xop (b * 9 + i) = 0 → I i = c → ∃ r, r < 16 ∧ xsA (b * 9 + i) = nI r ∧ R (pd_cu xop xfd b i (xfa (b * 9 + i)).toNatClampNeg) = nI r := by
    intro g hc
    obtain ⟨⟨r, hr16, er⟩, _⟩ := hr _ c (Or.inl ⟨i, hi, g, rfl, hc.symm⟩)
    exact ⟨r, hr16, by rw [hA.2 g, er], er⟩
  unfold wpX_issue
  rw [ck]
  refine ⟨vk, pk_eq (I i) c (fun hc => ⟨vk, nm_e (br_c (fun g => ⟨vk, xe_41 hi H' hc hg hm ?_ (h hc)⟩) (fun g => ⟨vk, ?_⟩))⟩) h0 eI⟩
  · unfold pd_x; rw [if_pos g]
  · obtain ⟨r, hr16, e2, e3⟩ := us g hc
    have t := di_xa hT ht hd hw hi hc hg g
    rw [e3, nI_clamp (by omega)] at t
    refine xh_readPort (fun e => ?_) (fun r' hr16' e => ?_) (Or.inr ⟨r, hr16, e2⟩)
    · rw [e] at e2
      exact absurd e2 (bg_m1 (by omega))
    · have e4 := na_in (e.symm.trans e2) (by omega) (by omega)
      subst e4
      exact xe_41 hi H' hc hg hm t (h hc)
theorem xe_commit {post : SX → Prop} {i c : Nat} (hi : i < n) (hc32 : c < 32) (H : dr_h Lv xop xfd xfa xfb b n T L I E U R xis xen xun xsA xsB xde)
    (hv : E i = c + 1 → xuo (U i) = pd_vx xop xfd xfa xfb b V M (8 + i)) (hs : E i = c + 1 → xop (b * 9 + i) = 12 → xsa = pd_x xop xfa (b * 9 + i) (pd_ex xop xfd xfa xfb b V M i).1 &&& 7)
    (h0 : ¬ E i = c + 1 → post (xal, xmu, xmt, xsa, xmo, xcl, xat, xop, xfd, xfa, xfb, xct, xin, xce, xli, xho, xle, xbl, xis, xen, xun, xsA, xsB, xde, xex, xcu, xdp, xhe, xuf, xlu, xvr, xhu, xrg, xuo, xla))
    (h : E i = c + 1 → ∀ ce rg, (xop (b * 9 + i) = 12 → ce = upd xce (pd_x xop xfa (b * 9 + i) (pd_ex xop xfd xfa xfb b V M i).1 &&& 7).toNatClampNeg (pd_vx xop xfd xfa xfb b V M (8 + i))) → (¬ xop (b * 9 + i) = 12 → ce = xce) →
      ((R (8 + i) = -1 ∧ rg = xrg) ∨ ∃ r, r < 16 ∧ R (8 + i) = nI r ∧ rg = upd xrg r (pd_vx xop xfd xfa xfb b V M (8 + i))) → post (xal, xmu, xmt, xsa, xmo, xcl, xat, xop, xfd, xfa, xfb, xct, xin, ce, xli, xho, xle, xbl, xis, xen, xun, xsA, xsB, xde, xex, xcu, xdp, xhe, xuf, xlu, xvr, xhu, rg, xuo, xla)) :
    wpX_commit post (xal, xmu, xmt, xsa, xmo, xcl, xat, xop, xfd, xfa, xfb, xct, xin, xce, xli, xho, xle, xbl, xis, xen, xun, xsA, xsB, xde, xex, xcu, xdp, xhe, xuf, xlu, xvr, xhu, xrg, xuo, xla) (nI (b * 9 + i)) (nI c) := by
  obtain ⟨⟨hb, hn, hL, hT⟩, hw, lk, hR, ht, hd, hu, hr⟩ := H
  have ck : (nI (b * 9 + i)).toNatClampNeg = b * 9 + i := nI_clamp (by omega)
  have vk : vp_in (nI (b * 9 + i)) 72 := vp_in_nI (by omega) (by omega)
  have lE : E i ≤ 32 := by
    have := (ht i hi).2.1
    omega
  have hU := (ht i hi).2.2.1
  have eU := (lk i hi).1.2.2
  have vU : vp_in (nI (U i)) 6 := vp_in_nI hU (by omega)
  have eE := (lk i hi).1.2.1
  have eD := (lk i hi).2.2.2
  have s44 : E i = c + 1 → ∀ ce, (xop (b * 9 + i) = 12 → ce = upd xce (pd_x xop xfa (b * 9 + i) (pd_ex xop xfd xfa xfb b V M i).1 &&& 7).toNatClampNeg (pd_vx xop xfd xfa xfb b V M (8 + i))) → (¬ xop (b * 9 + i) = 12 → ce = xce) → wX_commit_44 post (nI (b * 9 + i)) xal xmu xmt xsa xmo xcl xat xop xfd xfa xfb xct xin ce xli xho xle xbl xis xen xun xsA xsB xde xex xcu xdp xhe xuf xlu xvr xhu xrg xuo xla := by
    intro hE ce c1 c2
    unfold wX_commit_44
    rw [ck, eD, eU, nI_clamp (show U i < 2 ^ 31 by omega), hv hE]
    refine ⟨vk, ?_⟩
    rcases hR (8 + i) (by omega) with e | ⟨r, hr16, e⟩
    · rw [e]
      exact br_t (by decide) (h hE ce xrg c1 c2 (Or.inl ⟨e, rfl⟩))
    · rw [e, nI_clamp (by omega)]
      exact br_f (nI_pos (by omega)) ⟨vk, vk, vU, vp_in_nI hr16 (by omega), nm_e (h hE ce _ c1 c2 (Or.inr ⟨r, hr16, e, rfl⟩))⟩
  unfold wpX_commit
  rw [ck, nI_1]
  refine ⟨vk, pk_eq (E i) (c + 1) (fun hE => ⟨vk, br_c (fun g => ⟨vk, by rw [eU]; exact vU, ?_⟩) (fun g => s44 hE xce (fun z => absurd z g) (fun _ => rfl))⟩) h0 eE⟩
  have e := hs hE g
  refine ⟨by rw [e]; exact pk_andIn _ 3 (by decide) (by decide), nm_r (e' := upd xce (pd_x xop xfa (b * 9 + i) (pd_ex xop xfd xfa xfb b V M i).1 &&& 7).toNatClampNeg (pd_vx xop xfd xfa xfb b V M (8 + i))) ?_ (s44 hE _ (fun _ => rfl) (fun z => absurd g z))⟩
  rw [eU, nI_clamp (by omega), hv hE, e]
end P18
end
section
section P19
/-! drive: the loops -/
variable {xal xmu xmt xsa xmo xcl xat : Int32} {xop xfd xfa xfb xct xin xce xli xho xle xbl xis xen xun xsA xsB xde xex xcu xdp xhe xuf xlu xvr xhu xrg xuo xla : Nat → Int32} {Lv : Nat → Nat → Prop} {b n T L : Nat} {I E U : Nat → Nat} {R V M : Nat → Int32}
theorem xe_49 {post : SX → Prop} {J : Int32 → Int32 → Int32 → Int32 → Int32 → Int32 → Int32 → Int32 → (Nat → Int32) → (Nat → Int32) → (Nat → Int32) → (Nat → Int32) → (Nat → Int32) → (Nat → Int32) → (Nat → Int32) → (Nat → Int32) → (Nat → Int32) → (Nat → Int32) → (Nat → Int32) → (Nat → Int32) → (Nat → Int32) → (Nat → Int32) → (Nat → Int32) → (Nat → Int32) → (Nat → Int32) → (Nat → Int32) → (Nat → Int32) → (Nat → Int32) → (Nat → Int32) → (Nat → Int32) → (Nat → Int32) → (Nat → Int32) → (Nat → Int32) → (Nat → Int32) → (Nat → Int32) → (Nat → Int32) → Prop} {c : Nat} (hct : xct b = nI n) (hc32 : c < 32) (H : dr_h Lv xop xfd xfa xfb b n T L I E U R xis xen xun xsA xsB xde)
    (hv : di_uo n E U (pd_vx xop xfd xfa xfb b V M) (di_is I c n) c xuo) (hs : di_sa xop b n I (fun i => pd_x xop xfa (b * 9 + i) (pd_ex xop xfd xfa xfb b V M i).1) c n xsa)
    (hJ : ∀ ce rg, di_rg (ce_us Lv xop xfd xfa xfb b n L I) R (pd_vx xop xfd xfa xfb b V M) (di_cm E c n) (c + 1) rg → di_me xop b n (fun k => (pd_ex xop xfd xfa xfb b V M k).2) (di_cm E c n) ce → J (nI (c + 1)) xal xmu xmt xsa xmo xcl xat xop xfd xfa xfb xct xin ce xli xho xle xbl xis xen xun xsA xsB xde xex xcu xdp xhe xuf xlu xvr xhu rg xuo xla) :
    ∀ d i ce rg, i + d = n → di_rg (ce_us Lv xop xfd xfa xfb b n L I) R (pd_vx xop xfd xfa xfb b V M) (di_cm E c i) (c + 1) rg → di_me xop b n (fun k => (pd_ex xop xfd xfa xfb b V M k).2) (di_cm E c i) ce →
      wX_drive_49 post J (nI b) (nI c) (d + 1) (nI (b * 9 + i)) xal xmu xmt xsa xmo xcl xat xop xfd xfa xfb xct xin ce xli xho xle xbl xis xen xun xsA xsB xde xex xcu xdp xhe xuf xlu xvr xhu rg xuo xla := by
  have H' := H
  obtain ⟨⟨hb, hn, hL, hT⟩, hw, lk, hR, ht, hd, hu, hr⟩ := H
  intro d
  have cb : (nI b).toNatClampNeg = b := nI_clamp (by omega)
  have vb : vp_in (nI b) 8 := vp_in_nI hb (by omega)
  induction d with
  | zero =>
    intro i ce rg hi h1 h2
    rw [wX_drive_49]; dsimp only; rw [cb, hct, na_ix]
    have e : i = n := by omega
    subst e
    exact ⟨vb, br_t (nI_le (Nat.le_refl _) (by omega)) (nm_r (nI_1 c) (hJ ce rg h1 h2))⟩
  | succ d ih =>
    intro i ce rg hi h1 h2
    rw [wX_drive_49]; dsimp only; rw [cb, hct, na_ix]
    have tE := (ht i (by omega)).1
    have lp := lt_pos (x := xop (b * 9 + i)) hT
    refine ⟨vb, br_f (nI_ge (by omega) (by omega)) (xe_commit (xce := ce) (xrg := rg) (V := V) (M := M) (by omega) hc32 H' (fun hE => hv i (by omega) ?_ (by omega)) (fun hE h12 => hs i (by omega) (by omega) h12 ?_) (fun hE => ?_) (fun hE ce' rg' c1 c2 c3 => ?_))⟩
    · by_cases e : I i = c
      · exact Or.inr ⟨e, by omega⟩
      · exact Or.inl (by omega)
    · rw [h12, lt_12] at tE; omega
    · exact nm_r (nI_1 _) (ih (i + 1) ce rg (by omega) (di_r0 hE h1) (di_m0 (fun z => absurd z hE) h2))
    · refine nm_r (nI_1 _) (ih (i + 1) ce' rg' (by omega) ?_ ?_)
      · rcases c3 with ⟨e, er⟩ | ⟨r, hr16, e, er⟩
        · rw [er]; exact di_r2 hr e h1
        · rw [er]; exact di_r1 hr (by omega) hE e hr16 h1
      · by_cases g : xop (b * 9 + i) = 12
        · rw [c1 g]; exact di_m1 hT ht hd (by omega) hE g h2
        · rw [c2 g]; exact di_m0 (fun _ => g) h2
theorem xe_17 {post : SX → Prop} {J : Int32 → Int32 → Int32 → Int32 → Int32 → Int32 → Int32 → Int32 → (Nat → Int32) → (Nat → Int32) → (Nat → Int32) → (Nat → Int32) → (Nat → Int32) → (Nat → Int32) → (Nat → Int32) → (Nat → Int32) → (Nat → Int32) → (Nat → Int32) → (Nat → Int32) → (Nat → Int32) → (Nat → Int32) → (Nat → Int32) → (Nat → Int32) → (Nat → Int32) → (Nat → Int32) → (Nat → Int32) → (Nat → Int32) → (Nat → Int32) → (Nat → Int32) → (Nat → Int32) → (Nat → Int32) → (Nat → Int32) → (Nat → Int32) → (Nat → Int32) → (Nat → Int32) → (Nat → Int32) → Prop} {c : Nat} (hct : xct b = nI n) (hc32 : c < 32) (H : dr_h Lv xop xfd xfa xfb b n T L I E U R xis xen xun xsA xsB xde)
    (hg : di_rg (ce_us Lv xop xfd xfa xfb b n L I) R (pd_vx xop xfd xfa xfb b V M) (fun j => E j ≤ c) c xrg) (hm : di_me xop b n (fun k => (pd_ex xop xfd xfa xfb b V M k).2) (fun j => E j ≤ c) xce)
    (hJ : ∀ sa ce rg uo, di_rg (ce_us Lv xop xfd xfa xfb b n L I) R (pd_vx xop xfd xfa xfb b V M) (fun j => E j ≤ c + 1) (c + 1) rg → di_me xop b n (fun k => (pd_ex xop xfd xfa xfb b V M k).2) (fun j => E j ≤ c + 1) ce → di_uo n E U (pd_vx xop xfd xfa xfb b V M) (fun i => I i < c + 1) (c + 1) uo →
      J (nI (c + 1)) xal xmu xmt sa xmo xcl xat xop xfd xfa xfb xct xin ce xli xho xle xbl xis xen xun xsA xsB xde xex xcu xdp xhe xuf xlu xvr xhu rg uo xla) :
    ∀ d i sa uo, i + d = n → di_uo n E U (pd_vx xop xfd xfa xfb b V M) (di_is I c i) c uo → di_sa xop b n I (fun i => pd_x xop xfa (b * 9 + i) (pd_ex xop xfd xfa xfb b V M i).1) c i sa →
      wX_drive_17 post J (nI b) (nI c) (d + 1) (nI (b * 9 + i)) xal xmu xmt sa xmo xcl xat xop xfd xfa xfb xct xin xce xli xho xle xbl xis xen xun xsA xsB xde xex xcu xdp xhe xuf xlu xvr xhu xrg uo xla := by
  have H' := H
  obtain ⟨⟨hb, hn, hL, hT⟩, hw, lk, hR, ht, hd, hu, hr⟩ := H
  intro d
  have cb : (nI b).toNatClampNeg = b := nI_clamp (by omega)
  have vb : vp_in (nI b) 8 := vp_in_nI hb (by omega)
  induction d with
  | zero =>
    intro i sa uo hi h1 h2
    rw [wX_drive_17]; dsimp only; rw [cb, hct, na_ix]
    have e : i = n := by omega
    subst e
    refine ⟨vb, br_t (nI_le (Nat.le_refl _) (by omega)) (nm_r (na_9 b) ⟨i + 1, xe_49 (xsa := sa) (xuo := uo) hct hc32 H' h1 h2 (fun ce rg q1 q2 => hJ sa ce rg uo (fun x c' us hc' hb' => ?_) (fun k hk hk2 => ?_) (fun j hj hI hE => ?_)) i 0 xce xrg (by omega) (fun x c' us hc' hb' => ?_) (fun k hk hk2 => ?_)⟩)⟩
    · refine q1 x c' us hc' ?_
      rcases hb' with z | ⟨j, ej, z⟩
      · exact Or.inl z
      · have z' : E j ≤ c + 1 := z
        rcases di_bn hT ht hd hw us with y | ⟨l, y1, y2, y3⟩
        · exact Or.inl y
        · have ejl : l = j := by omega
          subst ejl
          refine Or.inr ⟨l, ej, ?_⟩
          by_cases w : E l = c + 1
          · exact Or.inr ⟨w, y2⟩
          · exact Or.inl (by omega)
    · refine q2 k hk (fun j hj hs => ?_)
      rw [hk2 j hj hs]
      show E j ≤ c + 1 ↔ _
      constructor
      · intro z
        by_cases w : E j = c + 1
        · exact Or.inr ⟨w, hj⟩
        · exact Or.inl (by omega)
      · rintro (z | ⟨z, _⟩) <;> omega
    · have hI' : I j < c + 1 := hI
      refine h1 j hj ?_ (by omega)
      by_cases w : I j = c
      · exact Or.inr ⟨w, hj⟩
      · exact Or.inl (by omega)
    · refine hg x c' us (by omega) ?_
      rcases hb' with z | ⟨j, ej, z⟩
      · exact Or.inl z
      · refine Or.inr ⟨j, ej, ?_⟩
        rcases z with z | ⟨_, z⟩
        · exact z
        · omega
    · refine hm k hk (fun j hj hs => ?_)
      rw [hk2 j hj hs]
      show _ ↔ E j ≤ c
      constructor
      · rintro (z | ⟨_, z⟩) <;> omega
      · intro z; exact Or.inl z
  | succ d ih =>
    intro i sa uo hi h1 h2
    rw [wX_drive_17]; dsimp only; rw [cb, hct, na_ix]
    refine ⟨vb, br_f (nI_ge (by omega) (by omega)) (xe_issue (xsa := sa) (xuo := uo) (V := V) (M := M) (by omega) (by omega) H' hg hm (fun hI => ?_) (fun hI sa' s1 s2 => ?_))⟩
    · exact nm_r (nI_1 _) (ih (i + 1) sa uo (by omega) (di_u0 hI h1) (di_s0 (fun z => absurd z hI) h2))
    · refine nm_r (nI_1 _) (ih (i + 1) sa' _ (by omega) (di_u1 hT ht hu (by omega) hI h1) ?_)
      by_cases g : xop (b * 9 + i) = 12
      · rw [s1 g]
        exact di_s1 (xa := fun i => pd_x xop xfa (b * 9 + i) (pd_ex xop xfd xfa xfb b V M i).1) (sa := sa) hT ht hu (by omega) hI g
      · rw [s2 g]; exact di_s0 (fun _ => g) h2
theorem xe_2 {post : SX → Prop} (hct : xct b = nI n) (hbl : xbl b = nI L) (H : dr_h Lv xop xfd xfa xfb b n T L I E U R xis xen xun xsA xsB xde)
    (h : ∀ sa rg uo, (∀ v, v < 8 → pd_nd Lv xop xfd xfa xfb b v → rg (R (pd_cu xop xfd b n v)).toNatClampNeg = (pd_ex xop xfd xfa xfb b V M n).1 v) → post (xal, xmu, xmt, sa, xmo, xcl, xat, xop, xfd, xfa, xfb, xct, xin, (pd_ex xop xfd xfa xfb b V M n).2, xli, xho, xle, xbl, xis, xen, xun, xsA, xsB, xde, xex, xcu, xdp, xhe, xuf, xlu, xvr, xhu, rg, uo, xla)) :
    ∀ d c sa ce rg uo, c + d = L → di_rg (ce_us Lv xop xfd xfa xfb b n L I) R (pd_vx xop xfd xfa xfb b V M) (fun j => E j ≤ c) c rg → di_me xop b n (fun k => (pd_ex xop xfd xfa xfb b V M k).2) (fun j => E j ≤ c) ce → di_uo n E U (pd_vx xop xfd xfa xfb b V M) (fun i => I i < c) c uo →
      wX_drive_2 post (nI b) (d + 1) (nI c) xal xmu xmt sa xmo xcl xat xop xfd xfa xfb xct xin ce xli xho xle xbl xis xen xun xsA xsB xde xex xcu xdp xhe xuf xlu xvr xhu rg uo xla := by
  have H' := H
  obtain ⟨⟨hb, hn, hL, hT⟩, hw, lk, hR, ht, hd, hu, hr⟩ := H
  intro d
  have cb : (nI b).toNatClampNeg = b := nI_clamp (by omega)
  have vb : vp_in (nI b) 8 := vp_in_nI hb (by omega)
  induction d with
  | zero =>
    intro c sa ce rg uo hc h1 h2 h3
    rw [wX_drive_2]; dsimp only; rw [cb, hbl]
    have e : c = L := by omega
    subst e
    have em : ce = (pd_ex xop xfd xfa xfb b V M n).2 := h2 n (Nat.le_refl n) (fun j hj _ => ⟨fun _ => (ht j hj).2.1, fun _ => hj⟩)
    subst em
    refine ⟨vb, br_t (nI_le (Nat.le_refl _) (by omega)) (h sa rg uo (fun v hv hnd => ?_))⟩
    have us : ce_us Lv xop xfd xfa xfb b n c I (pd_cu xop xfd b n v) c := Or.inr (Or.inr ⟨v, hv, hnd, rfl, rfl⟩)
    rw [h1 _ c us (Nat.le_refl c) (by
      rcases di_bn hT ht hd hw us with y | ⟨l, y1, y2, y3⟩
      · exact Or.inl y
      · exact Or.inr ⟨l, y1, y3⟩), ex_cu hw n (Nat.le_refl n) v hv]
  | succ d ih =>
    intro c sa ce rg uo hc h1 h2 h3
    rw [wX_drive_2]; dsimp only; rw [cb, hbl]
    refine ⟨vb, br_f (nI_ge (by omega) (by omega)) (nm_r (na_9 b) ⟨n + 1, xe_17 (xce := ce) (xrg := rg) (V := V) (M := M) hct (by omega) H' h1 h2 (fun sa' ce' rg' uo' q1 q2 q3 => ih (c + 1) sa' ce' rg' uo' (by omega) q1 q2 q3) n 0 sa uo (by omega) (fun j hj hI hE => h3 j hj ?_ hE) (fun j hj hk => absurd hk (by omega))⟩)⟩
    rcases hI with z | ⟨_, z⟩
    · exact z
    · omega
theorem xe_drive {post : SX → Prop} (hct : xct b = nI n) (hbl : xbl b = nI L) (H : dr_h Lv xop xfd xfa xfb b n T L I E U R xis xen xun xsA xsB xde)
    (h0 : ∀ x c, x < 8 → ce_us Lv xop xfd xfa xfb b n L I x c → xrg (R x).toNatClampNeg = V x)
    (h : ∀ sa rg uo, (∀ v, v < 8 → pd_nd Lv xop xfd xfa xfb b v → rg (R (pd_cu xop xfd b n v)).toNatClampNeg = (pd_ex xop xfd xfa xfb b V xce n).1 v) → post (xal, xmu, xmt, sa, xmo, xcl, xat, xop, xfd, xfa, xfb, xct, xin, (pd_ex xop xfd xfa xfb b V xce n).2, xli, xho, xle, xbl, xis, xen, xun, xsA, xsB, xde, xex, xcu, xdp, xhe, xuf, xlu, xvr, xhu, rg, uo, xla)) :
    wpX_drive post (xal, xmu, xmt, xsa, xmo, xcl, xat, xop, xfd, xfa, xfb, xct, xin, xce, xli, xho, xle, xbl, xis, xen, xun, xsA, xsB, xde, xex, xcu, xdp, xhe, xuf, xlu, xvr, xhu, xrg, xuo, xla) (nI b) := by
  have H' := H
  obtain ⟨⟨hb, hn, hL, hT⟩, hw, lk, hR, ht, hd, hu, hr⟩ := H
  have pos : ∀ j, j < n → 1 ≤ E j := by
    intro j hj
    have tE := (ht j hj).1
    have lp := lt_pos (x := xop (b * 9 + j)) hT
    omega
  refine ⟨L + 1, xe_2 (V := V) (M := xce) hct hbl H' h L 0 xsa xce xrg xuo (by omega) (fun x c us hc hb' => ?_) (fun k hk hk2 => ?_) (fun j hj hI => ?_)⟩
  · by_cases hx : x < 8
    · rw [vx_v hx]; exact h0 x c hx us
    · rcases di_bn hT ht hd hw us with y | ⟨l, y1, y2, y3⟩
      · exact absurd y hx
      · rcases hb' with z | ⟨j, ej, z⟩
        · exact absurd z hx
        · have e : j = l := by omega
          subst e
          have z' : E j ≤ 0 := z
          have := pos j y2
          omega
  · show xce = (pd_ex xop xfd xfa xfb b V xce k).2
    have t := ex_m (o := xop) (D := xfd) (A := xfa) (B := xfb) (b := b) (i := 0) (V := V) (M := xce) k (fun j h1 h2 hs => by
      have z : E j ≤ 0 := (hk2 j (by omega) hs).mp (by omega)
      have := pos j (by omega)
      omega)
    rw [Nat.zero_add] at t
    exact t.symm
  · have z : I j < 0 := hI
    omega
end P19
end
section
section P20
/-! enterBlock, executeBlock -/
theorem us_lv {o D A B ct li : Nat → Int32} {C b n L x c : Nat} {I : Nat → Nat} (hC : C ≤ 8) (hb : b < C) (hn : pd_n ct b = n) (hn8 : n ≤ 8) (ht : pd_tg A B C) (hw : ∀ i, i < n → wf_op o D A B (b * 9 + i)) (hl : ∀ b, b < C → ∀ v, v < 8 → (bt (li b) v = true ↔ pd_lv o D A B ct 8 b v))
    (us : ce_us (lm_m li) o D A B b n L I x c) (hx : x < 8) : bt (li b) x = true := by
  have key : pd_lb (lm_m li) o D A B n b 0 x → bt (li b) x = true := by
    intro g
    rw [hl b hb x hx]
    apply lv_fix hC ht b hb
    show pd_lb (pd_lv o D A B ct 8) o D A B (pd_n ct b) b 0 x
    rw [hn]
    exact lb_mono (M := lm_m li) (fun z => (hl _ (tg_a hC ht hb) x hx).mp z) (fun z => (hl _ (tg_b hC ht hb) x hx).mp z) g
  apply key
  rcases us with ⟨i, hi, g, ex, _⟩ | ⟨i, hi, g, ex, _⟩ | ⟨v, hv, g, ex, _⟩
  · obtain ⟨a, ha, ea⟩ := (hw i hi).2.2.1 g
    rw [ea, nI_clamp (by omega)] at ex
    have nw := cu_vr (o := o) (D := D) (b := b) (v := a) i (by omega)
    rw [cu_nw i nw] at ex
    subst ex
    exact Or.inl ⟨i, Nat.zero_le i, hi, Or.inl ⟨g, ea⟩, nw⟩
  · obtain ⟨a, ha, ea⟩ := (hw i hi).2.2.2
    rw [ea, nI_clamp (by omega)] at ex
    have nw := cu_vr (o := o) (D := D) (b := b) (v := a) i (by omega)
    rw [cu_nw i nw] at ex
    subst ex
    exact Or.inl ⟨i, Nat.zero_le i, hi, Or.inr ⟨g, ea⟩, nw⟩
  · have nw := cu_vr (o := o) (D := D) (b := b) (v := v) n (by omega)
    rw [cu_nw n nw] at ex
    subst ex
    exact Or.inr ⟨g, nw⟩
variable {xal xmu xmt xsa xmo xcl xat : Int32} {xop xfd xfa xfb xct xin xce xli xho xle xbl xis xen xun xsA xsB xde xex xcu xdp xhe xuf xlu xvr xhu xrg xuo xla : Nat → Int32}
theorem xn_7 {post : SX → Prop} {t : Nat} (ht : t < 8) (hho : ∀ x, x < 8 → ∃ r, r < 8 ∧ xho x = nI r) (hds : ∀ u w, u < w → w < 8 → bt (xli t) u = true → bt (xli t) w = true → xho u ≠ xho w)
    (h : ∀ rg, (∀ v, v < 8 → bt (xli t) v = true → rg (xho v).toNatClampNeg = xla v) → post (xal, xmu, xmt, xsa, xmo, xcl, xat, xop, xfd, xfa, xfb, xct, xin, xce, xli, xho, xle, xbl, xis, xen, xun, xsA, xsB, xde, xex, xcu, xdp, xhe, xuf, xlu, xvr, xhu, rg, xuo, xla)) :
    ∀ d i rg, i + d = 8 → (∀ v, v < i → bt (xli t) v = true → rg (xho v).toNatClampNeg = xla v) → wX_enterBlock_7 post (nI t) xal xmu xmt xsa xmo xcl xat (d + 1) (nI i) xop xfd xfa xfb xct xin xce xli xho xle xbl xis xen xun xsA xsB xde xex xcu xdp xhe xuf xlu xvr xhu rg xuo xla := by
  intro d
  have ct : (nI t).toNatClampNeg = t := nI_clamp (by omega)
  have vt : vp_in (nI t) 8 := vp_in_nI ht (by omega)
  induction d with
  | zero =>
    intro i rg hi hv
    rw [wX_enterBlock_7]; dsimp only
    have e : i = 8 := by omega
    subst e
    exact br_t (nI_le (a := 8) (by omega) (by omega)) (h rg hv)
  | succ d ih =>
    intro i rg hi hv
    rw [wX_enterBlock_7]; dsimp only
    have ci : (nI i).toNatClampNeg = i := nI_clamp (by omega)
    have vi : vp_in (nI i) 8 := vp_in_nI (by omega) (by omega)
    obtain ⟨r, hr, er⟩ := hho i (by omega)
    rw [ct, ci]
    refine br_f (nI_ge (b := 8) (by omega) (by omega)) ⟨vt, xh_has (by omega) (fun g => nm_r (nI_1 i) (ih (i + 1) rg (by omega) (fun v hv' g2 => ?_))) (fun g => ⟨vi, vi, by rw [er]; exact vp_in_nI (by omega) (by omega), nm_e (nm_r (nI_1 i) (ih (i + 1) _ (by omega) (fun v hv' g2 => ?_)))⟩)⟩
    · by_cases e : v = i
      · subst e; exact absurd g2 g
      · exact hv v (by omega) g2
    · by_cases e : v = i
      · subst e; rw [pk_us]
      · obtain ⟨r', hr', er'⟩ := hho v (by omega)
        have ne : (xho v).toNatClampNeg ≠ (xho i).toNatClampNeg := by
          intro z
          rw [er, er', nI_clamp (by omega), nI_clamp (by omega)] at z
          exact hds v i (by omega) (by omega) g2 g (by rw [er, er', z])
        rw [pk_un ne]
        exact hv v (by omega) g2
theorem xn_enter {post : SX → Prop} {t C : Nat} (hC : C ≤ 8) (ht : t < C) (hm : hm_i xli C 8 xho) (h : ∀ rg, (∀ v, v < 8 → bt (xli t) v = true → rg (xho v).toNatClampNeg = xla v) → post (xal, xmu, xmt, xsa, xmo, xcl, nI t, xop, xfd, xfa, xfb, xct, xin, xce, xli, xho, xle, xbl, xis, xen, xun, xsA, xsB, xde, xex, xcu, xdp, xhe, xuf, xlu, xvr, xhu, rg, xuo, xla)) : wpX_enterBlock post (xal, xmu, xmt, xsa, xmo, xcl, xat, xop, xfd, xfa, xfb, xct, xin, xce, xli, xho, xle, xbl, xis, xen, xun, xsA, xsB, xde, xex, xcu, xdp, xhe, xuf, xlu, xvr, xhu, xrg, xuo, xla) (nI t) :=
  ⟨9, xn_7 (xat := nI t) (by omega) (fun x hx => by obtain ⟨r, hr, e⟩ := hm.1 x hx; exact ⟨r, by omega, e⟩) (fun u w huw hw g1 g2 => hm.2 u w huw hw ⟨t, ht, g1, g2⟩) h 8 0 xrg (by omega) (fun v hv => absurd hv (by omega))⟩
theorem xb_81 {post : SX → Prop} {b C : Nat} {z0 : Int32} (hC : C ≤ 8) (hb : b < C) (htg : pd_tg xfa xfb C) (hm : hm_i xli C 8 xho)
    (h2 : xop (b * 9 + 8) = 2 → post (xal, xmu, xmt, xsa, 3, xcl, xat, xop, xfd, xfa, xfb, xct, xin, xce, xli, xho, xle, xbl, xis, xen, xun, xsA, xsB, xde, xex, xcu, xdp, xhe, xuf, xlu, xvr, xhu, xrg, xuo, xla))
    (h1 : ¬ xop (b * 9 + 8) = 2 → ∀ t, t < C → (¬ z0 = 0 → xfa (b * 9 + 8) = nI t) → (z0 = 0 → xfb (b * 9 + 8) = nI t) → ∀ rg, (∀ v, v < 8 → bt (xli t) v = true → rg (xho v).toNatClampNeg = xla v) → post (xal, xmu, xmt, xsa, xmo, xcl, nI t, xop, xfd, xfa, xfb, xct, xin, xce, xli, xho, xle, xbl, xis, xen, xun, xsA, xsB, xde, xex, xcu, xdp, xhe, xuf, xlu, xvr, xhu, rg, xuo, xla)) :
    wX_executeBlock_81 post (nI (b * 9 + 8)) z0 xal xmu xmt xsa xmo xcl xat xop xfd xfa xfb xct xin xce xli xho xle xbl xis xen xun xsA xsB xde xex xcu xdp xhe xuf xlu xvr xhu xrg xuo xla := by
  have ck : (nI (b * 9 + 8)).toNatClampNeg = b * 9 + 8 := nI_clamp (by omega)
  have vk : vp_in (nI (b * 9 + 8)) 72 := vp_in_nI (by omega) (by omega)
  obtain ⟨⟨ta, ha, ea⟩, ⟨tb, hb', eb⟩⟩ := htg b hb
  unfold wX_executeBlock_81
  rw [ck, ea, eb]
  refine ⟨vk, br_c h2 (fun g => br_c (fun gz => ⟨vk, ?_⟩) (fun gz => ⟨vk, ?_⟩))⟩
  · unfold wX_executeBlock_120
    exact xn_enter hC hb' hm (fun rg hrg => h1 g tb hb' (fun z => absurd gz z) (fun _ => eb) rg hrg)
  · unfold wX_executeBlock_120
    exact xn_enter hC ha hm (fun rg hrg => h1 g ta ha (fun _ => ea) (fun z => absurd z gz) rg hrg)
theorem xb_20 {post : SX → Prop} {b : Nat} (hb : b < 8) (hex : ∀ v, v < 8 → xex (b * 8 + v) = -1 ∨ ∃ r, r < 16 ∧ xex (b * 8 + v) = nI r) (hcl : wf_cl xop xfd xfa xfb (b * 9 + 8))
    (h : ∀ la, (∀ v, v < 8 → ∀ r, r < 16 → xex (b * 8 + v) = nI r → la v = xrg r) →
      (xop (b * 9 + 8) = 0 → wX_executeBlock_81 post (nI (b * 9 + 8)) 1 xal xmu xmt xsa xmo xcl xat xop xfd xfa xfb xct xin xce xli xho xle xbl xis xen xun xsA xsB xde xex xcu xdp xhe xuf xlu xvr xhu xrg xuo la) ∧ (¬ xop (b * 9 + 8) = 0 → la (xfd (b * 9 + 8)).toNatClampNeg = 0 → wX_executeBlock_81 post (nI (b * 9 + 8)) 0 xal xmu xmt xsa xmo xcl xat xop xfd xfa xfb xct xin xce xli xho xle xbl xis xen xun xsA xsB xde xex xcu xdp xhe xuf xlu xvr xhu xrg xuo la) ∧ (¬ xop (b * 9 + 8) = 0 → ¬ la (xfd (b * 9 + 8)).toNatClampNeg = 0 → wX_executeBlock_81 post (nI (b * 9 + 8)) 1 xal xmu xmt xsa xmo xcl xat xop xfd xfa xfb xct xin xce xli xho xle xbl xis xen xun xsA xsB xde xex xcu xdp xhe xuf xlu xvr xhu xrg xuo la)) :
    ∀ d i la, i + d = 8 → (∀ v, v < i → ∀ r, r < 16 → xex (b * 8 + v) = nI r → la v = xrg r) → wX_executeBlock_20 post (nI b) (nI (b * 9 + 8)) xal xmu xmt xsa xmo xcl xat (d + 1) (nI i) xop xfd xfa xfb xct xin xce xli xho xle xbl xis xen xun xsA xsB xde xex xcu xdp xhe xuf xlu xvr xhu xrg xuo la := by
  intro d
  have ck : (nI (b * 9 + 8)).toNatClampNeg = b * 9 + 8 := nI_clamp (by omega)
  have vk : vp_in (nI (b * 9 + 8)) 72 := vp_in_nI (by omega) (by omega)
  induction d with
  | zero =>
    intro i la hi hv
    rw [wX_executeBlock_20]; dsimp only; rw [ck]
    have e : i = 8 := by omega
    subst e
    obtain ⟨q1, q2, q3⟩ := h la hv
    obtain ⟨_, ⟨dd, hd, ed⟩, _⟩ := hcl
    refine br_t (nI_le (a := 8) (by omega) (by omega)) ⟨vk, br_c (fun g => ?_) (fun g => ⟨vk, by rw [ed]; exact vp_in_nI hd (by omega), br_c (fun g2 => q2 g g2) (fun g2 => ?_)⟩)⟩
    · unfold wX_executeBlock_76; exact q1 g
    · unfold wX_executeBlock_76; exact q3 g g2
  | succ d ih =>
    intro i la hi hv
    rw [wX_executeBlock_20]; dsimp only
    have ci : (nI i).toNatClampNeg = i := nI_clamp (by omega)
    have vi : vp_in (nI i) 8 := vp_in_nI (by omega) (by omega)
    rw [na_8, nI_clamp (show b * 8 + i < 2 ^ 31 by omega), ci]
    refine br_f (nI_ge (b := 8) (by omega) (by omega)) ⟨vp_in_nI (by omega) (by omega), xh_readPort (fun e => ⟨vi, nm_e (nm_r (nI_1 i) (ih (i + 1) _ (by omega) (fun v hv' r hr er => ?_)))⟩) (fun r0 hr0 e => ⟨vi, nm_e (nm_r (nI_1 i) (ih (i + 1) _ (by omega) (fun v hv' r hr er => ?_)))⟩) (hex i (by omega))⟩
    · by_cases g : v = i
      · subst g
        rw [e] at er; exact absurd er (bg_m1 (by omega))
      · rw [pk_un g]; exact hv v (by omega) r hr er
    · by_cases g : v = i
      · subst g
        rw [pk_us, na_in (e.symm.trans er) (by omega) (by omega)]
      · rw [pk_un g]; exact hv v (by omega) r hr er
theorem xb_exec {post : SX → Prop} {b C a m T : Nat} {V : Nat → Int32} (hb : b < C) (hw : wf_al xop xfd xfa xfb xct C) (hT : 1 ≤ T) (hcm : cm_p xop xfd xfa xfb xct C a m T xli xho xle xbl xis xen xun xsA xsB xde xex)
    (hv : ∀ v, v < 8 → bt (xli b) v = true → xrg (xho v).toNatClampNeg = V v)
    (h2 : xop (b * 9 + 8) = 2 → ∀ sa rg uo la, la (xfd (b * 9 + 8)).toNatClampNeg = (pd_ex xop xfd xfa xfb b V xce (pd_n xct b)).1 (xfd (b * 9 + 8)).toNatClampNeg → post (xal, xmu, xmt, sa, 3, xcl, nI b, xop, xfd, xfa, xfb, xct, xin, (pd_ex xop xfd xfa xfb b V xce (pd_n xct b)).2, xli, xho, xle, xbl, xis, xen, xun, xsA, xsB, xde, xex, xcu, xdp, xhe, xuf, xlu, xvr, xhu, rg, uo, la))
    (h1 : ¬ xop (b * 9 + 8) = 2 → ∀ t, t < C → ((xop (b * 9 + 8) = 0 ∨ ¬ (pd_ex xop xfd xfa xfb b V xce (pd_n xct b)).1 (xfd (b * 9 + 8)).toNatClampNeg = 0) → xfa (b * 9 + 8) = nI t) → (¬ xop (b * 9 + 8) = 0 → (pd_ex xop xfd xfa xfb b V xce (pd_n xct b)).1 (xfd (b * 9 + 8)).toNatClampNeg = 0 → xfb (b * 9 + 8) = nI t) →
      ∀ sa rg uo la, (∀ v, v < 8 → bt (xli t) v = true → rg (xho v).toNatClampNeg = (pd_ex xop xfd xfa xfb b V xce (pd_n xct b)).1 v) → post (xal, xmu, xmt, sa, xmo, xcl, nI t, xop, xfd, xfa, xfb, xct, xin, (pd_ex xop xfd xfa xfb b V xce (pd_n xct b)).2, xli, xho, xle, xbl, xis, xen, xun, xsA, xsB, xde, xex, xcu, xdp, xhe, xuf, xlu, xvr, xhu, rg, uo, la)) :
    wpX_executeBlock post (xal, xmu, xmt, xsa, xmo, xcl, nI b, xop, xfd, xfa, xfb, xct, xin, xce, xli, xho, xle, xbl, xis, xen, xun, xsA, xsB, xde, xex, xcu, xdp, xhe, xuf, xlu, xvr, xhu, xrg, xuo, xla) := by
  obtain ⟨hC, hct, hop, hcl⟩ := hw
  obtain ⟨hC1, htg, hl, hm, hce, hle⟩ := hcm
  obtain ⟨hn, en⟩ := hct b (by omega)
  have w := hop b (by omega)
  have wc := hcl b hb
  obtain ⟨I, E, U, L, R, lk, lex, ⟨ebl, hL⟩, hR8, hR, ht, hd, hu, hr⟩ := hce b hb
  have tls : ∀ x c, x < 8 → ce_us (lm_m xli) xop xfd xfa xfb b (pd_n xct b) L I x c → bt (xli b) x = true := fun x c hx us => us_lv hC hb rfl hn htg w hl us hx
  unfold wpX_executeBlock
  refine nm_r (na_e b) (xe_drive (xat := nI b) (V := V) (n := pd_n xct b) (I := I) (E := E) (U := U) (R := R) (L := L) (T := T) en ebl ⟨⟨by omega, hn, hL, hT⟩, w, lk, hR, ht, hd, hu, hr⟩ (fun x c hx us => by rw [hR8 x hx]; exact hv x hx (tls x c hx us)) (fun sa rg uo hrg => ?_))
  dsimp only
  have cn : ∀ v, v < 8 → pd_cu xop xfd b (pd_n xct b) v < 8 + pd_n xct b := fun v hv => cu_lt hv _
  refine ⟨9, xb_20 (xat := nI b) (xsa := sa) (xrg := rg) (xuo := uo) (by omega) (fun v hv => by rw [lex v hv]; exact hR _ (cn v hv)) wc (fun la hla => ?_) 8 0 xla (by omega) (fun v hv => absurd hv (by omega))⟩
  have ndv : ∀ v, v < 8 → pd_nd (lm_m xli) xop xfd xfa xfb b v → la v = (pd_ex xop xfd xfa xfb b V xce (pd_n xct b)).1 v := by
    intro v hv8 hnd
    obtain ⟨⟨r, hr16, er⟩, _⟩ := hr _ L (Or.inr (Or.inr ⟨v, hv8, hnd, rfl, rfl⟩))
    have t := hrg v hv8 hnd
    rw [er, nI_clamp (by omega)] at t
    rw [hla v hv8 r hr16 (by rw [lex v hv8, er]), t]
  obtain ⟨hk, ⟨dd, hdd, ed⟩, _, _, _, _⟩ := wc
  have eD : (xfd (b * 9 + 8)).toNatClampNeg = dd := by rw [ed, nI_clamp (by omega)]
  have laD : ¬ xop (b * 9 + 8) = 0 → la (xfd (b * 9 + 8)).toNatClampNeg = (pd_ex xop xfd xfa xfb b V xce (pd_n xct b)).1 (xfd (b * 9 + 8)).toNatClampNeg := by
    intro g
    rw [eD]
    exact ndv dd hdd (Or.inl ⟨g, ed⟩)
  have fin : ∀ z0 : Int32, ((xop (b * 9 + 8) = 0 ∨ ¬ la (xfd (b * 9 + 8)).toNatClampNeg = 0) → ¬ z0 = 0) → (¬ xop (b * 9 + 8) = 0 → la (xfd (b * 9 + 8)).toNatClampNeg = 0 → z0 = 0) → wX_executeBlock_81 post (nI (b * 9 + 8)) z0 xal xmu xmt sa xmo xcl (nI b) xop xfd xfa xfb xct xin ((pd_ex xop xfd xfa xfb b V xce (pd_n xct b)).2) xli xho xle xbl xis xen xun xsA xsB xde xex xcu xdp xhe xuf xlu xvr xhu rg uo la := by
    intro z0 z1 z2
    refine xb_81 hC hb htg hm (fun g => h2 g sa rg uo la (laD (by rw [g]; decide))) (fun g t ht1 e1 e2 rg' hrg' => h1 g t ht1 (fun z => e1 (z1 ?_)) (fun y z => e2 (z2 y ?_)) sa rg' uo la (fun v hv8 hbt => ?_))
    · by_cases y : xop (b * 9 + 8) = 0
      · exact Or.inl y
      · exact Or.inr (by rw [laD y]; exact z.resolve_left y)
    · rw [laD y]; exact z
    · rw [hrg' v hv8 hbt]
      apply ndv v hv8
      by_cases y : z0 = 0
      · have y0 : ¬ xop (b * 9 + 8) = 0 := fun q => z1 (Or.inl q) y
        have y1 : xop (b * 9 + 8) = 1 := by
          rcases hk with k | k | k
          · exact absurd k y0
          · exact k
          · exact absurd k g
        exact Or.inr (Or.inr ⟨y1, by rw [e2 y, nI_clamp (by omega)]; exact hbt⟩)
      · exact Or.inr (Or.inl ⟨g, by rw [e1 y, nI_clamp (by omega)]; exact hbt⟩)
  refine ⟨fun g => fin 1 (fun _ => by decide) (fun z => absurd g z), fun g g2 => fin 0 (fun z => ?_) (fun _ _ => rfl), fun g g2 => fin 1 (fun _ => by decide) (fun _ z => absurd z g2)⟩
  rcases z with z | z
  · exact absurd z g
  · exact absurd g2 z
end P20
end
section
section P21
/-! the reference's step (printed by genstep.py) -/
theorem or_2 {x y : Int32} {m : Nat → Int32} : pd_or 2 x y m = x + y := by
  unfold pd_or; rw [if_pos rfl]
theorem or_3 {x y : Int32} {m : Nat → Int32} : pd_or 3 x y m = x - y := by
  unfold pd_or; rw [if_neg (by decide), if_pos rfl]
theorem or_4 {x y : Int32} {m : Nat → Int32} : pd_or 4 x y m = x * y := by
  unfold pd_or; rw [if_neg (by decide), if_neg (by decide), if_pos rfl]
theorem or_5 {x y : Int32} {m : Nat → Int32} : pd_or 5 x y m = x &&& y := by
  unfold pd_or; rw [if_neg (by decide), if_neg (by decide), if_neg (by decide), if_pos rfl]
theorem or_6 {x y : Int32} {m : Nat → Int32} : pd_or 6 x y m = x ||| y := by
  unfold pd_or; rw [if_neg (by decide), if_neg (by decide), if_neg (by decide), if_neg (by decide), if_pos rfl]
theorem or_7 {x y : Int32} {m : Nat → Int32} : pd_or 7 x y m = x ^^^ y := by
  unfold pd_or; rw [if_neg (by decide), if_neg (by decide), if_neg (by decide), if_neg (by decide), if_neg (by decide), if_pos rfl]
theorem or_8 {x y : Int32} {m : Nat → Int32} : pd_or 8 x y m = x >>> ((y &&& 31) &&& 31) := by
  unfold pd_or; rw [if_neg (by decide), if_neg (by decide), if_neg (by decide), if_neg (by decide), if_neg (by decide), if_neg (by decide), if_pos rfl]
theorem or_9 {x y : Int32} {m : Nat → Int32} : pd_or 9 x y m = if y ≤ x then 0 else 1 := by
  unfold pd_or; rw [if_neg (by decide), if_neg (by decide), if_neg (by decide), if_neg (by decide), if_neg (by decide), if_neg (by decide), if_neg (by decide), if_pos rfl]
theorem or_10 {x y : Int32} {m : Nat → Int32} : pd_or 10 x y m = if x = y then 1 else 0 := by
  unfold pd_or; rw [if_neg (by decide), if_neg (by decide), if_neg (by decide), if_neg (by decide), if_neg (by decide), if_neg (by decide), if_neg (by decide), if_neg (by decide), if_pos rfl]
variable {ycl yph yat yal ymu ymt : Int32} {yco ykl yct yin yce yva : Nat → Int32}
theorem yo_1 {post : SY → Prop} {x y : Int32} {d : Nat} (hd : d < 8) (h : post (ycl, yph, yat, yal, ymu, ymt, yco, ykl, yct, yin, yce, yva)) : wY_step_93 post 1 (nI d) x y ycl yph yat yal ymu ymt yco ykl yct yin yce yva := by
  have cd : (nI d).toNatClampNeg = d := nI_clamp (by omega)
  have vd : vp_in (nI d) 8 := vp_in_nI hd (by omega)
  refine br_f (by decide) ?_
  refine br_f (by decide) ?_
  refine br_f (by decide) ?_
  refine br_f (by decide) ?_
  refine br_f (by decide) ?_
  refine br_f (by decide) ?_
  refine br_f (by decide) ?_
  refine br_f (by decide) ?_
  refine br_f (by decide) ?_
  refine br_f (by decide) ?_
  exact br_f (by decide) h
theorem yo_2 {post : SY → Prop} {x y : Int32} {d : Nat} (hd : d < 8) (h : post (ycl, yph, yat, yal, ymu, ymt, yco, ykl, yct, yin, yce, upd yva d (pd_or 2 x y yce))) : wY_step_93 post 2 (nI d) x y ycl yph yat yal ymu ymt yco ykl yct yin yce yva := by
  have cd : (nI d).toNatClampNeg = d := nI_clamp (by omega)
  have vd : vp_in (nI d) 8 := vp_in_nI hd (by omega)
  rw [or_2] at h
  refine br_t rfl ⟨vd, ?_⟩
  rw [cd]
  refine nm_e ?_
  refine br_f (by decide) ?_
  refine br_f (by decide) ?_
  refine br_f (by decide) ?_
  refine br_f (by decide) ?_
  refine br_f (by decide) ?_
  refine br_f (by decide) ?_
  refine br_f (by decide) ?_
  refine br_f (by decide) ?_
  refine br_f (by decide) ?_
  exact br_f (by decide) h
theorem yo_3 {post : SY → Prop} {x y : Int32} {d : Nat} (hd : d < 8) (h : post (ycl, yph, yat, yal, ymu, ymt, yco, ykl, yct, yin, yce, upd yva d (pd_or 3 x y yce))) : wY_step_93 post 3 (nI d) x y ycl yph yat yal ymu ymt yco ykl yct yin yce yva := by
  have cd : (nI d).toNatClampNeg = d := nI_clamp (by omega)
  have vd : vp_in (nI d) 8 := vp_in_nI hd (by omega)
  rw [or_3] at h
  refine br_f (by decide) ?_
  refine br_t rfl ⟨vd, ?_⟩
  rw [cd]
  refine nm_e ?_
  refine br_f (by decide) ?_
  refine br_f (by decide) ?_
  refine br_f (by decide) ?_
  refine br_f (by decide) ?_
  refine br_f (by decide) ?_
  refine br_f (by decide) ?_
  refine br_f (by decide) ?_
  refine br_f (by decide) ?_
  exact br_f (by decide) h
theorem yo_4 {post : SY → Prop} {x y : Int32} {d : Nat} (hd : d < 8) (h : post (ycl, yph, yat, yal, ymu, ymt, yco, ykl, yct, yin, yce, upd yva d (pd_or 4 x y yce))) : wY_step_93 post 4 (nI d) x y ycl yph yat yal ymu ymt yco ykl yct yin yce yva := by
  have cd : (nI d).toNatClampNeg = d := nI_clamp (by omega)
  have vd : vp_in (nI d) 8 := vp_in_nI hd (by omega)
  rw [or_4] at h
  refine br_f (by decide) ?_
  refine br_f (by decide) ?_
  refine br_t rfl ⟨vd, ?_⟩
  rw [cd]
  refine nm_e ?_
  refine br_f (by decide) ?_
  refine br_f (by decide) ?_
  refine br_f (by decide) ?_
  refine br_f (by decide) ?_
  refine br_f (by decide) ?_
  refine br_f (by decide) ?_
  refine br_f (by decide) ?_
  exact br_f (by decide) h
theorem yo_5 {post : SY → Prop} {x y : Int32} {d : Nat} (hd : d < 8) (h : post (ycl, yph, yat, yal, ymu, ymt, yco, ykl, yct, yin, yce, upd yva d (pd_or 5 x y yce))) : wY_step_93 post 5 (nI d) x y ycl yph yat yal ymu ymt yco ykl yct yin yce yva := by
  have cd : (nI d).toNatClampNeg = d := nI_clamp (by omega)
  have vd : vp_in (nI d) 8 := vp_in_nI hd (by omega)
  rw [or_5] at h
  refine br_f (by decide) ?_
  refine br_f (by decide) ?_
  refine br_f (by decide) ?_
  refine br_t rfl ⟨vd, ?_⟩
  rw [cd]
  refine nm_e ?_
  refine br_f (by decide) ?_
  refine br_f (by decide) ?_
  refine br_f (by decide) ?_
  refine br_f (by decide) ?_
  refine br_f (by decide) ?_
  refine br_f (by decide) ?_
  exact br_f (by decide) h
theorem yo_6 {post : SY → Prop} {x y : Int32} {d : Nat} (hd : d < 8) (h : post (ycl, yph, yat, yal, ymu, ymt, yco, ykl, yct, yin, yce, upd yva d (pd_or 6 x y yce))) : wY_step_93 post 6 (nI d) x y ycl yph yat yal ymu ymt yco ykl yct yin yce yva := by
  have cd : (nI d).toNatClampNeg = d := nI_clamp (by omega)
  have vd : vp_in (nI d) 8 := vp_in_nI hd (by omega)
  rw [or_6] at h
  refine br_f (by decide) ?_
  refine br_f (by decide) ?_
  refine br_f (by decide) ?_
  refine br_f (by decide) ?_
  refine br_t rfl ⟨vd, ?_⟩
  rw [cd]
  refine nm_e ?_
  refine br_f (by decide) ?_
  refine br_f (by decide) ?_
  refine br_f (by decide) ?_
  refine br_f (by decide) ?_
  refine br_f (by decide) ?_
  exact br_f (by decide) h
theorem yo_7 {post : SY → Prop} {x y : Int32} {d : Nat} (hd : d < 8) (h : post (ycl, yph, yat, yal, ymu, ymt, yco, ykl, yct, yin, yce, upd yva d (pd_or 7 x y yce))) : wY_step_93 post 7 (nI d) x y ycl yph yat yal ymu ymt yco ykl yct yin yce yva := by
  have cd : (nI d).toNatClampNeg = d := nI_clamp (by omega)
  have vd : vp_in (nI d) 8 := vp_in_nI hd (by omega)
  rw [or_7] at h
  refine br_f (by decide) ?_
  refine br_f (by decide) ?_
  refine br_f (by decide) ?_
  refine br_f (by decide) ?_
  refine br_f (by decide) ?_
  refine br_t rfl ⟨vd, ?_⟩
  rw [cd]
  refine nm_e ?_
  refine br_f (by decide) ?_
  refine br_f (by decide) ?_
  refine br_f (by decide) ?_
  refine br_f (by decide) ?_
  exact br_f (by decide) h
theorem yo_8 {post : SY → Prop} {x y : Int32} {d : Nat} (hd : d < 8) (h : post (ycl, yph, yat, yal, ymu, ymt, yco, ykl, yct, yin, yce, upd yva d (pd_or 8 x y yce))) : wY_step_93 post 8 (nI d) x y ycl yph yat yal ymu ymt yco ykl yct yin yce yva := by
  have cd : (nI d).toNatClampNeg = d := nI_clamp (by omega)
  have vd : vp_in (nI d) 8 := vp_in_nI hd (by omega)
  rw [or_8] at h
  refine br_f (by decide) ?_
  refine br_f (by decide) ?_
  refine br_f (by decide) ?_
  refine br_f (by decide) ?_
  refine br_f (by decide) ?_
  refine br_f (by decide) ?_
  refine br_t rfl ⟨vd, ?_⟩
  rw [cd]
  refine nm_e ?_
  refine br_f (by decide) ?_
  refine br_f (by decide) ?_
  refine br_f (by decide) ?_
  exact br_f (by decide) h
theorem yo_9 {post : SY → Prop} {x y : Int32} {d : Nat} (hd : d < 8) (h : post (ycl, yph, yat, yal, ymu, ymt, yco, ykl, yct, yin, yce, upd yva d (pd_or 9 x y yce))) : wY_step_93 post 9 (nI d) x y ycl yph yat yal ymu ymt yco ykl yct yin yce yva := by
  have cd : (nI d).toNatClampNeg = d := nI_clamp (by omega)
  have vd : vp_in (nI d) 8 := vp_in_nI hd (by omega)
  rw [or_9] at h
  refine br_f (by decide) ?_
  refine br_f (by decide) ?_
  refine br_f (by decide) ?_
  refine br_f (by decide) ?_
  refine br_f (by decide) ?_
  refine br_f (by decide) ?_
  refine br_f (by decide) ?_
  refine br_t rfl (br_c (fun g => ⟨vd, ?_⟩) (fun g => ⟨vd, ?_⟩))
  · rw [if_pos g] at h
    rw [cd]
    refine nm_e ?_
    refine br_f (by decide) ?_
    refine br_f (by decide) ?_
    exact br_f (by decide) h
  · rw [if_neg g] at h
    rw [cd]
    refine nm_e ?_
    refine br_f (by decide) ?_
    refine br_f (by decide) ?_
    exact br_f (by decide) h
theorem yo_10 {post : SY → Prop} {x y : Int32} {d : Nat} (hd : d < 8) (h : post (ycl, yph, yat, yal, ymu, ymt, yco, ykl, yct, yin, yce, upd yva d (pd_or 10 x y yce))) : wY_step_93 post 10 (nI d) x y ycl yph yat yal ymu ymt yco ykl yct yin yce yva := by
  have cd : (nI d).toNatClampNeg = d := nI_clamp (by omega)
  have vd : vp_in (nI d) 8 := vp_in_nI hd (by omega)
  rw [or_10] at h
  refine br_f (by decide) ?_
  refine br_f (by decide) ?_
  refine br_f (by decide) ?_
  refine br_f (by decide) ?_
  refine br_f (by decide) ?_
  refine br_f (by decide) ?_
  refine br_f (by decide) ?_
  refine br_f (by decide) ?_
  refine br_t rfl (br_c (fun g => ⟨vd, ?_⟩) (fun g => ⟨vd, ?_⟩))
  · rw [if_pos g] at h
    rw [cd]
    refine nm_e ?_
    refine br_f (by decide) ?_
    exact br_f (by decide) h
  · rw [if_neg g] at h
    rw [cd]
    refine nm_e ?_
    refine br_f (by decide) ?_
    exact br_f (by decide) h
theorem yo_11 {post : SY → Prop} {x y : Int32} {d : Nat} (hd : d < 8) (h : post (ycl, yph, yat, yal, ymu, ymt, yco, ykl, yct, yin, yce, upd yva d (pd_or 11 x y yce))) : wY_step_93 post 11 (nI d) x y ycl yph yat yal ymu ymt yco ykl yct yin yce yva := by
  have cd : (nI d).toNatClampNeg = d := nI_clamp (by omega)
  have vd : vp_in (nI d) 8 := vp_in_nI hd (by omega)
  rw [or_11] at h
  refine br_f (by decide) ?_
  refine br_f (by decide) ?_
  refine br_f (by decide) ?_
  refine br_f (by decide) ?_
  refine br_f (by decide) ?_
  refine br_f (by decide) ?_
  refine br_f (by decide) ?_
  refine br_f (by decide) ?_
  refine br_f (by decide) ?_
  refine br_t rfl ⟨pk_andIn x 3 (by decide) (by decide), vd, ?_⟩
  rw [cd]
  refine nm_e ?_
  exact br_f (by decide) h
theorem yo_12 {post : SY → Prop} {x y : Int32} {d : Nat} (hd : d < 8) (h : post (ycl, yph, yat, yal, ymu, ymt, yco, ykl, yct, yin, upd yce (x &&& 7).toNatClampNeg y, yva)) : wY_step_93 post 12 (nI d) x y ycl yph yat yal ymu ymt yco ykl yct yin yce yva := by
  have cd : (nI d).toNatClampNeg = d := nI_clamp (by omega)
  have vd : vp_in (nI d) 8 := vp_in_nI hd (by omega)
  refine br_f (by decide) ?_
  refine br_f (by decide) ?_
  refine br_f (by decide) ?_
  refine br_f (by decide) ?_
  refine br_f (by decide) ?_
  refine br_f (by decide) ?_
  refine br_f (by decide) ?_
  refine br_f (by decide) ?_
  refine br_f (by decide) ?_
  refine br_f (by decide) ?_
  exact br_t rfl ⟨pk_andIn x 3 (by decide) (by decide), nm_e h⟩
/-- the two sources agree -/
def cr_o (o D A B : Nat → Int32) (b i : Nat) (co : Nat → Int32) : Prop :=
  co ((b * 8 + i) * 4) = o (b * 9 + i) ∧ co ((b * 8 + i) * 4 + 1) = D (b * 9 + i) ∧ co ((b * 8 + i) * 4 + 2) = A (b * 9 + i) ∧ co ((b * 8 + i) * 4 + 3) = B (b * 9 + i)
def cr_k (o D A B : Nat → Int32) (b : Nat) (kl : Nat → Int32) : Prop :=
  kl (b * 4) = o (b * 9 + 8) ∧ kl (b * 4 + 1) = D (b * 9 + 8) ∧ kl (b * 4 + 2) = A (b * 9 + 8) ∧ kl (b * 4 + 3) = B (b * 9 + 8)
theorem na_c (b i : Nat) : (nI b * 8 + nI i) * 4 = nI ((b * 8 + i) * 4) := by
  rw [na_8]; exact pk_mul (b * 8 + i) 4
theorem na_k (b : Nat) : nI b * 4 = nI (b * 4) := pk_mul b 4
theorem na_1 (k : Nat) : nI k + 1 = nI (k + 1) := nI_1 k
theorem na_2 (k : Nat) : nI k + 2 = nI (k + 2) := nI_add k 2
theorem na_3 (k : Nat) : nI k + 3 = nI (k + 3) := nI_add k 3
theorem ys_step {post : SY → Prop} {o D A B : Nat → Int32} {b i : Nat} (hb : b < 8) (hi : i < 8) (hw : wf_op o D A B (b * 9 + i)) (hc : cr_o o D A B b i yco)
    (h : post (ycl, yph, yat, yal, ymu, ymt, yco, ykl, yct, yin, if o (b * 9 + i) = 12 then upd yce (pd_x o A (b * 9 + i) yva &&& 7).toNatClampNeg (pd_y B (b * 9 + i) yva) else yce, if o (b * 9 + i) = 12 then yva else upd yva (D (b * 9 + i)).toNatClampNeg (pd_r o A B (b * 9 + i) yva yce))) : wpY_step post (ycl, yph, yat, yal, ymu, ymt, yco, ykl, yct, yin, yce, yva) (nI b) (nI i) := by
  obtain ⟨⟨q, hq, eq⟩, ⟨d, hd, ed⟩, hA, ⟨c, hc8, ec⟩⟩ := hw
  obtain ⟨c0, c1, c2, c3⟩ := hc
  have k0 : (nI ((b * 8 + i) * 4)).toNatClampNeg = (b * 8 + i) * 4 := nI_clamp (by omega)
  have k1 : (nI ((b * 8 + i) * 4 + 1)).toNatClampNeg = (b * 8 + i) * 4 + 1 := nI_clamp (by omega)
  have k2 : (nI ((b * 8 + i) * 4 + 2)).toNatClampNeg = (b * 8 + i) * 4 + 2 := nI_clamp (by omega)
  have k3 : (nI ((b * 8 + i) * 4 + 3)).toNatClampNeg = (b * 8 + i) * 4 + 3 := nI_clamp (by omega)
  have v0 : vp_in (nI ((b * 8 + i) * 4)) 256 := vp_in_nI (by omega) (by omega)
  have v1 : vp_in (nI ((b * 8 + i) * 4 + 1)) 256 := vp_in_nI (by omega) (by omega)
  have v2 : vp_in (nI ((b * 8 + i) * 4 + 2)) 256 := vp_in_nI (by omega) (by omega)
  have v3 : vp_in (nI ((b * 8 + i) * 4 + 3)) 256 := vp_in_nI (by omega) (by omega)
  have vd : vp_in (nI d) 8 := vp_in_nI hd (by omega)
  have cd : (nI d).toNatClampNeg = d := nI_clamp (by omega)
  unfold wpY_step
  refine nm_r (na_c b i) ?_
  rw [na_1, na_2, na_3, k0, k1, k2, k3, c0, c1, c2, c3, ed]
  rw [ed, cd] at h
  have go : ¬ o (b * 9 + i) = 0 → ∀ q : Int32, o (b * 9 + i) = q → ((q = 1 → (∀ va, va = upd yva d (pd_x o A (b * 9 + i) yva) → wY_step_93 post q (nI d) (pd_x o A (b * 9 + i) yva) (pd_y B (b * 9 + i) yva) ycl yph yat yal ymu ymt yco ykl yct yin yce va)) ∧ (¬ q = 1 → wY_step_93 post q (nI d) (pd_x o A (b * 9 + i) yva) (pd_y B (b * 9 + i) yva) ycl yph yat yal ymu ymt yco ykl yct yin yce yva)) →
      (vp_in (A (b * 9 + i)) 8 ∧ ∀ x6 : Int32, x6 = yva (A (b * 9 + i)).toNatClampNeg → (vp_in (nI ((b * 8 + i) * 4 + 3)) 256 ∧ (vp_in (B (b * 9 + i)) 8 ∧ ∀ x7 : Int32, x7 = yva (B (b * 9 + i)).toNatClampNeg → ((q = 1 → (vp_in (nI d) 8 ∧ ∀ va, va = upd yva (nI d).toNatClampNeg x6 → wY_step_93 post q (nI d) x6 x7 ycl yph yat yal ymu ymt yco ykl yct yin yce va)) ∧ (¬ q = 1 → wY_step_93 post q (nI d) x6 x7 ycl yph yat yal ymu ymt yco ykl yct yin yce yva))))) := by
    intro g q eq' hq'
    obtain ⟨a, ha, ea⟩ := hA g
    have ex : yva (A (b * 9 + i)).toNatClampNeg = pd_x o A (b * 9 + i) yva := by unfold pd_x; rw [if_neg g]
    refine ⟨by rw [ea]; exact vp_in_nI ha (by omega), nm_r ex ⟨v3, by rw [ec]; exact vp_in_nI hc8 (by omega), nm_r (e' := pd_y B (b * 9 + i) yva) rfl ⟨fun z => ⟨vd, by rw [cd]; exact hq'.1 z⟩, hq'.2⟩⟩⟩
  have cs : q = 0 ∨ q = 1 ∨ q = 2 ∨ q = 3 ∨ q = 4 ∨ q = 5 ∨ q = 6 ∨ q = 7 ∨ q = 8 ∨ q = 9 ∨ q = 10 ∨ q = 11 ∨ q = 12 := by omega
  rcases cs with rfl | rfl | rfl | rfl | rfl | rfl | rfl | rfl | rfl | rfl | rfl | rfl | rfl
  · have e : o (b * 9 + i) = 0 := eq
    rw [e] at h
    rw [if_neg (by decide), if_neg (by decide)] at h
    have er : pd_r o A B (b * 9 + i) yva yce = A (b * 9 + i) := by
      unfold pd_r pd_x; rw [e, or_0, if_pos rfl]
    rw [er] at h
    refine ⟨v0, nm_r e ⟨v1, nm_e (br_t rfl ⟨v2, vd, ?_⟩)⟩⟩
    rw [cd]
    exact nm_e h
  · have e : o (b * 9 + i) = 1 := eq
    have g : ¬ o (b * 9 + i) = 0 := by rw [e]; decide
    refine ⟨v0, nm_r e ⟨v1, nm_e (br_f (by decide) ⟨v2, go g 1 e ?_⟩)⟩⟩
    have h2 := h
    rw [e] at h2
    rw [if_neg (by decide), if_neg (by decide)] at h2
    have er : pd_r o A B (b * 9 + i) yva yce = pd_or 1 (pd_x o A (b * 9 + i) yva) (pd_y B (b * 9 + i) yva) yce := by unfold pd_r; rw [e]
    rw [er] at h2
    rw [or_1] at h2
    exact br_t rfl (nm_e (yo_1 hd h2))
  · have e : o (b * 9 + i) = 2 := eq
    have g : ¬ o (b * 9 + i) = 0 := by rw [e]; decide
    refine ⟨v0, nm_r e ⟨v1, nm_e (br_f (by decide) ⟨v2, go g 2 e ?_⟩)⟩⟩
    have h2 := h
    rw [e] at h2
    rw [if_neg (by decide), if_neg (by decide)] at h2
    have er : pd_r o A B (b * 9 + i) yva yce = pd_or 2 (pd_x o A (b * 9 + i) yva) (pd_y B (b * 9 + i) yva) yce := by unfold pd_r; rw [e]
    rw [er] at h2
    exact br_f (by decide) (yo_2 hd h2)
  · have e : o (b * 9 + i) = 3 := eq
    have g : ¬ o (b * 9 + i) = 0 := by rw [e]; decide
    refine ⟨v0, nm_r e ⟨v1, nm_e (br_f (by decide) ⟨v2, go g 3 e ?_⟩)⟩⟩
    have h2 := h
    rw [e] at h2
    rw [if_neg (by decide), if_neg (by decide)] at h2
    have er : pd_r o A B (b * 9 + i) yva yce = pd_or 3 (pd_x o A (b * 9 + i) yva) (pd_y B (b * 9 + i) yva) yce := by unfold pd_r; rw [e]
    rw [er] at h2
    exact br_f (by decide) (yo_3 hd h2)
  · have e : o (b * 9 + i) = 4 := eq
    have g : ¬ o (b * 9 + i) = 0 := by rw [e]; decide
    refine ⟨v0, nm_r e ⟨v1, nm_e (br_f (by decide) ⟨v2, go g 4 e ?_⟩)⟩⟩
    have h2 := h
    rw [e] at h2
    rw [if_neg (by decide), if_neg (by decide)] at h2
    have er : pd_r o A B (b * 9 + i) yva yce = pd_or 4 (pd_x o A (b * 9 + i) yva) (pd_y B (b * 9 + i) yva) yce := by unfold pd_r; rw [e]
    rw [er] at h2
    exact br_f (by decide) (yo_4 hd h2)
  · have e : o (b * 9 + i) = 5 := eq
    have g : ¬ o (b * 9 + i) = 0 := by rw [e]; decide
    refine ⟨v0, nm_r e ⟨v1, nm_e (br_f (by decide) ⟨v2, go g 5 e ?_⟩)⟩⟩
    have h2 := h
    rw [e] at h2
    rw [if_neg (by decide), if_neg (by decide)] at h2
    have er : pd_r o A B (b * 9 + i) yva yce = pd_or 5 (pd_x o A (b * 9 + i) yva) (pd_y B (b * 9 + i) yva) yce := by unfold pd_r; rw [e]
    rw [er] at h2
    exact br_f (by decide) (yo_5 hd h2)
  · have e : o (b * 9 + i) = 6 := eq
    have g : ¬ o (b * 9 + i) = 0 := by rw [e]; decide
    refine ⟨v0, nm_r e ⟨v1, nm_e (br_f (by decide) ⟨v2, go g 6 e ?_⟩)⟩⟩
    have h2 := h
    rw [e] at h2
    rw [if_neg (by decide), if_neg (by decide)] at h2
    have er : pd_r o A B (b * 9 + i) yva yce = pd_or 6 (pd_x o A (b * 9 + i) yva) (pd_y B (b * 9 + i) yva) yce := by unfold pd_r; rw [e]
    rw [er] at h2
    exact br_f (by decide) (yo_6 hd h2)
  · have e : o (b * 9 + i) = 7 := eq
    have g : ¬ o (b * 9 + i) = 0 := by rw [e]; decide
    refine ⟨v0, nm_r e ⟨v1, nm_e (br_f (by decide) ⟨v2, go g 7 e ?_⟩)⟩⟩
    have h2 := h
    rw [e] at h2
    rw [if_neg (by decide), if_neg (by decide)] at h2
    have er : pd_r o A B (b * 9 + i) yva yce = pd_or 7 (pd_x o A (b * 9 + i) yva) (pd_y B (b * 9 + i) yva) yce := by unfold pd_r; rw [e]
    rw [er] at h2
    exact br_f (by decide) (yo_7 hd h2)
  · have e : o (b * 9 + i) = 8 := eq
    have g : ¬ o (b * 9 + i) = 0 := by rw [e]; decide
    refine ⟨v0, nm_r e ⟨v1, nm_e (br_f (by decide) ⟨v2, go g 8 e ?_⟩)⟩⟩
    have h2 := h
    rw [e] at h2
    rw [if_neg (by decide), if_neg (by decide)] at h2
    have er : pd_r o A B (b * 9 + i) yva yce = pd_or 8 (pd_x o A (b * 9 + i) yva) (pd_y B (b * 9 + i) yva) yce := by unfold pd_r; rw [e]
    rw [er] at h2
    exact br_f (by decide) (yo_8 hd h2)
  · have e : o (b * 9 + i) = 9 := eq
    have g : ¬ o (b * 9 + i) = 0 := by rw [e]; decide
    refine ⟨v0, nm_r e ⟨v1, nm_e (br_f (by decide) ⟨v2, go g 9 e ?_⟩)⟩⟩
    have h2 := h
    rw [e] at h2
    rw [if_neg (by decide), if_neg (by decide)] at h2
    have er : pd_r o A B (b * 9 + i) yva yce = pd_or 9 (pd_x o A (b * 9 + i) yva) (pd_y B (b * 9 + i) yva) yce := by unfold pd_r; rw [e]
    rw [er] at h2
    exact br_f (by decide) (yo_9 hd h2)
  · have e : o (b * 9 + i) = 10 := eq
    have g : ¬ o (b * 9 + i) = 0 := by rw [e]; decide
    refine ⟨v0, nm_r e ⟨v1, nm_e (br_f (by decide) ⟨v2, go g 10 e ?_⟩)⟩⟩
    have h2 := h
    rw [e] at h2
    rw [if_neg (by decide), if_neg (by decide)] at h2
    have er : pd_r o A B (b * 9 + i) yva yce = pd_or 10 (pd_x o A (b * 9 + i) yva) (pd_y B (b * 9 + i) yva) yce := by unfold pd_r; rw [e]
    rw [er] at h2
    exact br_f (by decide) (yo_10 hd h2)
  · have e : o (b * 9 + i) = 11 := eq
    have g : ¬ o (b * 9 + i) = 0 := by rw [e]; decide
    refine ⟨v0, nm_r e ⟨v1, nm_e (br_f (by decide) ⟨v2, go g 11 e ?_⟩)⟩⟩
    have h2 := h
    rw [e] at h2
    rw [if_neg (by decide), if_neg (by decide)] at h2
    have er : pd_r o A B (b * 9 + i) yva yce = pd_or 11 (pd_x o A (b * 9 + i) yva) (pd_y B (b * 9 + i) yva) yce := by unfold pd_r; rw [e]
    rw [er] at h2
    exact br_f (by decide) (yo_11 hd h2)
  · have e : o (b * 9 + i) = 12 := eq
    have g : ¬ o (b * 9 + i) = 0 := by rw [e]; decide
    refine ⟨v0, nm_r e ⟨v1, nm_e (br_f (by decide) ⟨v2, go g 12 e ?_⟩)⟩⟩
    rw [e] at h
    rw [if_pos rfl, if_pos rfl] at h
    exact br_f (by decide) (yo_12 hd h)
end P21
end
section
section P22
/-! the relation -/
def rl_M (o D A B ct : Nat → Int32) (C a m T : Nat) (mo at' : Int32) (li ho le bl is en un sA sB de ex rg la va : Nat → Int32) : Prop :=
  cm_p o D A B ct C a m T li ho le bl is en un sA sB de ex ∧
  (mo = 1 ∨ ∃ b, b < C ∧ at' = nI b ∧ ((mo = 2 ∧ ∀ v, v < 8 → bt (li b) v = true → rg (ho v).toNatClampNeg = va v) ∨ (mo = 3 ∧ la (D (b * 9 + 8)).toNatClampNeg = va (D (b * 9 + 8)).toNatClampNeg)))
def rl_C (o D A B ct : Nat → Int32) (C : Nat) (co kl : Nat → Int32) : Prop :=
  wf_al o D A B ct C ∧ (∀ b, b < 8 → ∀ i, i < pd_n ct b → cr_o o D A B b i co) ∧ (∀ b, b < C → cr_k o D A B b kl)
def rl_R (al mu mt mo cl at' : Int32) (o D A B ct li ho le bl is en un sA sB de ex rg la co kl va : Nat → Int32) : Prop :=
  ∃ a m T C : Nat, mp_s al mu mt a m T ∧ cl = nI C ∧ rl_C o D A B ct C co kl ∧ (mo = 0 ∨ rl_M o D A B ct C a m T mo at' li ho le bl is en un sA sB de ex rg la va)
end P22
def i_Rel (k : Nat) (u : SX) (v : SY) : Prop := match u, v with
  | (xal, xmu, xmt, xsa, xmo, xcl, xat, xop, xfd, xfa, xfb, xct, xin, xce, xli, xho, xle, xbl, xis, xen, xun, xsA, xsB, xde, xex, xcu, xdp, xhe, xuf, xlu, xvr, xhu, xrg, xuo, xla), (ycl, yph, yat, yal, ymu, ymt, yco, ykl, yct, yin, yce, yva) => (ycl = xcl ∧ yph = xmo ∧ yat = xat ∧ yal = xal ∧ ymu = xmu ∧ ymt = xmt ∧ yct = xct ∧ yin = xin ∧ yce = xce) ∧
    rl_R xal xmu xmt xmo xcl xat xop xfd xfa xfb xct xli xho xle xbl xis xen xun xsA xsB xde xex xrg xla yco ykl yva
theorem i_up {k : Nat} {u : SX} {v : SY} (h : i_Rel k u v) : i_Rel (k + 5) u v := h
section P22b
theorem rl_el {P : SX → SY → Prop} {k : Nat} {u : SX} {v : SY} (I : i_Rel k u v) (h : ∀ (xal xmu xmt xsa xmo xcl xat : Int32) (xop xfd xfa xfb xct xin xce xli xho xle xbl xis xen xun xsA xsB xde xex xcu xdp xhe xuf xlu xvr xhu xrg xuo xla : Nat → Int32) (yco ykl yva : Nat → Int32), rl_R xal xmu xmt xmo xcl xat xop xfd xfa xfb xct xli xho xle xbl xis xen xun xsA xsB xde xex xrg xla yco ykl yva →
    P (xal, xmu, xmt, xsa, xmo, xcl, xat, xop, xfd, xfa, xfb, xct, xin, xce, xli, xho, xle, xbl, xis, xen, xun, xsA, xsB, xde, xex, xcu, xdp, xhe, xuf, xlu, xvr, xhu, xrg, xuo, xla) (xcl, xmo, xat, xal, xmu, xmt, yco, ykl, xct, xin, xce, yva)) : P u v := by
  obtain ⟨xal, xmu, xmt, xsa, xmo, xcl, xat, xop, xfd, xfa, xfb, xct, xin, xce, xli, xho, xle, xbl, xis, xen, xun, xsA, xsB, xde, xex, xcu, xdp, xhe, xuf, xlu, xvr, xhu, xrg, xuo, xla⟩ := u
  obtain ⟨ycl, yph, yat, yal, ymu, ymt, yco, ykl, yct, yin, yce, yva⟩ := v
  obtain ⟨⟨rfl, rfl, rfl, rfl, rfl, rfl, rfl, rfl, rfl⟩, hR⟩ := I
  exact h _ _ _ _ _ _ _ _ _ _ _ _ _ _ _ _ _ _ _ _ _ _ _ _ _ _ _ _ _ _ _ _ _ _ _ _ _ _ hR
variable {xal xmu xmt xsa xmo xcl xat : Int32} {xop xfd xfa xfb xct xin xce xli xho xle xbl xis xen xun xsA xsB xde xex xcu xdp xhe xuf xlu xvr xhu xrg xuo xla : Nat → Int32}
theorem rl_in {k : Nat} {yco ykl yva : Nat → Int32} (h : rl_R xal xmu xmt xmo xcl xat xop xfd xfa xfb xct xli xho xle xbl xis xen xun xsA xsB xde xex xrg xla yco ykl yva) :
    i_Rel k (xal, xmu, xmt, xsa, xmo, xcl, xat, xop, xfd, xfa, xfb, xct, xin, xce, xli, xho, xle, xbl, xis, xen, xun, xsA, xsB, xde, xex, xcu, xdp, xhe, xuf, xlu, xvr, xhu, xrg, xuo, xla) (xcl, xmo, xat, xal, xmu, xmt, yco, ykl, xct, xin, xce, yva) := ⟨⟨rfl, rfl, rfl, rfl, rfl, rfl, rfl, rfl, rfl⟩, h⟩
end P22b
end
section
section P23
/-! the plain methods -/
def cl_v (p q : Int32) : Int32 := if 1 ≤ p then (if p ≤ q then p else q) else 1
theorem cl_b {A : Int32 → Prop} {p q : Int32} (h : A (cl_v p q)) : ((1 ≤ p → ((p ≤ q → A p) ∧ (¬ p ≤ q → A q))) ∧ (¬ 1 ≤ p → A 1)) := by
  unfold cl_v at h
  refine br_c (fun g => ?_) (fun g => ?_)
  · rw [if_pos g] at h
    refine br_c (fun g2 => ?_) (fun g2 => ?_)
    · rw [if_pos g2] at h; exact h
    · rw [if_neg g2] at h; exact h
  · rw [if_neg g] at h; exact h
theorem cl_i {p q : Int32} {n : Nat} (hq : q.toInt = n) (hn : 1 ≤ n) : ∃ a, 1 ≤ a ∧ a ≤ n ∧ cl_v p q = nI a := by
  unfold cl_v
  have h1 : (1 : Int32).toInt = 1 := by decide
  have hqb := q.toInt_lt
  by_cases g : 1 ≤ p
  · rw [if_pos g]
    rw [Int32.le_iff_toInt_le, h1] at g
    have n0 : ¬ p < 0 := by rw [Int32.lt_iff_toInt_lt, na_0]; omega
    obtain ⟨j, hj, rfl⟩ := nI_of n0
    rw [nI_toInt hj] at g
    by_cases g2 : nI j ≤ q
    · rw [if_pos g2]
      rw [Int32.le_iff_toInt_le, nI_toInt hj] at g2
      exact ⟨j, by omega, by omega, rfl⟩
    · rw [if_neg g2]
      refine ⟨n, hn, Nat.le_refl n, Int32.toInt_inj.mp ?_⟩
      rw [hq, nI_toInt (by omega)]
  · rw [if_neg g]; exact ⟨1, Nat.le_refl 1, hn, rfl⟩
theorem xh_clamp {post : Int32 → Prop} {u : SX} {p q : Int32} (h : post (cl_v p q)) : wpX_clamp post u p q := by
  obtain ⟨_, _, _, _, _, _, _, _, _, _, _, _, _, _, _, _, _, _, _, _, _, _, _, _, _, _, _, _, _, _, _, _, _, _, _⟩ := u
  exact cl_b (A := post) h
theorem yi_init {post : SY → Prop} {p q r : Int32} (h : post (0, 0, 0, cl_v p 3, cl_v q 2, cl_v r 4, (fun _ => 0), (fun _ => 0), (fun _ => 0), (fun _ => 0), (fun _ => 0), (fun _ => 0))) : wpY_init post p q r :=
  cl_b (A := fun z => wY_init_73 post q r z 0 0 0 0 0 0 (fun _ => 0) (fun _ => 0) (fun _ => 0) (fun _ => 0) (fun _ => 0) (fun _ => 0))
    (cl_b (A := fun y => wY_init_96 post r y 0 0 0 (cl_v p 3) 0 0 (fun _ => 0) (fun _ => 0) (fun _ => 0) (fun _ => 0) (fun _ => 0) (fun _ => 0))
      (cl_b (A := fun x => post (0, 0, 0, cl_v p 3, cl_v q 2, x, (fun _ => 0), (fun _ => 0), (fun _ => 0), (fun _ => 0), (fun _ => 0), (fun _ => 0))) h))
end P23
theorem i_vc0 (k0 : Int32) (k1 : Int32) (k2 : Int32) : wpX_init (fun u => wpY_init (fun v => i_Rel 3 u v) k0 k1 k2) k0 k1 k2 := by
  unfold wpX_init
  refine xh_clamp (xh_clamp (xh_clamp (yi_init ?_)))
  obtain ⟨a, a1, a2, ea⟩ := cl_i (p := k0) (q := 3) (n := 3) (by decide) (by omega)
  obtain ⟨m, m1, m2, em⟩ := cl_i (p := k1) (q := 2) (n := 2) (by decide) (by omega)
  obtain ⟨T, t1, t2, eT⟩ := cl_i (p := k2) (q := 4) (n := 4) (by decide) (by omega)
  refine rl_in ⟨a, m, T, 0, ⟨⟨a1, a2, ea⟩, ⟨m1, m2, em⟩, ⟨t1, t2, eT⟩⟩, rfl, ⟨⟨by omega, fun b hb => ⟨Nat.zero_le _, rfl⟩, fun b hb i hi => absurd hi (Nat.not_lt_zero i), fun b hb => absurd hb (Nat.not_lt_zero b)⟩, fun b hb i hi => absurd hi (Nat.not_lt_zero i), fun b hb => absurd hb (Nat.not_lt_zero b)⟩, Or.inl rfl⟩
section P23b
theorem yx_ix {A B : Prop} {p : Int32} (h0 : (p < 0 ∨ 8 ≤ p) → A) (h1 : ∀ j, j < 8 → p = nI j → B) : (p < 0 → A) ∧ (¬ p < 0 → ((p ≤ 7 → B) ∧ (¬ p ≤ 7 → A))) := by
  rcases pk_ix p (n := 8) (by omega) with z | z | ⟨j, hj, e⟩
  · exact br_t z (h0 (Or.inl z))
  · have h7 : (7 : Int32).toInt = 7 := by decide
    have h8 : (nI 8).toInt = 8 := by decide
    have z' := z
    rw [Int32.le_iff_toInt_le, h8] at z'
    exact br_f (by rw [Int32.lt_iff_toInt_lt, na_0]; omega) (br_f (by rw [Int32.le_iff_toInt_le, h7]; omega) (h0 (Or.inr z)))
  · subst e
    exact br_f (nI_pos (by omega)) (br_t (nI_le (b := 7) (by omega) (by omega)) (h1 j hj rfl))
end P23b
theorem i_vc_input {k : Nat} {u : SX} {v : SY} (I : i_Rel k u v) (hk : k + 5 ≤ 2563) (v1 : Int32) (v2 : Int32) : wpX_input (fun r u' => wpY_input (fun r' v' => r' = r ∧ i_Rel (k + 5) u' v') v v1 v2) u v1 v2 := by
  refine rl_el (P := fun u v => wpX_input (fun r u' => wpY_input (fun r' v' => r' = r ∧ i_Rel (k + 5) u' v') v v1 v2) u v1 v2) I (fun xal xmu xmt xsa xmo xcl xat xop xfd xfa xfb xct xin xce xli xho xle xbl xis xen xun xsA xsB xde xex xcu xdp xhe xuf xlu xvr xhu xrg xuo xla yco ykl yva h => ?_)
  unfold wpX_input
  refine xh_isIndex (fun g => yx_ix (fun _ => ⟨rfl, rl_in h⟩) (fun j hj e => ?_)) (fun j hj e => ⟨by rw [e]; exact vp_in_nI hj (by omega), nm_e (yx_ix (fun g => ?_) (fun j' hj' e' => ⟨by rw [e]; exact vp_in_nI hj (by omega), nm_e ⟨rfl, rl_in h⟩⟩))⟩)
  · subst e
    rcases g with g | g
    · exact absurd g (nI_pos (by omega))
    · exact absurd g (nI_ge (b := 8) (by omega) (by omega))
  · subst e
    rcases g with g | g
    · exact absurd g (nI_pos (by omega))
    · exact absurd g (nI_ge (b := 8) (by omega) (by omega))
theorem i_vc_inputOf {k : Nat} {u : SX} {v : SY} (I : i_Rel k u v) (hk : k + 5 ≤ 2563) (v1 : Int32) : wpX_inputOf (fun r => wpY_inputOf (fun r' => r' = r ∧ i_Rel (k + 5) u v) v v1) u v1 := by
  refine rl_el (P := fun u v => wpX_inputOf (fun r => wpY_inputOf (fun r' => r' = r ∧ i_Rel (k + 5) u v) v v1) u v1) I (fun xal xmu xmt xsa xmo xcl xat xop xfd xfa xfb xct xin xce xli xho xle xbl xis xen xun xsA xsB xde xex xcu xdp xhe xuf xlu xvr xhu xrg xuo xla yco ykl yva h => ?_)
  unfold wpX_inputOf
  refine xh_isIndex (fun g => yx_ix (fun _ => ⟨rfl, rl_in h⟩) (fun j hj e => ?_)) (fun j hj e => ⟨by rw [e]; exact vp_in_nI hj (by omega), yx_ix (fun g => ?_) (fun j' hj' e' => ⟨by rw [e]; exact vp_in_nI hj (by omega), ⟨rfl, rl_in h⟩⟩)⟩)
  · subst e
    rcases g with g | g
    · exact absurd g (nI_pos (by omega))
    · exact absurd g (nI_ge (b := 8) (by omega) (by omega))
  · subst e
    rcases g with g | g
    · exact absurd g (nI_pos (by omega))
    · exact absurd g (nI_ge (b := 8) (by omega) (by omega))
theorem i_vc_poke {k : Nat} {u : SX} {v : SY} (I : i_Rel k u v) (hk : k + 5 ≤ 2563) (v1 : Int32) (v2 : Int32) : wpX_poke (fun r u' => wpY_poke (fun r' v' => r' = r ∧ i_Rel (k + 5) u' v') v v1 v2) u v1 v2 := by
  refine rl_el (P := fun u v => wpX_poke (fun r u' => wpY_poke (fun r' v' => r' = r ∧ i_Rel (k + 5) u' v') v v1 v2) u v1 v2) I (fun xal xmu xmt xsa xmo xcl xat xop xfd xfa xfb xct xin xce xli xho xle xbl xis xen xun xsA xsB xde xex xcu xdp xhe xuf xlu xvr xhu xrg xuo xla yco ykl yva h => ?_)
  unfold wpX_poke
  refine xh_isIndex (fun g => yx_ix (fun _ => ⟨rfl, rl_in h⟩) (fun j hj e => ?_)) (fun j hj e => ⟨by rw [e]; exact vp_in_nI hj (by omega), nm_e (yx_ix (fun g => ?_) (fun j' hj' e' => ⟨by rw [e]; exact vp_in_nI hj (by omega), nm_e ⟨rfl, rl_in h⟩⟩))⟩)
  · subst e
    rcases g with g | g
    · exact absurd g (nI_pos (by omega))
    · exact absurd g (nI_ge (b := 8) (by omega) (by omega))
  · subst e
    rcases g with g | g
    · exact absurd g (nI_pos (by omega))
    · exact absurd g (nI_ge (b := 8) (by omega) (by omega))
theorem i_vc_cell {k : Nat} {u : SX} {v : SY} (I : i_Rel k u v) (hk : k + 5 ≤ 2563) (v1 : Int32) : wpX_cell (fun r => wpY_cell (fun r' => r' = r ∧ i_Rel (k + 5) u v) v v1) u v1 := by
  refine rl_el (P := fun u v => wpX_cell (fun r => wpY_cell (fun r' => r' = r ∧ i_Rel (k + 5) u v) v v1) u v1) I (fun xal xmu xmt xsa xmo xcl xat xop xfd xfa xfb xct xin xce xli xho xle xbl xis xen xun xsA xsB xde xex xcu xdp xhe xuf xlu xvr xhu xrg xuo xla yco ykl yva h => ?_)
  unfold wpX_cell
  refine xh_isIndex (fun g => yx_ix (fun _ => ⟨rfl, rl_in h⟩) (fun j hj e => ?_)) (fun j hj e => ⟨by rw [e]; exact vp_in_nI hj (by omega), yx_ix (fun g => ?_) (fun j' hj' e' => ⟨by rw [e]; exact vp_in_nI hj (by omega), ⟨rfl, rl_in h⟩⟩)⟩)
  · subst e
    rcases g with g | g
    · exact absurd g (nI_pos (by omega))
    · exact absurd g (nI_ge (b := 8) (by omega) (by omega))
  · subst e
    rcases g with g | g
    · exact absurd g (nI_pos (by omega))
    · exact absurd g (nI_ge (b := 8) (by omega) (by omega))
theorem i_vc_phase {k : Nat} {u : SX} {v : SY} (I : i_Rel k u v) (hk : k + 5 ≤ 2563) : wpX_phase (fun r => wpY_phase (fun r' => r' = r ∧ i_Rel (k + 5) u v) v) u :=
  rl_el (P := fun u v => wpX_phase (fun r => wpY_phase (fun r' => r' = r ∧ i_Rel (k + 5) u v) v) u) I (fun xal xmu xmt xsa xmo xcl xat xop xfd xfa xfb xct xin xce xli xho xle xbl xis xen xun xsA xsB xde xex xcu xdp xhe xuf xlu xvr xhu xrg xuo xla yco ykl yva h => ⟨rfl, rl_in h⟩)
theorem i_vc_where {k : Nat} {u : SX} {v : SY} (I : i_Rel k u v) (hk : k + 5 ≤ 2563) : wpX_where (fun r => wpY_where (fun r' => r' = r ∧ i_Rel (k + 5) u v) v) u :=
  rl_el (P := fun u v => wpX_where (fun r => wpY_where (fun r' => r' = r ∧ i_Rel (k + 5) u v) v) u) I (fun xal xmu xmt xsa xmo xcl xat xop xfd xfa xfb xct xin xce xli xho xle xbl xis xen xun xsA xsB xde xex xcu xdp xhe xuf xlu xvr xhu xrg xuo xla yco ykl yva h =>
    br_c (fun g => br_t g ⟨rfl, rl_in h⟩) (fun g => br_c (fun g2 => br_f g (br_t g2 ⟨rfl, rl_in h⟩)) (fun g2 => br_f g (br_f g2 ⟨rfl, rl_in h⟩))))
section P23c
/-! clear -/
def cz_f (f : Nat → Int32) : Nat → Nat → Int32
  | 0 => f
  | i + 1 => upd (cz_f f i) i 0
theorem cz_0 {f : Nat → Int32} : ∀ i j, j < i → cz_f f i j = 0 := by
  intro i
  induction i with
  | zero => intro j hj; omega
  | succ i ih =>
    intro j hj
    show upd _ _ _ j = 0
    by_cases e : j = i
    · rw [e, pk_us]
    · rw [pk_un e]; exact ih j (by omega)
variable {xal xmu xmt xsa xmo xcl xat : Int32} {xop xfd xfa xfb xct xin xce xli xho xle xbl xis xen xun xsA xsB xde xex xcu xdp xhe xuf xlu xvr xhu xrg xuo xla : Nat → Int32} {ycl yph yat yal ymu ymt : Int32} {yco ykl yct yin yce yva : Nat → Int32}
theorem xz_2 {post : SX → Prop} (h : post (xal, xmu, xmt, xsa, 0, 0, xat, xop, xfd, xfa, xfb, cz_f xct 8, xin, xce, xli, xho, xle, xbl, xis, xen, xun, xsA, xsB, xde, xex, xcu, xdp, xhe, xuf, xlu, xvr, xhu, xrg, xuo, xla)) : ∀ d i, i + d = 8 → wX_clear_2 post xal xmu xmt xsa xmo xcl xat (d + 1) (nI i) xop xfd xfa xfb (cz_f xct i) xin xce xli xho xle xbl xis xen xun xsA xsB xde xex xcu xdp xhe xuf xlu xvr xhu xrg xuo xla := by
  intro d
  induction d with
  | zero =>
    intro i hi
    rw [wX_clear_2]; dsimp only
    have e : i = 8 := by omega
    subst e
    exact br_t (nI_le (a := 8) (by omega) (by omega)) h
  | succ d ih =>
    intro i hi
    rw [wX_clear_2]; dsimp only; rw [nI_clamp (show i < 2 ^ 31 by omega)]
    exact br_f (nI_ge (b := 8) (by omega) (by omega)) ⟨vp_in_nI (by omega) (by omega), nm_e (nm_r (nI_1 i) (ih (i + 1) (by omega)))⟩
theorem yz_2 {post : SY → Prop} (h : post (0, 0, yat, yal, ymu, ymt, yco, ykl, cz_f yct 8, yin, yce, yva)) : ∀ d i, i + d = 8 → wY_clear_2 post ycl yph yat yal ymu ymt (d + 1) (nI i) yco ykl (cz_f yct i) yin yce yva := by
  intro d
  induction d with
  | zero =>
    intro i hi
    rw [wY_clear_2]; dsimp only
    have e : i = 8 := by omega
    subst e
    exact br_t (nI_le (a := 8) (by omega) (by omega)) h
  | succ d ih =>
    intro i hi
    rw [wY_clear_2]; dsimp only; rw [nI_clamp (show i < 2 ^ 31 by omega)]
    exact br_f (nI_ge (b := 8) (by omega) (by omega)) ⟨vp_in_nI (by omega) (by omega), nm_e (nm_r (nI_1 i) (ih (i + 1) (by omega)))⟩
theorem cz_n {f : Nat → Int32} {b : Nat} (hb : b < 8) : pd_n (cz_f f 8) b = 0 := by
  unfold pd_n; rw [cz_0 8 b hb]; rfl
end P23c
theorem i_vc_clear {k : Nat} {u : SX} {v : SY} (I : i_Rel k u v) (hk : k + 5 ≤ 2563) : wpX_clear (fun u' => wpY_clear (fun v' => i_Rel (k + 5) u' v') v) u := by
  refine rl_el (P := fun u v => wpX_clear (fun u' => wpY_clear (fun v' => i_Rel (k + 5) u' v') v) u) I (fun xal xmu xmt xsa xmo xcl xat xop xfd xfa xfb xct xin xce xli xho xle xbl xis xen xun xsA xsB xde xex xcu xdp xhe xuf xlu xvr xhu xrg xuo xla yco ykl yva h => ?_)
  refine ⟨9, xz_2 (post := fun u' => wpY_clear (fun v' => i_Rel (k + 5) u' v') (xcl, xmo, xat, xal, xmu, xmt, yco, ykl, xct, xin, xce, yva)) ⟨9, yz_2 (rl_in ?_) 8 0 (by omega)⟩ 8 0 (by omega)⟩
  obtain ⟨a, m, T, C, hp, _⟩ := h
  refine ⟨a, m, T, 0, hp, rfl, ⟨⟨by omega, fun b hb => ⟨by rw [cz_n hb]; omega, by rw [cz_n hb, cz_0 8 b hb]; rfl⟩, fun b hb i hi => ?_, fun b hb => absurd hb (Nat.not_lt_zero b)⟩, fun b hb i hi => ?_, fun b hb => absurd hb (Nat.not_lt_zero b)⟩, Or.inl rfl⟩
  · rw [cz_n hb] at hi; omega
  · rw [cz_n hb] at hi; omega
end
section
section P24
/-! compile: the reference's check; start; source -/
variable {xal xmu xmt xsa xmo xcl xat : Int32} {xop xfd xfa xfb xct xin xce xli xho xle xbl xis xen xun xsA xsB xde xex xcu xdp xhe xuf xlu xvr xhu xrg xuo xla : Nat → Int32} {ycl yph yat yal ymu ymt : Int32} {yco ykl yct yin yce yva : Nat → Int32}
theorem yc_45 {post : Int32 → SY → Prop} {o D A B : Nat → Int32} {C : Nat} (hC1 : 1 ≤ C) (hC : C ≤ 8) (hcl : ycl = nI C) (hw : ∀ b, b < C → wf_cl o D A B (b * 9 + 8)) (hk : ∀ b, b < C → cr_k o D A B b ykl)
    (hbad : ¬ pd_tg A B C → post (-6) (ycl, yph, yat, yal, ymu, ymt, yco, ykl, yct, yin, yce, yva)) (h : pd_tg A B C → post 0 (ycl, 1, yat, yal, ymu, ymt, yco, ykl, yct, yin, yce, yva)) :
    ∀ d i, i + d = C → (∀ b, b < i → (∃ t, t < C ∧ A (b * 9 + 8) = nI t) ∧ (∃ t, t < C ∧ B (b * 9 + 8) = nI t)) → wY_compile_45 post ycl yph yat yal ymu ymt yco ykl yct yin yce yva (d + 1) (nI i) := by
  intro d
  induction d with
  | zero =>
    intro i hi ht
    rw [wY_compile_45]; dsimp only
    have e : i = C := by omega
    subst e
    exact br_t (by rw [hcl]; exact nI_le (Nat.le_refl _) (by omega)) (h ht)
  | succ d ih =>
    intro i hi ht
    rw [wY_compile_45]; dsimp only
    obtain ⟨k0, k1, k2, k3⟩ := hk i (by omega)
    obtain ⟨wk, _, ⟨x, hx, ex⟩, ⟨y, hy, ey⟩, wA, wB⟩ := hw i (by omega)
    rw [na_k, na_2, nI_clamp (show i * 4 < 2 ^ 31 by omega), nI_clamp (show i * 4 + 2 < 2 ^ 31 by omega), k0, k2]
    have bx : C ≤ x → ¬ pd_tg A B C := by
      intro g z
      obtain ⟨⟨t, ht', et⟩, _⟩ := z i (by omega)
      have := na_in (ex.symm.trans et) (by omega) (by omega)
      omega
    have by' : C ≤ y → ¬ pd_tg A B C := by
      intro g z
      obtain ⟨_, t, ht', et⟩ := z i (by omega)
      have := na_in (ey.symm.trans et) (by omega) (by omega)
      omega
    have nxt : x < C → y < C → wY_compile_45 post ycl yph yat yal ymu ymt yco ykl yct yin yce yva (d + 1) (nI (i + 1)) := by
      intro g g2
      refine ih (i + 1) (by omega) (fun b hb => ?_)
      by_cases e : b = i
      · subst e; exact ⟨⟨x, g, ex⟩, ⟨y, g2, ey⟩⟩
      · exact ht b (by omega)
    have s87 : x < C → wY_compile_87 post (wY_compile_45 post ycl yph yat yal ymu ymt yco ykl yct yin yce yva (d + 1)) (nI i) (o (i * 9 + 8)) ycl yph yat yal ymu ymt yco ykl yct yin yce yva := by
      intro g
      unfold wY_compile_87
      rw [na_k, na_3, nI_clamp (show i * 4 + 3 < 2 ^ 31 by omega), k3]
      refine br_c (fun g1 => ⟨vp_in_nI (by omega) (by omega), pk_lt y C (fun g2 => nm_r (nI_1 i) (nxt g g2)) (fun g2 => hbad (by' g2)) ey hcl⟩) (fun g1 => nm_r (nI_1 i) (nxt g ?_))
      have z := wB g1
      rw [ey] at z
      have : y = 0 := na_in (b := 0) z (by omega) (by omega)
      omega
    refine br_f (by rw [hcl]; exact nI_ge (by omega) (by omega)) ⟨vp_in_nI (by omega) (by omega), nm_e (br_c (fun g2 => s87 ?_) (fun g2 => ⟨vp_in_nI (by omega) (by omega), pk_lt x C (fun g => s87 g) (fun g => hbad (bx g)) ex hcl⟩))⟩
    have z := wA g2
    rw [ex] at z
    have : x = 0 := na_in (b := 0) z (by omega) (by omega)
    omega
end P24
theorem i_vc_compile {k : Nat} {u : SX} {v : SY} (I : i_Rel k u v) (hk : k + 5 ≤ 2563) : wpX_compile (fun r u' => wpY_compile (fun r' v' => r' = r ∧ i_Rel (k + 5) u' v') v) u := by
  refine rl_el (P := fun u v => wpX_compile (fun r u' => wpY_compile (fun r' v' => r' = r ∧ i_Rel (k + 5) u' v') v) u) I (fun xal xmu xmt xsa xmo xcl xat xop xfd xfa xfb xct xin xce xli xho xle xbl xis xen xun xsA xsB xde xex xcu xdp xhe xuf xlu xvr xhu xrg xuo xla yco ykl yva h => ?_)
  have h' := h
  obtain ⟨a, m, T, C, hp, hcl, ⟨hw, hco, hkl⟩, hmo⟩ := h'
  have hC := hw.1
  have go : xmo = 0 → ¬ xcl = 0 → ((8 : Int32) ≤ xcl ∨ ¬ (8 : Int32) ≤ xcl ∧ vp_in xcl 8 ∧ xct xcl.toNatClampNeg ≤ 0) → ∃ n46, wX_compile_46 (fun r u' => wpY_compile (fun r' v' => r' = r ∧ i_Rel (k + 5) u' v') (xcl, xmo, xat, xal, xmu, xmt, yco, ykl, xct, xin, xce, yva)) xal xmu xmt xsa xmo xcl xat xop xfd xfa xfb xct xin xce xli xho xle xbl xis xen xun xsA xsB xde xex xcu xdp xhe xuf xlu xvr xhu xrg xuo xla n46 8 := by
    intro g0 g1 g2
    have hC1 : 1 ≤ C := by
      apply Classical.byContradiction
      intro z
      have : C = 0 := by omega
      subst this
      exact g1 hcl
    have yy : ∀ post : Int32 → SY → Prop, (∃ n45, wY_compile_45 post xcl xmo xat xal xmu xmt yco ykl xct xin xce yva n45 0) → wpY_compile post (xcl, xmo, xat, xal, xmu, xmt, yco, ykl, xct, xin, xce, yva) := by
      intro post hpost
      refine br_t g0 (br_f g1 ?_)
      rcases g2 with g2 | ⟨g2, g3, g4⟩
      · exact br_t g2 hpost
      · exact br_f g2 ⟨g3, br_t g4 hpost⟩
    refine ⟨C + 1, xc_46 hC1 hcl hw hp (fun nt => ?_) (fun li ho cu sA sB dp he le uf bl is en un lu vr hu de ex hcm => ?_) C 0 (by omega) (fun b hb => absurd hb (by omega))⟩
    · exact yy _ ⟨C + 1, yc_45 hC1 hC hcl hw.2.2.2 hkl (fun _ => ⟨rfl, rl_in h⟩) (fun z => absurd z nt) C 0 (by omega) (fun b hb => absurd hb (by omega))⟩
    · exact yy _ ⟨C + 1, yc_45 hC1 hC hcl hw.2.2.2 hkl (fun z => absurd hcm.2.1 z) (fun _ => ⟨rfl, rl_in ⟨a, m, T, C, hp, hcl, ⟨hw, hco, hkl⟩, Or.inr ⟨hcm, Or.inl rfl⟩⟩⟩) C 0 (by omega) (fun b hb => absurd hb (by omega))⟩
  refine br_c (fun g0 => br_c (fun g1 => br_t g0 (br_t g1 ⟨rfl, rl_in h⟩)) (fun g1 => br_c (fun g2 => go g0 g1 (Or.inl g2)) (fun g2 => ?_))) (fun g0 => br_f g0 ⟨rfl, rl_in h⟩)
  have g3 : vp_in xcl 8 := by
    rw [hcl] at g2 ⊢
    refine vp_in_nI ?_ (by omega)
    apply Classical.byContradiction
    intro z
    exact g2 (nI_le (a := 8) (by omega) (by omega))
  exact ⟨g3, br_c (fun g4 => go g0 g1 (Or.inr ⟨g2, g3, g4⟩)) (fun g4 => br_t g0 (br_f g1 (br_f g2 ⟨g3, br_f g4 ⟨rfl, rl_in h⟩⟩)))⟩
section P24b
variable {xal xmu xmt xsa xmo xcl xat : Int32} {xop xfd xfa xfb xct xin xce xli xho xle xbl xis xen xun xsA xsB xde xex xcu xdp xhe xuf xlu xvr xhu xrg xuo xla : Nat → Int32} {ycl yph yat yal ymu ymt : Int32} {yco ykl yct yin yce yva : Nat → Int32}
theorem xa_11 {post : Int32 → SX → Prop} (h : ∀ la, (∀ v, v < 8 → la v = xin v) → wpX_enterBlock (fun u => match u with | (zal, zmu, zmt, zsa, zmo, zcl, zat, zop, zfd, zfa, zfb, zct, zin, zce, zli, zho, zle, zbl, zis, zen, zun, zsA, zsB, zde, zex, zcu, zdp, zhe, zuf, zlu, zvr, zhu, zrg, zuo, zla) => post 0 (zal, zmu, zmt, zsa, 2, zcl, zat, zop, zfd, zfa, zfb, zct, zin, zce, zli, zho, zle, zbl, zis, zen, zun, zsA, zsB, zde, zex, zcu, zdp, zhe, zuf, zlu, zvr, zhu, zrg, zuo, zla)) (xal, xmu, xmt, xsa, xmo, xcl, xat, xop, xfd, xfa, xfb, xct, xin, xce, xli, xho, xle, xbl, xis, xen, xun, xsA, xsB, xde, xex, xcu, xdp, xhe, xuf, xlu, xvr, xhu, xrg, xuo, la) 0) :
    ∀ d i la, i + d = 8 → (∀ v, v < i → la v = xin v) → wX_start_11 post xal xmu xmt xsa xmo xcl xat (d + 1) (nI i) xop xfd xfa xfb xct xin xce xli xho xle xbl xis xen xun xsA xsB xde xex xcu xdp xhe xuf xlu xvr xhu xrg xuo la := by
  intro d
  induction d with
  | zero =>
    intro i la hi hv
    rw [wX_start_11]; dsimp only
    have e : i = 8 := by omega
    subst e
    exact br_t (nI_le (a := 8) (by omega) (by omega)) (h la hv)
  | succ d ih =>
    intro i la hi hv
    rw [wX_start_11]; dsimp only; rw [nI_clamp (show i < 2 ^ 31 by omega)]
    refine br_f (nI_ge (b := 8) (by omega) (by omega)) ⟨vp_in_nI (by omega) (by omega), vp_in_nI (by omega) (by omega), nm_e (nm_r (nI_1 i) (ih (i + 1) _ (by omega) (fun v hv' => ?_)))⟩
    by_cases e : v = i
    · rw [e, pk_us]
    · rw [pk_un e]; exact hv v (by omega)
theorem ya_11 {post : Int32 → SY → Prop} (h : ∀ va, (∀ v, v < 8 → va v = yin v) → post 0 (ycl, 2, 0, yal, ymu, ymt, yco, ykl, yct, yin, yce, va)) :
    ∀ d i va, i + d = 8 → (∀ v, v < i → va v = yin v) → wY_start_11 post ycl yph yat yal ymu ymt (d + 1) (nI i) yco ykl yct yin yce va := by
  intro d
  induction d with
  | zero =>
    intro i la hi hv
    rw [wY_start_11]; dsimp only
    have e : i = 8 := by omega
    subst e
    exact br_t (nI_le (a := 8) (by omega) (by omega)) (h la hv)
  | succ d ih =>
    intro i la hi hv
    rw [wY_start_11]; dsimp only; rw [nI_clamp (show i < 2 ^ 31 by omega)]
    refine br_f (nI_ge (b := 8) (by omega) (by omega)) ⟨vp_in_nI (by omega) (by omega), vp_in_nI (by omega) (by omega), nm_e (nm_r (nI_1 i) (ih (i + 1) _ (by omega) (fun v hv' => ?_)))⟩
    by_cases e : v = i
    · rw [e, pk_us]
    · rw [pk_un e]; exact hv v (by omega)
end P24b
theorem i_vc_start {k : Nat} {u : SX} {v : SY} (I : i_Rel k u v) (hk : k + 5 ≤ 2563) : wpX_start (fun r u' => wpY_start (fun r' v' => r' = r ∧ i_Rel (k + 5) u' v') v) u := by
  refine rl_el (P := fun u v => wpX_start (fun r u' => wpY_start (fun r' v' => r' = r ∧ i_Rel (k + 5) u' v') v) u) I (fun xal xmu xmt xsa xmo xcl xat xop xfd xfa xfb xct xin xce xli xho xle xbl xis xen xun xsA xsB xde xex xcu xdp xhe xuf xlu xvr xhu xrg xuo xla yco ykl yva h => ?_)
  refine br_c (fun g => br_t g ⟨rfl, rl_in h⟩) (fun g => ?_)
  obtain ⟨a, m, T, C, hp, hcl, hc, hmo⟩ := h
  obtain ⟨hcm, _⟩ := hmo.resolve_left g
  have hC := hc.1.1
  have hC1 := hcm.1
  refine ⟨9, xa_11 (fun la hla => xn_enter (t := 0) (C := C) hC (by omega) hcm.2.2.2.1 (fun rg hrg => ?_)) 8 0 xla (by omega) (fun v hv => absurd hv (by omega))⟩
  dsimp only
  refine br_f g ⟨9, ya_11 (fun va hva => ⟨rfl, rl_in ⟨a, m, T, C, hp, hcl, hc, Or.inr ⟨hcm, Or.inr ⟨0, by omega, rfl, Or.inl ⟨rfl, fun v hv hb => ?_⟩⟩⟩⟩⟩) 8 0 yva (by omega) (fun v hv => absurd hv (by omega))⟩
  rw [hrg v hv hb, hla v hv, hva v hv]
end
section
section P25
/-! source -/
def sl_f (o D A B : Nat → Int32) (f k : Nat) : Int32 := if f = 0 then o k else if f = 1 then D k else if f = 2 then A k else B k
variable {xal xmu xmt xsa xmo xcl xat : Int32} {xop xfd xfa xfb xct xin xce xli xho xle xbl xis xen xun xsA xsB xde xex xcu xdp xhe xuf xlu xvr xhu xrg xuo xla : Nat → Int32} {ycl yph yat yal ymu ymt : Int32} {yco ykl yct yin yce yva : Nat → Int32}
theorem xo_60 {post : Int32 → Prop} {b i f : Nat} (hb : b < 8) (hi : i ≤ 8) (hf : f < 4) (h : post (sl_f xop xfd xfa xfb f (b * 9 + i))) : wX_source_60 post (nI b) (nI i) (nI f) 1 xal xmu xmt xsa xmo xcl xat xop xfd xfa xfb xct xin xce xli xho xle xbl xis xen xun xsA xsB xde xex xcu xdp xhe xuf xlu xvr xhu xrg xuo xla := by
  have ck : (nI (b * 9 + i)).toNatClampNeg = b * 9 + i := nI_clamp (by omega)
  have vk : vp_in (nI (b * 9 + i)) 72 := vp_in_nI (by omega) (by omega)
  unfold wX_source_60
  refine br_f (by decide) (nm_r (na_ix b i) ?_)
  rw [ck]
  rcases (by omega : f = 0 ∨ f = 1 ∨ f = 2 ∨ f = 3) with rfl | rfl | rfl | rfl
  · exact br_t (by decide) ⟨vk, h⟩
  · exact br_f (by decide) (br_t (by decide) ⟨vk, h⟩)
  · exact br_f (by decide) (br_f (by decide) (br_t (by decide) ⟨vk, h⟩))
  · exact br_f (by decide) (br_f (by decide) (br_f (by decide) ⟨vk, h⟩))
theorem yu_co {o D A B co : Nat → Int32} {b i f : Nat} (hf : f < 4) (h : cr_o o D A B b i co) : co ((b * 8 + i) * 4 + f) = sl_f o D A B f (b * 9 + i) := by
  obtain ⟨h0, h1, h2, h3⟩ := h
  rcases (by omega : f = 0 ∨ f = 1 ∨ f = 2 ∨ f = 3) with rfl | rfl | rfl | rfl
  · exact h0
  · exact h1
  · exact h2
  · exact h3
theorem yu_kl {o D A B kl : Nat → Int32} {b f : Nat} (hf : f < 4) (h : cr_k o D A B b kl) : kl (b * 4 + f) = sl_f o D A B f (b * 9 + 8) := by
  obtain ⟨h0, h1, h2, h3⟩ := h
  rcases (by omega : f = 0 ∨ f = 1 ∨ f = 2 ∨ f = 3) with rfl | rfl | rfl | rfl
  · exact h0
  · exact h1
  · exact h2
  · exact h3
end P25
theorem i_vc_source {k : Nat} {u : SX} {v : SY} (I : i_Rel k u v) (hk : k + 5 ≤ 2563) (v1 : Int32) (v2 : Int32) (v3 : Int32) : wpX_source (fun r => wpY_source (fun r' => r' = r ∧ i_Rel (k + 5) u v) v v1 v2 v3) u v1 v2 v3 := by
  refine rl_el (P := fun u v => wpX_source (fun r => wpY_source (fun r' => r' = r ∧ i_Rel (k + 5) u v) v v1 v2 v3) u v1 v2 v3) I (fun xal xmu xmt xsa xmo xcl xat xop xfd xfa xfb xct xin xce xli xho xle xbl xis xen xun xsA xsB xde xex xcu xdp xhe xuf xlu xvr xhu xrg xuo xla yco ykl yva h => ?_)
  have J := rl_in (k := k + 5) (xal := xal) (xmu := xmu) (xmt := xmt) (xsa := xsa) (xmo := xmo) (xcl := xcl) (xat := xat) (xin := xin) (xce := xce) (xcu := xcu) (xdp := xdp) (xhe := xhe) (xuf := xuf) (xlu := xlu) (xvr := xvr) (xhu := xhu) (xuo := xuo) h
  have h' := h
  obtain ⟨a, m, T, C, hp, hcl, ⟨hw, hco, hkl⟩, hmo⟩ := h'
  have hC := hw.1
  unfold wpX_source
  refine xh_isIndex (fun g => ?_) (fun b hb e => ?_)
  · rcases g with g | g
    · exact br_t g ⟨rfl, J⟩
    · have h7 : (7 : Int32).toInt = 7 := by decide
      have h8 : (8 : Int32).toInt = 8 := by decide
      rw [Int32.le_iff_toInt_le, h8] at g
      exact br_f (by rw [Int32.lt_iff_toInt_lt, na_0]; omega) (br_t (by rw [Int32.lt_iff_toInt_lt, h7]; omega) ⟨rfl, J⟩)
  · subst e
    have n0 : ¬ nI b < 0 := nI_pos (by omega)
    have n7 : ¬ (7 : Int32) < nI b := nI_nlt (a := 7) (by omega) (by omega)
    have cb : (nI b).toNatClampNeg = b := nI_clamp (by omega)
    have vb : vp_in (nI b) 8 := vp_in_nI hb (by omega)
    refine br_c (fun g => br_f n0 (br_f n7 (br_t g ⟨rfl, J⟩))) (fun g => br_c (fun g3 => ?_) (fun g3 => br_f n0 (br_f n7 (br_f g (br_f g3 ⟨rfl, J⟩)))))
    obtain ⟨f, hf, rfl⟩ := nI_of2 (n := 3) (by decide) g g3
    have yy : ∀ post : Int32 → Prop, ((v2 < 0 → wY_source_57 post (nI b) v2 (nI f) xcl xmo xat xal xmu xmt yco ykl xct xin xce yva) ∧ (¬ v2 < 0 → (((7 : Int32) < v2 → wY_source_57 post (nI b) v2 (nI f) xcl xmo xat xal xmu xmt yco ykl xct xin xce yva) ∧ (¬ (7 : Int32) < v2 → (vp_in (nI b) 8 ∧ ((xct (nI b).toNatClampNeg ≤ v2 → wY_source_57 post (nI b) v2 (nI f) xcl xmo xat xal xmu xmt yco ykl xct xin xce yva) ∧ (¬ xct (nI b).toNatClampNeg ≤ v2 → (vp_in ((nI b * 8 + v2) * 4 + nI f) 256 ∧ post (yco ((nI b * 8 + v2) * 4 + nI f).toNatClampNeg))))))))) →
        wpY_source post (xcl, xmo, xat, xal, xmu, xmt, yco, ykl, xct, xin, xce, yva) (nI b) v2 (nI f) := fun post hpost => br_f n0 (br_f n7 (br_f g (br_t g3 hpost)))
    obtain ⟨hn, en⟩ := hw.2.1 b hb
    refine br_c (fun g8 => ?_) (fun g8 => ?_)
    · subst g8
      refine pk_le C b (fun gc => br_t rfl (yy _ (br_f (by decide) (br_t (by decide) (br_t rfl (br_t ?_ ⟨rfl, J⟩)))))) (fun gc => xo_60 (i := 8) hb (by omega) (by omega) (yy _ (br_f (by decide) (br_t (by decide) (br_t rfl (br_f ?_ ⟨?_, ?_⟩)))))) hcl
      · rw [hcl]; exact nI_le gc (by omega)
      · rw [hcl]; exact nI_ge gc (by omega)
      · rw [na_k, nI_add]; exact vp_in_nI (by omega) (by omega)
      · rw [na_k, nI_add, nI_clamp (by omega)]
        exact ⟨yu_kl (by omega) (hkl b gc), J⟩
    · refine br_c (fun gi => br_t rfl (yy _ (br_t gi (br_f g8 ⟨rfl, J⟩)))) (fun gi => ⟨vb, br_c (fun gn => br_t rfl ?_) (fun gn => ?_)⟩)
      · by_cases g7 : (7 : Int32) < v2
        · exact yy _ (br_f gi (br_t g7 (br_f g8 ⟨rfl, J⟩)))
        · exact yy _ (br_f gi (br_f g7 ⟨vb, br_t gn (br_f g8 ⟨rfl, J⟩)⟩))
      · obtain ⟨i, hi, rfl⟩ := nI_of gi
        have gn' := gn
        rw [cb, en, nI_leI (by omega) hi] at gn'
        refine xo_60 (i := i) hb (by omega) (by omega) (yy _ (br_f gi (br_f (nI_nlt (a := 7) (by omega) (by omega)) ⟨vb, br_f gn ⟨?_, ?_⟩⟩)))
        · rw [na_c, nI_add]; exact vp_in_nI (by omega) (by omega)
        · rw [na_c, nI_add, nI_clamp (by omega)]
          exact ⟨yu_co (by omega) (hco b hb i (by omega)), J⟩
end
section
section P26
/-! stmt -/
def ix_8 (p : Int32) : Prop := ∃ j, j < 8 ∧ p = nI j
theorem ix_no {p : Int32} (h : p < 0 ∨ 8 ≤ p) : ¬ ix_8 p := by
  rintro ⟨j, hj, e⟩
  subst e
  rcases h with g | g
  · exact absurd g (nI_pos (by omega))
  · exact absurd g (nI_ge (b := 8) (by omega) (by omega))
def st_ok (op d a b : Int32) : Prop := (¬ op = 12 → ix_8 d) ∧ (¬ op = 0 → ix_8 a) ∧ (pd_rb op → ix_8 b)
def st_d (op d : Int32) : Int32 := if op = 12 then 0 else d
def st_b (op b : Int32) : Int32 := if op = 0 ∨ op = 1 ∨ op = 11 then 0 else b
theorem st_bn {op b : Int32} (h : ¬ pd_rb op) : st_b op b = 0 := by
  unfold st_b
  refine if_pos ?_
  by_cases h0 : op = 0
  · exact Or.inl h0
  · by_cases h1 : op = 1
    · exact Or.inr (Or.inl h1)
    · by_cases h2 : op = 11
      · exact Or.inr (Or.inr h2)
      · exact absurd ⟨h0, h1, h2⟩ h
theorem st_by {op b : Int32} (h : pd_rb op) : st_b op b = b := by
  unfold st_b
  refine if_neg ?_
  rintro (z | z | z)
  · exact h.1 z
  · exact h.2.1 z
  · exact h.2.2 z
theorem u4_0 {f : Nat → Int32} {p : Nat} {a b c d : Int32} : upd (upd (upd (upd f p a) (p + 1) b) (p + 2) c) (p + 3) d p = a := by
  rw [pk_un (show p ≠ p + 3 by omega), pk_un (show p ≠ p + 2 by omega), pk_un (show p ≠ p + 1 by omega), pk_us]
theorem u4_1 {f : Nat → Int32} {p : Nat} {a b c d : Int32} : upd (upd (upd (upd f p a) (p + 1) b) (p + 2) c) (p + 3) d (p + 1) = b := by
  rw [pk_un (show p + 1 ≠ p + 3 by omega), pk_un (show p + 1 ≠ p + 2 by omega), pk_us]
theorem u4_2 {f : Nat → Int32} {p : Nat} {a b c d : Int32} : upd (upd (upd (upd f p a) (p + 1) b) (p + 2) c) (p + 3) d (p + 2) = c := by
  rw [pk_un (show p + 2 ≠ p + 3 by omega), pk_us]
theorem u4_3 {f : Nat → Int32} {p : Nat} {a b c d : Int32} : upd (upd (upd (upd f p a) (p + 1) b) (p + 2) c) (p + 3) d (p + 3) = d := pk_us
theorem u4_n {f : Nat → Int32} {p j : Nat} {a b c d : Int32} (h : j < p ∨ p + 3 < j) : upd (upd (upd (upd f p a) (p + 1) b) (p + 2) c) (p + 3) d j = f j := by
  rw [pk_un (show j ≠ p + 3 by omega), pk_un (show j ≠ p + 2 by omega), pk_un (show j ≠ p + 1 by omega), pk_un (show j ≠ p by omega)]
/-- the source with one statement more -/
theorem st_rel {o D A B ct co kl : Nat → Int32} {C n q : Nat} {op d a b : Int32} (h : rl_C o D A B ct C co kl) (hC : C < 8) (hn : pd_n ct C = n) (hn8 : n < 8) (hq : q ≤ 12) (eq : op = nI q) (ok : st_ok op d a b) :
    rl_C (upd o (C * 9 + n) op) (upd D (C * 9 + n) (st_d op d)) (upd A (C * 9 + n) a) (upd B (C * 9 + n) (st_b op b)) (upd ct C (nI (n + 1))) C
      (upd (upd (upd (upd co ((C * 8 + n) * 4) op) ((C * 8 + n) * 4 + 1) (st_d op d)) ((C * 8 + n) * 4 + 2) a) ((C * 8 + n) * 4 + 3) (st_b op b)) kl := by
  obtain ⟨⟨h1, h2, h3, h4⟩, h5, h6⟩ := h
  have pn : ∀ b, pd_n (upd ct C (nI (n + 1))) b = if b = C then n + 1 else pd_n ct b := by
    intro b
    unfold pd_n
    by_cases e : b = C
    · rw [if_pos e, e, pk_us, nI_clamp (by omega)]
    · rw [if_neg e, pk_un e]
  have old : ∀ b i, b < 8 → i < pd_n (upd ct C (nI (n + 1))) b → ¬ (b = C ∧ i = n) → i < pd_n ct b ∧ i < 8 := by
    intro b i hb hi hne
    have t := (h2 b hb).1
    rw [pn b] at hi
    by_cases e : b = C
    · rw [if_pos e] at hi
      rw [e, hn] at t ⊢
      have : i ≠ n := fun z => hne ⟨e, z⟩
      omega
    · rw [if_neg e] at hi
      omega
  refine ⟨⟨h1, fun b hb => ?_, fun b hb i hi => ?_, fun b hb => ?_⟩, fun b hb i hi => ?_, fun b hb => ?_⟩
  · rw [pn b]
    by_cases e : b = C
    · rw [if_pos e, e, pk_us]; exact ⟨by omega, rfl⟩
    · rw [if_neg e, pk_un e]; exact h2 b hb
  · by_cases e : b = C ∧ i = n
    · obtain ⟨e1, e2⟩ := e
      subst e1
      subst e2
      unfold wf_op
      rw [pk_us, pk_us, pk_us, pk_us]
      refine ⟨⟨q, hq, eq⟩, ?_, fun g => ok.2.1 g, ?_⟩
      · by_cases g : op = 12
        · exact ⟨0, by omega, by unfold st_d; rw [if_pos g]; rfl⟩
        · obtain ⟨j, hj, e⟩ := ok.1 g
          exact ⟨j, hj, by unfold st_d; rw [if_neg g, e]⟩
      · by_cases g : pd_rb op
        · obtain ⟨j, hj, e⟩ := ok.2.2 g
          exact ⟨j, hj, by rw [st_by g, e]⟩
        · exact ⟨0, by omega, by rw [st_bn g]; rfl⟩
    · obtain ⟨g1, g2⟩ := old b i hb hi e
      unfold wf_op
      rw [pk_un (by omega), pk_un (by omega), pk_un (by omega), pk_un (by omega)]
      exact h3 b hb i g1
  · unfold wf_cl
    rw [pk_un (by omega), pk_un (by omega), pk_un (by omega), pk_un (by omega)]
    exact h4 b hb
  · by_cases e : b = C ∧ i = n
    · obtain ⟨e1, e2⟩ := e
      subst e1
      subst e2
      exact ⟨u4_0.trans pk_us.symm, u4_1.trans pk_us.symm, u4_2.trans pk_us.symm, u4_3.trans pk_us.symm⟩
    · obtain ⟨g1, g2⟩ := old b i hb hi e
      obtain ⟨q0, q1, q2, q3⟩ := h5 b hb i g1
      exact ⟨(u4_n (by omega)).trans (q0.trans (pk_un (by omega)).symm), (u4_n (by omega)).trans (q1.trans (pk_un (by omega)).symm), (u4_n (by omega)).trans (q2.trans (pk_un (by omega)).symm), (u4_n (by omega)).trans (q3.trans (pk_un (by omega)).symm)⟩
  · unfold cr_k
    rw [pk_un (by omega), pk_un (by omega), pk_un (by omega), pk_un (by omega)]
    exact h6 b hb
variable {xal xmu xmt xsa xmo xcl xat : Int32} {xop xfd xfa xfb xct xin xce xli xho xle xbl xis xen xun xsA xsB xde xex xcu xdp xhe xuf xlu xvr xhu xrg xuo xla : Nat → Int32} {ycl yph yat yal ymu ymt : Int32} {yco ykl yct yin yce yva : Nat → Int32}
theorem xt_74 {post : Int32 → SX → Prop} {C n : Nat} {op d a b : Int32} (hcl : xcl = nI C) (hC : C < 8) (hct : xct C = nI n) (hn : n < 8)
    (h : post 0 (xal, xmu, xmt, xsa, xmo, xcl, xat, upd xop (C * 9 + n) op, upd xfd (C * 9 + n) (st_d op d), upd xfa (C * 9 + n) a, upd xfb (C * 9 + n) (st_b op b), upd xct C (nI (n + 1)), xin, xce, xli, xho, xle, xbl, xis, xen, xun, xsA, xsB, xde, xex, xcu, xdp, xhe, xuf, xlu, xvr, xhu, xrg, xuo, xla)) : wX_stmt_74 post op d a b xal xmu xmt xsa xmo xcl xat xop xfd xfa xfb xct xin xce xli xho xle xbl xis xen xun xsA xsB xde xex xcu xdp xhe xuf xlu xvr xhu xrg xuo xla := by
  have cC : xcl.toNatClampNeg = C := by rw [hcl, nI_clamp (by omega)]
  have vC : vp_in xcl 8 := by rw [hcl]; exact vp_in_nI hC (by omega)
  have ck : (nI (C * 9 + n)).toNatClampNeg = C * 9 + n := nI_clamp (by omega)
  have vk : vp_in (nI (C * 9 + n)) 72 := vp_in_nI (by omega) (by omega)
  have s175 : ∀ bv, bv = st_b op b → wX_stmt_175 post bv (nI (C * 9 + n)) xal xmu xmt xsa xmo xcl xat (upd xop (C * 9 + n) op) (upd xfd (C * 9 + n) (st_d op d)) (upd xfa (C * 9 + n) a) xfb xct xin xce xli xho xle xbl xis xen xun xsA xsB xde xex xcu xdp xhe xuf xlu xvr xhu xrg xuo xla := by
    intro bv e
    unfold wX_stmt_175
    rw [ck, cC, hct, nI_1, e]
    exact ⟨vk, nm_e ⟨vC, vC, nm_e h⟩⟩
  have s146 : ∀ dv, dv = st_d op d → wX_stmt_146 post op a b (nI (C * 9 + n)) dv (nI (C * 9 + n)) xal xmu xmt xsa xmo xcl xat (upd xop (C * 9 + n) op) xfd xfa xfb xct xin xce xli xho xle xbl xis xen xun xsA xsB xde xex xcu xdp xhe xuf xlu xvr xhu xrg xuo xla := by
    intro dv e
    unfold wX_stmt_146
    rw [ck, e]
    exact ⟨vk, nm_e ⟨vk, nm_e (xh_readsB (fun g => s175 0 (st_bn g).symm) (fun g => s175 b (st_by g).symm))⟩⟩
  unfold wX_stmt_74
  rw [cC, hct]
  refine br_f (by rw [hcl]; exact nI_ge (b := 8) (by omega) (by omega)) ⟨vC, br_t (nI_lt (b := 8) hn (by omega)) ⟨vC, nm_r (e' := nI (C * 9 + n)) (by rw [hcl, na_ix]) ?_⟩⟩
  rw [ck]
  exact ⟨vk, nm_e (xh_writes (fun g => s146 0 (by unfold st_d; rw [if_pos g])) (fun g => s146 d (by unfold st_d; rw [if_neg g])))⟩
theorem yt_112 {post : Int32 → SY → Prop} {C n : Nat} {op d a b x5 x6 : Int32} (hcl : ycl = nI C) (hC : C < 8) (hct : yct C = nI n) (hn : n < 8) (h5 : x5 = 0 ↔ op = 12) (h6 : x6 = 0 ↔ ¬ pd_rb op)
    (h : post 0 (ycl, yph, yat, yal, ymu, ymt, upd (upd (upd (upd yco ((C * 8 + n) * 4) op) ((C * 8 + n) * 4 + 1) (st_d op d)) ((C * 8 + n) * 4 + 2) a) ((C * 8 + n) * 4 + 3) (st_b op b), ykl, upd yct C (nI (n + 1)), yin, yce, yva)) : wY_stmt_112 post op d a b x5 x6 ycl yph yat yal ymu ymt yco ykl yct yin yce yva := by
  have cC : ycl.toNatClampNeg = C := by rw [hcl, nI_clamp (by omega)]
  have vC : vp_in ycl 8 := by rw [hcl]; exact vp_in_nI hC (by omega)
  have k0 : (nI ((C * 8 + n) * 4)).toNatClampNeg = (C * 8 + n) * 4 := nI_clamp (by omega)
  have k1 : (nI ((C * 8 + n) * 4 + 1)).toNatClampNeg = (C * 8 + n) * 4 + 1 := nI_clamp (by omega)
  have k2 : (nI ((C * 8 + n) * 4 + 2)).toNatClampNeg = (C * 8 + n) * 4 + 2 := nI_clamp (by omega)
  have k3 : (nI ((C * 8 + n) * 4 + 3)).toNatClampNeg = (C * 8 + n) * 4 + 3 := nI_clamp (by omega)
  have s215 : ∀ bv, bv = st_b op b → wY_stmt_215 post bv (nI ((C * 8 + n) * 4 + 3)) ycl yph yat yal ymu ymt (upd (upd (upd yco ((C * 8 + n) * 4) op) ((C * 8 + n) * 4 + 1) (st_d op d)) ((C * 8 + n) * 4 + 2) a) ykl yct yin yce yva := by
    intro bv e
    unfold wY_stmt_215
    rw [k3, cC, hct, nI_1, e]
    exact ⟨vp_in_nI (by omega) (by omega), nm_e ⟨vC, vC, nm_e h⟩⟩
  have s185 : ∀ dv, dv = st_d op d → wY_stmt_185 post a b x6 (nI ((C * 8 + n) * 4)) dv (nI ((C * 8 + n) * 4 + 1)) ycl yph yat yal ymu ymt (upd yco ((C * 8 + n) * 4) op) ykl yct yin yce yva := by
    intro dv e
    unfold wY_stmt_185
    rw [k1, na_2, na_3, k2, e]
    exact ⟨vp_in_nI (by omega) (by omega), nm_e ⟨vp_in_nI (by omega) (by omega), nm_e (br_c (fun g => s215 0 (st_bn (h6.mp g)).symm) (fun g => s215 b (st_by (Classical.byContradiction (fun z => g (h6.mpr z)))).symm))⟩⟩
  unfold wY_stmt_112
  rw [cC, hct]
  refine br_f (by rw [hcl]; exact nI_ge (b := 8) (by omega) (by omega)) ⟨vC, br_t (nI_lt (b := 8) hn (by omega)) ⟨vC, nm_r (e' := nI ((C * 8 + n) * 4)) (by rw [hcl, na_c]) ?_⟩⟩
  rw [k0, na_1]
  exact ⟨vp_in_nI (by omega) (by omega), nm_e (br_c (fun g => s185 0 (by unfold st_d; rw [if_pos (h5.mp g)])) (fun g => s185 d (by unfold st_d; rw [if_neg (fun z => g (h5.mpr z))])))⟩
theorem xt_stmt {post : Int32 → SX → Prop} {op d a b : Int32} {q : Nat} (h0 : xmo = 0) (hq : q ≤ 12) (eq : op = nI q) (hok : st_ok op d a b → wX_stmt_74 post op d a b xal xmu xmt xsa xmo xcl xat xop xfd xfa xfb xct xin xce xli xho xle xbl xis xen xun xsA xsB xde xex xcu xdp xhe xuf xlu xvr xhu xrg xuo xla) (hbad : ¬ st_ok op d a b → post (-2) (xal, xmu, xmt, xsa, xmo, xcl, xat, xop, xfd, xfa, xfb, xct, xin, xce, xli, xho, xle, xbl, xis, xen, xun, xsA, xsB, xde, xex, xcu, xdp, xhe, xuf, xlu, xvr, xhu, xrg, xuo, xla)) : wpX_stmt post (xal, xmu, xmt, xsa, xmo, xcl, xat, xop, xfd, xfa, xfb, xct, xin, xce, xli, xho, xle, xbl, xis, xen, xun, xsA, xsB, xde, xex, xcu, xdp, xhe, xuf, xlu, xvr, xhu, xrg, xuo, xla) op d a b := by
  have s54 : (¬ op = 12 → ix_8 d) → (¬ op = 0 → ix_8 a) → wX_stmt_54 post op d a b xal xmu xmt xsa xmo xcl xat xop xfd xfa xfb xct xin xce xli xho xle xbl xis xen xun xsA xsB xde xex xcu xdp xhe xuf xlu xvr xhu xrg xuo xla := by
    intro hd ha
    exact xh_readsB (fun g => hok ⟨hd, ha, fun z => absurd z g⟩) (fun g => xh_isIndex (fun z => hbad (fun y => ix_no z (y.2.2 g))) (fun j hj e => hok ⟨hd, ha, fun _ => ⟨j, hj, e⟩⟩))
  have s38 : (¬ op = 12 → ix_8 d) → wX_stmt_38 post op d a b xal xmu xmt xsa xmo xcl xat xop xfd xfa xfb xct xin xce xli xho xle xbl xis xen xun xsA xsB xde xex xcu xdp xhe xuf xlu xvr xhu xrg xuo xla := by
    intro hd
    exact xh_readsA (fun g => s54 hd (fun z => absurd g z)) (fun g => xh_isIndex (fun z => hbad (fun y => ix_no z (y.2.1 g))) (fun j hj e => s54 hd (fun _ => ⟨j, hj, e⟩)))
  refine br_t h0 (br_f (by rw [eq]; exact nI_pos (by omega)) (br_t (by rw [eq]; exact nI_le (b := 12) hq (by omega)) (xh_writes (fun g => s38 (fun z => absurd g z)) (fun g => xh_isIndex (fun z => hbad (fun y => ix_no z (y.1 g))) (fun j hj e => s38 (fun _ => ⟨j, hj, e⟩))))))
theorem yt_stmt {post : Int32 → SY → Prop} {op d a b : Int32} {q : Nat} (h0 : yph = 0) (hq : q ≤ 12) (eq : op = nI q) (hok : ∀ x5 x6 : Int32, (x5 = 0 ↔ op = 12) → (x6 = 0 ↔ ¬ pd_rb op) → st_ok op d a b → wY_stmt_112 post op d a b x5 x6 ycl yph yat yal ymu ymt yco ykl yct yin yce yva) (hbad : ¬ st_ok op d a b → post (-2) (ycl, yph, yat, yal, ymu, ymt, yco, ykl, yct, yin, yce, yva)) : wpY_stmt post (ycl, yph, yat, yal, ymu, ymt, yco, ykl, yct, yin, yce, yva) op d a b := by
  have s92 : ∀ x5 x6 : Int32, (x5 = 0 ↔ op = 12) → (x6 = 0 ↔ ¬ pd_rb op) → (¬ op = 12 → ix_8 d) → (¬ op = 0 → ix_8 a) → wY_stmt_92 post op d a b x5 x6 ycl yph yat yal ymu ymt yco ykl yct yin yce yva := by
    intro x5 x6 e5 e6 hd ha
    exact br_c (fun g => hok x5 x6 e5 e6 ⟨hd, ha, fun z => absurd z (e6.mp g)⟩) (fun g => yx_ix (fun z => hbad (fun y => ix_no z (y.2.2 (Classical.byContradiction (fun w => g (e6.mpr w)))))) (fun j hj e => hok x5 x6 e5 e6 ⟨hd, ha, fun _ => ⟨j, hj, e⟩⟩))
  have s75 : ∀ x5 x6 : Int32, (x5 = 0 ↔ op = 12) → (x6 = 0 ↔ ¬ pd_rb op) → (¬ op = 12 → ix_8 d) → wY_stmt_75 post op d a b x5 x6 ycl yph yat yal ymu ymt yco ykl yct yin yce yva := by
    intro x5 x6 e5 e6 hd
    exact br_c (fun g => s92 x5 x6 e5 e6 hd (fun z => absurd g z)) (fun g => yx_ix (fun z => hbad (fun y => ix_no z (y.2.1 g))) (fun j hj e => s92 x5 x6 e5 e6 hd (fun _ => ⟨j, hj, e⟩)))
  have s55 : ∀ x5 x6 : Int32, (x5 = 0 ↔ op = 12) → (x6 = 0 ↔ ¬ pd_rb op) → wY_stmt_55 post op d a b x5 x6 ycl yph yat yal ymu ymt yco ykl yct yin yce yva := by
    intro x5 x6 e5 e6
    exact br_c (fun g => s75 x5 x6 e5 e6 (fun z => absurd (e5.mp g) z)) (fun g => yx_ix (fun z => hbad (fun y => ix_no z (y.1 (fun w => g (e5.mpr w))))) (fun j hj e => s75 x5 x6 e5 e6 (fun _ => ⟨j, hj, e⟩)))
  have s33 : ∀ x5 : Int32, (x5 = 0 ↔ op = 12) → wY_stmt_33 post op d a b x5 ycl yph yat yal ymu ymt yco ykl yct yin yce yva := by
    intro x5 e5
    refine br_c (fun g => s55 x5 0 e5 ⟨fun _ z => z.1 g, fun _ => rfl⟩) (fun g => br_c (fun g1 => s55 x5 0 e5 ⟨fun _ z => z.2.1 g1, fun _ => rfl⟩) (fun g1 => br_c (fun g2 => s55 x5 0 e5 ⟨fun _ z => z.2.2 g2, fun _ => rfl⟩) (fun g2 => s55 x5 1 e5 ⟨fun z => absurd z (by decide), fun z => absurd ⟨g, g1, g2⟩ z⟩)))
  refine br_t h0 (br_f (by rw [eq]; exact nI_pos (by omega)) (br_t (by rw [eq]; exact nI_le (b := 12) hq (by omega)) (br_c (fun g => s33 0 ⟨fun _ => g, fun _ => rfl⟩) (fun g => s33 1 ⟨fun z => absurd z (by decide), fun z => absurd z g⟩))))
end P26
theorem i_vc_stmt {k : Nat} {u : SX} {v : SY} (I : i_Rel k u v) (hk : k + 5 ≤ 2563) (v1 : Int32) (v2 : Int32) (v3 : Int32) (v4 : Int32) : wpX_stmt (fun r u' => wpY_stmt (fun r' v' => r' = r ∧ i_Rel (k + 5) u' v') v v1 v2 v3 v4) u v1 v2 v3 v4 := by
  refine rl_el (P := fun u v => wpX_stmt (fun r u' => wpY_stmt (fun r' v' => r' = r ∧ i_Rel (k + 5) u' v') v v1 v2 v3 v4) u v1 v2 v3 v4) I (fun xal xmu xmt xsa xmo xcl xat xop xfd xfa xfb xct xin xce xli xho xle xbl xis xen xun xsA xsB xde xex xcu xdp xhe xuf xlu xvr xhu xrg xuo xla yco ykl yva h => ?_)
  have h' := h
  obtain ⟨a, m, T, C, hp, hcl, hc, hmo⟩ := h'
  have hC := hc.1.1
  by_cases g0 : xmo = 0
  · by_cases g1 : v1 < 0
    · exact br_t g0 (br_t g1 (br_t g0 (br_t g1 ⟨rfl, rl_in h⟩)))
    · by_cases g2 : v1 ≤ 12
      · obtain ⟨q, hq, eq⟩ := nI_of2 (n := 12) (by decide) g1 g2
        refine xt_stmt g0 hq eq (fun ok => ?_) (fun nok => yt_stmt g0 hq eq (fun _ _ _ _ z => absurd z nok) (fun _ => ⟨rfl, rl_in h⟩))
        by_cases gC : C < 8
        · obtain ⟨hn, en⟩ := hc.1.2.1 C gC
          by_cases gn : pd_n xct C < 8
          · exact xt_74 hcl gC en gn (yt_stmt g0 hq eq (fun x5 x6 e5 e6 _ => yt_112 hcl gC en gn e5 e6 ⟨rfl, rl_in ⟨a, m, T, C, hp, hcl, st_rel hc gC rfl gn hq eq ok, Or.inl g0⟩⟩) (fun z => absurd ok z))
          · have cC : xcl.toNatClampNeg = C := by rw [hcl, nI_clamp (by omega)]
            have vC : vp_in xcl 8 := by rw [hcl]; exact vp_in_nI gC (by omega)
            have nC : ¬ (8 : Int32) ≤ xcl := by rw [hcl]; exact nI_ge (b := 8) (by omega) (by omega)
            have nn : ¬ xct xcl.toNatClampNeg < 8 := by rw [cC, en]; exact nI_nlt (b := 8) (by omega) (by omega)
            exact br_f nC ⟨vC, br_f nn (yt_stmt g0 hq eq (fun x5 x6 e5 e6 _ => br_f nC ⟨vC, br_f nn ⟨rfl, rl_in h⟩⟩) (fun z => absurd ok z))⟩
        · have nC : (8 : Int32) ≤ xcl := by rw [hcl]; exact nI_le (a := 8) (by omega) (by omega)
          exact br_t nC (yt_stmt g0 hq eq (fun x5 x6 e5 e6 _ => br_t nC ⟨rfl, rl_in h⟩) (fun z => absurd ok z))
      · exact br_t g0 (br_f g1 (br_f g2 (br_t g0 (br_f g1 (br_f g2 ⟨rfl, rl_in h⟩)))))
  · exact br_f g0 (br_f g0 ⟨rfl, rl_in h⟩)
end
section
section P27
/-! close -/
def ko_k (q d a b : Int32) : Prop := (¬ q = 0 → ix_8 d) ∧ (¬ q = 2 → ix_8 a) ∧ (q = 1 → ix_8 b)
def ko_d (q d : Int32) : Int32 := if q = 0 then 0 else d
def ko_a (q a : Int32) : Int32 := if q = 2 then 0 else a
def ko_b (q b : Int32) : Int32 := if q = 1 then b else 0
theorem ko_rel {o D A B ct co kl : Nat → Int32} {C : Nat} {op d a b : Int32} (h : rl_C o D A B ct C co kl) (hC : C < 8) (hop : op = 0 ∨ op = 1 ∨ op = 2) (ok : ko_k op d a b) :
    rl_C (upd o (C * 9 + 8) op) (upd D (C * 9 + 8) (ko_d op d)) (upd A (C * 9 + 8) (ko_a op a)) (upd B (C * 9 + 8) (ko_b op b)) ct (C + 1) co
      (upd (upd (upd (upd kl (C * 4) op) (C * 4 + 1) (ko_d op d)) (C * 4 + 2) (ko_a op a)) (C * 4 + 3) (ko_b op b)) := by
  obtain ⟨⟨h1, h2, h3, h4⟩, h5, h6⟩ := h
  refine ⟨⟨by omega, h2, fun b hb i hi => ?_, fun b hb => ?_⟩, fun b hb i hi => ?_, fun b hb => ?_⟩
  · have t := (h2 b hb).1
    unfold wf_op
    rw [pk_un (by omega), pk_un (by omega), pk_un (by omega), pk_un (by omega)]
    exact h3 b hb i hi
  · by_cases e : b = C
    · subst e
      unfold wf_cl
      rw [pk_us, pk_us, pk_us, pk_us]
      refine ⟨hop, ?_, ?_, ?_, fun g => if_pos g, fun g => if_neg g⟩
      · by_cases g : op = 0
        · exact ⟨0, by omega, if_pos g⟩
        · obtain ⟨j, hj, e⟩ := ok.1 g
          exact ⟨j, hj, (if_neg g).trans e⟩
      · by_cases g : op = 2
        · exact ⟨0, by omega, if_pos g⟩
        · obtain ⟨j, hj, e⟩ := ok.2.1 g
          exact ⟨j, hj, (if_neg g).trans e⟩
      · by_cases g : op = 1
        · obtain ⟨j, hj, e⟩ := ok.2.2 g
          exact ⟨j, hj, (if_pos g).trans e⟩
        · exact ⟨0, by omega, if_neg g⟩
    · unfold wf_cl
      rw [pk_un (by omega), pk_un (by omega), pk_un (by omega), pk_un (by omega)]
      exact h4 b (by omega)
  · have t := (h2 b hb).1
    unfold cr_o
    rw [pk_un (by omega), pk_un (by omega), pk_un (by omega), pk_un (by omega)]
    exact h5 b hb i hi
  · by_cases e : b = C
    · subst e
      exact ⟨u4_0.trans pk_us.symm, u4_1.trans pk_us.symm, u4_2.trans pk_us.symm, u4_3.trans pk_us.symm⟩
    · obtain ⟨q0, q1, q2, q3⟩ := h6 b (by omega)
      exact ⟨(u4_n (by omega)).trans (q0.trans (pk_un (by omega)).symm), (u4_n (by omega)).trans (q1.trans (pk_un (by omega)).symm), (u4_n (by omega)).trans (q2.trans (pk_un (by omega)).symm), (u4_n (by omega)).trans (q3.trans (pk_un (by omega)).symm)⟩
variable {xal xmu xmt xsa xmo xcl xat : Int32} {xop xfd xfa xfb xct xin xce xli xho xle xbl xis xen xun xsA xsB xde xex xcu xdp xhe xuf xlu xvr xhu xrg xuo xla : Nat → Int32} {ycl yph yat yal ymu ymt : Int32} {yco ykl yct yin yce yva : Nat → Int32}
theorem xk_66 {post : Int32 → SX → Prop} {C : Nat} {op d a b : Int32} (hcl : xcl = nI C) (hC : C < 8)
    (h : post 0 (xal, xmu, xmt, xsa, xmo, nI (C + 1), xat, upd xop (C * 9 + 8) op, upd xfd (C * 9 + 8) (ko_d op d), upd xfa (C * 9 + 8) (ko_a op a), upd xfb (C * 9 + 8) (ko_b op b), xct, xin, xce, xli, xho, xle, xbl, xis, xen, xun, xsA, xsB, xde, xex, xcu, xdp, xhe, xuf, xlu, xvr, xhu, xrg, xuo, xla)) : wX_close_66 post op d a b xal xmu xmt xsa xmo xcl xat xop xfd xfa xfb xct xin xce xli xho xle xbl xis xen xun xsA xsB xde xex xcu xdp xhe xuf xlu xvr xhu xrg xuo xla := by
  have ck : (nI (C * 9 + 8)).toNatClampNeg = C * 9 + 8 := nI_clamp (by omega)
  have vk : vp_in (nI (C * 9 + 8)) 72 := vp_in_nI (by omega) (by omega)
  have s148 : ∀ bv, bv = ko_b op b → wX_close_148 post bv (nI (C * 9 + 8)) xal xmu xmt xsa xmo xcl xat (upd xop (C * 9 + 8) op) (upd xfd (C * 9 + 8) (ko_d op d)) (upd xfa (C * 9 + 8) (ko_a op a)) xfb xct xin xce xli xho xle xbl xis xen xun xsA xsB xde xex xcu xdp xhe xuf xlu xvr xhu xrg xuo xla := by
    intro bv e
    unfold wX_close_148
    rw [ck, e]
    exact ⟨vk, nm_e (nm_r (e' := nI (C + 1)) (by rw [hcl, nI_1]) h)⟩
  have s130 : ∀ av, av = ko_a op a → wX_close_130 post op b (nI (C * 9 + 8)) av (nI (C * 9 + 8)) xal xmu xmt xsa xmo xcl xat (upd xop (C * 9 + 8) op) (upd xfd (C * 9 + 8) (ko_d op d)) xfa xfb xct xin xce xli xho xle xbl xis xen xun xsA xsB xde xex xcu xdp xhe xuf xlu xvr xhu xrg xuo xla := by
    intro av e
    unfold wX_close_130
    rw [ck, e]
    exact ⟨vk, nm_e (br_c (fun g => s148 b (if_pos g).symm) (fun g => s148 0 (if_neg g).symm))⟩
  have s113 : ∀ dv, dv = ko_d op d → wX_close_113 post op a b (nI (C * 9 + 8)) dv (nI (C * 9 + 8)) xal xmu xmt xsa xmo xcl xat (upd xop (C * 9 + 8) op) xfd xfa xfb xct xin xce xli xho xle xbl xis xen xun xsA xsB xde xex xcu xdp xhe xuf xlu xvr xhu xrg xuo xla := by
    intro dv e
    unfold wX_close_113
    rw [ck, e]
    exact ⟨vk, nm_e (br_c (fun g => s130 0 (if_pos g).symm) (fun g => s130 a (if_neg g).symm))⟩
  unfold wX_close_66
  refine br_t (by rw [hcl]; exact nI_lt (b := 8) hC (by omega)) (nm_r (e' := nI (C * 9 + 8)) (by rw [hcl, na_e]) ?_)
  rw [ck]
  exact ⟨vk, nm_e (br_c (fun g => s113 0 (if_pos g).symm) (fun g => s113 d (if_neg g).symm))⟩
theorem yk_76 {post : Int32 → SY → Prop} {C : Nat} {op d a b : Int32} (hcl : ycl = nI C) (hC : C < 8)
    (h : post 0 (nI (C + 1), yph, yat, yal, ymu, ymt, yco, upd (upd (upd (upd ykl (C * 4) op) (C * 4 + 1) (ko_d op d)) (C * 4 + 2) (ko_a op a)) (C * 4 + 3) (ko_b op b), yct, yin, yce, yva)) : wY_close_76 post op d a b ycl yph yat yal ymu ymt yco ykl yct yin yce yva := by
  have k0 : (nI (C * 4)).toNatClampNeg = C * 4 := nI_clamp (by omega)
  have k1 : (nI (C * 4 + 1)).toNatClampNeg = C * 4 + 1 := nI_clamp (by omega)
  have k2 : (nI (C * 4 + 2)).toNatClampNeg = C * 4 + 2 := nI_clamp (by omega)
  have k3 : (nI (C * 4 + 3)).toNatClampNeg = C * 4 + 3 := nI_clamp (by omega)
  have e0 : ycl * 4 = nI (C * 4) := by rw [hcl, na_k]
  have s168 : ∀ bv, bv = ko_b op b → wY_close_168 post bv (nI (C * 4 + 3)) ycl yph yat yal ymu ymt yco (upd (upd (upd ykl (C * 4) op) (C * 4 + 1) (ko_d op d)) (C * 4 + 2) (ko_a op a)) yct yin yce yva := by
    intro bv e
    unfold wY_close_168
    rw [k3, e]
    exact ⟨vp_in_nI (by omega) (by omega), nm_e (nm_r (e' := nI (C + 1)) (by rw [hcl, nI_1]) h)⟩
  have s144 : ∀ av, av = ko_a op a → wY_close_144 post op b av (nI (C * 4 + 2)) ycl yph yat yal ymu ymt yco (upd (upd ykl (C * 4) op) (C * 4 + 1) (ko_d op d)) yct yin yce yva := by
    intro av e
    unfold wY_close_144
    rw [k2, e, e0, na_3]
    exact ⟨vp_in_nI (by omega) (by omega), nm_e (br_c (fun g => s168 b (if_pos g).symm) (fun g => s168 0 (if_neg g).symm))⟩
  have s121 : ∀ dv, dv = ko_d op d → wY_close_121 post op a b dv (nI (C * 4 + 1)) ycl yph yat yal ymu ymt yco (upd ykl (C * 4) op) yct yin yce yva := by
    intro dv e
    unfold wY_close_121
    rw [k1, e, e0, na_2]
    exact ⟨vp_in_nI (by omega) (by omega), nm_e (br_c (fun g => s144 0 (if_pos g).symm) (fun g => s144 a (if_neg g).symm))⟩
  unfold wY_close_76
  rw [e0, k0, na_1]
  exact br_t (by rw [hcl]; exact nI_lt (b := 8) hC (by omega)) ⟨vp_in_nI (by omega) (by omega), nm_e (br_c (fun g => s121 0 (if_pos g).symm) (fun g => s121 d (if_neg g).symm))⟩
theorem xk_close {post : Int32 → SX → Prop} {op d a b : Int32} {q : Nat} (h0 : xmo = 0) (hq : q ≤ 2) (eq : op = nI q) (hok : ko_k op d a b → wX_close_66 post op d a b xal xmu xmt xsa xmo xcl xat xop xfd xfa xfb xct xin xce xli xho xle xbl xis xen xun xsA xsB xde xex xcu xdp xhe xuf xlu xvr xhu xrg xuo xla) (hbad : ¬ ko_k op d a b → post (-2) (xal, xmu, xmt, xsa, xmo, xcl, xat, xop, xfd, xfa, xfb, xct, xin, xce, xli, xho, xle, xbl, xis, xen, xun, xsA, xsB, xde, xex, xcu, xdp, xhe, xuf, xlu, xvr, xhu, xrg, xuo, xla)) : wpX_close post (xal, xmu, xmt, xsa, xmo, xcl, xat, xop, xfd, xfa, xfb, xct, xin, xce, xli, xho, xle, xbl, xis, xen, xun, xsA, xsB, xde, xex, xcu, xdp, xhe, xuf, xlu, xvr, xhu, xrg, xuo, xla) op d a b := by
  have s49 : (¬ op = 0 → ix_8 d) → (¬ op = 2 → ix_8 a) → wX_close_49 post op d a b xal xmu xmt xsa xmo xcl xat xop xfd xfa xfb xct xin xce xli xho xle xbl xis xen xun xsA xsB xde xex xcu xdp xhe xuf xlu xvr xhu xrg xuo xla := by
    intro hd ha
    exact br_c (fun g => xh_isIndex (fun z => hbad (fun y => ix_no z (y.2.2 g))) (fun j hj e => hok ⟨hd, ha, fun _ => ⟨j, hj, e⟩⟩)) (fun g => hok ⟨hd, ha, fun z => absurd z g⟩)
  have s33 : (¬ op = 0 → ix_8 d) → wX_close_33 post op d a b xal xmu xmt xsa xmo xcl xat xop xfd xfa xfb xct xin xce xli xho xle xbl xis xen xun xsA xsB xde xex xcu xdp xhe xuf xlu xvr xhu xrg xuo xla := by
    intro hd
    exact br_c (fun g => s49 hd (fun z => absurd g z)) (fun g => xh_isIndex (fun z => hbad (fun y => ix_no z (y.2.1 g))) (fun j hj e => s49 hd (fun _ => ⟨j, hj, e⟩)))
  refine br_t h0 (br_f (by rw [eq]; exact nI_pos (by omega)) (br_t (by rw [eq]; exact nI_le (b := 2) hq (by omega)) (br_c (fun g => s33 (fun z => absurd g z)) (fun g => xh_isIndex (fun z => hbad (fun y => ix_no z (y.1 g))) (fun j hj e => s33 (fun _ => ⟨j, hj, e⟩))))))
theorem yk_close {post : Int32 → SY → Prop} {op d a b : Int32} {q : Nat} (h0 : yph = 0) (hq : q ≤ 2) (eq : op = nI q) (hok : ko_k op d a b → wY_close_76 post op d a b ycl yph yat yal ymu ymt yco ykl yct yin yce yva) (hbad : ¬ ko_k op d a b → post (-2) (ycl, yph, yat, yal, ymu, ymt, yco, ykl, yct, yin, yce, yva)) : wpY_close post (ycl, yph, yat, yal, ymu, ymt, yco, ykl, yct, yin, yce, yva) op d a b := by
  have s56 : (¬ op = 0 → ix_8 d) → (¬ op = 2 → ix_8 a) → wY_close_56 post op d a b ycl yph yat yal ymu ymt yco ykl yct yin yce yva := by
    intro hd ha
    exact br_c (fun g => yx_ix (fun z => hbad (fun y => ix_no z (y.2.2 g))) (fun j hj e => hok ⟨hd, ha, fun _ => ⟨j, hj, e⟩⟩)) (fun g => hok ⟨hd, ha, fun z => absurd z g⟩)
  have s38 : (¬ op = 0 → ix_8 d) → wY_close_38 post op d a b ycl yph yat yal ymu ymt yco ykl yct yin yce yva := by
    intro hd
    exact br_c (fun g => s56 hd (fun z => absurd g z)) (fun g => yx_ix (fun z => hbad (fun y => ix_no z (y.2.1 g))) (fun j hj e => s56 hd (fun _ => ⟨j, hj, e⟩)))
  refine br_t h0 (br_f (by rw [eq]; exact nI_pos (by omega)) (br_t (by rw [eq]; exact nI_le (b := 2) hq (by omega)) (br_c (fun g => s38 (fun z => absurd g z)) (fun g => yx_ix (fun z => hbad (fun y => ix_no z (y.1 g))) (fun j hj e => s38 (fun _ => ⟨j, hj, e⟩))))))
end P27
theorem i_vc_close {k : Nat} {u : SX} {v : SY} (I : i_Rel k u v) (hk : k + 5 ≤ 2563) (v1 : Int32) (v2 : Int32) (v3 : Int32) (v4 : Int32) : wpX_close (fun r u' => wpY_close (fun r' v' => r' = r ∧ i_Rel (k + 5) u' v') v v1 v2 v3 v4) u v1 v2 v3 v4 := by
  refine rl_el (P := fun u v => wpX_close (fun r u' => wpY_close (fun r' v' => r' = r ∧ i_Rel (k + 5) u' v') v v1 v2 v3 v4) u v1 v2 v3 v4) I (fun xal xmu xmt xsa xmo xcl xat xop xfd xfa xfb xct xin xce xli xho xle xbl xis xen xun xsA xsB xde xex xcu xdp xhe xuf xlu xvr xhu xrg xuo xla yco ykl yva h => ?_)
  have h' := h
  obtain ⟨a, m, T, C, hp, hcl, hc, hmo⟩ := h'
  have hC := hc.1.1
  by_cases g0 : xmo = 0
  · by_cases g1 : v1 < 0
    · exact br_t g0 (br_t g1 (br_t g0 (br_t g1 ⟨rfl, rl_in h⟩)))
    · by_cases g2 : v1 ≤ 2
      · obtain ⟨q, hq, eq⟩ := nI_of2 (n := 2) (by decide) g1 g2
        have hop : v1 = 0 ∨ v1 = 1 ∨ v1 = 2 := by
          rcases (by omega : q = 0 ∨ q = 1 ∨ q = 2) with rfl | rfl | rfl
          · exact Or.inl eq
          · exact Or.inr (Or.inl eq)
          · exact Or.inr (Or.inr eq)
        refine xk_close g0 hq eq (fun ok => ?_) (fun nok => yk_close g0 hq eq (fun z => absurd z nok) (fun _ => ⟨rfl, rl_in h⟩))
        by_cases gC : C < 8
        · exact xk_66 hcl gC (yk_close g0 hq eq (fun _ => yk_76 hcl gC ⟨rfl, rl_in ⟨a, m, T, C + 1, hp, rfl, ko_rel hc gC hop ok, Or.inl g0⟩⟩) (fun z => absurd ok z))
        · have nC : ¬ xcl < (8 : Int32) := by rw [hcl]; exact nI_nlt (b := 8) (by omega) (by omega)
          exact br_f nC (yk_close g0 hq eq (fun _ => br_f nC ⟨rfl, rl_in h⟩) (fun z => absurd ok z))
      · exact br_t g0 (br_f g1 (br_f g2 (br_t g0 (br_f g1 (br_f g2 ⟨rfl, rl_in h⟩)))))
  · exact br_f g0 (br_f g0 ⟨rfl, rl_in h⟩)
end
section
section P28
/-! run -/
variable {xal xmu xmt xsa xmo xcl xat : Int32} {xop xfd xfa xfb xct xin xce xli xho xle xbl xis xen xun xsA xsB xde xex xcu xdp xhe xuf xlu xvr xhu xrg xuo xla : Nat → Int32} {ycl yph yat yal ymu ymt : Int32} {yco ykl yct yin yce yva : Nat → Int32}
theorem yr_34 {post : Int32 → SY → Prop} {J : Int32 → Int32 → Int32 → Int32 → Int32 → Int32 → Int32 → (Nat → Int32) → (Nat → Int32) → (Nat → Int32) → (Nat → Int32) → (Nat → Int32) → (Nat → Int32) → Prop} {x1 x2 : Int32} {o D A B V M : Nat → Int32} {b n : Nat} (hb : b < 8) (hn : n ≤ 8) (hct : yct b = nI n) (hw : ∀ i, i < n → wf_op o D A B (b * 9 + i)) (hco : ∀ i, i < n → cr_o o D A B b i yco)
    (hend : ∀ m, wY_run_34 post J x1 x2 (m + 1) (nI n) ycl yph (nI b) yal ymu ymt yco ykl yct yin ((pd_ex o D A B b V M n).2) ((pd_ex o D A B b V M n).1)) :
    ∀ d i, i + d = n → wY_run_34 post J x1 x2 (d + 1) (nI i) ycl yph (nI b) yal ymu ymt yco ykl yct yin ((pd_ex o D A B b V M i).2) ((pd_ex o D A B b V M i).1) := by
  intro d
  have cb : (nI b).toNatClampNeg = b := nI_clamp (by omega)
  have vb : vp_in (nI b) 8 := vp_in_nI hb (by omega)
  induction d with
  | zero =>
    intro i hi
    have e : i = n := by omega
    subst e
    exact hend 0
  | succ d ih =>
    intro i hi
    rw [wY_run_34]; dsimp only; rw [cb, hct]
    refine ⟨vb, br_f (nI_ge (by omega) (by omega)) (ys_step hb (by omega) (hw i (by omega)) (hco i (by omega)) ?_)⟩
    exact nm_r (nI_1 i) (ih (i + 1) (by omega))
theorem yr_e2 {post : Int32 → SY → Prop} {J : Int32 → Int32 → Int32 → Int32 → Int32 → Int32 → Int32 → (Nat → Int32) → (Nat → Int32) → (Nat → Int32) → (Nat → Int32) → (Nat → Int32) → (Nat → Int32) → Prop} {x1 x2 : Int32} {o D A B : Nat → Int32} {b n m : Nat} (hb : b < 8) (hn : n ≤ 8) (hct : yct b = nI n) (hk : cr_k o D A B b ykl) (g : o (b * 9 + 8) = 2)
    (h : wY_run_150 post J x1 x2 ycl 3 (nI b) yal ymu ymt yco ykl yct yin yce yva) : wY_run_34 post J x1 x2 (m + 1) (nI n) ycl yph (nI b) yal ymu ymt yco ykl yct yin yce yva := by
  have cb : (nI b).toNatClampNeg = b := nI_clamp (by omega)
  have vb : vp_in (nI b) 8 := vp_in_nI hb (by omega)
  rw [wY_run_34]; dsimp only; rw [cb, hct]
  refine ⟨vb, br_t (nI_le (Nat.le_refl _) (by omega)) ⟨by rw [na_k]; exact vp_in_nI (by omega) (by omega), nm_r (e' := 2) ?_ (br_t rfl h)⟩⟩
  rw [na_k, nI_clamp (by omega), hk.1, g]
theorem yr_e1 {post : Int32 → SY → Prop} {J : Int32 → Int32 → Int32 → Int32 → Int32 → Int32 → Int32 → (Nat → Int32) → (Nat → Int32) → (Nat → Int32) → (Nat → Int32) → (Nat → Int32) → (Nat → Int32) → Prop} {x1 x2 : Int32} {o D A B : Nat → Int32} {b n m t : Nat} (hb : b < 8) (hn : n ≤ 8) (hct : yct b = nI n) (hw : wf_cl o D A B (b * 9 + 8)) (hk : cr_k o D A B b ykl) (g : ¬ o (b * 9 + 8) = 2)
    (e1 : (o (b * 9 + 8) = 0 ∨ ¬ yva (D (b * 9 + 8)).toNatClampNeg = 0) → A (b * 9 + 8) = nI t) (e2 : ¬ o (b * 9 + 8) = 0 → yva (D (b * 9 + 8)).toNatClampNeg = 0 → B (b * 9 + 8) = nI t)
    (h : wY_run_150 post J x1 x2 ycl yph (nI t) yal ymu ymt yco ykl yct yin yce yva) : wY_run_34 post J x1 x2 (m + 1) (nI n) ycl yph (nI b) yal ymu ymt yco ykl yct yin yce yva := by
  have cb : (nI b).toNatClampNeg = b := nI_clamp (by omega)
  have vb : vp_in (nI b) 8 := vp_in_nI hb (by omega)
  obtain ⟨k0, k1, k2, k3⟩ := hk
  obtain ⟨hkd, ⟨d, hd, ed⟩, _⟩ := hw
  have s133 : A (b * 9 + 8) = nI t → wY_run_133 post J x1 x2 ycl yph (nI b) yal ymu ymt yco ykl yct yin yce yva := by
    intro e
    unfold wY_run_133
    rw [na_k, na_2, nI_clamp (show b * 4 + 2 < 2 ^ 31 by omega), k2, e]
    exact ⟨vp_in_nI (by omega) (by omega), nm_e h⟩
  rw [wY_run_34]; dsimp only; rw [cb, hct, na_k, na_1, na_3, nI_clamp (show b * 4 < 2 ^ 31 by omega), nI_clamp (show b * 4 + 1 < 2 ^ 31 by omega), nI_clamp (show b * 4 + 3 < 2 ^ 31 by omega), k0, k1, k3]
  refine ⟨vb, br_t (nI_le (Nat.le_refl _) (by omega)) ⟨vp_in_nI (by omega) (by omega), nm_e (br_f g (br_c (fun g1 => ⟨vp_in_nI (by omega) (by omega), by rw [ed]; exact vp_in_nI hd (by omega), br_c (fun gv => ⟨vp_in_nI (by omega) (by omega), ?_⟩) (fun gv => s133 (e1 (Or.inr gv)))⟩) (fun g1 => s133 (e1 (Or.inl ?_)))))⟩⟩
  · exact nm_r (e2 (by rw [g1]; decide) gv) h
  · rcases hkd with z | z | z
    · exact z
    · exact absurd z g1
    · exact absurd z g
theorem rn_26 {W : (Int32 → SY → Prop) → Prop} {k C a m T N : Nat} {yco ykl : Nat → Int32} (hN : N ≤ 16) (hcl : xcl = nI C) (hp : mp_s xal xmu xmt a m T) (hc : rl_C xop xfd xfa xfb xct C yco ykl) (hcm : cm_p xop xfd xfa xfb xct C a m T xli xho xle xbl xis xen xun xsA xsB xde xex) :
    ∀ d done b sa ce rg uo la va, done + (d + 1) = N → b < C → (∀ v, v < 8 → bt (xli b) v = true → rg (xho v).toNatClampNeg = va v) →
      (∀ pY : Int32 → SY → Prop, (∃ q, wY_run_26 pY (nI N) q (nI (done + 1)) xcl 2 (nI b) xal xmu xmt yco ykl xct xin ce va) → W pY) →
      wX_run_26 (fun r u' => W (fun r' v' => r' = r ∧ i_Rel k u' v')) (nI N) (d + 2) (nI done) xal xmu xmt sa 2 xcl (nI b) xop xfd xfa xfb xct xin ce xli xho xle xbl xis xen xun xsA xsB xde xex xcu xdp xhe xuf xlu xvr xhu rg uo la := by
  have hC := hc.1.1
  have hT := hp.2.2.1
  intro d
  induction d with
  | zero =>
    intro done b sa ce rg uo la va hd hb hv Z
    obtain ⟨hn, en⟩ := hc.1.2.1 b (by omega)
    rw [wX_run_26]; dsimp only
    refine br_f (nI_ge (by omega) (by omega)) (br_t rfl (xb_exec (xmo := 2) (xsa := sa) (xce := ce) (xrg := rg) (xuo := uo) (xla := la) (V := va) hb hc.1 hT hcm hv (fun g sa' rg' uo' la' hla => ?_) (fun g t ht e1 e2 sa' rg' uo' la' hrg => ?_)))
    · refine nm_r (nI_1 done) ?_
      rw [wX_run_26]; dsimp only
      refine br_t (nI_le (by omega) (by omega)) (Z _ ⟨1, ?_⟩)
      rw [wY_run_26]; dsimp only
      refine br_f (nI_nlt (a := 16) (by omega) (by omega)) ⟨_, yr_34 (V := va) (M := ce) (by omega) hn en (hc.1.2.2.1 b (by omega)) (hc.2.1 b (by omega)) (fun q => yr_e2 (by omega) hn en (hc.2.2 b hb) g (br_t rfl ⟨rfl, rl_in ⟨a, m, T, C, hp, hcl, hc, Or.inr ⟨hcm, Or.inr ⟨b, hb, rfl, Or.inr ⟨rfl, hla⟩⟩⟩⟩⟩)) (pd_n xct b) 0 (by omega)⟩
    · refine nm_r (nI_1 done) ?_
      rw [wX_run_26]; dsimp only
      refine br_t (nI_le (by omega) (by omega)) (Z _ ⟨1, ?_⟩)
      rw [wY_run_26]; dsimp only
      refine br_f (nI_nlt (a := 16) (by omega) (by omega)) ⟨_, yr_34 (V := va) (M := ce) (by omega) hn en (hc.1.2.2.1 b (by omega)) (hc.2.1 b (by omega)) (fun q => yr_e1 (by omega) hn en (hc.1.2.2.2 b hb) (hc.2.2 b hb) g e1 e2 (br_f (by decide) (br_t (congrArg nI hd) ⟨rfl, rl_in ⟨a, m, T, C, hp, hcl, hc, Or.inr ⟨hcm, Or.inr ⟨t, ht, rfl, Or.inl ⟨rfl, hrg⟩⟩⟩⟩⟩))) (pd_n xct b) 0 (by omega)⟩
  | succ d ih =>
    intro done b sa ce rg uo la va hd hb hv Z
    obtain ⟨hn, en⟩ := hc.1.2.1 b (by omega)
    rw [wX_run_26]; dsimp only
    refine br_f (nI_ge (by omega) (by omega)) (br_t rfl (xb_exec (xmo := 2) (xsa := sa) (xce := ce) (xrg := rg) (xuo := uo) (xla := la) (V := va) hb hc.1 hT hcm hv (fun g sa' rg' uo' la' hla => ?_) (fun g t ht e1 e2 sa' rg' uo' la' hrg => ?_)))
    · refine nm_r (nI_1 done) ?_
      rw [wX_run_26]; dsimp only
      refine br_f (nI_ge (by omega) (by omega)) (br_f (by decide) (Z _ ⟨1, ?_⟩))
      rw [wY_run_26]; dsimp only
      refine br_f (nI_nlt (a := 16) (by omega) (by omega)) ⟨_, yr_34 (V := va) (M := ce) (by omega) hn en (hc.1.2.2.1 b (by omega)) (hc.2.1 b (by omega)) (fun q => yr_e2 (by omega) hn en (hc.2.2 b hb) g (br_t rfl ⟨rfl, rl_in ⟨a, m, T, C, hp, hcl, hc, Or.inr ⟨hcm, Or.inr ⟨b, hb, rfl, Or.inr ⟨rfl, hla⟩⟩⟩⟩⟩)) (pd_n xct b) 0 (by omega)⟩
    · refine nm_r (nI_1 done) (ih (done + 1) t sa' _ rg' uo' la' _ (by omega) ht hrg (fun pY hpY => ?_))
      obtain ⟨q, hq⟩ := hpY
      refine Z pY ⟨q + 1, ?_⟩
      rw [wY_run_26]; dsimp only
      refine br_f (nI_nlt (a := 16) (by omega) (by omega)) ⟨_, yr_34 (V := va) (M := ce) (by omega) hn en (hc.1.2.2.1 b (by omega)) (hc.2.1 b (by omega)) (fun q' => yr_e1 (by omega) hn en (hc.1.2.2.2 b hb) (hc.2.2 b hb) g e1 e2 (br_f (by decide) (br_f ?_ (nm_r (nI_1 _) hq)))) (pd_n xct b) 0 (by omega)⟩
      rw [nI_eq (by omega) (by omega)]
      omega
end P28
theorem i_vc_run {k : Nat} {u : SX} {v : SY} (I : i_Rel k u v) (hk : k + 5 ≤ 2563) (v1 : Int32) : wpX_run (fun r u' => wpY_run (fun r' v' => r' = r ∧ i_Rel (k + 5) u' v') v v1) u v1 := by
  refine rl_el (P := fun u v => wpX_run (fun r u' => wpY_run (fun r' v' => r' = r ∧ i_Rel (k + 5) u' v') v v1) u v1) I (fun xal xmu xmt xsa xmo xcl xat xop xfd xfa xfb xct xin xce xli xho xle xbl xis xen xun xsA xsB xde xex xcu xdp xhe xuf xlu xvr xhu xrg xuo xla yco ykl yva h => ?_)
  refine br_c (fun g2 => br_c (fun g1 => br_t g2 (br_t g1 ⟨rfl, rl_in h⟩)) (fun g1 => br_c (fun g16 => ?_) (fun g16 => br_t g2 (br_f g1 (br_f g16 ⟨rfl, rl_in h⟩))))) (fun g2 => br_f g2 ⟨rfl, rl_in h⟩)
  obtain ⟨a, m, T, C, hp, hcl, hc, hmo⟩ := h
  obtain ⟨hcm, hm⟩ := hmo.resolve_left (by rw [g2]; decide)
  have h1 : (1 : Int32).toInt = 1 := by decide
  have n0 : ¬ v1 < 0 := by
    rw [Int32.lt_iff_toInt_lt, h1] at g1
    rw [Int32.lt_iff_toInt_lt, na_0]; omega
  obtain ⟨N, hN, rfl⟩ := nI_of2 (n := 16) (by decide) n0 g16
  have hN1 : 1 ≤ N := by
    apply Classical.byContradiction
    intro z
    have : N = 0 := by omega
    subst this
    exact g1 (by decide)
  subst g2
  rcases hm with z | ⟨b, hb, rfl, ⟨_, hv⟩ | ⟨z, _⟩⟩
  · exact absurd z (by decide)
  · obtain ⟨d, rfl⟩ : ∃ d, N = d + 1 := ⟨N - 1, by omega⟩
    exact ⟨d + 2, rn_26 (W := fun pY => wpY_run pY (xcl, 2, nI b, xal, xmu, xmt, yco, ykl, xct, xin, xce, yva) (nI (d + 1))) hN hcl hp hc hcm d 0 b xsa xce xrg xuo xla yva (by omega) hb hv (fun pY hpY => br_t rfl (br_f g1 (br_t g16 hpY)))⟩
  · exact absurd z (by decide)
end
section
section P29
/-! the reference's liveness -/
def rf_p (o D A B : Nat → Int32) (n b v : Nat) : Prop :=
  (∃ j, j < n ∧ pd_rd o A B (b * 9 + j) v ∧ pd_nw o D b 0 j v) ∨ (¬ o (b * 9 + 8) = 0 ∧ D (b * 9 + 8) = nI v ∧ pd_nw o D b 0 n v)
def wk_p (o D A B ct : Nat → Int32) (v : Nat) : Nat → Nat → Nat → Prop
  | 0, _, _ => False
  | d + 1, q, c => rf_p o D A B (pd_n ct c) c v ∨ (¬ o (c * 9 + 8) = 2 ∧ pd_nw o D c 0 (pd_n ct c) v ∧
      ((o (c * 9 + 8) = 1 ∧ q % 2 = 1 ∧ wk_p o D A B ct v d (q / 2) (B (c * 9 + 8)).toNatClampNeg) ∨ (¬ (o (c * 9 + 8) = 1 ∧ q % 2 = 1) ∧ wk_p o D A B ct v d (q / 2) (A (c * 9 + 8)).toNatClampNeg)))
theorem wk_lv {o D A B ct : Nat → Int32} {v : Nat} : ∀ d q c, wk_p o D A B ct v d q c → pd_lv o D A B ct d c v := by
  intro d
  induction d with
  | zero => intro q c h; exact absurd h id
  | succ d ih =>
    intro q c h
    show pd_lb _ o D A B (pd_n ct c) c 0 v
    rcases h with (⟨j, hj, h1, h2⟩ | ⟨h1, h2, h3⟩) | ⟨h1, h2, ⟨h3, _, h4⟩ | ⟨_, h4⟩⟩
    · exact Or.inl ⟨j, Nat.zero_le j, hj, h1, h2⟩
    · exact Or.inr ⟨Or.inl ⟨h1, h2⟩, h3⟩
    · exact Or.inr ⟨Or.inr (Or.inr ⟨h3, ih _ _ h4⟩), h2⟩
    · exact Or.inr ⟨Or.inr (Or.inl ⟨h1, ih _ _ h4⟩), h2⟩
theorem lv_wk {o D A B ct : Nat → Int32} {v : Nat} : ∀ d c, pd_lv o D A B ct (d + 1) c v → ∃ q, q < 2 ^ d ∧ wk_p o D A B ct v (d + 1) q c := by
  intro d
  induction d with
  | zero =>
    intro c h
    rcases h with ⟨j, _, hj, h1, h2⟩ | ⟨h1 | ⟨_, h1⟩ | ⟨_, h1⟩, h2⟩
    · exact ⟨0, by omega, Or.inl (Or.inl ⟨j, hj, h1, h2⟩)⟩
    · exact ⟨0, by omega, Or.inl (Or.inr ⟨h1.1, h1.2, h2⟩)⟩
    · exact absurd h1 id
    · exact absurd h1 id
  | succ d ih =>
    intro c h
    have pw : 2 ^ (d + 1) = 2 * 2 ^ d := by rw [Nat.pow_succ, Nat.mul_comm]
    have p0 : 0 < 2 ^ (d + 1) := Nat.two_pow_pos _
    rcases h with ⟨j, _, hj, h1, h2⟩ | ⟨h1 | ⟨h0, h1⟩ | ⟨h0, h1⟩, h2⟩
    · exact ⟨0, p0, Or.inl (Or.inl ⟨j, hj, h1, h2⟩)⟩
    · exact ⟨0, p0, Or.inl (Or.inr ⟨h1.1, h1.2, h2⟩)⟩
    · obtain ⟨q, hq, w⟩ := ih _ h1
      refine ⟨2 * q, by omega, Or.inr ⟨h0, h2, Or.inr ⟨fun z => ?_, ?_⟩⟩⟩
      · have := z.2; omega
      · rw [show 2 * q / 2 = q by omega]; exact w
    · obtain ⟨q, hq, w⟩ := ih _ h1
      refine ⟨2 * q + 1, by omega, Or.inr ⟨by rw [h0]; decide, h2, Or.inl ⟨h0, by omega, ?_⟩⟩⟩
      rw [show (2 * q + 1) / 2 = q by omega]; exact w
theorem bq_sh {t k : Nat} (ht : t < 2 ^ 20) (hk : k < 32) : ((nI t >>> (nI k &&& 31)) &&& 1) = 1 ↔ t / 2 ^ k % 2 = 1 := by
  have l : t / 2 ^ k ≤ t := Nat.div_le_self _ _
  rw [pk_shrN (by omega) _ k (s_l k hk), pk_andN (by omega) 1 (by decide)]
  generalize t / 2 ^ k = z at *
  rw [show (1 : Int32) = nI 1 from rfl, nI_eq (by omega) (by omega)]
variable {ycl yph yat yal ymu ymt : Int32} {yco ykl yct yin yce yva : Nat → Int32} {o D A B : Nat → Int32}
theorem yl_writes {P Q : Prop} {b i v : Nat} (hb : b < 8) (hi : i < 8) (hv : v < 8) (hc : cr_o o D A B b i yco) (h0 : ¬ pd_wr o D (b * 9 + i) v → P) (h1 : pd_wr o D (b * 9 + i) v → Q) : wpY_writes (fun r => (r = 0 → P) ∧ (¬ r = 0 → Q)) (ycl, yph, yat, yal, ymu, ymt, yco, ykl, yct, yin, yce, yva) (nI b) (nI i) (nI v) := by
  obtain ⟨c0, c1, c2, c3⟩ := hc
  unfold wpY_writes
  refine nm_r (na_c b i) ?_
  rw [na_1, nI_clamp (show (b * 8 + i) * 4 < 2 ^ 31 by omega), nI_clamp (show (b * 8 + i) * 4 + 1 < 2 ^ 31 by omega), c0, c1]
  exact ⟨vp_in_nI (by omega) (by omega), br_c (fun g => br_t rfl (h0 (fun z => z.1 g))) (fun g => ⟨vp_in_nI (by omega) (by omega), br_c (fun g2 => br_f (by decide) (h1 ⟨g, g2⟩)) (fun g2 => br_t rfl (h0 (fun z => g2 z.2)))⟩)⟩
theorem yl_reads {P Q : Prop} {b i v : Nat} (hb : b < 8) (hi : i < 8) (hc : cr_o o D A B b i yco) (h0 : ¬ pd_rd o A B (b * 9 + i) v → P) (h1 : pd_rd o A B (b * 9 + i) v → Q) : wpY_reads (fun r => (r = 0 → P) ∧ (¬ r = 0 → Q)) (ycl, yph, yat, yal, ymu, ymt, yco, ykl, yct, yin, yce, yva) (nI b) (nI i) (nI v) := by
  obtain ⟨c0, c1, c2, c3⟩ := hc
  unfold wpY_reads
  refine nm_r (na_c b i) ?_
  rw [na_2, na_3, nI_clamp (show (b * 8 + i) * 4 < 2 ^ 31 by omega), nI_clamp (show (b * 8 + i) * 4 + 2 < 2 ^ 31 by omega), nI_clamp (show (b * 8 + i) * 4 + 3 < 2 ^ 31 by omega), c0, c2, c3]
  refine ⟨vp_in_nI (by omega) (by omega), nm_e (br_c (fun g => br_t rfl (h0 (fun z => ?_))) (fun g => ⟨vp_in_nI (by omega) (by omega), br_c (fun g2 => br_f (by decide) (h1 (Or.inl ⟨g, g2⟩))) (fun g2 => br_c (fun g3 => br_t rfl (h0 (fun z => ?_))) (fun g3 => br_c (fun g4 => br_t rfl (h0 (fun z => ?_))) (fun g4 => ⟨vp_in_nI (by omega) (by omega), br_c (fun g5 => br_f (by decide) (h1 (Or.inr ⟨⟨g, g3, g4⟩, g5⟩))) (fun g5 => br_t rfl (h0 (fun z => ?_)))⟩)))⟩))⟩
  · rcases z with z | z
    · exact z.1 g
    · exact z.1.1 g
  · rcases z with z | z
    · exact g2 z.2
    · exact z.1.2.1 g3
  · rcases z with z | z
    · exact g2 z.2
    · exact z.1.2.2 g4
  · rcases z with z | z
    · exact g2 z.2
    · exact g5 z.2
theorem yl_3 {P : Int32 → Prop} {b lo hi v : Nat} (hb : b < 8) (hh : hi ≤ 8) (hv : v < 8) (hc : ∀ i, i < hi → cr_o o D A B b i yco) (h0 : pd_nw o D b lo hi v → P 0) (h1 : ¬ pd_nw o D b lo hi v → P 1) :
    ∀ d i, i + d = hi → lo ≤ i → pd_nw o D b lo i v → wY_writesWithin_3 P (nI b) (nI hi) (nI v) ycl yph yat yal ymu ymt yco ykl yct yin yce yva (d + 1) (nI i) := by
  intro d
  induction d with
  | zero =>
    intro i hi' hl hn
    rw [wY_writesWithin_3]; dsimp only
    have e : i = hi := by omega
    subst e
    exact br_t (nI_le (Nat.le_refl _) (by omega)) (h0 hn)
  | succ d ih =>
    intro i hi' hl hn
    rw [wY_writesWithin_3]; dsimp only
    exact br_f (nI_ge (by omega) (by omega)) (yl_writes hb (by omega) hv (hc i (by omega)) (fun g => nm_r (nI_1 i) (ih (i + 1) (by omega) (by omega) ((nw_e hl).mpr ⟨hn, g⟩))) (fun g => h1 (fun z => z i hl (by omega) g)))
theorem yl_ww {P Q : Prop} {b lo hi v : Nat} (hb : b < 8) (hh : hi ≤ 8) (hlo : lo ≤ hi) (hv : v < 8) (hc : ∀ i, i < hi → cr_o o D A B b i yco) (h0 : pd_nw o D b lo hi v → P) (h1 : ¬ pd_nw o D b lo hi v → Q) : wpY_writesWithin (fun r => (r = 0 → P) ∧ (¬ r = 0 → Q)) (ycl, yph, yat, yal, ymu, ymt, yco, ykl, yct, yin, yce, yva) (nI b) (nI lo) (nI hi) (nI v) :=
  ⟨hi - lo + 1, yl_3 hb hh hv hc (fun g => br_t rfl (h0 g)) (fun g => br_f (by decide) (h1 g)) (hi - lo) lo (by omega) (Nat.le_refl _) nw_0⟩
theorem yl_10 {post : Int32 → Prop} {b n v : Nat} (hb : b < 8) (hn : n ≤ 8) (hv : v < 8) (hc : ∀ i, i < n → cr_o o D A B b i yco) (hk : cr_k o D A B b ykl) (h0 : ¬ rf_p o D A B n b v → post 0) (h1 : rf_p o D A B n b v → post 1) :
    ∀ d i, i + d = n → (∀ j, j < i → ¬ (pd_rd o A B (b * 9 + j) v ∧ pd_nw o D b 0 j v)) → wY_readsFirst_10 post (nI b) (nI v) (nI n) ycl yph yat yal ymu ymt yco ykl yct yin yce yva (d + 1) (nI i) := by
  intro d
  induction d with
  | zero =>
    intro i hi hj
    rw [wY_readsFirst_10]; dsimp only
    have e : i = n := by omega
    subst e
    obtain ⟨k0, k1, k2, k3⟩ := hk
    rw [na_k, na_1, nI_clamp (show b * 4 < 2 ^ 31 by omega), nI_clamp (show b * 4 + 1 < 2 ^ 31 by omega), k0, k1]
    have no : ¬ (¬ o (b * 9 + 8) = 0 ∧ D (b * 9 + 8) = nI v ∧ pd_nw o D b 0 i v) → post 0 := by
      intro g
      refine h0 ?_
      rintro (⟨j, hj', z⟩ | z)
      · exact hj j hj' z
      · exact g z
    refine br_t (nI_le (Nat.le_refl _) (by omega)) ⟨vp_in_nI (by omega) (by omega), br_c (fun g => br_t rfl (no (fun z => z.1 g))) (fun g => ⟨vp_in_nI (by omega) (by omega), br_c (fun g2 => br_f (by decide) (yl_ww (lo := 0) hb hn (by omega) hv hc (fun g3 => h1 (Or.inr ⟨g, g2, g3⟩)) (fun g3 => no (fun z => g3 z.2.2)))) (fun g2 => br_t rfl (no (fun z => g2 z.2.1)))⟩)⟩
  | succ d ih =>
    intro i hi hj
    rw [wY_readsFirst_10]; dsimp only
    have nx : ¬ (pd_rd o A B (b * 9 + i) v ∧ pd_nw o D b 0 i v) → ∀ j, j < i + 1 → ¬ (pd_rd o A B (b * 9 + j) v ∧ pd_nw o D b 0 j v) := by
      intro g j hj'
      by_cases e : j = i
      · subst e; exact g
      · exact hj j (by omega)
    exact br_f (nI_ge (by omega) (by omega)) (yl_reads hb (by omega) (hc i (by omega)) (fun g => nm_r (nI_1 i) (ih (i + 1) (by omega) (nx (fun z => g z.1)))) (fun g => yl_ww (lo := 0) hb (by omega) (by omega) hv (fun j hj' => hc j (by omega)) (fun g2 => h1 (Or.inl ⟨i, by omega, g, g2⟩)) (fun g2 => nm_r (nI_1 i) (ih (i + 1) (by omega) (nx (fun z => g2 z.2))))))
theorem yl_rf {P Q : Prop} {b n v : Nat} (hb : b < 8) (hn : n ≤ 8) (hv : v < 8) (hct : yct b = nI n) (hc : ∀ i, i < n → cr_o o D A B b i yco) (hk : cr_k o D A B b ykl) (h0 : ¬ rf_p o D A B n b v → P) (h1 : rf_p o D A B n b v → Q) : wpY_readsFirst (fun r => (r = 0 → P) ∧ (¬ r = 0 → Q)) (ycl, yph, yat, yal, ymu, ymt, yco, ykl, yct, yin, yce, yva) (nI b) (nI v) := by
  refine And.intro (vp_in_nI hb (by omega)) (nm_r (e' := nI n) (by rw [nI_clamp (by omega), hct]) ⟨n + 1, yl_10 hb hn hv hc hk (fun g => br_t rfl (h0 g)) (fun g => br_f (by decide) (h1 g)) n 0 (by omega) (fun j hj => absurd hj (by omega))⟩)
theorem yl_49 {post : Int32 → Prop} {J : Int32 → Prop} {x1 : Int32} {C t v : Nat} (hC : C ≤ 8) (ht : t < 128) (hv : v < 8) (htg : pd_tg A B C) (hct : wf_ct yct) (hc : ∀ b, b < 8 → ∀ i, i < pd_n yct b → cr_o o D A B b i yco) (hk : ∀ b, b < C → cr_k o D A B b ykl) :
    ∀ d k c, k + d = 8 → c < C → (wk_p o D A B yct v d (t / 2 ^ k) c → post 1) → (¬ wk_p o D A B yct v d (t / 2 ^ k) c → J (nI (t + 1))) → wY_liveAt_49 post J x1 (nI v) (nI t) ycl yph yat yal ymu ymt yco ykl yct yin yce yva (d + 1) (nI c) 1 (nI k) := by
  intro d
  induction d with
  | zero =>
    intro k c hkd hcC h1 h0
    rw [wY_liveAt_49]; dsimp only
    exact br_t (nI_le (a := 8) (by omega) (by omega)) (nm_r (nI_1 t) (h0 id))
  | succ d ih =>
    intro k c hkd hcC h1 h0
    rw [wY_liveAt_49]; dsimp only
    obtain ⟨hn, en⟩ := hct c (by omega)
    obtain ⟨k0, k1, k2, k3⟩ := hk c hcC
    have stop : ¬ wk_p o D A B yct v (d + 1) (t / 2 ^ k) c → wY_liveAt_49 post J x1 (nI v) (nI t) ycl yph yat yal ymu ymt yco ykl yct yin yce yva (d + 1) (nI c) 0 (nI (k + 1)) := by
      intro g
      rw [wY_liveAt_49]; dsimp only
      exact br_c (fun _ => nm_r (nI_1 t) (h0 g)) (fun _ => br_t rfl (nm_r (nI_1 t) (h0 g)))
    have dv : t / 2 ^ (k + 1) = t / 2 ^ k / 2 := by rw [Nat.pow_succ, Nat.div_div_eq_div_mul]
    obtain ⟨⟨ta, hta, ea⟩, ⟨tb, htb, eb⟩⟩ := htg c hcC
    have ca : (A (c * 9 + 8)).toNatClampNeg = ta := by rw [ea, nI_clamp (by omega)]
    have cb : (B (c * 9 + 8)).toNatClampNeg = tb := by rw [eb, nI_clamp (by omega)]
    have goA : ¬ rf_p o D A B (pd_n yct c) c v → ¬ o (c * 9 + 8) = 2 → pd_nw o D c 0 (pd_n yct c) v → ¬ (o (c * 9 + 8) = 1 ∧ t / 2 ^ k % 2 = 1) → wY_liveAt_146 post J (wY_liveAt_49 post J x1 (nI v) (nI t) ycl yph yat yal ymu ymt yco ykl yct yin yce yva (d + 1)) x1 (nI v) (nI t) (nI c) 1 (nI k) ycl yph yat yal ymu ymt yco ykl yct yin yce yva := by
      intro g1 g2 g3 g4
      unfold wY_liveAt_146
      rw [na_k, na_2, nI_clamp (show c * 4 + 2 < 2 ^ 31 by omega), k2, ea]
      refine ⟨vp_in_nI (by omega) (by omega), nm_e (nm_r (nI_1 k) (ih (k + 1) ta (by omega) hta (fun w => h1 ?_) (fun w => h0 ?_)))⟩
      · rw [dv] at w
        exact Or.inr ⟨g2, g3, Or.inr ⟨g4, by rw [ca]; exact w⟩⟩
      · rintro (z | ⟨_, _, ⟨z1, z2, _⟩ | ⟨_, z⟩⟩)
        · exact g1 z
        · exact g4 ⟨z1, z2⟩
        · rw [ca] at z; rw [dv] at w; exact w z
    have k8 : k < 32 := by omega
    rw [na_k, na_3, nI_clamp (show c * 4 < 2 ^ 31 by omega), nI_clamp (show c < 2 ^ 31 by omega), nI_clamp (show c * 4 + 3 < 2 ^ 31 by omega), k0, k3, en, eb]
    refine br_f (nI_ge (b := 8) (by omega) (by omega)) (br_f (by decide) (yl_rf (by omega) hn hv en (hc c (by omega)) ⟨k0, k1, k2, k3⟩ (fun g1 => ⟨vp_in_nI (by omega) (by omega), nm_e (br_c (fun g2 => nm_r (nI_1 k) (stop ?_)) (fun g2 => ⟨vp_in_nI (by omega) (by omega), yl_ww (lo := 0) (by omega) hn (by omega) hv (hc c (by omega)) (fun g3 => br_c (fun g4 => br_c (fun g5 => ⟨vp_in_nI (by omega) (by omega), nm_e (nm_r (nI_1 k) (ih (k + 1) tb (by omega) htb (fun w => h1 ?_) (fun w => h0 ?_)))⟩) (fun g5 => goA g1 g2 g3 ?_)) (fun g4 => goA g1 g2 g3 (fun z => g4 z.1))) (fun g3 => nm_r (nI_1 k) (stop ?_))⟩))⟩) (fun g1 => h1 (Or.inl g1))))
    · rintro (z | ⟨z, _⟩)
      · exact g1 z
      · exact z g2
    · rw [bq_sh (by omega) k8] at g5
      rw [dv] at w
      exact Or.inr ⟨g2, g3, Or.inl ⟨g4, g5, by rw [cb]; exact w⟩⟩
    · rw [bq_sh (by omega) k8] at g5
      rintro (z | ⟨_, _, ⟨_, _, z⟩ | ⟨z, _⟩⟩)
      · exact g1 z
      · rw [cb] at z; rw [dv] at w; exact w z
      · exact z ⟨g4, g5⟩
    · rw [bq_sh (by omega) k8] at g5
      exact fun z => g5 z.2
    · rintro (z | ⟨_, z, _⟩)
      · exact g1 z
      · exact g3 z
theorem yl_33 {post : Int32 → Prop} {C b v : Nat} (hC : C ≤ 8) (hb : b < C) (hv : v < 8) (htg : pd_tg A B C) (hct : wf_ct yct) (hc : ∀ b, b < 8 → ∀ i, i < pd_n yct b → cr_o o D A B b i yco) (hk : ∀ b, b < C → cr_k o D A B b ykl)
    (h1 : pd_lv o D A B yct 8 b v → post 1) (h0 : ¬ pd_lv o D A B yct 8 b v → post 0) :
    ∀ d t, t + d = 128 → (∀ s, s < t → ¬ wk_p o D A B yct v 8 s b) → wY_liveAt_33 post (nI b) (nI v) ycl yph yat yal ymu ymt yco ykl yct yin yce yva (d + 1) (nI t) := by
  intro d
  induction d with
  | zero =>
    intro t ht hs
    rw [wY_liveAt_33]; dsimp only
    refine br_t (nI_le (a := 128) (by omega) (by omega)) (h0 (fun z => ?_))
    obtain ⟨q, hq, w⟩ := lv_wk 7 b z
    exact hs q (by have : 2 ^ 7 = 128 := rfl
                   omega) w
  | succ d ih =>
    intro t ht hs
    rw [wY_liveAt_33]; dsimp only
    have e0 : t / 2 ^ 0 = t := by rw [Nat.pow_zero, Nat.div_one]
    refine br_f (nI_ge (b := 128) (by omega) (by omega)) ⟨9, yl_49 hC (by omega) hv htg hct hc hk 8 0 b (by omega) hb (fun w => h1 ?_) (fun w => ih (t + 1) (by omega) (fun s hs' => ?_))⟩
    · rw [e0] at w; exact wk_lv 8 t b w
    · rw [e0] at w
      by_cases e : s = t
      · subst e; exact w
      · exact hs s (by omega)
theorem yl_live {post : Int32 → Prop} {C b v : Nat} (hC : C ≤ 8) (hb : b < C) (hv : v < 8) (hcl : ycl = nI C) (hph : ¬ yph = 0) (htg : pd_tg A B C) (hct : wf_ct yct) (hc : ∀ b, b < 8 → ∀ i, i < pd_n yct b → cr_o o D A B b i yco) (hk : ∀ b, b < C → cr_k o D A B b ykl)
    (h1 : pd_lv o D A B yct 8 b v → post 1) (h0 : ¬ pd_lv o D A B yct 8 b v → post 0) : wpY_liveAt post (ycl, yph, yat, yal, ymu, ymt, yco, ykl, yct, yin, yce, yva) (nI b) (nI v) := by
  refine br_f hph (br_f (nI_pos (by omega)) (br_f (by rw [hcl]; exact nI_ge hb (by omega)) (br_f (nI_pos (by omega)) (br_t (nI_le (b := 7) (by omega) (by omega)) ⟨129, yl_33 hC hb hv htg hct hc hk h1 h0 128 0 (by omega) (fun s hs => absurd hs (by omega))⟩))))
end P29
end
section
theorem i_vc_liveAt {k : Nat} {u : SX} {v : SY} (I : i_Rel k u v) (hk : k + 5 ≤ 2563) (v1 : Int32) (v2 : Int32) : wpX_liveAt (fun r => wpY_liveAt (fun r' => r' = r ∧ i_Rel (k + 5) u v) v v1 v2) u v1 v2 := by
  refine rl_el (P := fun u v => wpX_liveAt (fun r => wpY_liveAt (fun r' => r' = r ∧ i_Rel (k + 5) u v) v v1 v2) u v1 v2) I (fun xal xmu xmt xsa xmo xcl xat xop xfd xfa xfb xct xin xce xli xho xle xbl xis xen xun xsA xsB xde xex xcu xdp xhe xuf xlu xvr xhu xrg xuo xla yco ykl yva h => ?_)
  have J := rl_in (k := k + 5) (xal := xal) (xmu := xmu) (xmt := xmt) (xsa := xsa) (xmo := xmo) (xcl := xcl) (xat := xat) (xin := xin) (xce := xce) (xcu := xcu) (xdp := xdp) (xhe := xhe) (xuf := xuf) (xlu := xlu) (xvr := xvr) (xhu := xhu) (xuo := xuo) h
  refine br_c (fun g0 => br_t g0 ⟨rfl, J⟩) (fun g0 => br_c (fun g1 => br_f g0 (br_t g1 ⟨rfl, J⟩)) (fun g1 => br_c (fun g2 => br_f g0 (br_f g1 (br_t g2 ⟨rfl, J⟩))) (fun g2 => ?_)))
  obtain ⟨a, m, T, C, hp, hcl, ⟨hw, hco, hkl⟩, hmo⟩ := h
  obtain ⟨hcm, _⟩ := hmo.resolve_left g0
  have hC := hw.1
  obtain ⟨b, hb31, rfl⟩ := nI_of g1
  have hb : b < C := by
    rw [hcl, nI_leI (by omega) hb31] at g2
    omega
  refine xh_isIndex (fun g => br_f g0 (br_f g1 (br_f g2 ?_))) (fun v hv e => ⟨vp_in_nI (by omega) (by omega), ?_⟩)
  · exact yx_ix (fun _ => ⟨rfl, J⟩) (fun j hj e => absurd ⟨j, hj, e⟩ (ix_no g))
  · subst e
    have hl := hcm.2.2.1 b hb v hv
    rw [nI_clamp (show b < 2 ^ 31 by omega)]
    refine xh_hasP (by omega) (fun g => ⟨rfl, yl_live hC hb hv hcl g0 hcm.2.1 hw.2.1 hco hkl (fun z => absurd (hl.mpr z) g) (fun _ => ⟨rfl, J⟩)⟩) (fun g => ⟨rfl, yl_live hC hb hv hcl g0 hcm.2.1 hw.2.1 hco hkl (fun _ => ⟨rfl, J⟩) (fun z => absurd (hl.mp g) z)⟩)
theorem i_vc_value {k : Nat} {u : SX} {v : SY} (I : i_Rel k u v) (hk : k + 5 ≤ 2563) (v1 : Int32) : wpX_value (fun r => wpY_value (fun r' => r' = r ∧ i_Rel (k + 5) u v) v v1) u v1 := by
  refine rl_el (P := fun u v => wpX_value (fun r => wpY_value (fun r' => r' = r ∧ i_Rel (k + 5) u v) v v1) u v1) I (fun xal xmu xmt xsa xmo xcl xat xop xfd xfa xfb xct xin xce xli xho xle xbl xis xen xun xsA xsB xde xex xcu xdp xhe xuf xlu xvr xhu xrg xuo xla yco ykl yva h => ?_)
  have J := rl_in (k := k + 5) (xal := xal) (xmu := xmu) (xmt := xmt) (xsa := xsa) (xmo := xmo) (xcl := xcl) (xat := xat) (xin := xin) (xce := xce) (xcu := xcu) (xdp := xdp) (xhe := xhe) (xuf := xuf) (xlu := xlu) (xvr := xvr) (xhu := xhu) (xuo := xuo) h
  unfold wpX_value
  refine xh_isIndex (fun g => yx_ix (fun _ => ⟨rfl, J⟩) (fun j hj e => absurd ⟨j, hj, e⟩ (ix_no g))) (fun v hv e => ?_)
  subst e
  have n0 : ¬ nI v < 0 := nI_pos (by omega)
  have n7 : nI v ≤ 7 := nI_le (b := 7) (by omega) (by omega)
  have vv : vp_in (nI v) 8 := vp_in_nI hv (by omega)
  have cv : (nI v).toNatClampNeg = v := nI_clamp (by omega)
  obtain ⟨a, m, T, C, hp, hcl, ⟨hw, hco, hkl⟩, hmo⟩ := h
  have hC := hw.1
  refine br_c (fun g2 => ?_) (fun g2 => ?_)
  · obtain ⟨hcm, hm⟩ := hmo.resolve_left (by rw [g2]; decide)
    rcases hm with z | ⟨b, hb, hat, ⟨_, hrv⟩ | ⟨z, _⟩⟩
    · rw [g2] at z; exact absurd z (by decide)
    · have hl := hcm.2.2.1 b hb v hv
      have g0 : ¬ xmo = 0 := by rw [g2]; decide
      have g3 : ¬ xmo = 3 := by rw [g2]; decide
      have cat : xat.toNatClampNeg = b := by rw [hat, nI_clamp (by omega)]
      obtain ⟨r, hr, er⟩ := hcm.2.2.2.1.1 v hv
      have yl : ∀ post : Int32 → Prop, (pd_lv xop xfd xfa xfb xct 8 b v → post 1) → (¬ pd_lv xop xfd xfa xfb xct 8 b v → post 0) → wpY_liveAt post (xcl, xmo, xat, xal, xmu, xmt, yco, ykl, xct, xin, xce, yva) xat (nI v) := by
        intro post p1 p0
        have t := yl_live (ycl := xcl) (yph := xmo) (yat := xat) (yal := xal) (ymu := xmu) (ymt := xmt) (yct := xct) (yin := xin) (yce := xce) (yva := yva) hC hb hv hcl g0 hcm.2.1 hw.2.1 hco hkl p1 p0
        rw [← hat] at t
        exact t
      refine ⟨by rw [hat]; exact vp_in_nI (by omega) (by omega), ?_⟩
      rw [cat]
      refine xh_has (by omega) (fun g => br_f g3 (br_f n0 (br_t n7 (br_t g2 (yl _ (fun z => absurd (hl.mpr z) g) (fun z => br_t rfl (br_f g3 ⟨rfl, J⟩))))))) (fun g => ⟨vv, ?_⟩)
      rw [cv]
      refine ⟨by rw [er]; exact vp_in_nI (by omega) (by omega), br_f n0 (br_t n7 (br_t g2 (yl _ (fun z => br_f (by decide) ⟨vv, ?_, J⟩) (fun z => absurd (hl.mp g) z))))⟩
      rw [cv]
      exact (hrv v hv g).symm
    · rw [g2] at z; exact absurd z (by decide)
  · refine br_c (fun g3 => ?_) (fun g3 => br_f n0 (br_t n7 (br_f g2 (br_f g3 ⟨rfl, J⟩))))
    obtain ⟨hcm, hm⟩ := hmo.resolve_left (by rw [g3]; decide)
    rcases hm with z | ⟨b, hb, hat, ⟨z, _⟩ | ⟨_, hla⟩⟩
    · rw [g3] at z; exact absurd z (by decide)
    · exact absurd z g2
    · obtain ⟨k0, k1, k2, k3⟩ := hkl b hb
      have e9 : xat * 9 + 8 = nI (b * 9 + 8) := by rw [hat, na_e]
      have e4 : xat * 4 + 1 = nI (b * 4 + 1) := by rw [hat, na_k, na_1]
      have yv : ∀ post : Int32 → Prop, (xfd (b * 9 + 8) = nI v → post (yva v)) → (¬ xfd (b * 9 + 8) = nI v → post 0) → wpY_value post (xcl, xmo, xat, xal, xmu, xmt, yco, ykl, xct, xin, xce, yva) (nI v) := by
        intro post p1 p0
        refine br_f n0 (br_t n7 (br_f g2 (br_t g3 ⟨by rw [e4]; exact vp_in_nI (by omega) (by omega), br_c (fun g => ⟨vv, ?_⟩) (fun g => p0 (fun z => g ?_))⟩)))
        · rw [e4, nI_clamp (by omega), k1] at g
          rw [cv]
          exact p1 g
        · rw [e4, nI_clamp (by omega), k1]
          exact z
      rw [e9, nI_clamp (show b * 9 + 8 < 2 ^ 31 by omega)]
      refine ⟨vp_in_nI (by omega) (by omega), br_c (fun g => ⟨vv, yv _ (fun z => ⟨?_, J⟩) (fun z => absurd g.symm z)⟩) (fun g => yv _ (fun z => absurd z.symm g) (fun _ => ⟨rfl, J⟩))⟩
      rw [cv]
      rw [z, cv] at hla
      exact hla.symm
end
section
section P31
/-! chains -/
theorem dp_iff {o D A B : Nat → Int32} {b i j d : Nat} (hij : i < j) (hwj : wf_op o D A B (b * 9 + j)) (hd : d < 8) (ed : D (b * 9 + i) = nI d) :
    pd_dp o D A B b i j ↔ pd_mo (o (b * 9 + i)) (o (b * 9 + j)) ∨ (¬ o (b * 9 + i) = 12 ∧ pd_rd o A B (b * 9 + j) d ∧ pd_nw o D b (i + 1) j d) := by
  constructor
  · rintro ⟨_, ⟨h1, h2⟩ | ⟨h1, h2⟩ | h⟩
    · obtain ⟨a, ha, ea⟩ := hwj.2.2.1 h1
      rw [ea, nI_clamp (by omega)] at h2
      obtain ⟨_, g2, g3⟩ := (cu_st ha j).mp h2
      have e : a = d := na_in (g2.2.symm.trans ed) (by omega) (by omega)
      subst e
      exact Or.inr ⟨g2.1, Or.inl ⟨h1, ea⟩, g3⟩
    · obtain ⟨a, ha, ea⟩ := hwj.2.2.2
      rw [ea, nI_clamp (by omega)] at h2
      obtain ⟨_, g2, g3⟩ := (cu_st ha j).mp h2
      have e : a = d := na_in (g2.2.symm.trans ed) (by omega) (by omega)
      subst e
      exact Or.inr ⟨g2.1, Or.inr ⟨h1, ea⟩, g3⟩
    · exact Or.inl h
  · rintro (h | ⟨h1, h2 | h2, h3⟩)
    · exact ⟨hij, Or.inr (Or.inr h)⟩
    · exact ⟨hij, Or.inl ⟨h2.1, by rw [h2.2, nI_clamp (by omega)]; exact (cu_st hd j).mpr ⟨hij, ⟨h1, ed⟩, h3⟩⟩⟩
    · exact ⟨hij, Or.inr (Or.inl ⟨h2.1, by rw [h2.2, nI_clamp (by omega)]; exact (cu_st hd j).mpr ⟨hij, ⟨h1, ed⟩, h3⟩⟩)⟩
/-- the weight of a set, statement by statement; l = 0: none so far, l = k + 1: k was the last -/
noncomputable def cw_f (Dp : Nat → Nat → Prop) (lt : Nat → Nat) (p : Nat → Bool) : Nat → Nat → Nat → Nat → Nat
  | 0, w, _, _ => w
  | d + 1, w, l, j => if p j = true then @ite _ (l = 0 ∨ Dp (l - 1) j) (Classical.propDecidable _) (cw_f Dp lt p d (w + lt j) (j + 1) (j + 1)) 0 else cw_f Dp lt p d w l (j + 1)
theorem cw_n {Dp : Nat → Nat → Prop} {lt : Nat → Nat} {p : Nat → Bool} {d w l j : Nat} (h : ¬ p j = true) : cw_f Dp lt p (d + 1) w l j = cw_f Dp lt p d w l (j + 1) := if_neg h
theorem cw_y {Dp : Nat → Nat → Prop} {lt : Nat → Nat} {p : Nat → Bool} {d w l j : Nat} (h : p j = true) (g : l = 0 ∨ Dp (l - 1) j) : cw_f Dp lt p (d + 1) w l j = cw_f Dp lt p d (w + lt j) (j + 1) (j + 1) := by
  show ite _ _ _ = _
  rw [if_pos h]
  exact if_pos g
theorem cw_z {Dp : Nat → Nat → Prop} {lt : Nat → Nat} {p : Nat → Bool} {d w l j : Nat} (h : p j = true) (g : ¬ (l = 0 ∨ Dp (l - 1) j)) : cw_f Dp lt p (d + 1) w l j = 0 := by
  show ite _ _ _ = _
  rw [if_pos h]
  exact if_neg g
theorem cw_eq {Dp : Nat → Nat → Prop} {lt : Nat → Nat} {p p' : Nat → Bool} : ∀ d w l j, (∀ k, j ≤ k → p k = p' k) → cw_f Dp lt p d w l j = cw_f Dp lt p' d w l j := by
  intro d
  induction d with
  | zero => intro w l j _; rfl
  | succ d ih =>
    intro w l j h
    have e := h j (Nat.le_refl j)
    by_cases g : p j = true
    · by_cases q : l = 0 ∨ Dp (l - 1) j
      · rw [cw_y g q, cw_y (e ▸ g) q]; exact ih _ _ _ (fun k hk => h k (by omega))
      · rw [cw_z g q, cw_z (e ▸ g) q]
    · rw [cw_n g, cw_n (e ▸ g)]; exact ih _ _ _ (fun k hk => h k (by omega))
theorem cw_sk {Dp : Nat → Nat → Prop} {lt : Nat → Nat} {p : Nat → Bool} : ∀ c d w l j, (∀ k, j ≤ k → k < j + c → ¬ p k = true) → cw_f Dp lt p (c + d) w l j = cw_f Dp lt p d w l (j + c) := by
  intro c
  induction c with
  | zero => intro d w l j _; rw [Nat.zero_add, Nat.add_zero]
  | succ c ih =>
    intro d w l j h
    rw [show c + 1 + d = (c + d) + 1 by omega, cw_n (h j (Nat.le_refl j) (by omega)), ih d w l (j + 1) (fun k h1 h2 => h k (by omega) (by omega))]
    exact congrArg _ (by omega)
variable {Dp : Nat → Nat → Prop} {lt H : Nat → Nat} {n : Nat}
/-- no chain is heavier than its first statement's height -/
theorem cw_u (hH : ∀ i, i < n → (∀ j, j < n → Dp i j → lt i + H j ≤ H i) ∧ lt i ≤ H i) {Z : Nat} (hZ : ∀ i, i < n → H i ≤ Z) {p : Nat → Bool} :
    ∀ d w l j, j + d = n → l ≤ n → (l = 0 → cw_f Dp lt p d w l j ≤ w + Z) ∧ (1 ≤ l → cw_f Dp lt p d w l j + lt (l - 1) ≤ w + H (l - 1) ∨ cw_f Dp lt p d w l j = 0) := by
  intro d
  induction d with
  | zero =>
    intro w l j hj hl
    refine ⟨fun _ => by show w ≤ w + Z; omega, fun h => Or.inl ?_⟩
    have := (hH (l - 1) (by omega)).2
    show w + _ ≤ _
    omega
  | succ d ih =>
    intro w l j hj hl
    by_cases g : p j = true
    · by_cases q : l = 0 ∨ Dp (l - 1) j
      · rw [cw_y g q]
        have t := (ih (w + lt j) (j + 1) (j + 1) (by omega) (by omega)).2 (by omega)
        rw [Nat.add_sub_cancel] at t
        refine ⟨fun h => ?_, fun h => ?_⟩
        · have := hZ j (by omega)
          rcases t with t | t <;> omega
        · rcases t with t | t
          · have q' := q.resolve_left (by omega)
            have := (hH (l - 1) (by omega)).1 j (by omega) q'
            exact Or.inl (by omega)
          · exact Or.inr t
      · rw [cw_z g q]
        exact ⟨fun _ => Nat.zero_le _, fun _ => Or.inr rfl⟩
    · rw [cw_n g]
      exact ih w l (j + 1) (by omega) hl
/-- and each height is the weight of a chain -/
theorem cw_l (hH : ∀ i, i < n → H i = lt i ∨ ∃ j, i < j ∧ j < n ∧ Dp i j ∧ H i = lt i + H j) :
    ∀ d i, i + d = n → i < n → ∃ p : Nat → Bool, (∀ k, k < i → ¬ p k = true) ∧ ∀ w l, (l = 0 ∨ Dp (l - 1) i) → cw_f Dp lt p d w l i = w + H i := by
  intro d
  induction d using Nat.strongRecOn with
  | _ d ih =>
    intro i hi hin
    obtain ⟨d', rfl⟩ : ∃ d', d = d' + 1 := ⟨d - 1, by omega⟩
    rcases hH i hin with h | ⟨j, hij, hjn, hd, h⟩
    · refine ⟨fun k => decide (k = i), fun k hk => ?_, fun w l hl => ?_⟩
      · rw [decide_eq_true_eq]; omega
      · rw [cw_y (by rw [decide_eq_true_eq]) hl]
        have t := cw_sk (Dp := Dp) (lt := lt) (p := fun k => decide (k = i)) d' 0 (w + lt i) (i + 1) (i + 1) (fun k h1 h2 => by rw [decide_eq_true_eq]; omega)
        rw [Nat.add_zero] at t
        rw [t, h]
        rfl
    · obtain ⟨p, hp1, hp2⟩ := ih (n - j) (by omega) j (by omega) hjn
      refine ⟨fun k => if k = i then true else p k, fun k hk => ?_, fun w l hl => ?_⟩
      · show ¬ (if k = i then true else p k) = true
        rw [if_neg (by omega)]
        exact hp1 k (by omega)
      · have bi : (fun k => if k = i then true else p k) i = true := if_pos rfl
        rw [cw_y bi hl, show d' = (j - (i + 1)) + (n - j) by omega, cw_sk (j - (i + 1)) (n - j) (w + lt i) (i + 1) (i + 1) (fun k h1 h2 => by
          show ¬ (if k = i then true else p k) = true
          rw [if_neg (by omega)]
          exact hp1 k (by omega)), show i + 1 + (j - (i + 1)) = j by omega, cw_eq (p' := p) (n - j) _ _ j (fun k hk => if_neg (by omega)), hp2 _ _ (Or.inr (by rw [Nat.add_sub_cancel]; exact hd)), h]
        omega
/-- a set as a number -/
def nb_b (p : Nat → Bool) : Nat → Nat → Nat
  | 0, _ => 0
  | d + 1, j => (if p j = true then 1 else 0) + 2 * nb_b p d (j + 1)
theorem nb_lt {p : Nat → Bool} : ∀ d j, nb_b p d j < 2 ^ d := by
  intro d
  induction d with
  | zero => intro j; exact Nat.one_pos
  | succ d ih =>
    intro j
    have := ih (j + 1)
    have pw : 2 ^ (d + 1) = 2 * 2 ^ d := by rw [Nat.pow_succ, Nat.mul_comm]
    show (if p j = true then 1 else 0) + 2 * nb_b p d (j + 1) < _
    split <;> omega
theorem nb_bit {p : Nat → Bool} : ∀ d j i, i < d → (nb_b p d j / 2 ^ i % 2 = 1 ↔ p (j + i) = true) := by
  intro d
  induction d with
  | zero => intro j i hi; omega
  | succ d ih =>
    intro j i hi
    show ((if p j = true then 1 else 0) + 2 * nb_b p d (j + 1)) / 2 ^ i % 2 = 1 ↔ _
    cases i with
    | zero =>
      rw [Nat.pow_zero, Nat.div_one, Nat.add_zero]
      by_cases g : p j = true
      · rw [if_pos g]; exact ⟨fun _ => g, fun _ => by omega⟩
      · rw [if_neg g]; exact ⟨fun z => by omega, fun z => absurd z g⟩
    | succ i =>
      have e : ((if p j = true then 1 else 0) + 2 * nb_b p d (j + 1)) / 2 ^ (i + 1) = nb_b p d (j + 1) / 2 ^ i := by
        rw [Nat.pow_succ, Nat.mul_comm (2 ^ i) 2, ← Nat.div_div_eq_div_mul]
        congr 1
        split <;> omega
      rw [e, ih (j + 1) i (by omega), show j + 1 + i = j + (i + 1) by omega]
def nb_p (s : Nat) (j : Nat) : Bool := decide (s / 2 ^ j % 2 = 1)
theorem cw_ge {p p' : Nat → Bool} : ∀ d w l j, (∀ k, j ≤ k → k < j + d → p k = p' k) → cw_f Dp lt p d w l j = cw_f Dp lt p' d w l j := by
  intro d
  induction d with
  | zero => intro w l j _; rfl
  | succ d ih =>
    intro w l j h
    have e := h j (Nat.le_refl j) (by omega)
    by_cases g : p j = true
    · by_cases q : l = 0 ∨ Dp (l - 1) j
      · rw [cw_y g q, cw_y (e ▸ g) q]; exact ih _ _ _ (fun k hk hk2 => h k (by omega) (by omega))
      · rw [cw_z g q, cw_z (e ▸ g) q]
    · rw [cw_n g, cw_n (e ▸ g)]; exact ih _ _ _ (fun k hk hk2 => h k (by omega) (by omega))
noncomputable def cw_m (Dp : Nat → Nat → Prop) (lt : Nat → Nat) (n best : Nat) : Nat → Nat
  | 0 => best
  | s + 1 => max (cw_m Dp lt n best s) (cw_f Dp lt (nb_p s) n 0 0 0)
theorem cw_mle {best Z : Nat} (hb : best ≤ Z) (h : ∀ s, cw_f Dp lt (nb_p s) n 0 0 0 ≤ Z) : ∀ s, cw_m Dp lt n best s ≤ Z := by
  intro s
  induction s with
  | zero => exact hb
  | succ s ih => have := h s; show max _ _ ≤ Z; omega
theorem cw_mge {best : Nat} : ∀ s, best ≤ cw_m Dp lt n best s ∧ ∀ t, t < s → cw_f Dp lt (nb_p t) n 0 0 0 ≤ cw_m Dp lt n best s := by
  intro s
  induction s with
  | zero => exact ⟨Nat.le_refl _, fun t ht => absurd ht (by omega)⟩
  | succ s ih =>
    have e : cw_m Dp lt n best (s + 1) = max (cw_m Dp lt n best s) (cw_f Dp lt (nb_p s) n 0 0 0) := rfl
    rw [e]
    refine ⟨by have := ih.1; omega, fun t ht => ?_⟩
    by_cases q : t = s
    · rw [q]; omega
    · have := ih.2 t (by omega); omega
theorem lt_hl : ∀ i, 1 ≤ lt_h H i ∧ ∀ j, j < i → H j ≤ lt_h H i := by
  intro i
  induction i with
  | zero => exact ⟨Nat.le_refl 1, fun j hj => absurd hj (by omega)⟩
  | succ i ih =>
    have e : lt_h H (i + 1) = max (lt_h H i) (H i) := rfl
    rw [e]
    refine ⟨by have := ih.1; omega, fun j hj => ?_⟩
    by_cases q : j = i
    · rw [q]; omega
    · have := ih.2 j (by omega); omega
theorem lt_hu {Z : Nat} (h1 : 1 ≤ Z) : ∀ i, (∀ j, j < i → H j ≤ Z) → lt_h H i ≤ Z := by
  intro i
  induction i with
  | zero => intro _; exact h1
  | succ i ih =>
    intro h
    have := ih (fun j hj => h j (by omega))
    have := h i (by omega)
    show max _ _ ≤ Z
    omega
/-- the heaviest chain among all sets of eight statements -/
theorem cw_max {best : Nat} (hn : n ≤ 8) (hH : ∀ i, i < n → (∀ j, j < n → Dp i j → lt i + H j ≤ H i) ∧ (H i = lt i ∨ ∃ j, j < n ∧ Dp i j ∧ H i = lt i + H j)) (hD : ∀ i j, Dp i j → i < j) (hb : 1 ≤ best) :
    cw_m Dp lt n best 256 = max best (lt_h H n) := by
  have hle : ∀ i, i < n → lt i ≤ H i := by
    intro i hi
    rcases (hH i hi).2 with z | ⟨j, _, _, z⟩ <;> omega
  have hl := lt_hl (H := H) n
  apply Nat.le_antisymm
  · refine cw_mle (by omega) (fun s => ?_) 256
    have t := (cw_u (Dp := Dp) (lt := lt) (H := H) (n := n) (fun i hi => ⟨(hH i hi).1, hle i hi⟩) (Z := lt_h H n) hl.2 (p := nb_p s) n 0 0 0 (by omega) (by omega)).1 rfl
    omega
  · have ge := cw_mge (Dp := Dp) (lt := lt) (n := n) (best := best) 256
    have h2 : lt_h H n ≤ cw_m Dp lt n best 256 := by
      refine lt_hu (by have := ge.1; omega) n (fun i hi => ?_)
      obtain ⟨p, hp1, hp2⟩ := cw_l (Dp := Dp) (lt := lt) (H := H) (n := n) (fun i hi => by
        rcases (hH i hi).2 with z | ⟨j, hj, hd, z⟩
        · exact Or.inl z
        · exact Or.inr ⟨j, hD i j hd, hj, hd, z⟩) (n - i) i (by omega) hi
      have t := ge.2 (nb_b p 8 0) (nb_lt 8 0)
      have e : cw_f Dp lt (nb_p (nb_b p 8 0)) n 0 0 0 = H i := by
        rw [cw_ge (p' := p) n 0 0 0 (fun k h1 h2 => ?_)]
        · have sk := cw_sk (Dp := Dp) (lt := lt) (p := p) i (n - i) 0 0 0 (fun k h1 h2 => hp1 k (by omega))
          rw [show i + (n - i) = n by omega, Nat.zero_add] at sk
          rw [sk, hp2 0 0 (Or.inl rfl), Nat.zero_add]
        · have b := nb_bit (p := p) 8 0 k (by omega)
          rw [Nat.zero_add] at b
          unfold nb_p
          by_cases g : p k = true
          · rw [g]; exact decide_eq_true (b.mpr g)
          · rw [decide_eq_false (fun z => g (b.mp z))]
            cases hpk : p k with
            | false => rfl
            | true => exact absurd hpk g
      omega
    have := ge.1
    omega
def ro_f (p a : Nat) : Nat → Nat
  | 0 => 0
  | r + 1 => if p ≤ r * a then ro_f p a r else ro_f p a r + 1
theorem ro_t : ∀ p, p < 9 → ∀ a, a < 4 → 1 ≤ a → ro_f p a 8 = (p + a - 1) / a := by decide
theorem ro_le {p a : Nat} : ∀ r, ro_f p a r ≤ r := by
  intro r
  induction r with
  | zero => exact Nat.le_refl 0
  | succ r ih =>
    show (if p ≤ r * a then ro_f p a r else ro_f p a r + 1) ≤ _
    split <;> omega
end P31
end
section
section P32
/-! the reference's bound -/
variable {ycl yph yat yal ymu ymt : Int32} {yco ykl yct yin yce yva : Nat → Int32} {o D A B : Nat → Int32}
theorem yb_90 {P Q : Prop} {b i j d : Nat} {x5 : Int32} (hb : b < 8) (hj : j < 8) (hij : i < j) (hd : d < 8) (ed : D (b * 9 + i) = nI d) (e5 : x5 = o (b * 9 + i)) (hc : ∀ l, l ≤ j → cr_o o D A B b l yco)
    (h0 : ¬ (¬ o (b * 9 + i) = 12 ∧ pd_rd o A B (b * 9 + j) d ∧ pd_nw o D b (i + 1) j d) → P) (h1 : ¬ o (b * 9 + i) = 12 ∧ pd_rd o A B (b * 9 + j) d ∧ pd_nw o D b (i + 1) j d → Q) :
    wY_depends_90 (fun r => (r = 0 → P) ∧ (¬ r = 0 → Q)) (nI b) (nI i) (nI j) (nI ((b * 8 + i) * 4)) x5 ycl yph yat yal ymu ymt yco ykl yct yin yce yva := by
  obtain ⟨c0, c1, c2, c3⟩ := hc i (by omega)
  unfold wY_depends_90
  rw [na_1, na_1, nI_clamp (show (b * 8 + i) * 4 + 1 < 2 ^ 31 by omega), c1, ed, e5]
  refine ⟨vp_in_nI (by omega) (by omega), nm_e (br_c (fun g => br_t rfl (h0 (fun z => z.1 g))) (fun g => yl_reads hb hj (hc j (by omega)) (fun g2 => br_t rfl (h0 (fun z => g2 z.2.1))) (fun g2 => yl_ww hb (by omega) (by omega) hd (fun l hl => hc l (by omega)) (fun g3 => br_f (by decide) (h1 ⟨g, g2, g3⟩)) (fun g3 => br_t rfl (h0 (fun z => g3 z.2.2))))))⟩
theorem yb_dep {P Q : Prop} {b i j : Nat} (hb : b < 8) (hj : j < 8) (hij : i < j) (hwi : wf_op o D A B (b * 9 + i)) (hwj : wf_op o D A B (b * 9 + j)) (hc : ∀ l, l ≤ j → cr_o o D A B b l yco) (h0 : ¬ pd_dp o D A B b i j → P) (h1 : pd_dp o D A B b i j → Q) :
    wpY_depends (fun r => (r = 0 → P) ∧ (¬ r = 0 → Q)) (ycl, yph, yat, yal, ymu, ymt, yco, ykl, yct, yin, yce, yva) (nI b) (nI i) (nI j) := by
  obtain ⟨d, hd, ed⟩ := hwi.2.1
  have iff := dp_iff hij hwj hd ed
  have s90 : ¬ pd_mo (o (b * 9 + i)) (o (b * 9 + j)) → wY_depends_90 (fun r => (r = 0 → P) ∧ (¬ r = 0 → Q)) (nI b) (nI i) (nI j) (nI ((b * 8 + i) * 4)) (o (b * 9 + i)) ycl yph yat yal ymu ymt yco ykl yct yin yce yva := by
    intro nm
    exact yb_90 hb hj hij hd ed rfl hc (fun z => h0 (fun y => (iff.mp y).elim nm z)) (fun z => h1 (iff.mpr (Or.inr z)))
  have s66 : ¬ pd_mo (o (b * 9 + i)) (o (b * 9 + j)) → wY_depends_66 (fun r => (r = 0 → P) ∧ (¬ r = 0 → Q)) (nI b) (nI i) (nI j) (nI ((b * 8 + i) * 4)) (o (b * 9 + i)) (o (b * 9 + j)) ycl yph yat yal ymu ymt yco ykl yct yin yce yva := fun nm => br_t rfl (s90 nm)
  have s62 : (o (b * 9 + i) = 11 ∨ o (b * 9 + i) = 12) → (o (b * 9 + j) = 11 ∨ o (b * 9 + j) = 12) → wY_depends_62 (fun r => (r = 0 → P) ∧ (¬ r = 0 → Q)) (nI b) (nI i) (nI j) (nI ((b * 8 + i) * 4)) (o (b * 9 + i)) (o (b * 9 + j)) ycl yph yat yal ymu ymt yco ykl yct yin yce yva := by
    intro mi mj
    refine br_f (by decide) (br_c (fun g => br_f (by decide) (h1 (iff.mpr (Or.inl (Or.inl ⟨g, mj⟩))))) (fun g => br_c (fun g2 => br_f (by decide) (h1 (iff.mpr (Or.inl (Or.inr ⟨mi.resolve_right g, g2⟩))))) (fun g2 => s90 ?_)))
    rintro (⟨z, _⟩ | ⟨_, z⟩)
    · exact g z
    · exact g2 z
  have s48 : (o (b * 9 + i) = 11 ∨ o (b * 9 + i) = 12) → wY_depends_48 (fun r => (r = 0 → P) ∧ (¬ r = 0 → Q)) (nI b) (nI i) (nI j) (nI ((b * 8 + i) * 4)) (o (b * 9 + i)) (o (b * 9 + j)) ycl yph yat yal ymu ymt yco ykl yct yin yce yva := by
    intro mi
    refine br_c (fun g => s62 mi (Or.inl g)) (fun g => br_c (fun g2 => s62 mi (Or.inr g2)) (fun g2 => s66 ?_))
    rintro (⟨_, z | z⟩ | ⟨_, z⟩)
    · exact g z
    · exact g2 z
    · exact g2 z
  unfold wpY_depends
  refine nm_r (na_c b i) ?_
  rw [na_c, nI_clamp (show (b * 8 + i) * 4 < 2 ^ 31 by omega), nI_clamp (show (b * 8 + j) * 4 < 2 ^ 31 by omega), (hc i (by omega)).1, (hc j (by omega)).1]
  refine ⟨vp_in_nI (by omega) (by omega), nm_e ⟨vp_in_nI (by omega) (by omega), nm_e (br_c (fun g => s48 (Or.inl g)) (fun g => br_c (fun g2 => s48 (Or.inr g2)) (fun g2 => s66 ?_)))⟩⟩
  rintro (⟨z, _⟩ | ⟨z, _⟩)
  · exact g2 z
  · exact g z
theorem yb_8 {post : Int32 → Prop} {b n T s : Nat} (hb : b < 8) (hn : n ≤ 8) (h1 : 1 ≤ T) (hT : T ≤ 4) (hmt : ymt = nI T) (hs : s < 256) (hct : yct b = nI n) (hw : ∀ i, i < n → wf_op o D A B (b * 9 + i)) (hc : ∀ i, i < n → cr_o o D A B b i yco) :
    ∀ d j w l, j + d = n → l ≤ j → w ≤ 4 * j → post (nI (cw_f (pd_dp o D A B b) (fun i => pd_lt T (o (b * 9 + i))) (nb_p s) d w l j)) → wY_chainWeight_8 post (nI b) (nI s) ycl yph yat yal ymu ymt yco ykl yct yin yce yva (d + 1) (nI w) (dn_d l) (nI j) := by
  intro d
  have cb : (nI b).toNatClampNeg = b := nI_clamp (by omega)
  have vb : vp_in (nI b) 8 := vp_in_nI hb (by omega)
  induction d with
  | zero =>
    intro j w l hj hl hw4 h
    rw [wY_chainWeight_8]; dsimp only; rw [cb, hct]
    exact ⟨vb, br_t (nI_le (by omega) (by omega)) h⟩
  | succ d ih =>
    intro j w l hj hl hw4 h
    rw [wY_chainWeight_8]; dsimp only; rw [cb, hct]
    have l4 := lt_le (x := o (b * 9 + j)) h1 hT
    have nx : nb_p s j = true → (l = 0 ∨ pd_dp o D A B b (l - 1) j) → wY_chainWeight_48 post (wY_chainWeight_8 post (nI b) (nI s) ycl yph yat yal ymu ymt yco ykl yct yin yce yva (d + 1)) (nI b) (nI s) (nI w) (nI j) ycl yph yat yal ymu ymt yco ykl yct yin yce yva := by
      intro g1 g2
      rw [cw_y g1 g2] at h
      unfold wY_chainWeight_48
      rw [na_c, nI_clamp (show (b * 8 + j) * 4 < 2 ^ 31 by omega), (hc j (by omega)).1]
      have t := ih (j + 1) (w + pd_lt T (o (b * 9 + j))) (j + 1) (by omega) (by omega) (by omega) h
      rw [dn_s] at t
      refine ⟨vp_in_nI (by omega) (by omega), br_c (fun g => nm_r (e' := nI (w + pd_lt T (o (b * 9 + j)))) ?_ (nm_r (nI_1 j) t)) (fun g => nm_r (e' := nI (w + pd_lt T (o (b * 9 + j)))) ?_ (nm_r (nI_1 j) t))⟩
      · unfold pd_lt; rw [if_pos g, hmt, nI_add]
      · unfold pd_lt; rw [if_neg g, nI_1]
    refine ⟨vb, br_f (nI_ge (by omega) (by omega)) (br_c (fun g => ?_) (fun g => nm_r (nI_1 j) ?_))⟩
    · rw [bq_sh (by omega) (by omega)] at g
      have g' : nb_p s j = true := decide_eq_true g
      cases l with
      | zero => exact br_t dn_0 (nx g' (Or.inl rfl))
      | succ l =>
        rw [dn_s]
        refine br_f (nI_pos (by omega)) (yb_dep hb (by omega) (by omega) (hw l (by omega)) (hw j (by omega)) (fun i hi => hc i (by omega)) (fun g2 => ?_) (fun g2 => nx g' (Or.inr g2)))
        rw [cw_z g' (fun z => g2 (z.resolve_left (by omega)))] at h
        exact h
    · rw [bq_sh (by omega) (by omega)] at g
      rw [cw_n (show ¬ nb_p s j = true from fun z => g (of_decide_eq_true z))] at h
      exact ih (j + 1) w l (by omega) (by omega) (by omega) h
theorem yb_cw {post : Int32 → Prop} {b n T s : Nat} (hb : b < 8) (hn : n ≤ 8) (h1 : 1 ≤ T) (hT : T ≤ 4) (hmt : ymt = nI T) (hs : s < 256) (hct : yct b = nI n) (hw : ∀ i, i < n → wf_op o D A B (b * 9 + i)) (hc : ∀ i, i < n → cr_o o D A B b i yco)
    (h : post (nI (cw_f (pd_dp o D A B b) (fun i => pd_lt T (o (b * 9 + i))) (nb_p s) n 0 0 0))) : wpY_chainWeight post (ycl, yph, yat, yal, ymu, ymt, yco, ykl, yct, yin, yce, yva) (nI b) (nI s) :=
  ⟨n + 1, yb_8 hb hn h1 hT hmt hs hct hw hc n 0 0 0 (by omega) (by omega) (by omega) h⟩
theorem cw_b {Dp : Nat → Nat → Prop} {lt : Nat → Nat} {p : Nat → Bool} (h : ∀ i, lt i ≤ 4) : ∀ d w l j, cw_f Dp lt p d w l j ≤ w + 4 * d := by
  intro d
  induction d with
  | zero => intro w l j; exact Nat.le_refl w
  | succ d ih =>
    intro w l j
    by_cases g : p j = true
    · by_cases q : l = 0 ∨ Dp (l - 1) j
      · rw [cw_y g q]
        have := ih (w + lt j) (j + 1) (j + 1)
        have := h j
        omega
      · rw [cw_z g q]; exact Nat.zero_le _
    · rw [cw_n g]
      have := ih w l (j + 1)
      omega
theorem yb_198 {post : Int32 → Prop} {b n T best : Nat} (hb : b < 8) (hn : n ≤ 8) (h1 : 1 ≤ T) (hT : T ≤ 4) (hmt : ymt = nI T) (hct : yct b = nI n) (hw : ∀ i, i < n → wf_op o D A B (b * 9 + i)) (hc : ∀ i, i < n → cr_o o D A B b i yco) (hbest : best ≤ 64)
    (h : post (nI (cw_m (pd_dp o D A B b) (fun i => pd_lt T (o (b * 9 + i))) n best 256))) :
    ∀ d s, s + d = 256 → wY_bound_198 post (nI b) ycl yph yat yal ymu ymt yco ykl yct yin yce yva (d + 1) (nI (cw_m (pd_dp o D A B b) (fun i => pd_lt T (o (b * 9 + i))) n best s)) (nI s) := by
  have cb : ∀ s, cw_f (pd_dp o D A B b) (fun i => pd_lt T (o (b * 9 + i))) (nb_p s) n 0 0 0 ≤ 64 := by
    intro s
    have := cw_b (Dp := pd_dp o D A B b) (lt := fun i => pd_lt T (o (b * 9 + i))) (p := nb_p s) (fun i => lt_le h1 hT) n 0 0 0
    omega
  intro d
  induction d with
  | zero =>
    intro s hs
    rw [wY_bound_198]; dsimp only
    have e : s = 256 := by omega
    subst e
    exact br_t (nI_le (a := 256) (by omega) (by omega)) h
  | succ d ih =>
    intro s hs
    rw [wY_bound_198]; dsimp only
    have m1 := cw_mle (Dp := pd_dp o D A B b) (lt := fun i => pd_lt T (o (b * 9 + i))) (n := n) hbest cb s
    have c1 := cb s
    have e : cw_m (pd_dp o D A B b) (fun i => pd_lt T (o (b * 9 + i))) n best (s + 1) = max (cw_m (pd_dp o D A B b) (fun i => pd_lt T (o (b * 9 + i))) n best s) (cw_f (pd_dp o D A B b) (fun i => pd_lt T (o (b * 9 + i))) (nb_p s) n 0 0 0) := rfl
    have t := ih (s + 1) (by omega)
    rw [e] at t
    refine br_f (nI_ge (b := 256) (by omega) (by omega)) (yb_cw hb hn h1 hT hmt (by omega) hct hw hc (pk_le _ _ (fun g => nm_r (nI_1 s) ?_) (fun g => nm_r (nI_1 s) ?_)))
    · rw [Nat.max_eq_left g] at t; exact t
    · rw [Nat.max_eq_right (by omega)] at t; exact t
theorem yb_108 {post : Int32 → Prop} {b a m T pl pr me : Nat} (ha : a ≤ 3) (hm : m ≤ 2) (hT : T ≤ 4) (hal : yal = nI a) (hmu : ymu = nI m) (hmt : ymt = nI T) (hpl : pl ≤ 8) (hpr : pr ≤ 8) (hme : me ≤ 8)
    (h : ∃ q, wY_bound_198 post (nI b) ycl yph yat yal ymu ymt yco ykl yct yin yce yva q (nI (max (max (max 1 (ro_f pl a 8)) (T * ro_f pr m 8)) me)) 0) :
    ∀ d r, r + d = 8 → wY_bound_108 post (nI b) (nI pl) (nI pr) (nI me) ycl yph yat yal ymu ymt yco ykl yct yin yce yva (d + 1) (nI (ro_f pl a r)) (nI (ro_f pr m r)) (nI r) := by
  subst hal hmu hmt
  intro d
  induction d with
  | zero =>
    intro r hr
    rw [wY_bound_108]; dsimp only
    have e : r = 8 := by omega
    subst e
    have r1 := ro_le (p := pl) (a := a) 8
    have r2 := ro_le (p := pr) (a := m) 8
    have r3 : T * ro_f pr m 8 ≤ 32 := Nat.le_trans (Nat.mul_le_mul hT r2) (by omega)
    have s184 : ∀ x, x = max (max 1 (ro_f pl a 8)) (T * ro_f pr m 8) → wY_bound_184 post (nI b) (nI me) (nI x) ycl yph yat (nI a) (nI m) (nI T) yco ykl yct yin yce yva := by
      intro x ex
      rw [← ex] at h
      unfold wY_bound_184
      refine pk_le me x (fun g => ?_) (fun g => ?_)
      · rw [Nat.max_eq_left g] at h; exact h
      · rw [Nat.max_eq_right (by omega)] at h; exact h
    have s163 : ∀ x, x = max 1 (ro_f pl a 8) → wY_bound_163 post (nI b) (nI me) (nI (ro_f pr m 8)) (nI x) ycl yph yat (nI a) (nI m) (nI T) yco ykl yct yin yce yva := by
      intro x ex
      unfold wY_bound_163
      rw [pk_mul]
      refine pk_le (T * ro_f pr m 8) x (fun g => ?_) (fun g => nm_e ?_)
      · have t := s184 x (by rw [← ex, Nat.max_eq_left g])
        exact t
      · have t := s184 (T * ro_f pr m 8) (by rw [← ex, Nat.max_eq_right (by omega)])
        exact t
    refine br_t (nI_le (a := 8) (by omega) (by omega)) (pk_le (ro_f pl a 8) 1 (fun g => s163 1 ?_) (fun g => s163 (ro_f pl a 8) ?_))
    · rw [Nat.max_eq_left g]
    · rw [Nat.max_eq_right (by omega)]
  | succ d ih =>
    intro r hr
    rw [wY_bound_108]; dsimp only
    have r1 := ro_le (p := pl) (a := a) r
    have r2 := ro_le (p := pr) (a := m) r
    have ra : r * a ≤ 24 := Nat.le_trans (Nat.mul_le_mul (show r ≤ 8 by omega) ha) (by omega)
    have rm : r * m ≤ 16 := Nat.le_trans (Nat.mul_le_mul (show r ≤ 8 by omega) hm) (by omega)
    have t := ih (r + 1) (by omega)
    have s129 : ∀ x, x = ro_f pl a (r + 1) → wY_bound_129 post (wY_bound_108 post (nI b) (nI pl) (nI pr) (nI me) ycl yph yat (nI a) (nI m) (nI T) yco ykl yct yin yce yva (d + 1)) (nI b) (nI pl) (nI pr) (nI me) (nI x) (nI (ro_f pr m r)) (nI r) ycl yph yat (nI a) (nI m) (nI T) yco ykl yct yin yce yva := by
      intro x ex
      unfold wY_bound_129
      rw [pk_mul]
      refine pk_le pr (r * m) (fun g => nm_r (nI_1 r) ?_) (fun g => nm_r (nI_1 _) (nm_r (nI_1 r) ?_))
      · have e : ro_f pr m (r + 1) = ro_f pr m r := if_pos g
        rw [e] at t; rw [ex]; exact t
      · have e : ro_f pr m (r + 1) = ro_f pr m r + 1 := if_neg (by omega)
        rw [e] at t; rw [ex]; exact t
    refine br_f (nI_ge (b := 8) (by omega) (by omega)) ?_
    rw [pk_mul]
    refine pk_le pl (r * a) (fun g => ?_) (fun g => nm_r (nI_1 _) ?_)
    · have q := s129 _ (show ro_f pl a r = ro_f pl a (r + 1) from (if_pos g).symm)
      exact q
    · have q := s129 _ (show ro_f pl a r + 1 = ro_f pl a (r + 1) from (if_neg (by omega)).symm)
      exact q
theorem yb_31 {post : Int32 → Prop} {b n : Nat} (hb : b < 8) (hn : n ≤ 8) (hct : yct b = nI n) (hc : ∀ i, i < n → cr_o o D A B b i yco)
    (h : ∃ q, wY_bound_108 post (nI b) (nI (n - lt_p o b n - lt_m o b n)) (nI (lt_p o b n)) (nI (lt_m o b n)) ycl yph yat yal ymu ymt yco ykl yct yin yce yva q 0 0 0) :
    ∀ d i, i + d = n → wY_bound_31 post (nI b) ycl yph yat yal ymu ymt yco ykl yct yin yce yva (d + 1) (nI (i - lt_p o b i - lt_m o b i)) (nI (lt_p o b i)) (nI (lt_m o b i)) (nI i) := by
  intro d
  have cb : (nI b).toNatClampNeg = b := nI_clamp (by omega)
  have vb : vp_in (nI b) 8 := vp_in_nI hb (by omega)
  induction d with
  | zero =>
    intro i hi
    rw [wY_bound_31]; dsimp only; rw [cb, hct]
    have e : i = n := by omega
    subst e
    exact ⟨vb, br_t (nI_le (Nat.le_refl _) (by omega)) h⟩
  | succ d ih =>
    intro i hi
    rw [wY_bound_31]; dsimp only; rw [cb, hct]
    rw [na_c, nI_clamp (show (b * 8 + i) * 4 < 2 ^ 31 by omega), (hc i (by omega)).1]
    have pm := lt_pm (o := o) (b := b) i
    have t := ih (i + 1) (by omega)
    refine ⟨vb, br_f (nI_ge (by omega) (by omega)) ⟨vp_in_nI (by omega) (by omega), nm_e (br_c (fun g => nm_r (nI_1 _) (nm_r (nI_1 i) ?_)) (fun g => br_c (fun g1 => nm_r (nI_1 _) (nm_r (nI_1 i) ?_)) (fun g1 => br_c (fun g2 => nm_r (nI_1 _) (nm_r (nI_1 i) ?_)) (fun g2 => nm_r (nI_1 _) (nm_r (nI_1 i) ?_)))))⟩⟩
    · have e1 : lt_p o b (i + 1) = lt_p o b i + 1 := if_pos g
      have e2 : lt_m o b (i + 1) = lt_m o b i := if_neg (by rw [g]; decide)
      rw [e1, e2, show i + 1 - (lt_p o b i + 1) - lt_m o b i = i - lt_p o b i - lt_m o b i by omega] at t
      exact t
    · have e1 : lt_p o b (i + 1) = lt_p o b i := if_neg g
      have e2 : lt_m o b (i + 1) = lt_m o b i + 1 := if_pos (Or.inl g1)
      rw [e1, e2, show i + 1 - lt_p o b i - (lt_m o b i + 1) = i - lt_p o b i - lt_m o b i by omega] at t
      exact t
    · have e1 : lt_p o b (i + 1) = lt_p o b i := if_neg g
      have e2 : lt_m o b (i + 1) = lt_m o b i + 1 := if_pos (Or.inr g2)
      rw [e1, e2, show i + 1 - lt_p o b i - (lt_m o b i + 1) = i - lt_p o b i - lt_m o b i by omega] at t
      exact t
    · have e1 : lt_p o b (i + 1) = lt_p o b i := if_neg g
      have e2 : lt_m o b (i + 1) = lt_m o b i := if_neg (fun z => z.elim g1 g2)
      rw [e1, e2, show i + 1 - lt_p o b i - lt_m o b i = i - lt_p o b i - lt_m o b i + 1 by omega] at t
      exact t
theorem yb_bound {post : Int32 → Prop} {C b a m T : Nat} {H : Nat → Nat} (hC : C ≤ 8) (hb : b < C) (hcl : ycl = nI C) (hph : ¬ yph = 0) (hp : mp_s yal ymu ymt a m T) (hct : wf_ct yct) (hw : ∀ b, b < 8 → ∀ i, i < pd_n yct b → wf_op o D A B (b * 9 + i)) (hc : ∀ b, b < 8 → ∀ i, i < pd_n yct b → cr_o o D A B b i yco)
    (hH : ∀ i, i < pd_n yct b → H i ≤ 32 ∧ hw_s o D A B b (pd_n yct b) T H i) (h : post (nI (lt_z o b (pd_n yct b) a m T H))) : wpY_bound post (ycl, yph, yat, yal, ymu, ymt, yco, ykl, yct, yin, yce, yva) (nI b) := by
  obtain ⟨⟨ha1, ha, hal⟩, ⟨hm1, hm, hmu⟩, ⟨h1, hT, hmt⟩⟩ := hp
  obtain ⟨hn, en⟩ := hct b (by omega)
  have pm := lt_pm (o := o) (b := b) (pd_n yct b)
  have r2 := ro_le (p := lt_p o b (pd_n yct b)) (a := m) 8
  have r1 := ro_le (p := pd_n yct b - lt_p o b (pd_n yct b) - lt_m o b (pd_n yct b)) (a := a) 8
  have r3 : T * ro_f (lt_p o b (pd_n yct b)) m 8 ≤ 32 := Nat.le_trans (Nat.mul_le_mul hT r2) (by omega)
  refine br_f hph (br_f (nI_pos (by omega)) (br_t (by rw [hcl]; exact nI_lt hb (by omega)) ⟨pd_n yct b + 1, yb_31 (o := o) (D := D) (A := A) (B := B) (by omega) hn en (hc b (by omega)) ⟨9, yb_108 (a := a) (m := m) (T := T) ha hm hT hal hmu hmt (by omega) (by omega) (by omega) ⟨257, ?_⟩ 8 0 (by omega)⟩ (pd_n yct b) 0 (by omega)⟩))
  refine yb_198 (o := o) (D := D) (A := A) (B := B) (T := T) (by omega) hn h1 hT hmt en (hw b (by omega)) (hc b (by omega)) (by omega) ?_ 256 0 (by omega)
  rw [cw_max (H := H) hn (fun i hi => (hH i hi).2) (fun i j hd => hd.1) (by omega), ro_t _ (by omega) _ (by omega) ha1, ro_t _ (by omega) _ (by omega) hm1]
  have e : max (max (max (max 1 ((pd_n yct b - lt_p o b (pd_n yct b) - lt_m o b (pd_n yct b) + a - 1) / a)) (T * ((lt_p o b (pd_n yct b) + m - 1) / m))) (lt_m o b (pd_n yct b))) (lt_h H (pd_n yct b)) = lt_z o b (pd_n yct b) a m T H := by
    unfold lt_z
    have l1 := (lt_hl (H := H) (pd_n yct b)).1
    rw [Nat.mul_comm T]
    generalize (pd_n yct b - lt_p o b (pd_n yct b) - lt_m o b (pd_n yct b) + a - 1) / a = x1
    generalize (lt_p o b (pd_n yct b) + m - 1) / m * T = x2
    omega
  rw [e]
  exact h
end P32
theorem i_vc_bound {k : Nat} {u : SX} {v : SY} (I : i_Rel k u v) (hk : k + 5 ≤ 2563) (v1 : Int32) : wpX_bound (fun r => wpY_bound (fun r' => r' = r ∧ i_Rel (k + 5) u v) v v1) u v1 := by
  refine rl_el (P := fun u v => wpX_bound (fun r => wpY_bound (fun r' => r' = r ∧ i_Rel (k + 5) u v) v v1) u v1) I (fun xal xmu xmt xsa xmo xcl xat xop xfd xfa xfb xct xin xce xli xho xle xbl xis xen xun xsA xsB xde xex xcu xdp xhe xuf xlu xvr xhu xrg xuo xla yco ykl yva h => ?_)
  have J := rl_in (k := k + 5) (xal := xal) (xmu := xmu) (xmt := xmt) (xsa := xsa) (xmo := xmo) (xcl := xcl) (xat := xat) (xin := xin) (xce := xce) (xcu := xcu) (xdp := xdp) (xhe := xhe) (xuf := xuf) (xlu := xlu) (xvr := xvr) (xhu := xhu) (xuo := xuo) h
  refine br_c (fun g0 => br_t g0 ⟨rfl, J⟩) (fun g0 => br_c (fun g1 => br_f g0 (br_t g1 ⟨rfl, J⟩)) (fun g1 => br_c (fun g2 => ?_) (fun g2 => br_f g0 (br_f g1 (br_f g2 ⟨rfl, J⟩)))))
  obtain ⟨a, m, T, C, hp, hcl, ⟨hw, hco, hkl⟩, hmo⟩ := h
  obtain ⟨hcm, _⟩ := hmo.resolve_left g0
  have hC := hw.1
  obtain ⟨b, hb31, rfl⟩ := nI_of g1
  have hb : b < C := by
    rw [hcl, nI_ltI hb31 (by omega)] at g2
    exact g2
  obtain ⟨H, hH, eZ⟩ := hcm.2.2.2.2.2 b hb
  refine ⟨vp_in_nI (by omega) (by omega), yb_bound (H := H) hC hb hcl g0 hp hw.2.1 hw.2.2.1 hco hH ⟨?_, J⟩⟩
  rw [nI_clamp (by omega), eZ]
end
